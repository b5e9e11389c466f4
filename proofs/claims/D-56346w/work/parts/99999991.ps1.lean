theorem z_Lx.frq {G : zG} {h h2 : zH} {b0 a e k : Nat} {g : Nat → Nat} {Q : Nat → Prop} (q : z_Lx G h b0 a e k g) (f : z_fr Q h h2) (n1 : ∀ y fs, Q y → h y ≠ some (.inr (20, fs))) (n2 : ∀ y N x, Q y → h y ≠ some (z_ao G N x)) : z_Lx G h2 b0 a e k g := by
  obtain ⟨q1, q2, N, m9, f9, q3, q4, q5⟩ := q
  exact ⟨q1, q2, N, m9, f9, f _ _ q3 (fun z => n1 _ _ z q3), f _ _ q4 (fun z => n2 _ _ _ z q4), q5⟩
theorem z_Lx.exq {G : zG} {h h2 : zH} {b0 a e k : Nat} {g : Nat → Nat} (q : z_Lx G h b0 a e k g) (f : z_ex h h2) : z_Lx G h2 b0 a e k g := q.frq (Q := fun _ => False) f.fr (fun y fs z => z.elim) (fun y N x z => z.elim)
/-- the builder's cells change -/
theorem z_Lx.fb {G : zG} {h h2 : zH} {b0 a e k bu eb cd : Nat} {g : Nat → Nat} {cs : List Nat} (q : z_Lx G h b0 a e k g) (B : z_BF G h bu eb cd cs) (f : z_fr (fun y => y = bu ∨ y = eb) h h2) : z_Lx G h2 b0 a e k g := by
  obtain ⟨N, x, ml, b1, b2, -⟩ := B
  refine q.frq f (fun y fs z q => ?_) (fun y N x z q => ?_)
  · rcases z with z | z
    · rw [z, b1] at q; cases q
    · rw [z, b2] at q; cases q
  · rcases z with z | z
    · rw [z, b1] at q; cases q
    · rw [z, b2] at q
      have q9 := congrArg (fun o : Option va_E => match o with | some (.inl (_, _, .inl _)) => true | _ => false) q
      cases q9
theorem z_ck.ex {G : zG} {b : Nat} {h h2 : zH} {cs : List Nat} {g p kd : Nat} (q : z_ck G b h cs g p kd) (x : z_ex h h2) : z_ck G b h2 cs g p kd := by
  obtain ⟨s, hs, q0, q1, q2⟩ := q
  exact ⟨s, hs, q0, q1.ex x, x _ _ q2⟩
theorem z_ck.fb {G : zG} {b : Nat} {h h2 : zH} {bu eb cd : Nat} {cs c2 : List Nat} {g p kd : Nat} (q : z_ck G b h cs g p kd) (hk : kd < 9) (B : z_BF G h bu eb cd c2) (f : z_fr (fun y => y = bu ∨ y = eb) h h2) : z_ck G b h2 cs g p kd := by
  obtain ⟨s, hs, q0, ⟨e, q1, q2, q3⟩, q4⟩ := q
  obtain ⟨N, x, ml, b1, b2, b3, b4, b5, -⟩ := B
  have hl := (z_wd_len kd hk).2
  refine ⟨s, hs, q0, ⟨e, f _ _ q1 (fun z => ?_), f _ _ q2 (fun z => ?_), q3⟩, f _ _ q4 (fun z => ?_)⟩
  · rcases z with z | z
    · rw [z, b1] at q1; cases q1
    · rw [z, b2] at q1; cases q1
  · rcases z with z | z
    · rw [z, b1] at q2; cases q2
    · rw [z, b2] at q2
      have q9 := congrArg (fun o : Option va_E => match o with | some (.inl (_, M, _)) => M | _ => 0) q2
      have q8 : N = (z_wd kd).length := q9
      omega
  · rcases z with z | z
    · rw [z, b1] at q4; cases q4
    · rw [z, b2] at q4; cases q4
theorem z_tq9_r {G : zG} {t n : Nat} {h : zH} {cs : List Nat} {w : Option Value} {h' : zH} {n' : Nat} (q : z_tq9 G t n h cs (.returned w) h' n') : ∃ l e c g P KD, w = some (.ref l) ∧ 1 ≤ c ∧ 3 * c ≤ cs.length ∧ z_chn cs P KD c ∧ z_e9 cs (KD (c - 1)) (P (c - 1)) = cs.length ∧ z_Lx G h' n l e c g ∧ (∀ i, i < c → z_ck G n h' cs (g i) (P i) (KD i)) ∧ z_fr (fun y => y = t) h h' := by
  rcases q with ⟨l, e, c, g, P, KD, q1, q2, q3, q4, q5, q6, q7, q8⟩ | ⟨a, r, q4, -⟩
  · cases q5; exact ⟨l, e, c, g, P, KD, rfl, q1, q2, q3, q4, q6, q7, q8⟩
  · cases q4
theorem z_tq9_t {G : zG} {t n : Nat} {h : zH} {cs : List Nat} {a : Nat} {h' : zH} {n' : Nat} (q : z_tq9 G t n h cs (.threw a) h' n') : ∃ r, n ≤ a ∧ z_tf9 cs r ∧ h' a = some (.inr (19, z_sf r)) ∧ z_fr (fun y => y = t) h h' := by
  rcases q with ⟨l, e, c, g, P, KD, q1, q2, q3, q4, q5, -⟩ | ⟨a, r, q4, q5, q6, q7, q8⟩
  · cases q5
  · cases q4; exact ⟨r, q5, q6, q7, q8⟩
/-- the end of 'parse' -/
def z_pq9 (G : zG) (x la pa bu li : Nat) (fa : Int32) (de sn : Option Nat) (eb cd n : Nat) (h : zH) (cs : List Nat) : zQ := fun o h' n' =>
  ∃ eb2, z_BF G h' bu eb2 cd [] ∧ (eb2 = eb ∨ n ≤ eb2) ∧
  ((∃ op l e b0 c g P KD, 1 ≤ c ∧ 3 * c ≤ cs.length ∧ z_chn cs P KD c ∧ z_e9 cs (KD (c - 1)) (P (c - 1)) = cs.length ∧ o = .returned (some (.ref op)) ∧ n ≤ op ∧ h' op = some (.inr (25, [.ref l])) ∧ n ≤ b0 ∧ z_Lx G h' b0 l e c g ∧ (∀ i, i < c → z_ck G b0 h' cs (g i) (P i) (KD i)) ∧ z_fr (fun y => y = bu ∨ y = eb) h h') ∨
   (∃ r, z_tf9 cs r ∧ o = .returned (some (.ref (G.2.2.1 1003))) ∧ h' x = some (z_Ob la pa bu li (nI r) de sn) ∧ z_fr (fun y => y = x ∨ y = bu ∨ y = eb) h h'))

set_option maxHeartbeats 1000000 in
theorem m_X22_init {l : Launch} {G : zG} {h : zH} {n : Nat} {t x : Nat} (ht9 : h t = some (.inr (18, [.int (nI 0), .null]))) (hnt : z_n0 G ≤ t) : z_C l G yX22_init 2 0 0 [.ref t, .ref x] h n (z_r0 (z_up h t (.inr (18, [.int (nI 0), .ref x]))) n) := by
  refine z_start zk_X22_init zpl_RX22 (Nat.le_of_ble_eq_true rfl) ?_
  intro hn0 M hl hG ho hb hN hr hm hH hrm hQ
  subst hl hG
  have ho : zm_o M = RX22 := ho
  show z_V M h n 0 0 0 [(0, .ref t), (1, .ref x)] []
  refine z_aload_n hb dX22_init_0 rfl ?_
  refine z_aload_n hb dX22_init_1 rfl ?_
  refine z_put (k := 1) (C := RX22) (T := TX22) (N := 2) hb ho zc18 in_X22 tyX22_ok nmX22 (zf_RX22_1 _) dX22_init_2 ht9 hnt (by decide) (Or.inr ⟨hm, rfl⟩) rfl rfl rfl (Nat.le_of_ble_eq_true rfl) ?_
  refine z_hn (fun h_1 eh_1 => ?_)
  have eh_1 : h_1 = z_up h t (.inr (18, [.int (nI 0), .ref x])) := eh_1
  refine z_aload_n hb dX22_init_5 rfl ?_
  refine z_oinit hb ho hrm (by omega) q2262 q155 q156 (by decide) dX22_init_6 ?_
  refine z_vret hb hr dX22_init_9 ?_
  rw [hQ]
  exact ⟨rfl, (by rw [eh_1] <;> simp only [z_up_up]), rfl⟩

