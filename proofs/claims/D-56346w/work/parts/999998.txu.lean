/-- an element comes in at i -/
def z_ins (g : Nat → Nat) (i x : Nat) : Nat → Nat := fun j => if j < i then g j else if j = i then x else g (j - 1)
theorem z_insf {f : Nat → Option Nat} {g : Nat → Nat} {i k x : Nat} (hik : i ≤ k) (h6 : ∀ j, j < k → f j = some (g j)) : ∀ j, j < k + 1 → va_up (va_cpy f f i (i + 1) (k - i)) i (some x) j = some (z_ins g i x j) := fun j hj => by
  unfold va_up va_cpy z_ins
  show (if j = i then some x else if i + 1 ≤ j ∧ j < i + 1 + (k - i) then f (i + (j - (i + 1))) else f j) = some (if j < i then g j else if j = i then x else g (j - 1))
  by_cases z : j = i
  · rw [if_pos z, if_neg (by omega), if_pos z]
  · rw [if_neg z]
    by_cases y : j < i
    · rw [if_neg (by omega), if_pos y, h6 j (by omega)]
    · rw [if_pos (by omega), if_neg y, if_neg z, show i + (j - (i + 1)) = j - 1 by omega, h6 _ (by omega)]
theorem m_addI {l : Launch} {G : zG} {h : zH} {n b0 a e k x i : Nat} {g : Nat → Nat} (hb0 : z_n0 G ≤ b0) (q : z_Lx G h b0 a e k g) (hk : k < 49) (hx : z_obj h x) (hxa : x ≠ a) (hob : ∀ j, j < k → z_obj h (g j) ∧ g j ≠ a) (hik : i ≤ k) :
    z_C l G yJ2_add_3 6 1 50 [.ref a, .int (nI i), .ref x] h n (z_q0 (fun h' _ => ∃ e', z_Lx G h' b0 a e' (k + 1) (z_ins g i x) ∧ z_fr (fun y => y = a ∨ (y = e ∧ b0 ≤ y)) h h')) := by
  refine z_C.dom fun hd => ?_
  obtain ⟨qa, qe, N, m9, f, h1, h2, h3, h4, ⟨h5, h5b⟩, h6⟩ := q
  have hea : e ≠ a := (z_neA h1 h2).symm
  obtain ⟨ci9, fs9, r9, hx9, -⟩ := id hx
  have hxn := hd _ _ hx9
  have han := hd _ _ h1
  have hen := hd _ _ h2
  rcases Nat.lt_or_ge e b0 with he | he
  · obtain ⟨rfl, rfl⟩ : e = G.2.2.1 1002 ∧ k = 0 := by rcases qe with q | q; · omega
                                                       · exact q
    obtain rfl := h5b he
    obtain rfl : i = 0 := by omega
    refine (z_C.room (by omega) (by omega) (by omega) (m_J2_add_3_0 h1 h2 (by omega) han hen hx hxa hxn)).mono fun o h' n' ⟨z1, z2, z3⟩ => ⟨z1, n, ?_, ?_⟩
    · rw [z2]
      refine ⟨qa, Or.inl (by omega), 10, _, _, z_up_s, (z_up_n (Nat.ne_of_gt han)).trans z_up_s, by omega, Or.inr (Or.inl rfl), ⟨fun _ => Nat.le_refl _, fun z => by omega⟩, fun j hj => ?_⟩
      rw [show j = 0 by omega]
      rfl
    · intro y c hy hn
      rw [z2]
      exact z_upO (z_upO hy (Nat.ne_of_lt (hd _ _ hy))) fun z => hn (Or.inl z)
  · rcases Nat.lt_or_ge k N with hkN | hkN
    · refine (z_C.room (by omega) (by omega) (by omega) (m_J2_add_3_p h1 h2 (by omega) (by omega) hkN h4.le.1 hx hxa hik h6 (fun j hj => (hob j hj).1) (fun j hj => (hob j hj).2))).mono fun o h' n' ⟨z1, z2, z3⟩ => ⟨z1, e, ?_, ?_⟩
      · rw [z2]
        exact ⟨qa, Or.inl he, N, _, _, z_up_s, (z_up_n hea).trans z_up_s, by omega, h4, ⟨h5, fun z => by omega⟩, z_insf hik h6⟩
      · intro y c hy hn
        rw [z2]
        exact z_upO (z_upO hy fun z => hn (Or.inr ⟨z, by omega⟩)) fun z => hn (Or.inl z)
    · obtain rfl : k = N := by omega
      have hN10 := h5 he
      have hN4 : k = 10 ∨ k = 15 ∨ k = 22 ∨ k = 33 := by unfold z_N at h4; omega
      refine (z_C.room (by omega) (by omega) (by omega) (m_J2_add_3_f (g := g) h1 h2 (by omega) (by omega) han hen hN10 (by omega) (fun i hi y hy => ?_) hx hxa hxn (fun i hi y hy => ?_) hik)).mono fun o h' n' ⟨z1, z2, z3⟩ => ⟨z1, n, ?_, ?_⟩
      · rw [h6 i hi] at hy
        cases hy
        obtain ⟨ho, -⟩ := hob i hi
        obtain ⟨_, _, _, ho2, -⟩ := id ho
        exact ⟨hd _ _ ho2, ho⟩
      · rw [h6 i hi] at hy
        cases hy
        exact (hob i hi).2
      · rw [z2]
        refine ⟨qa, Or.inl (by omega), k + k / 2, _, _, z_up_s, (z_up_n (Nat.ne_of_gt han)).trans z_up_s, by omega, ?_, ⟨fun _ => by omega, fun z => by omega⟩, z_insf (f := va_cpy f (fun _ => none) 0 0 k) hik fun j hj => ?_⟩
        · unfold z_N; omega
        · unfold va_cpy
          rw [if_pos (by omega), show 0 + (j - 0) = j by omega]; exact h6 j hj
      · intro y c hy hn
        rw [z2]
        exact z_upO (z_upO hy (Nat.ne_of_lt (hd _ _ hy))) fun z => hn (Or.inl z)
/-- the place where row p comes in among the sorted -/
def z_ipos (w : Nat → Int32) (s : Nat → Nat) (p : Nat) : Nat → Nat
  | 0 => 0
  | i + 1 => if w (16 + 4 * p + 3) ≤ w (16 + 4 * s i + 3) then i + 1 else z_ipos w s p i
theorem z_ipos_le {w : Nat → Int32} {s : Nat → Nat} {p : Nat} : ∀ i, z_ipos w s p i ≤ i
  | 0 => Nat.le_refl _
  | i + 1 => by
    have := z_ipos_le (w := w) (s := s) (p := p) i
    rw [z_ipos]
    split <;> omega
/-- the rows in the order of their amounts -/
def z_ro (w : Nat → Int32) : Nat → (Nat → Nat)
  | 0 => fun _ => 0
  | p + 1 => z_ins (z_ro w p) (z_ipos w (z_ro w p) p p) p
theorem z_ro_lt {w : Nat → Int32} : ∀ p q, q < p → z_ro w p q < p
  | p + 1, q, hq => by
    have h1 := z_ipos_le (w := w) (s := z_ro w p) (p := p) p
    show z_ins _ _ _ q < _
    unfold z_ins
    split
    · have := z_ro_lt (w := w) p q (by omega); omega
    · split
      · omega
      · have := z_ro_lt (w := w) p (q - 1) (by omega); omega
theorem z_ins_ra {s : Nat → Nat} {ra : Nat → Nat} {i x : Nat} : z_ins (fun q => ra (s q)) i (ra x) = fun q => ra (z_ins s i x q) := by
  funext q
  unfold z_ins
  split
  · rfl
  · split <;> rfl
theorem z_Lx0 {G : zG} {h : zH} {b0 a : Nat} {g : Nat → Nat} {f : Nat → Option Nat} (q1 : h a = some (.inr (20, [.int (nI 0), .ref (G.2.2.1 1002), .int (nI 0)]))) (q2 : h (G.2.2.1 1002) = some (z_ao G 0 f)) (hE : G.2.2.1 1002 < b0) (hab : b0 ≤ a) : z_Lx G h b0 a (G.2.2.1 1002) 0 g := ⟨hab, Or.inr ⟨rfl, rfl⟩, 0, _, f, q1, q2, Nat.le_refl _, Or.inl rfl, ⟨fun z => by omega, fun _ => rfl⟩, fun j hj => absurd hj (Nat.not_lt_zero _)⟩
theorem z_robj {h : zH} {a : Nat} {fs : List Value} (q1 : h a = some (.inr (6, fs))) : z_obj h a := ⟨6, _, _, q1, zc6, q3315⟩

theorem z_ipos_s {w : Nat → Int32} {s : Nat → Nat} {p i k : Nat} (h0 : 0 < i) (h1 : ¬ w (16 + 4 * p + 3) ≤ w (16 + 4 * s (i - 1) + 3)) (h : k = z_ipos w s p i) : k = z_ipos w s p (i - 1) := by
  obtain ⟨i', rfl⟩ : ∃ i', i = i' + 1 := ⟨i - 1, by omega⟩
  rw [Nat.add_sub_cancel] at h1
  rw [h, z_ipos, if_neg h1]
  rfl
theorem z_ipos_0 {w : Nat → Int32} {s : Nat → Nat} {p i k : Nat} (h0 : i = 0) (h : k = z_ipos w s p i) : k = i := by
  subst h0
  exact h
theorem z_ipos_t {w : Nat → Int32} {s : Nat → Nat} {p i k : Nat} (h0 : 0 < i) (h1 : w (16 + 4 * p + 3) ≤ w (16 + 4 * s (i - 1) + 3)) (h : k = z_ipos w s p i) : k = i := by
  obtain ⟨i', rfl⟩ : ∃ i', i = i' + 1 := ⟨i - 1, by omega⟩
  rw [Nat.add_sub_cancel] at h1
  rw [h, z_ipos, if_pos h1]

set_option maxHeartbeats 1000000 in
theorem m_X1_rowByAmount_ok {l : Launch} {G : zG} {h : zH} {n : Nat} {t : Nat} {x1 x2 x3 x4 x5 x6 : Value} {w : Nat → Int32} {v : Nat → Int64} {R S D a lr ls lv : Nat} {ra sa va : Nat → Nat} {X : Nat} (hX : h t = some (.inr (0, [.ref a, x1, x2, x3, x4, x5, x6]))) (hL : z_Ln G h w v R S D a lr ls lv ra sa va) (hK : z_KC G h) (hR4 : R ≤ 40) (hX2 : X < R) : z_C l G yX1_rowByAmount 8 60 2104 [.ref t, .int (nI X)] h n (z_rn (.int (w (16 + 4 * z_ro w R X))) h) := by
  refine z_start zk_X1_rowByAmount zpl_RX1 (Nat.le_of_ble_eq_true rfl) ?_
  intro hn0 M hl hG ho hb hN hr hm hH hrm hQ
  subst hl hG
  have ho : zm_o M = RX1 := ho
  obtain ⟨h1, ⟨e0, N0, m0, f0, r1, r2, r3, ⟨r4, r4n⟩, r5⟩, ⟨e, N, m9, f, h3, h4, h5, ⟨h6, h6n⟩, h7⟩, ⟨ev, Nv, mv, fv, v1, v2, v3, ⟨v4, v4n⟩, v5⟩, h9, hs, hv, hi, hrI⟩ := id hL
  obtain ⟨fE, hEM⟩ := hK.em
  have hE0 := hK.e0
  show z_V M h n 60 2104 0 [(0, .ref t), (1, .int (nI X))] []
  refine z_dom (fun hD0 => ?_)
  refine z_dom (fun hD_1 => ?_)
  refine z_new (N0 := 3) (b' := 59) (f' := 2101) (fs := [.int (nI 0), .null, .int (nI 0)]) (C := RJ2) (T := TJ2) (N := 3) hb ho zc20 in_J2 tyJ2_ok q1748 q164 q98 dX1_rowByAmount_0 (zdf_J2) (by omega) (by omega) ?_
  refine z_hn (fun h_2 eh_2 => ?_)
  have eh_2 : h_2 = z_up h n (.inr (20, [.int (nI 0), .null, .int (nI 0)])) := eh_2
  have k_3 : h_2 t = some (.inr (0, [.ref a, x1, x2, x3, x4, x5, x6])) := z_nx eh_2 (Nat.ne_of_lt (hD_1 _ _ hX)) hX
  have k_4 : h_2 a = some (.inr (1, [.ref lr, .ref ls, .ref lv, .int (nI D), .int (w 2), .int (w 4), .int (w 5), .int (w 6)])) := z_nx eh_2 (Nat.ne_of_lt (hD_1 _ _ h1)) h1
  have k_5 : h_2 lr = some (.inr (20, [.int m0, .ref e0, .int (nI R)])) := z_nx eh_2 (Nat.ne_of_lt (hD_1 _ _ r1)) r1
  have k_6 : h_2 e0 = some (.inl ((zm_G M).2.1 5, N0, .inr (.inr (.inr (.inr f0))))) := z_nx eh_2 (Nat.ne_of_lt (hD_1 _ _ r2)) r2
  have k_7 : h_2 ls = some (.inr (20, [.int m9, .ref e, .int (nI S)])) := z_nx eh_2 (Nat.ne_of_lt (hD_1 _ _ h3)) h3
  have k_8 : h_2 e = some (.inl ((zm_G M).2.1 5, N, .inr (.inr (.inr (.inr f))))) := z_nx eh_2 (Nat.ne_of_lt (hD_1 _ _ h4)) h4
  have k_9 : h_2 lv = some (.inr (20, [.int mv, .ref ev, .int (nI S)])) := z_nx eh_2 (Nat.ne_of_lt (hD_1 _ _ v1)) v1
  have k_10 : h_2 ev = some (.inl ((zm_G M).2.1 5, Nv, .inr (.inr (.inr (.inr fv))))) := z_nx eh_2 (Nat.ne_of_lt (hD_1 _ _ v2)) v2
  refine z_dup hb dX1_rowByAmount_3 rfl ?_
  refine z_call0 (b' := 59) (f' := 2101) (rest := [.ref n]) (av := [.ref n]) (z_siteI hb ho q1749 q166 q167 rfl zy_J2_init zl_J2_init dX1_rowByAmount_4 : z_Site M _ _ _ _ _ ([].reverse ++ .ref n :: [.ref n]) [.ref n] _) zk_J2_init q98 hrm (m_J2_init (z_nxs eh_2) (by omega)) (by omega) (by decide) (Nat.le_of_ble_eq_true rfl) (by omega) (by omega) ?_
  refine z_hn (fun h_11 eh_11 => ?_)
  have eh_11 : h_11 = z_up h_2 n (.inr (20, [.int (nI 0), .ref ((zm_G M).2.2.1 1002), .int (nI 0)])) := eh_11
  have k_12 : h_11 t = some (.inr (0, [.ref a, x1, x2, x3, x4, x5, x6])) := z_nx eh_11 (Nat.ne_of_lt (hD_1 _ _ hX)) k_3
  have k_13 : h_11 a = some (.inr (1, [.ref lr, .ref ls, .ref lv, .int (nI D), .int (w 2), .int (w 4), .int (w 5), .int (w 6)])) := z_nx eh_11 (Nat.ne_of_lt (hD_1 _ _ h1)) k_4
  have k_14 : h_11 lr = some (.inr (20, [.int m0, .ref e0, .int (nI R)])) := z_nx eh_11 (Nat.ne_of_lt (hD_1 _ _ r1)) k_5
  have k_15 : h_11 e0 = some (.inl ((zm_G M).2.1 5, N0, .inr (.inr (.inr (.inr f0))))) := z_nx eh_11 (Nat.ne_of_lt (hD_1 _ _ r2)) k_6
  have k_16 : h_11 ls = some (.inr (20, [.int m9, .ref e, .int (nI S)])) := z_nx eh_11 (Nat.ne_of_lt (hD_1 _ _ h3)) k_7
  have k_17 : h_11 e = some (.inl ((zm_G M).2.1 5, N, .inr (.inr (.inr (.inr f))))) := z_nx eh_11 (Nat.ne_of_lt (hD_1 _ _ h4)) k_8
  have k_18 : h_11 lv = some (.inr (20, [.int mv, .ref ev, .int (nI S)])) := z_nx eh_11 (Nat.ne_of_lt (hD_1 _ _ v1)) k_9
  have k_19 : h_11 ev = some (.inl ((zm_G M).2.1 5, Nv, .inr (.inr (.inr (.inr fv))))) := z_nx eh_11 (Nat.ne_of_lt (hD_1 _ _ v2)) k_10
  refine z_astore_n (lv' := [(2, .ref n), (0, .ref t), (1, .int (nI X))]) hb dX1_rowByAmount_7 (by rw [hN]; decide) rfl ?_
  refine z_aload_n hb dX1_rowByAmount_8 rfl ?_
  refine z_get (k := 0) (C := RX1) (T := TX1) (N := 7) hb ho zc0 in_X1 (zf_RX1_41 _) dX1_rowByAmount_9 k_12 (by decide) rfl ?_
  refine z_get (k := 0) (C := RX2) (T := TX2) (N := 8) hb ho zc1 in_X2 (zf_RX1_123 _) dX1_rowByAmount_12 k_13 (by decide) rfl ?_
  refine z_dom (fun hD_20 => ?_)
  refine z_call1 (b' := 58) (f' := 2097) (rest := []) (av := [.ref lr]) (z_siteF hb ho zc20 k_14 q586 zx1 q343 q345 q346 q344 q321 zxl1 dX1_rowByAmount_15 : z_Site M _ _ _ _ _ ([].reverse ++ .ref lr :: []) [] _) zk_J2_iterator q98 hrm (m_J2_iterator k_14 (hD_20 _ _ k_14)) (by omega) (by decide) (Nat.le_of_ble_eq_true rfl) (by omega) (by omega) ?_
  refine z_hn (fun h_21 eh_21 => ?_)
  have eh_21 : h_21 = z_up h_11 (n + 1) (.inr (24, [.int (nI 0), .int (-1), .int m0, .ref lr])) := eh_21
  have k_22 : h_21 t = some (.inr (0, [.ref a, x1, x2, x3, x4, x5, x6])) := z_nx eh_21 (Nat.ne_of_lt (hD_20 _ _ k_12)) k_12
  have k_23 : h_21 a = some (.inr (1, [.ref lr, .ref ls, .ref lv, .int (nI D), .int (w 2), .int (w 4), .int (w 5), .int (w 6)])) := z_nx eh_21 (Nat.ne_of_lt (hD_20 _ _ k_13)) k_13
  have k_24 : h_21 lr = some (.inr (20, [.int m0, .ref e0, .int (nI R)])) := z_nx eh_21 (Nat.ne_of_lt (hD_20 _ _ k_14)) k_14
  have k_25 : h_21 e0 = some (.inl ((zm_G M).2.1 5, N0, .inr (.inr (.inr (.inr f0))))) := z_nx eh_21 (Nat.ne_of_lt (hD_20 _ _ k_15)) k_15
  have k_26 : h_21 ls = some (.inr (20, [.int m9, .ref e, .int (nI S)])) := z_nx eh_21 (Nat.ne_of_lt (hD_20 _ _ k_16)) k_16
  have k_27 : h_21 e = some (.inl ((zm_G M).2.1 5, N, .inr (.inr (.inr (.inr f))))) := z_nx eh_21 (Nat.ne_of_lt (hD_20 _ _ k_17)) k_17
  have k_28 : h_21 lv = some (.inr (20, [.int mv, .ref ev, .int (nI S)])) := z_nx eh_21 (Nat.ne_of_lt (hD_20 _ _ k_18)) k_18
  have k_29 : h_21 ev = some (.inl ((zm_G M).2.1 5, Nv, .inr (.inr (.inr (.inr fv))))) := z_nx eh_21 (Nat.ne_of_lt (hD_20 _ _ k_19)) k_19
  have k_30 : h_21 n = some (.inr (20, [.int (nI 0), .ref ((zm_G M).2.2.1 1002), .int (nI 0)])) := z_nx eh_21 (Nat.ne_of_lt (hD_20 _ _ (z_nxs eh_11))) (z_nxs eh_11)
  refine z_astore_n (lv' := [(3, .ref (n + 1)), (2, .ref n), (0, .ref t), (1, .int (nI X))]) hb dX1_rowByAmount_20 (by rw [hN]; decide) rfl ?_
  have lp_21 : ∀ (k9_21 : Nat) (j : Nat) (l9 : Int32) (nn : Nat) (hh : zH) (e9 : Nat), R + 1 - j < k9_21 → (j ≤ R) → (n + 2 ≤ nn) → (z_ex h hh) → (hh (n + 1) = some (.inr (24, [.int (nI j), .int l9, .int m0, .ref lr]))) → (z_Lx (zm_G M) hh n n e9 j (fun q => ra (z_ro w j q))) → z_V M hh nn (41 - j) (50 * (41 - j)) 21 [(0, .ref t), (1, .int (nI X)), (2, .ref n), (3, .ref (n + 1))] [] := by
    intro k9_21
    induction k9_21 with
    | zero => intro j l9 nn hh e9 hk9_21; exact absurd hk9_21 (Nat.not_lt_zero _)
    | succ k9_21 ih_21 =>
      intro j l9 nn hh e9 hk9_21 hj hnnj hE9 hT9 hLx
      obtain ⟨g9, hg9⟩ : ∃ g9, g9 = (fun q => ra (z_ro w j q)) := ⟨_, rfl⟩
      rw [← hg9] at hLx
      obtain ⟨-, qe9, N9, m19, f9, l1, l2, l3, l4, l5, l6⟩ := id hLx
      have l4N := l4.le
      refine z_aload_n hb dX1_rowByAmount_21 rfl ?_
      refine z_call1 (b' := 41 - j) (f' := 50 * (41 - j)) (rest := []) (av := [.ref (n + 1)]) (z_siteF hb ho zc24 hT9 q588 zx2 q372 q374 q375 q373 q371 zxl2 dX1_rowByAmount_22 : z_Site M _ _ _ _ _ ([].reverse ++ .ref (n + 1) :: []) [] _) zk_J8_hasNext q105 hrm (m_J8_hasNext hT9 (hE9 _ _ r1) (by omega) (by omega)) (by omega) (by decide) (Nat.le_of_ble_eq_true rfl) (by omega) (by omega) ?_
      refine z_ifb_eq (tgt := 97) hb dX1_rowByAmount_27 (by decide) (fun c_27 => ?_) (fun c_27 => ?_)
      · have hx_j : j = R := by simpa using c_27
        refine z_iload_n hb dX1_rowByAmount_97 rfl ?_
        refine z_iconst (x := nI 0) hb dX1_rowByAmount_98 (by decide) ?_
        refine z_aload_n hb dX1_rowByAmount_99 rfl ?_
        refine z_call1 (b' := 41 - j) (f' := 50 * (41 - j)) (rest := [.int (nI 0), .int (nI X)]) (av := [.ref n]) (z_siteF hb ho zc20 l1 q318 zx0 q322 q324 q325 q323 q321 zxl0 dX1_rowByAmount_100 : z_Site M _ _ _ _ _ ([].reverse ++ .ref n :: [.int (nI 0), .int (nI X)]) [.int (nI 0), .int (nI X)] _) zk_J2_size q98 hrm (m_J2_size l1) (by omega) (by decide) (Nat.le_of_ble_eq_true rfl) (by omega) (by omega) ?_
        refine z_iconst (x := nI 1) hb dX1_rowByAmount_105 (by decide) ?_
        refine z_isub hb dX1_rowByAmount_106 ?_
        refine z_call1 (b' := 41 - j) (f' := 50 * (41 - j)) (rest := []) (av := [.int (nI X), .int (nI 0), .int ((nI j) - (nI 1))]) (z_siteS hb ho q1137 q1138 q94 ⟨_, _, _, _, zk_X1_inRange⟩ zy_X1_inRange zl_X1_inRange dX1_rowByAmount_107 : z_Site M _ _ _ _ _ ([.int (nI X), .int (nI 0), .int ((nI j) - (nI 1))].reverse ++ []) [] _) zk_X1_inRange q94 hrm (m_X1_inRange (nI X) (nI 0) ((nI j) - (nI 1))) (by omega) (by decide) (Nat.le_of_ble_eq_true rfl) (by omega) (by omega) ?_
        refine z_callC0 (b' := (41 - j) - 1) (f' := (50 * (41 - j)) - 6) (rest := []) (av := [.int (z_b (decide (nI 0 ≤ nI X ∧ nI X ≤ (nI j) - (nI 1))))]) (z_siteS hb ho q1724 q1368 q94 ⟨_, _, _, _, zk_X1_requireElement⟩ zy_X1_requireElement zl_X1_requireElement dX1_rowByAmount_110 : z_Site M _ _ _ _ _ ([.int (z_b (decide (nI 0 ≤ nI X ∧ nI X ≤ (nI j) - (nI 1))))].reverse ++ []) [] _) zk_X1_requireElement q94 hrm (m_X1_requireElement (decide (nI 0 ≤ nI X ∧ nI X ≤ (nI j) - (nI 1)))) (by omega) (by decide) (Nat.le_of_ble_eq_true rfl) (by omega) (by omega) (fun c_110 => ?_) (fun c_110 => ?_)
        · refine z_aload_n hb dX1_rowByAmount_113 rfl ?_
          refine z_iload_n hb dX1_rowByAmount_114 rfl ?_
          refine z_call1 (b' := (41 - j) - 1) (f' := (50 * (41 - j)) - 6) (rest := []) (av := [.ref n, .int (nI X)]) (z_siteF hb ho zc20 l1 q769 zx6 q663 q665 q666 q664 q321 zxl6 dX1_rowByAmount_115 : z_Site M _ _ _ _ _ ([.int (nI X)].reverse ++ .ref n :: []) [] _) zk_J2_get q98 hrm (m_J2_get l1 l2 (by omega) (by omega) l6 (by omega)) (by omega) (by decide) (Nat.le_of_ble_eq_true rfl) (by omega) (by omega) ?_
          have hroz := z_ro_lt (w := w) j X (by omega)
          have hrwz := h9 (z_ro w j X) (by omega)
          unfold z_Rw at hrwz
          have hrwzg : ra (z_ro w j X) = g9 X := by rw [hg9]
          rw [hrwzg] at hrwz
          have k_31 : hh (g9 X) = some (.inr (6, [.int (w (16 + 4 * (z_ro w j X))), .int (w (16 + 4 * (z_ro w j X) + 1)), .int (w (16 + 4 * (z_ro w j X) + 2)), .int (w (16 + 4 * (z_ro w j X) + 3))])) := hE9 _ _ hrwz
          refine z_cast hb ho zc6 k_31 q1725 (Or.inl rfl) dX1_rowByAmount_120 ?_
          refine z_get (k := 0) (C := RX7) (T := TX7) (N := 4) hb ho zc6 in_X7 (zf_RX1_139 _) dX1_rowByAmount_123 k_31 (by decide) rfl ?_
          refine z_less hE9 ?_
          refine z_iret hb hr dX1_rowByAmount_126 ?_
          rw [hQ]
          obtain rfl : j = R := by omega
          exact ⟨rfl, rfl⟩
        · rw [z_inR (show X < j by omega) (by omega)] at c_110; cases c_110
      · have hl_j : j < R := Nat.lt_of_le_of_ne hj (by simpa using c_27)
        refine z_aload_n hb dX1_rowByAmount_30 rfl ?_
        refine z_call1 (b' := 41 - j) (f' := 50 * (41 - j)) (rest := []) (av := [.ref (n + 1)]) (z_siteF hb ho zc24 hT9 q590 zx3 q381 q383 q384 q382 q371 zxl3 dX1_rowByAmount_31 : z_Site M _ _ _ _ _ ([].reverse ++ .ref (n + 1) :: []) [] _) zk_J8_next q105 hrm (m_J8_next hT9 (hE9 _ _ r1) (hE9 _ _ r2) (by omega) (by omega) r5 (by omega) (by omega)) (by omega) (by decide) (Nat.le_of_ble_eq_true rfl) (by omega) (by omega) ?_
        refine z_hn (fun h_32 eh_32 => ?_)
        have eh_32 : h_32 = z_up hh (n + 1) (.inr (24, [.int (nI (j + 1)), .int (nI j), .int m0, .ref lr])) := eh_32
        have k_33 : h_32 t = some (.inr (0, [.ref a, x1, x2, x3, x4, x5, x6])) := z_nx eh_32 (Nat.ne_of_lt (hD_20 _ _ k_12)) (hE9 _ _ hX)
        have k_34 : h_32 a = some (.inr (1, [.ref lr, .ref ls, .ref lv, .int (nI D), .int (w 2), .int (w 4), .int (w 5), .int (w 6)])) := z_nx eh_32 (Nat.ne_of_lt (hD_20 _ _ k_13)) (hE9 _ _ h1)
        have k_35 : h_32 lr = some (.inr (20, [.int m0, .ref e0, .int (nI R)])) := z_nx eh_32 (Nat.ne_of_lt (hD_20 _ _ k_14)) (hE9 _ _ r1)
        have k_36 : h_32 e0 = some (.inl ((zm_G M).2.1 5, N0, .inr (.inr (.inr (.inr f0))))) := z_nx eh_32 (Nat.ne_of_lt (hD_20 _ _ k_15)) (hE9 _ _ r2)
        have k_37 : h_32 ls = some (.inr (20, [.int m9, .ref e, .int (nI S)])) := z_nx eh_32 (Nat.ne_of_lt (hD_20 _ _ k_16)) (hE9 _ _ h3)
        have k_38 : h_32 e = some (.inl ((zm_G M).2.1 5, N, .inr (.inr (.inr (.inr f))))) := z_nx eh_32 (Nat.ne_of_lt (hD_20 _ _ k_17)) (hE9 _ _ h4)
        have k_39 : h_32 lv = some (.inr (20, [.int mv, .ref ev, .int (nI S)])) := z_nx eh_32 (Nat.ne_of_lt (hD_20 _ _ k_18)) (hE9 _ _ v1)
        have k_40 : h_32 ev = some (.inl ((zm_G M).2.1 5, Nv, .inr (.inr (.inr (.inr fv))))) := z_nx eh_32 (Nat.ne_of_lt (hD_20 _ _ k_19)) (hE9 _ _ v2)
        have k_41 : h_32 n = some (.inr (20, [.int m19, .ref e9, .int (nI j)])) := z_nx eh_32 (Nat.ne_of_lt (hD_20 _ _ (z_nxs eh_11))) l1
        have k_42 : h_32 e9 = some (.inl ((zm_G M).2.1 5, N9, .inr (.inr (.inr (.inr f9))))) := z_nx eh_32 (z_neA' l2 hT9) l2
        have hrw_43 := h9 j (by omega)
        unfold z_Rw at hrw_43
        have k_44 : h_32 (ra j) = some (.inr (6, [.int (w (16 + 4 * j)), .int (w (16 + 4 * j + 1)), .int (w (16 + 4 * j + 2)), .int (w (16 + 4 * j + 3))])) := (z_exW hD0 (by omega) eh_32 hE9) _ _ hrw_43
        refine z_cast hb ho zc6 k_44 q1725 (Or.inl rfl) dX1_rowByAmount_36 ?_
        refine z_astore (lv' := [(4, .ref (ra j)), (0, .ref t), (1, .int (nI X)), (2, .ref n), (3, .ref (n + 1))]) hb dX1_rowByAmount_39 (by rw [hN]; decide) rfl ?_
        refine z_aload_n hb dX1_rowByAmount_41 rfl ?_
        refine z_call1 (b' := 41 - j) (f' := 50 * (41 - j)) (rest := []) (av := [.ref n]) (z_siteF hb ho zc20 k_41 q318 zx0 q322 q324 q325 q323 q321 zxl0 dX1_rowByAmount_42 : z_Site M _ _ _ _ _ ([].reverse ++ .ref n :: []) [] _) zk_J2_size q98 hrm (m_J2_size k_41) (by omega) (by decide) (Nat.le_of_ble_eq_true rfl) (by omega) (by omega) ?_
        refine z_istore (lv' := [(5, .int (nI j)), (4, .ref (ra j)), (0, .ref t), (1, .int (nI X)), (2, .ref n), (3, .ref (n + 1))]) hb dX1_rowByAmount_47 (by rw [hN]; decide) rfl ?_
        have lp_49 : ∀ (k9_49 : Nat) (i : Nat), i < k9_49 → (i ≤ j) → (z_ipos w (z_ro w j) j j = z_ipos w (z_ro w j) j i) → z_V M h_32 nn (41 - j) (50 * (41 - j)) 49 [(5, .int (nI i)), (4, .ref (ra j)), (0, .ref t), (1, .int (nI X)), (2, .ref n), (3, .ref (n + 1))] [] := by
          intro k9_49
          induction k9_49 with
          | zero => intro i hk9_49; exact absurd hk9_49 (Nat.not_lt_zero _)
          | succ k9_49 ih_49 =>
            intro i hk9_49 hij hip
            refine z_iload hb dX1_rowByAmount_49 rfl ?_
            refine z_if_leN (tgt := 84) hb dX1_rowByAmount_51 (by decide) (by omega) (fun c_51 => ?_) (fun c_51 => ?_)
            · have hpi : z_ipos w (z_ro w j) j j = i := by
                first | exact z_ipos_t c_51 c_75 hip | exact z_ipos_0 c_51 hip
              have hob9 : ∀ q, q < j → z_obj h_32 (g9 q) ∧ g9 q ≠ n := fun q hq => by
                have h1 := h9 (z_ro w j q) (by have := z_ro_lt (w := w) j q hq; omega)
                unfold z_Rw at h1
                rw [hg9]
                exact ⟨z_robj ((z_exW hD0 (by omega) eh_32 hE9) _ _ h1), Nat.ne_of_lt (hD0 _ _ h1)⟩
              have hrj9 := h9 j (by omega)
              unfold z_Rw at hrj9
              refine z_aload_n hb dX1_rowByAmount_84 rfl ?_
              refine z_iload hb dX1_rowByAmount_85 rfl ?_
              refine z_aload hb dX1_rowByAmount_87 rfl ?_
              refine z_callQ0 (b' := (41 - j) - 1) (f' := (50 * (41 - j)) - 50) (rest := []) (av := [.ref n, .int (nI i), .ref (ra j)]) (z_siteF hb ho zc20 k_41 q1751 zx11 q1754 q1756 q1757 q1755 q321 zxl11 dX1_rowByAmount_89 : z_Site M _ _ _ _ _ ([.int (nI i), .ref (ra j)].reverse ++ .ref n :: []) [] _) zk_J2_add_3 q98 hrm (m_addI hn0 ⟨Nat.le_refl _, qe9, N9, m19, f9, k_41, k_42, l3, l4, l5, l6⟩ (by omega) (z_robj ((z_exW hD0 (by omega) eh_32 hE9) _ _ hrj9)) (Nat.ne_of_lt (hD0 _ _ hrj9)) hob9 hij) (by omega) (by decide) (Nat.le_of_ble_eq_true rfl) (by omega) (by omega) (fun h10 n10 hq10 hn10 => ?_)
              obtain ⟨e2, hLx2, hfr2⟩ := hq10
              rw [hg9, z_ins_ra, ← hpi] at hLx2
              have hLx3 : z_Lx (zm_G M) h10 n n e2 (j + 1) (fun q => ra (z_ro w (j + 1) q)) := hLx2
              refine z_goto (tgt := 21) hb dX1_rowByAmount_94 (by decide) ?_
              refine z_lv [2, 3, 4, 5] (lv' := [(0, .ref t), (1, .int (nI X)), (2, .ref n), (3, .ref (n + 1))]) rfl ?_
              exact z_bf (by omega) (by omega) (ih_21 (j + 1) _ n10 h10 e2 (by omega) (by omega) (by omega) ((hfr2.w (Q := fun y => n ≤ y) (fun y z => by omega)).exb hD0 (z_exW hD0 (by omega) eh_32 hE9)) (hfr2 _ _ (z_nxs eh_32) (fun z => z.elim (fun z => by omega) (fun z => z_neA_ (z_nxs eh_32) k_42 z.1))) hLx3)
            · refine z_aload hb dX1_rowByAmount_54 rfl ?_
              refine z_get (k := 3) (C := RX7) (T := TX7) (N := 4) hb ho zc6 in_X7 (zf_RX1_166 _) dX1_rowByAmount_56 k_44 (by decide) rfl ?_
              refine z_aload_n hb dX1_rowByAmount_59 rfl ?_
              refine z_iload hb dX1_rowByAmount_60 rfl ?_
              refine z_iconst (x := nI 1) hb dX1_rowByAmount_62 (by decide) ?_
              refine z_isub hb dX1_rowByAmount_63 ?_
              refine z_toI (y := nI (i - 1)) (pk_sub (by omega)) ?_
              refine z_call1 (b' := 41 - j) (f' := 50 * (41 - j)) (rest := [.int (w (16 + 4 * j + 3))]) (av := [.ref n, .int (nI (i - 1))]) (z_siteF hb ho zc20 k_41 q769 zx6 q663 q665 q666 q664 q321 zxl6 dX1_rowByAmount_64 : z_Site M _ _ _ _ _ ([.int (nI (i - 1))].reverse ++ .ref n :: [.int (w (16 + 4 * j + 3))]) [.int (w (16 + 4 * j + 3))] _) zk_J2_get q98 hrm (m_J2_get k_41 k_42 (by omega) (by omega) l6 (by omega)) (by omega) (by decide) (Nat.le_of_ble_eq_true rfl) (by omega) (by omega) ?_
              have hro9 := z_ro_lt (w := w) j (i - 1) (by omega)
              have hrw_45 := h9 (z_ro w j (i - 1)) (by omega)
              unfold z_Rw at hrw_45
              have hrw_45g : ra (z_ro w j (i - 1)) = g9 (i - 1) := by rw [hg9]
              rw [hrw_45g] at hrw_45
              have k_46 : h_32 (g9 (i - 1)) = some (.inr (6, [.int (w (16 + 4 * (z_ro w j (i - 1)))), .int (w (16 + 4 * (z_ro w j (i - 1)) + 1)), .int (w (16 + 4 * (z_ro w j (i - 1)) + 2)), .int (w (16 + 4 * (z_ro w j (i - 1)) + 3))])) := (z_exW hD0 (by omega) eh_32 hE9) _ _ hrw_45
              refine z_cast hb ho zc6 k_46 q1725 (Or.inl rfl) dX1_rowByAmount_69 ?_
              refine z_get (k := 3) (C := RX7) (T := TX7) (N := 4) hb ho zc6 in_X7 (zf_RX1_166 _) dX1_rowByAmount_72 k_46 (by decide) rfl ?_
              refine z_icmp_le (tgt := 84) hb dX1_rowByAmount_75 (by decide) (fun c_75 => ?_) (fun c_75 => ?_)
              · have hpi : z_ipos w (z_ro w j) j j = i := by
                  first | exact z_ipos_t c_51 c_75 hip | exact z_ipos_0 c_51 hip
                have hob9 : ∀ q, q < j → z_obj h_32 (g9 q) ∧ g9 q ≠ n := fun q hq => by
                  have h1 := h9 (z_ro w j q) (by have := z_ro_lt (w := w) j q hq; omega)
                  unfold z_Rw at h1
                  rw [hg9]
                  exact ⟨z_robj ((z_exW hD0 (by omega) eh_32 hE9) _ _ h1), Nat.ne_of_lt (hD0 _ _ h1)⟩
                have hrj9 := h9 j (by omega)
                unfold z_Rw at hrj9
                refine z_aload_n hb dX1_rowByAmount_84 rfl ?_
                refine z_iload hb dX1_rowByAmount_85 rfl ?_
                refine z_aload hb dX1_rowByAmount_87 rfl ?_
                refine z_callQ0 (b' := (41 - j) - 1) (f' := (50 * (41 - j)) - 50) (rest := []) (av := [.ref n, .int (nI i), .ref (ra j)]) (z_siteF hb ho zc20 k_41 q1751 zx11 q1754 q1756 q1757 q1755 q321 zxl11 dX1_rowByAmount_89 : z_Site M _ _ _ _ _ ([.int (nI i), .ref (ra j)].reverse ++ .ref n :: []) [] _) zk_J2_add_3 q98 hrm (m_addI hn0 ⟨Nat.le_refl _, qe9, N9, m19, f9, k_41, k_42, l3, l4, l5, l6⟩ (by omega) (z_robj ((z_exW hD0 (by omega) eh_32 hE9) _ _ hrj9)) (Nat.ne_of_lt (hD0 _ _ hrj9)) hob9 hij) (by omega) (by decide) (Nat.le_of_ble_eq_true rfl) (by omega) (by omega) (fun h10 n10 hq10 hn10 => ?_)
                obtain ⟨e2, hLx2, hfr2⟩ := hq10
                rw [hg9, z_ins_ra, ← hpi] at hLx2
                have hLx3 : z_Lx (zm_G M) h10 n n e2 (j + 1) (fun q => ra (z_ro w (j + 1) q)) := hLx2
                refine z_goto (tgt := 21) hb dX1_rowByAmount_94 (by decide) ?_
                refine z_lv [2, 3, 4, 5] (lv' := [(0, .ref t), (1, .int (nI X)), (2, .ref n), (3, .ref (n + 1))]) rfl ?_
                exact z_bf (by omega) (by omega) (ih_21 (j + 1) _ n10 h10 e2 (by omega) (by omega) (by omega) ((hfr2.w (Q := fun y => n ≤ y) (fun y z => by omega)).exb hD0 (z_exW hD0 (by omega) eh_32 hE9)) (hfr2 _ _ (z_nxs eh_32) (fun z => z.elim (fun z => by omega) (fun z => z_neA_ (z_nxs eh_32) k_42 z.1))) hLx3)
              · refine z_iinc (k0 := 0) (lv' := [(5, .int (nI (i - 1))), (4, .ref (ra j)), (0, .ref t), (1, .int (nI X)), (2, .ref n), (3, .ref (n + 1))]) hb dX1_rowByAmount_78 rfl (z_dN (k := 1) (by omega)) (by rw [hN]; decide) rfl ?_
                refine z_goto (tgt := 49) hb dX1_rowByAmount_81 (by decide) ?_
                refine z_lv [0, 1, 2, 3, 4, 5] (lv' := [(5, .int (nI (i - 1))), (4, .ref (ra j)), (0, .ref t), (1, .int (nI X)), (2, .ref n), (3, .ref (n + 1))]) rfl ?_
                exact ih_49 (i - 1) (by omega) (by omega) (z_ipos_s c_51 c_75 hip)
        refine z_lv [0, 1, 2, 3, 4, 5] (lv' := [(5, .int (nI j)), (4, .ref (ra j)), (0, .ref t), (1, .int (nI X)), (2, .ref n), (3, .ref (n + 1))]) rfl ?_
        exact lp_49 _ j (Nat.lt_succ_self _) (Nat.le_refl _) rfl
  refine z_lv [2, 3, 1, 0] (lv' := [(0, .ref t), (1, .int (nI X)), (2, .ref n), (3, .ref (n + 1))]) rfl ?_
  exact z_bf (by omega) (by omega) (lp_21 _ 0 (-1) (n + 2) h_21 ((zm_G M).2.2.1 1002) (Nat.lt_succ_self _) (Nat.zero_le _) (by omega) (z_exN (z_exW hD0 (by omega) eh_11 (z_exN z_ex_r hD_1 eh_2)) hD_20 eh_21) (z_nxs eh_21) (z_Lx0 k_30 ((z_exN (z_exW hD0 (by omega) eh_11 (z_exN z_ex_r hD_1 eh_2)) hD_20 eh_21) _ _ hEM) (Nat.lt_of_lt_of_le hE0 hn0) (Nat.le_refl _)))

set_option maxHeartbeats 1000000 in
theorem m_X1_rowByAmount_no {l : Launch} {G : zG} {h : zH} {n : Nat} {t : Nat} {x1 x2 x3 x4 x5 x6 : Value} {w : Nat → Int32} {v : Nat → Int64} {R S D a lr ls lv : Nat} {ra sa va : Nat → Nat} {x : Int32} (hX : h t = some (.inr (0, [.ref a, x1, x2, x3, x4, x5, x6]))) (hL : z_Ln G h w v R S D a lr ls lv ra sa va) (hK : z_KC G h) (hR4 : R ≤ 40) (hx : decide (nI 0 ≤ x ∧ x ≤ nI R - nI 1) = false) : z_C l G yX1_rowByAmount 8 60 2104 [.ref t, .int x] h n (z_tf 26 [] h n) := by
  refine z_start zk_X1_rowByAmount zpl_RX1 (Nat.le_of_ble_eq_true rfl) ?_
  intro hn0 M hl hG ho hb hN hr hm hH hrm hQ
  subst hl hG
  have ho : zm_o M = RX1 := ho
  obtain ⟨h1, ⟨e0, N0, m0, f0, r1, r2, r3, ⟨r4, r4n⟩, r5⟩, ⟨e, N, m9, f, h3, h4, h5, ⟨h6, h6n⟩, h7⟩, ⟨ev, Nv, mv, fv, v1, v2, v3, ⟨v4, v4n⟩, v5⟩, h9, hs, hv, hi, hrI⟩ := id hL
  obtain ⟨fE, hEM⟩ := hK.em
  have hE0 := hK.e0
  show z_V M h n 60 2104 0 [(0, .ref t), (1, .int x)] []
  refine z_dom (fun hD0 => ?_)
  refine z_dom (fun hD_1 => ?_)
  refine z_new (N0 := 3) (b' := 59) (f' := 2101) (fs := [.int (nI 0), .null, .int (nI 0)]) (C := RJ2) (T := TJ2) (N := 3) hb ho zc20 in_J2 tyJ2_ok q1748 q164 q98 dX1_rowByAmount_0 (zdf_J2) (by omega) (by omega) ?_
  refine z_hn (fun h_2 eh_2 => ?_)
  have eh_2 : h_2 = z_up h n (.inr (20, [.int (nI 0), .null, .int (nI 0)])) := eh_2
  have k_3 : h_2 t = some (.inr (0, [.ref a, x1, x2, x3, x4, x5, x6])) := z_nx eh_2 (Nat.ne_of_lt (hD_1 _ _ hX)) hX
  have k_4 : h_2 a = some (.inr (1, [.ref lr, .ref ls, .ref lv, .int (nI D), .int (w 2), .int (w 4), .int (w 5), .int (w 6)])) := z_nx eh_2 (Nat.ne_of_lt (hD_1 _ _ h1)) h1
  have k_5 : h_2 lr = some (.inr (20, [.int m0, .ref e0, .int (nI R)])) := z_nx eh_2 (Nat.ne_of_lt (hD_1 _ _ r1)) r1
  have k_6 : h_2 e0 = some (.inl ((zm_G M).2.1 5, N0, .inr (.inr (.inr (.inr f0))))) := z_nx eh_2 (Nat.ne_of_lt (hD_1 _ _ r2)) r2
  have k_7 : h_2 ls = some (.inr (20, [.int m9, .ref e, .int (nI S)])) := z_nx eh_2 (Nat.ne_of_lt (hD_1 _ _ h3)) h3
  have k_8 : h_2 e = some (.inl ((zm_G M).2.1 5, N, .inr (.inr (.inr (.inr f))))) := z_nx eh_2 (Nat.ne_of_lt (hD_1 _ _ h4)) h4
  have k_9 : h_2 lv = some (.inr (20, [.int mv, .ref ev, .int (nI S)])) := z_nx eh_2 (Nat.ne_of_lt (hD_1 _ _ v1)) v1
  have k_10 : h_2 ev = some (.inl ((zm_G M).2.1 5, Nv, .inr (.inr (.inr (.inr fv))))) := z_nx eh_2 (Nat.ne_of_lt (hD_1 _ _ v2)) v2
  refine z_dup hb dX1_rowByAmount_3 rfl ?_
  refine z_call0 (b' := 59) (f' := 2101) (rest := [.ref n]) (av := [.ref n]) (z_siteI hb ho q1749 q166 q167 rfl zy_J2_init zl_J2_init dX1_rowByAmount_4 : z_Site M _ _ _ _ _ ([].reverse ++ .ref n :: [.ref n]) [.ref n] _) zk_J2_init q98 hrm (m_J2_init (z_nxs eh_2) (by omega)) (by omega) (by decide) (Nat.le_of_ble_eq_true rfl) (by omega) (by omega) ?_
  refine z_hn (fun h_11 eh_11 => ?_)
  have eh_11 : h_11 = z_up h_2 n (.inr (20, [.int (nI 0), .ref ((zm_G M).2.2.1 1002), .int (nI 0)])) := eh_11
  have k_12 : h_11 t = some (.inr (0, [.ref a, x1, x2, x3, x4, x5, x6])) := z_nx eh_11 (Nat.ne_of_lt (hD_1 _ _ hX)) k_3
  have k_13 : h_11 a = some (.inr (1, [.ref lr, .ref ls, .ref lv, .int (nI D), .int (w 2), .int (w 4), .int (w 5), .int (w 6)])) := z_nx eh_11 (Nat.ne_of_lt (hD_1 _ _ h1)) k_4
  have k_14 : h_11 lr = some (.inr (20, [.int m0, .ref e0, .int (nI R)])) := z_nx eh_11 (Nat.ne_of_lt (hD_1 _ _ r1)) k_5
  have k_15 : h_11 e0 = some (.inl ((zm_G M).2.1 5, N0, .inr (.inr (.inr (.inr f0))))) := z_nx eh_11 (Nat.ne_of_lt (hD_1 _ _ r2)) k_6
  have k_16 : h_11 ls = some (.inr (20, [.int m9, .ref e, .int (nI S)])) := z_nx eh_11 (Nat.ne_of_lt (hD_1 _ _ h3)) k_7
  have k_17 : h_11 e = some (.inl ((zm_G M).2.1 5, N, .inr (.inr (.inr (.inr f))))) := z_nx eh_11 (Nat.ne_of_lt (hD_1 _ _ h4)) k_8
  have k_18 : h_11 lv = some (.inr (20, [.int mv, .ref ev, .int (nI S)])) := z_nx eh_11 (Nat.ne_of_lt (hD_1 _ _ v1)) k_9
  have k_19 : h_11 ev = some (.inl ((zm_G M).2.1 5, Nv, .inr (.inr (.inr (.inr fv))))) := z_nx eh_11 (Nat.ne_of_lt (hD_1 _ _ v2)) k_10
  refine z_astore_n (lv' := [(2, .ref n), (0, .ref t), (1, .int x)]) hb dX1_rowByAmount_7 (by rw [hN]; decide) rfl ?_
  refine z_aload_n hb dX1_rowByAmount_8 rfl ?_
  refine z_get (k := 0) (C := RX1) (T := TX1) (N := 7) hb ho zc0 in_X1 (zf_RX1_41 _) dX1_rowByAmount_9 k_12 (by decide) rfl ?_
  refine z_get (k := 0) (C := RX2) (T := TX2) (N := 8) hb ho zc1 in_X2 (zf_RX1_123 _) dX1_rowByAmount_12 k_13 (by decide) rfl ?_
  refine z_dom (fun hD_20 => ?_)
  refine z_call1 (b' := 58) (f' := 2097) (rest := []) (av := [.ref lr]) (z_siteF hb ho zc20 k_14 q586 zx1 q343 q345 q346 q344 q321 zxl1 dX1_rowByAmount_15 : z_Site M _ _ _ _ _ ([].reverse ++ .ref lr :: []) [] _) zk_J2_iterator q98 hrm (m_J2_iterator k_14 (hD_20 _ _ k_14)) (by omega) (by decide) (Nat.le_of_ble_eq_true rfl) (by omega) (by omega) ?_
  refine z_hn (fun h_21 eh_21 => ?_)
  have eh_21 : h_21 = z_up h_11 (n + 1) (.inr (24, [.int (nI 0), .int (-1), .int m0, .ref lr])) := eh_21
  have k_22 : h_21 t = some (.inr (0, [.ref a, x1, x2, x3, x4, x5, x6])) := z_nx eh_21 (Nat.ne_of_lt (hD_20 _ _ k_12)) k_12
  have k_23 : h_21 a = some (.inr (1, [.ref lr, .ref ls, .ref lv, .int (nI D), .int (w 2), .int (w 4), .int (w 5), .int (w 6)])) := z_nx eh_21 (Nat.ne_of_lt (hD_20 _ _ k_13)) k_13
  have k_24 : h_21 lr = some (.inr (20, [.int m0, .ref e0, .int (nI R)])) := z_nx eh_21 (Nat.ne_of_lt (hD_20 _ _ k_14)) k_14
  have k_25 : h_21 e0 = some (.inl ((zm_G M).2.1 5, N0, .inr (.inr (.inr (.inr f0))))) := z_nx eh_21 (Nat.ne_of_lt (hD_20 _ _ k_15)) k_15
  have k_26 : h_21 ls = some (.inr (20, [.int m9, .ref e, .int (nI S)])) := z_nx eh_21 (Nat.ne_of_lt (hD_20 _ _ k_16)) k_16
  have k_27 : h_21 e = some (.inl ((zm_G M).2.1 5, N, .inr (.inr (.inr (.inr f))))) := z_nx eh_21 (Nat.ne_of_lt (hD_20 _ _ k_17)) k_17
  have k_28 : h_21 lv = some (.inr (20, [.int mv, .ref ev, .int (nI S)])) := z_nx eh_21 (Nat.ne_of_lt (hD_20 _ _ k_18)) k_18
  have k_29 : h_21 ev = some (.inl ((zm_G M).2.1 5, Nv, .inr (.inr (.inr (.inr fv))))) := z_nx eh_21 (Nat.ne_of_lt (hD_20 _ _ k_19)) k_19
  have k_30 : h_21 n = some (.inr (20, [.int (nI 0), .ref ((zm_G M).2.2.1 1002), .int (nI 0)])) := z_nx eh_21 (Nat.ne_of_lt (hD_20 _ _ (z_nxs eh_11))) (z_nxs eh_11)
  refine z_astore_n (lv' := [(3, .ref (n + 1)), (2, .ref n), (0, .ref t), (1, .int x)]) hb dX1_rowByAmount_20 (by rw [hN]; decide) rfl ?_
  have lp_21 : ∀ (k9_21 : Nat) (j : Nat) (l9 : Int32) (nn : Nat) (hh : zH) (e9 : Nat), R + 1 - j < k9_21 → (j ≤ R) → (n + 2 ≤ nn) → (z_ex h hh) → (hh (n + 1) = some (.inr (24, [.int (nI j), .int l9, .int m0, .ref lr]))) → (z_Lx (zm_G M) hh n n e9 j (fun q => ra (z_ro w j q))) → z_V M hh nn (41 - j) (50 * (41 - j)) 21 [(0, .ref t), (1, .int x), (2, .ref n), (3, .ref (n + 1))] [] := by
    intro k9_21
    induction k9_21 with
    | zero => intro j l9 nn hh e9 hk9_21; exact absurd hk9_21 (Nat.not_lt_zero _)
    | succ k9_21 ih_21 =>
      intro j l9 nn hh e9 hk9_21 hj hnnj hE9 hT9 hLx
      obtain ⟨g9, hg9⟩ : ∃ g9, g9 = (fun q => ra (z_ro w j q)) := ⟨_, rfl⟩
      rw [← hg9] at hLx
      obtain ⟨-, qe9, N9, m19, f9, l1, l2, l3, l4, l5, l6⟩ := id hLx
      have l4N := l4.le
      refine z_aload_n hb dX1_rowByAmount_21 rfl ?_
      refine z_call1 (b' := 41 - j) (f' := 50 * (41 - j)) (rest := []) (av := [.ref (n + 1)]) (z_siteF hb ho zc24 hT9 q588 zx2 q372 q374 q375 q373 q371 zxl2 dX1_rowByAmount_22 : z_Site M _ _ _ _ _ ([].reverse ++ .ref (n + 1) :: []) [] _) zk_J8_hasNext q105 hrm (m_J8_hasNext hT9 (hE9 _ _ r1) (by omega) (by omega)) (by omega) (by decide) (Nat.le_of_ble_eq_true rfl) (by omega) (by omega) ?_
      refine z_ifb_eq (tgt := 97) hb dX1_rowByAmount_27 (by decide) (fun c_27 => ?_) (fun c_27 => ?_)
      · have hx_j : j = R := by simpa using c_27
        refine z_iload_n hb dX1_rowByAmount_97 rfl ?_
        refine z_iconst (x := nI 0) hb dX1_rowByAmount_98 (by decide) ?_
        refine z_aload_n hb dX1_rowByAmount_99 rfl ?_
        refine z_call1 (b' := 41 - j) (f' := 50 * (41 - j)) (rest := [.int (nI 0), .int x]) (av := [.ref n]) (z_siteF hb ho zc20 l1 q318 zx0 q322 q324 q325 q323 q321 zxl0 dX1_rowByAmount_100 : z_Site M _ _ _ _ _ ([].reverse ++ .ref n :: [.int (nI 0), .int x]) [.int (nI 0), .int x] _) zk_J2_size q98 hrm (m_J2_size l1) (by omega) (by decide) (Nat.le_of_ble_eq_true rfl) (by omega) (by omega) ?_
        refine z_iconst (x := nI 1) hb dX1_rowByAmount_105 (by decide) ?_
        refine z_isub hb dX1_rowByAmount_106 ?_
        refine z_call1 (b' := 41 - j) (f' := 50 * (41 - j)) (rest := []) (av := [.int x, .int (nI 0), .int ((nI j) - (nI 1))]) (z_siteS hb ho q1137 q1138 q94 ⟨_, _, _, _, zk_X1_inRange⟩ zy_X1_inRange zl_X1_inRange dX1_rowByAmount_107 : z_Site M _ _ _ _ _ ([.int x, .int (nI 0), .int ((nI j) - (nI 1))].reverse ++ []) [] _) zk_X1_inRange q94 hrm (m_X1_inRange x (nI 0) ((nI j) - (nI 1))) (by omega) (by decide) (Nat.le_of_ble_eq_true rfl) (by omega) (by omega) ?_
        refine z_callC0 (b' := (41 - j) - 1) (f' := (50 * (41 - j)) - 6) (rest := []) (av := [.int (z_b (decide (nI 0 ≤ x ∧ x ≤ (nI j) - (nI 1))))]) (z_siteS hb ho q1724 q1368 q94 ⟨_, _, _, _, zk_X1_requireElement⟩ zy_X1_requireElement zl_X1_requireElement dX1_rowByAmount_110 : z_Site M _ _ _ _ _ ([.int (z_b (decide (nI 0 ≤ x ∧ x ≤ (nI j) - (nI 1))))].reverse ++ []) [] _) zk_X1_requireElement q94 hrm (m_X1_requireElement (decide (nI 0 ≤ x ∧ x ≤ (nI j) - (nI 1)))) (by omega) (by decide) (Nat.le_of_ble_eq_true rfl) (by omega) (by omega) (fun c_110 => ?_) (fun c_110 => ?_)
        · rw [hx_j, hx] at c_110; cases c_110
        · refine z_lessX (z_ex_up hE9) ?_
          exact z_out ho hH zc26 z_up_s (by omega) (fun _ h => nomatch h) (by rw [hQ]; exact ⟨_, rfl, by omega, Nat.lt_succ_self _, rfl⟩)
      · have hl_j : j < R := Nat.lt_of_le_of_ne hj (by simpa using c_27)
        refine z_aload_n hb dX1_rowByAmount_30 rfl ?_
        refine z_call1 (b' := 41 - j) (f' := 50 * (41 - j)) (rest := []) (av := [.ref (n + 1)]) (z_siteF hb ho zc24 hT9 q590 zx3 q381 q383 q384 q382 q371 zxl3 dX1_rowByAmount_31 : z_Site M _ _ _ _ _ ([].reverse ++ .ref (n + 1) :: []) [] _) zk_J8_next q105 hrm (m_J8_next hT9 (hE9 _ _ r1) (hE9 _ _ r2) (by omega) (by omega) r5 (by omega) (by omega)) (by omega) (by decide) (Nat.le_of_ble_eq_true rfl) (by omega) (by omega) ?_
        refine z_hn (fun h_31 eh_31 => ?_)
        have eh_31 : h_31 = z_up hh (n + 1) (.inr (24, [.int (nI (j + 1)), .int (nI j), .int m0, .ref lr])) := eh_31
        have k_32 : h_31 t = some (.inr (0, [.ref a, x1, x2, x3, x4, x5, x6])) := z_nx eh_31 (Nat.ne_of_lt (hD_20 _ _ k_12)) (hE9 _ _ hX)
        have k_33 : h_31 a = some (.inr (1, [.ref lr, .ref ls, .ref lv, .int (nI D), .int (w 2), .int (w 4), .int (w 5), .int (w 6)])) := z_nx eh_31 (Nat.ne_of_lt (hD_20 _ _ k_13)) (hE9 _ _ h1)
        have k_34 : h_31 lr = some (.inr (20, [.int m0, .ref e0, .int (nI R)])) := z_nx eh_31 (Nat.ne_of_lt (hD_20 _ _ k_14)) (hE9 _ _ r1)
        have k_35 : h_31 e0 = some (.inl ((zm_G M).2.1 5, N0, .inr (.inr (.inr (.inr f0))))) := z_nx eh_31 (Nat.ne_of_lt (hD_20 _ _ k_15)) (hE9 _ _ r2)
        have k_36 : h_31 ls = some (.inr (20, [.int m9, .ref e, .int (nI S)])) := z_nx eh_31 (Nat.ne_of_lt (hD_20 _ _ k_16)) (hE9 _ _ h3)
        have k_37 : h_31 e = some (.inl ((zm_G M).2.1 5, N, .inr (.inr (.inr (.inr f))))) := z_nx eh_31 (Nat.ne_of_lt (hD_20 _ _ k_17)) (hE9 _ _ h4)
        have k_38 : h_31 lv = some (.inr (20, [.int mv, .ref ev, .int (nI S)])) := z_nx eh_31 (Nat.ne_of_lt (hD_20 _ _ k_18)) (hE9 _ _ v1)
        have k_39 : h_31 ev = some (.inl ((zm_G M).2.1 5, Nv, .inr (.inr (.inr (.inr fv))))) := z_nx eh_31 (Nat.ne_of_lt (hD_20 _ _ k_19)) (hE9 _ _ v2)
        have k_40 : h_31 n = some (.inr (20, [.int m19, .ref e9, .int (nI j)])) := z_nx eh_31 (Nat.ne_of_lt (hD_20 _ _ (z_nxs eh_11))) l1
        have k_41 : h_31 e9 = some (.inl ((zm_G M).2.1 5, N9, .inr (.inr (.inr (.inr f9))))) := z_nx eh_31 (z_neA' l2 hT9) l2
        have hrw_42 := h9 j (by omega)
        unfold z_Rw at hrw_42
        have k_43 : h_31 (ra j) = some (.inr (6, [.int (w (16 + 4 * j)), .int (w (16 + 4 * j + 1)), .int (w (16 + 4 * j + 2)), .int (w (16 + 4 * j + 3))])) := (z_exW hD0 (by omega) eh_31 hE9) _ _ hrw_42
        refine z_cast hb ho zc6 k_43 q1725 (Or.inl rfl) dX1_rowByAmount_36 ?_
        refine z_astore (lv' := [(4, .ref (ra j)), (0, .ref t), (1, .int x), (2, .ref n), (3, .ref (n + 1))]) hb dX1_rowByAmount_39 (by rw [hN]; decide) rfl ?_
        refine z_aload_n hb dX1_rowByAmount_41 rfl ?_
        refine z_call1 (b' := 41 - j) (f' := 50 * (41 - j)) (rest := []) (av := [.ref n]) (z_siteF hb ho zc20 k_40 q318 zx0 q322 q324 q325 q323 q321 zxl0 dX1_rowByAmount_42 : z_Site M _ _ _ _ _ ([].reverse ++ .ref n :: []) [] _) zk_J2_size q98 hrm (m_J2_size k_40) (by omega) (by decide) (Nat.le_of_ble_eq_true rfl) (by omega) (by omega) ?_
        refine z_istore (lv' := [(5, .int (nI j)), (4, .ref (ra j)), (0, .ref t), (1, .int x), (2, .ref n), (3, .ref (n + 1))]) hb dX1_rowByAmount_47 (by rw [hN]; decide) rfl ?_
        have lp_49 : ∀ (k9_49 : Nat) (i : Nat), i < k9_49 → (i ≤ j) → (z_ipos w (z_ro w j) j j = z_ipos w (z_ro w j) j i) → z_V M h_31 nn (41 - j) (50 * (41 - j)) 49 [(5, .int (nI i)), (4, .ref (ra j)), (0, .ref t), (1, .int x), (2, .ref n), (3, .ref (n + 1))] [] := by
          intro k9_49
          induction k9_49 with
          | zero => intro i hk9_49; exact absurd hk9_49 (Nat.not_lt_zero _)
          | succ k9_49 ih_49 =>
            intro i hk9_49 hij hip
            refine z_iload hb dX1_rowByAmount_49 rfl ?_
            refine z_if_leN (tgt := 84) hb dX1_rowByAmount_51 (by decide) (by omega) (fun c_51 => ?_) (fun c_51 => ?_)
            · have hpi : z_ipos w (z_ro w j) j j = i := by
                first | exact z_ipos_t c_51 c_75 hip | exact z_ipos_0 c_51 hip
              have hob9 : ∀ q, q < j → z_obj h_31 (g9 q) ∧ g9 q ≠ n := fun q hq => by
                have h1 := h9 (z_ro w j q) (by have := z_ro_lt (w := w) j q hq; omega)
                unfold z_Rw at h1
                rw [hg9]
                exact ⟨z_robj ((z_exW hD0 (by omega) eh_31 hE9) _ _ h1), Nat.ne_of_lt (hD0 _ _ h1)⟩
              have hrj9 := h9 j (by omega)
              unfold z_Rw at hrj9
              refine z_aload_n hb dX1_rowByAmount_84 rfl ?_
              refine z_iload hb dX1_rowByAmount_85 rfl ?_
              refine z_aload hb dX1_rowByAmount_87 rfl ?_
              refine z_callQ0 (b' := (41 - j) - 1) (f' := (50 * (41 - j)) - 50) (rest := []) (av := [.ref n, .int (nI i), .ref (ra j)]) (z_siteF hb ho zc20 k_40 q1751 zx11 q1754 q1756 q1757 q1755 q321 zxl11 dX1_rowByAmount_89 : z_Site M _ _ _ _ _ ([.int (nI i), .ref (ra j)].reverse ++ .ref n :: []) [] _) zk_J2_add_3 q98 hrm (m_addI hn0 ⟨Nat.le_refl _, qe9, N9, m19, f9, k_40, k_41, l3, l4, l5, l6⟩ (by omega) (z_robj ((z_exW hD0 (by omega) eh_31 hE9) _ _ hrj9)) (Nat.ne_of_lt (hD0 _ _ hrj9)) hob9 hij) (by omega) (by decide) (Nat.le_of_ble_eq_true rfl) (by omega) (by omega) (fun h10 n10 hq10 hn10 => ?_)
              obtain ⟨e2, hLx2, hfr2⟩ := hq10
              rw [hg9, z_ins_ra, ← hpi] at hLx2
              have hLx3 : z_Lx (zm_G M) h10 n n e2 (j + 1) (fun q => ra (z_ro w (j + 1) q)) := hLx2
              refine z_goto (tgt := 21) hb dX1_rowByAmount_94 (by decide) ?_
              refine z_lv [2, 3, 4, 5] (lv' := [(0, .ref t), (1, .int x), (2, .ref n), (3, .ref (n + 1))]) rfl ?_
              exact z_bf (by omega) (by omega) (ih_21 (j + 1) _ n10 h10 e2 (by omega) (by omega) (by omega) ((hfr2.w (Q := fun y => n ≤ y) (fun y z => by omega)).exb hD0 (z_exW hD0 (by omega) eh_31 hE9)) (hfr2 _ _ (z_nxs eh_31) (fun z => z.elim (fun z => by omega) (fun z => z_neA_ (z_nxs eh_31) k_41 z.1))) hLx3)
            · refine z_aload hb dX1_rowByAmount_54 rfl ?_
              refine z_get (k := 3) (C := RX7) (T := TX7) (N := 4) hb ho zc6 in_X7 (zf_RX1_166 _) dX1_rowByAmount_56 k_43 (by decide) rfl ?_
              refine z_aload_n hb dX1_rowByAmount_59 rfl ?_
              refine z_iload hb dX1_rowByAmount_60 rfl ?_
              refine z_iconst (x := nI 1) hb dX1_rowByAmount_62 (by decide) ?_
              refine z_isub hb dX1_rowByAmount_63 ?_
              refine z_toI (y := nI (i - 1)) (pk_sub (by omega)) ?_
              refine z_call1 (b' := 41 - j) (f' := 50 * (41 - j)) (rest := [.int (w (16 + 4 * j + 3))]) (av := [.ref n, .int (nI (i - 1))]) (z_siteF hb ho zc20 k_40 q769 zx6 q663 q665 q666 q664 q321 zxl6 dX1_rowByAmount_64 : z_Site M _ _ _ _ _ ([.int (nI (i - 1))].reverse ++ .ref n :: [.int (w (16 + 4 * j + 3))]) [.int (w (16 + 4 * j + 3))] _) zk_J2_get q98 hrm (m_J2_get k_40 k_41 (by omega) (by omega) l6 (by omega)) (by omega) (by decide) (Nat.le_of_ble_eq_true rfl) (by omega) (by omega) ?_
              have hro9 := z_ro_lt (w := w) j (i - 1) (by omega)
              have hrw_44 := h9 (z_ro w j (i - 1)) (by omega)
              unfold z_Rw at hrw_44
              have hrw_44g : ra (z_ro w j (i - 1)) = g9 (i - 1) := by rw [hg9]
              rw [hrw_44g] at hrw_44
              have k_45 : h_31 (g9 (i - 1)) = some (.inr (6, [.int (w (16 + 4 * (z_ro w j (i - 1)))), .int (w (16 + 4 * (z_ro w j (i - 1)) + 1)), .int (w (16 + 4 * (z_ro w j (i - 1)) + 2)), .int (w (16 + 4 * (z_ro w j (i - 1)) + 3))])) := (z_exW hD0 (by omega) eh_31 hE9) _ _ hrw_44
              refine z_cast hb ho zc6 k_45 q1725 (Or.inl rfl) dX1_rowByAmount_69 ?_
              refine z_get (k := 3) (C := RX7) (T := TX7) (N := 4) hb ho zc6 in_X7 (zf_RX1_166 _) dX1_rowByAmount_72 k_45 (by decide) rfl ?_
              refine z_icmp_le (tgt := 84) hb dX1_rowByAmount_75 (by decide) (fun c_75 => ?_) (fun c_75 => ?_)
              · have hpi : z_ipos w (z_ro w j) j j = i := by
                  first | exact z_ipos_t c_51 c_75 hip | exact z_ipos_0 c_51 hip
                have hob9 : ∀ q, q < j → z_obj h_31 (g9 q) ∧ g9 q ≠ n := fun q hq => by
                  have h1 := h9 (z_ro w j q) (by have := z_ro_lt (w := w) j q hq; omega)
                  unfold z_Rw at h1
                  rw [hg9]
                  exact ⟨z_robj ((z_exW hD0 (by omega) eh_31 hE9) _ _ h1), Nat.ne_of_lt (hD0 _ _ h1)⟩
                have hrj9 := h9 j (by omega)
                unfold z_Rw at hrj9
                refine z_aload_n hb dX1_rowByAmount_84 rfl ?_
                refine z_iload hb dX1_rowByAmount_85 rfl ?_
                refine z_aload hb dX1_rowByAmount_87 rfl ?_
                refine z_callQ0 (b' := (41 - j) - 1) (f' := (50 * (41 - j)) - 50) (rest := []) (av := [.ref n, .int (nI i), .ref (ra j)]) (z_siteF hb ho zc20 k_40 q1751 zx11 q1754 q1756 q1757 q1755 q321 zxl11 dX1_rowByAmount_89 : z_Site M _ _ _ _ _ ([.int (nI i), .ref (ra j)].reverse ++ .ref n :: []) [] _) zk_J2_add_3 q98 hrm (m_addI hn0 ⟨Nat.le_refl _, qe9, N9, m19, f9, k_40, k_41, l3, l4, l5, l6⟩ (by omega) (z_robj ((z_exW hD0 (by omega) eh_31 hE9) _ _ hrj9)) (Nat.ne_of_lt (hD0 _ _ hrj9)) hob9 hij) (by omega) (by decide) (Nat.le_of_ble_eq_true rfl) (by omega) (by omega) (fun h10 n10 hq10 hn10 => ?_)
                obtain ⟨e2, hLx2, hfr2⟩ := hq10
                rw [hg9, z_ins_ra, ← hpi] at hLx2
                have hLx3 : z_Lx (zm_G M) h10 n n e2 (j + 1) (fun q => ra (z_ro w (j + 1) q)) := hLx2
                refine z_goto (tgt := 21) hb dX1_rowByAmount_94 (by decide) ?_
                refine z_lv [2, 3, 4, 5] (lv' := [(0, .ref t), (1, .int x), (2, .ref n), (3, .ref (n + 1))]) rfl ?_
                exact z_bf (by omega) (by omega) (ih_21 (j + 1) _ n10 h10 e2 (by omega) (by omega) (by omega) ((hfr2.w (Q := fun y => n ≤ y) (fun y z => by omega)).exb hD0 (z_exW hD0 (by omega) eh_31 hE9)) (hfr2 _ _ (z_nxs eh_31) (fun z => z.elim (fun z => by omega) (fun z => z_neA_ (z_nxs eh_31) k_41 z.1))) hLx3)
              · refine z_iinc (k0 := 0) (lv' := [(5, .int (nI (i - 1))), (4, .ref (ra j)), (0, .ref t), (1, .int x), (2, .ref n), (3, .ref (n + 1))]) hb dX1_rowByAmount_78 rfl (z_dN (k := 1) (by omega)) (by rw [hN]; decide) rfl ?_
                refine z_goto (tgt := 49) hb dX1_rowByAmount_81 (by decide) ?_
                refine z_lv [0, 1, 2, 3, 4, 5] (lv' := [(5, .int (nI (i - 1))), (4, .ref (ra j)), (0, .ref t), (1, .int x), (2, .ref n), (3, .ref (n + 1))]) rfl ?_
                exact ih_49 (i - 1) (by omega) (by omega) (z_ipos_s c_51 c_75 hip)
        refine z_lv [0, 1, 2, 3, 4, 5] (lv' := [(5, .int (nI j)), (4, .ref (ra j)), (0, .ref t), (1, .int x), (2, .ref n), (3, .ref (n + 1))]) rfl ?_
        exact lp_49 _ j (Nat.lt_succ_self _) (Nat.le_refl _) rfl
  refine z_lv [2, 3, 1, 0] (lv' := [(0, .ref t), (1, .int x), (2, .ref n), (3, .ref (n + 1))]) rfl ?_
  exact z_bf (by omega) (by omega) (lp_21 _ 0 (-1) (n + 2) h_21 ((zm_G M).2.2.1 1002) (Nat.lt_succ_self _) (Nat.zero_le _) (by omega) (z_exN (z_exW hD0 (by omega) eh_11 (z_exN z_ex_r hD_1 eh_2)) hD_20 eh_21) (z_nxs eh_21) (z_Lx0 k_30 ((z_exN (z_exW hD0 (by omega) eh_11 (z_exN z_ex_r hD_1 eh_2)) hD_20 eh_21) _ _ hEM) (Nat.lt_of_lt_of_le hE0 hn0) (Nat.le_refl _)))

