/-! THE COMPONENT'S OBJECT, its lanes -/
def z_kq (h h2 : zH) : Prop := ∀ y c, h y = some c → z_lnj c → h2 y = some c
theorem z_ex.kq {h h2 : zH} (e : z_ex h h2) : z_kq h h2 := fun y c q _ => e y c q
theorem z_kq.t {h h1 h2 : zH} (a : z_kq h h1) (b : z_kq h1 h2) : z_kq h h2 := fun y c q l => b y c (a y c q l) l
theorem z_fr.kq {P : Nat → Prop} {h h2 : zH} (f : z_fr P h h2) (hP : ∀ y c, P y → h y = some c → ¬ z_lnj c) : z_kq h h2 := fun y c q l => f y c q fun z => hP y c z q l
theorem z_Ls.kq {G : zG} {h h2 : zH} {a k : Nat} {g : Nat → Nat} (q : z_Ls G h a k g) (e : z_kq h h2) : z_Ls G h2 a k g := by
  obtain ⟨e1, N, m9, f, h1, h2, h3, h4, h5⟩ := q
  exact ⟨e1, N, m9, f, e _ _ h1 (by simp [z_lnj]), e _ _ h2 h4.2, h3, h4, h5⟩
theorem z_Sp.kq {h h2 : zH} {w : Nat → Int32} {sa : Nat → Nat} {k : Nat} (q : z_Sp h w sa k) (he : z_kq h h2) : z_Sp h2 w sa k := by
  rcases q with ⟨q1, q⟩ | ⟨q1, q⟩ | ⟨q1, q⟩ | ⟨q1, q2, q3, q⟩ | ⟨q1, q2, q3, q⟩ | ⟨q1, q2, q3, q⟩ | ⟨q1, q2, q3, q⟩
  · exact Or.inl ⟨q1, he _ _ q (by simp [z_lnj])⟩
  · exact Or.inr (Or.inl ⟨q1, he _ _ q (by simp [z_lnj])⟩)
  · exact Or.inr (Or.inr (Or.inl ⟨q1, he _ _ q (by simp [z_lnj])⟩))
  · exact Or.inr (Or.inr (Or.inr (Or.inl ⟨q1, q2, q3, he _ _ q (by simp [z_lnj])⟩)))
  · exact Or.inr (Or.inr (Or.inr (Or.inr (Or.inl ⟨q1, q2, q3, he _ _ q (by simp [z_lnj])⟩))))
  · exact Or.inr (Or.inr (Or.inr (Or.inr (Or.inr (Or.inl ⟨q1, q2, q3, he _ _ q (by simp [z_lnj])⟩)))))
  · exact Or.inr (Or.inr (Or.inr (Or.inr (Or.inr (Or.inr ⟨q1, q2, q3, he _ _ q (by simp [z_lnj])⟩)))))
theorem z_Ln.kq {G : zG} {h h2 : zH} {w : Nat → Int32} {v : Nat → Int64} {R S D a lr ls lv : Nat} {ra sa va : Nat → Nat} (q : z_Ln G h w v R S D a lr ls lv ra sa va) (e : z_kq h h2) : z_Ln G h2 w v R S D a lr ls lv ra sa va := by
  obtain ⟨h1, q2, q3, q4, q5, q6, q7, q8⟩ := q
  refine ⟨e _ _ h1 (by simp [z_lnj]), q2.kq e, q3.kq e, q4.kq e, fun p hp => e _ _ (q5 p hp) (by simp [z_lnj]), fun k hk => (q6 k hk).kq e, fun k hk => ?_, q8⟩
  obtain ⟨e1, e2, F, Z, z1, z2, z3, z4⟩ := q7 k hk
  exact ⟨e1, e2, F, Z, e _ _ z1 (by simp [z_lnj]), e _ _ z2 rfl, e _ _ z3 rfl, z4⟩
/-- a lane that stands for the numbers w, v -/
def z_LN (G : zG) (h : zH) (w : Nat → Int32) (v : Nat → Int64) (R S D a : Nat) : Prop := ∃ (lr ls lv : Nat) (ra sa va : Nat → Nat), z_Ln G h w v R S D a lr ls lv ra sa va
theorem z_LN.kq {G : zG} {h h2 : zH} {w : Nat → Int32} {v : Nat → Int64} {R S D a : Nat} (q : z_LN G h w v R S D a) (e : z_kq h h2) : z_LN G h2 w v R S D a := by
  obtain ⟨lr, ls, lv, ra, sa, va, q⟩ := q
  exact ⟨lr, ls, lv, ra, sa, va, q.kq e⟩
theorem z_LN.ex {G : zG} {h h2 : zH} {w : Nat → Int32} {v : Nat → Int64} {R S D a : Nat} (q : z_LN G h w v R S D a) (e : z_ex h h2) : z_LN G h2 w v R S D a := q.kq e.kq
theorem z_DR.lN {G : zG} {h : zH} {b0 : Nat} {w : Nat → Int32} {v : Nat → Int64} {R S D a : Nat} (q : z_DR G h b0 w v R S D a) : z_LN G h w v R S D a := by
  obtain ⟨lr, er, ls, es, lv, ev, ra, sa, va, na, ba, q⟩ := q
  exact ⟨lr, ls, lv, ra, sa, va, q.ln⟩
theorem z_LN.obj {G : zG} {h : zH} {w : Nat → Int32} {v : Nat → Int64} {R S D a : Nat} (q : z_LN G h w v R S D a) : z_obj h a := by
  obtain ⟨lr, ls, lv, ra, sa, va, q⟩ := q
  exact ⟨1, _, _, q.1, zc1, q3302⟩
/-- the constants' part of a heap -/
def z_lo (G : zG) (h : zH) : zH := fun a => if a < z_n0 G then h a else none
theorem z_lo.ex {G : zG} {h : zH} : z_ex (z_lo G h) h := fun a e q => by
  unfold z_lo at q
  by_cases z : a < z_n0 G
  · rw [if_pos z] at q; exact q
  · rw [if_neg z] at q; cases q
theorem z_lo.fr {G : zG} {P : Nat → Prop} {h h2 : zH} (f : z_fr P h h2) (hP : ∀ y, P y → z_n0 G ≤ y) : z_ex (z_lo G h) (z_lo G h2) := fun a e q => by
  unfold z_lo at q ⊢
  by_cases z : a < z_n0 G
  · rw [if_pos z] at q ⊢
    exact f a e q (fun p => absurd (hP a p) (by omega))
  · rw [if_neg z] at q; cases q
/-- the constants that the component needs -/
def z_KC (G : zG) (h : zH) : Prop := (∃ fE, z_lo G h (G.2.2.1 1002) = some (z_ao G 0 fE)) ∧ z_lo G h (G.2.2.1 1003) = some (.inr (25, [.null])) ∧ z_KS G (z_lo G h)
theorem z_KC.fr {G : zG} {P : Nat → Prop} {h h2 : zH} (q : z_KC G h) (f : z_fr P h h2) (hP : ∀ y, P y → z_n0 G ≤ y) : z_KC G h2 := by
  obtain ⟨⟨fE, q1⟩, q2, q3⟩ := q
  have e := z_lo.fr f hP
  exact ⟨⟨fE, e _ _ q1⟩, e _ _ q2, q3.ex e⟩
theorem z_KC.ex {G : zG} {h h2 : zH} (q : z_KC G h) (f : z_ex h h2) : z_KC G h2 := q.fr (P := fun _ => False) f.fr (fun _ z => z.elim)
theorem z_KC.em {G : zG} {h : zH} (q : z_KC G h) : ∃ fE, h (G.2.2.1 1002) = some (z_ao G 0 fE) := by
  obtain ⟨⟨fE, q1⟩, q2, q3⟩ := q
  exact ⟨fE, z_lo.ex _ _ q1⟩
theorem z_KC.e0 {G : zG} {h : zH} (q : z_KC G h) : G.2.2.1 1002 < z_n0 G := by
  obtain ⟨⟨fE, q1⟩, q2, q3⟩ := q
  unfold z_lo at q1
  by_cases z : G.2.2.1 1002 < z_n0 G
  · exact z
  · rw [if_neg z] at q1; cases q1
theorem z_KC.oe {G : zG} {h : zH} (q : z_KC G h) : h (G.2.2.1 1003) = some (.inr (25, [.null])) := z_lo.ex _ _ q.2.1
theorem z_KC.ks {G : zG} {h : zH} (q : z_KC G h) : z_KS G h := q.2.2.ex z_lo.ex
/-- the object -/
abbrev z_Ob (la pa bu li : Nat) (fa : Int32) (de sn : Option Nat) : va_E := .inr (0, [.ref la, .ref pa, .ref bu, .ref li, .int fa, va_rf de, va_rf sn])
/-- the deque: P 0 is the first -/
def z_Pd (G : zG) (h : zH) (pa e dep : Nat) (P : Nat → Nat) : Prop := ∃ (hd tl : Nat) (f : Nat → Option Nat), h pa = some (.inr (21, [.ref e, .int (nI hd), .int (nI tl)])) ∧ h e = some (z_ao G 17 f) ∧ z_n0 G ≤ pa ∧ z_n0 G ≤ e ∧ hd < 17 ∧ tl < 17 ∧ (tl + 17 - hd) % 17 = dep ∧ dep ≤ 8 ∧ ∀ i, i < dep → f ((hd + i) % 17) = some (P i)
theorem z_Pd.fr {G : zG} {h h2 : zH} {pa e dep : Nat} {P : Nat → Nat} {Q : Nat → Prop} (q : z_Pd G h pa e dep P) (f : z_fr Q h h2) (np : ¬ Q pa) (ne : ¬ Q e) : z_Pd G h2 pa e dep P := by
  obtain ⟨hd, tl, f9, q1, q2, q3⟩ := q
  exact ⟨hd, tl, f9, f _ _ q1 np, f _ _ q2 ne, q3⟩
theorem z_Pd.ex {G : zG} {h h2 : zH} {pa e dep : Nat} {P : Nat → Nat} (q : z_Pd G h pa e dep P) (f : z_ex h h2) : z_Pd G h2 pa e dep P := q.fr (Q := fun _ => False) f.fr (fun z => z) (fun z => z)
def z_psh (P : Nat → Nat) (x : Nat) : Nat → Nat := fun i => if i = 0 then x else P (i - 1)
theorem z_Pd_psh {G : zG} {h h2 : zH} {pa e hd tl x dep : Nat} {f : Nat → Option Nat} {P : Nat → Nat} (hP1 : h pa = some (.inr (21, [.ref e, .int (nI hd), .int (nI tl)]))) (hP2 : h e = some (z_ao G 17 f)) (n1 : z_n0 G ≤ pa) (n2 : z_n0 G ≤ e) (hh : hd < 17) (ht : tl < 17) (hd9 : (tl + 17 - hd) % 17 = dep) (h8 : dep < 8) (hf : ∀ i, i < dep → f ((hd + i) % 17) = some (P i))
    (e2 : h2 = z_up (z_up h pa (.inr (21, [.ref e, .int (nI ((hd + 16) % 17)), .int (nI tl)]))) e (z_ao G 17 (va_up f ((hd + 16) % 17) (some x)))) : z_Pd G h2 pa e (dep + 1) (z_psh P x) := by
  have hne : pa ≠ e := fun z => by rw [z, hP2] at hP1; cases hP1
  refine ⟨(hd + 16) % 17, tl, va_up f ((hd + 16) % 17) (some x), by rw [e2, z_up_n hne, z_up_s], by rw [e2, z_up_s], n1, n2, Nat.mod_lt _ (by decide), ht, by omega, by omega, fun i hi => ?_⟩
  by_cases z : i = 0
  · subst z
    show va_up f _ _ _ = some (z_psh P x 0)
    unfold va_up z_psh
    rw [if_pos (by omega), if_pos rfl]
  · show va_up f _ _ _ = some (z_psh P x i)
    unfold va_up z_psh
    rw [if_neg (by omega), if_neg z, ← hf (i - 1) (by omega)]
    congr 1
    omega
theorem z_Pd_dl {G : zG} {h h2 : zH} {pa e hd tl : Nat} {f : Nat → Option Nat} {P : Nat → Nat} (hP1 : h pa = some (.inr (21, [.ref e, .int (nI hd), .int (nI tl)]))) (hP2 : h e = some (z_ao G 17 f)) (n1 : z_n0 G ≤ pa) (n2 : z_n0 G ≤ e) (hh : hd < 17) (ht : tl < 17) (hd9 : (tl + 17 - hd) % 17 = 8) (hf : ∀ i, i < 8 → f ((hd + i) % 17) = some (P i))
    (e2 : h2 = z_up (z_up h pa (.inr (21, [.ref e, .int (nI hd), .int (nI ((tl + 16) % 17))]))) e (z_ao G 17 (va_up f ((tl + 16) % 17) none))) : z_Pd G h2 pa e 7 P := by
  have hne : pa ≠ e := fun z => by rw [z, hP2] at hP1; cases hP1
  refine ⟨hd, (tl + 16) % 17, va_up f ((tl + 16) % 17) none, by rw [e2, z_up_n hne, z_up_s], by rw [e2, z_up_s], n1, n2, hh, Nat.mod_lt _ (by decide), by omega, by omega, fun i hi => ?_⟩
  show va_up f _ _ _ = some (P i)
  unfold va_up
  rw [if_neg (by omega)]
  exact hf i (by omega)
def z_xyz (kd : Nat) (s x y : Int32) : Int32 × Int32 × Int32 := match kd with
  | 0 => (s, x, y)
  | 1 => (x, 0, 0)
  | 2 => (0, 0, 0)
  | 3 => (s, x, 0)
  | 4 => (s, x, y)
  | 5 => (x, 0, 0)
  | 6 => (x, y, 0)
  | 7 => (x, 0, 0)
  | _ => (x, 0, 0)
/-- what a change says: its end -/
abbrev z_rz (G : zG) (h : zH) (n b0 : Nat) (w : Nat → Int32) (v : Nat → Int64) (R S D a kd : Nat) (s x y : Int32) : zQ := z_res G h n b0 w v R S D a kd (z_xyz kd s x y).1 (z_xyz kd s x y).2.1 (z_xyz kd s x y).2.2
theorem m_apply {l : Launch} {G : zG} {h : zH} {n : Nat} {b0 : Nat} {w : Nat → Int32} {v : Nat → Int64} {R S D a lr er ls es lv ev : Nat} {ra sa va na ba : Nat → Nat} {c9 t wo sg kd : Nat} {x y : Int32} (hDr : z_Dr G h b0 w v R S D a lr er ls es lv ev ra sa va na ba) (hb0 : z_n0 G ≤ b0) (hbn : b0 ≤ n) (hI : z_inv w v R S D c9) (hK : z_KC G h) (hc16 : sg < 65536) (htc : h t = some (.inr (4, [.ref wo, .int (nI sg), .int x, .int y]))) (hk9 : kd < 9) (hSw : z_Sg G h wo (z_wd kd) (z_hs (z_wd kd))) : z_C l G yX5_apply 41 100 1000 [.ref t, .ref a] h n (z_rz G h n b0 w v R S D a kd (nI sg) x y) := by
  match kd, hk9, hSw with
  | 0, _, hSw => exact m_X5_apply_0 hDr hb0 hbn hI hK.oe hK.ks hc16 htc hSw
  | 1, _, hSw => exact m_X5_apply_1 hDr hb0 hbn hI hK.oe hK.ks hc16 htc hSw
  | 2, _, hSw => exact m_X5_apply_2 hDr hb0 hbn hI hK.oe hK.ks hc16 htc hSw
  | 3, _, hSw => exact m_X5_apply_3 hDr hb0 hbn hI hK.oe hK.ks hc16 htc hSw
  | 4, _, hSw => exact m_X5_apply_4 hDr hb0 hbn hI hK.oe hK.ks hc16 htc hSw
  | 5, _, hSw => exact m_X5_apply_5 hDr hb0 hbn hI hK.oe hK.ks hc16 htc hSw
  | 6, _, hSw => exact m_X5_apply_6 hDr hb0 hbn hI hK.oe hK.ks hc16 htc hSw
  | 7, _, hSw => exact m_X5_apply_7 hDr hb0 hbn hI hK.oe hK.ks hc16 htc hSw
  | 8, _, hSw => exact m_X5_apply_8 hDr hb0 hbn hI hK.oe hK.ks hc16 htc hSw

set_option maxHeartbeats 1000000 in
theorem m_X1_deny {l : Launch} {G : zG} {h : zH} {n : Nat} {x la pa bu li : Nat} {fa : Int32} {de sn : Option Nat} {dn : Nat} (hO : h x = some (z_Ob la pa bu li fa de sn)) (hx0 : z_n0 G ≤ x) : z_C l G yX1_deny 8 1 6 [.ref x, .ref dn] h n (z_q1 (fun r9 h9 n9 => r9 = .ref n ∧ n9 = n + 1 ∧ ∃ fs, h9 = z_up (z_up h x (z_Ob la pa bu li fa (some dn) sn)) n (.inr (30, fs)))) := by
  refine z_start zk_X1_deny zpl_RX1 (Nat.le_of_ble_eq_true rfl) ?_
  intro hn0 M hl hG ho hb hN hr hm hH hrm hQ
  subst hl hG
  have ho : zm_o M = RX1 := ho
  refine z_dom (fun hdm => ?_)
  have hxn := hdm _ _ hO
  show z_V M h n 1 6 0 [(0, .ref x), (1, .ref dn)] []
  refine z_aload_n hb dX1_deny_0 rfl ?_
  refine z_aload_n hb dX1_deny_1 rfl ?_
  refine z_put (k := 5) (C := RX1) (T := TX1) (N := 7) hb ho zc0 in_X1 tyX1_ok nmX1 (zf_RX1_81 _) dX1_deny_2 hO hx0 (by decide) (Or.inl rfl) rfl rfl rfl (Nat.le_of_ble_eq_true rfl) ?_
  refine z_hn (fun h_1 eh_1 => ?_)
  have eh_1 : h_1 = z_up h x (.inr (0, [.ref la, .ref pa, .ref bu, .ref li, .int fa, .ref dn, va_rf sn])) := eh_1
  refine z_new (N0 := 6) (b' := 0) (f' := 0) (fs := [.null, .null, .null, .null, .null, .int (nI 0)]) (C := RJ25) (T := TJ25) (N := 6) hb ho zc30 in_J25 tyJ25_ok q1677 q1678 q138 dX1_deny_5 (zdf_J25) (by omega) (by omega) ?_
  refine z_hn (fun h_2 eh_2 => ?_)
  have eh_2 : h_2 = z_up h_1 n (.inr (30, [.null, .null, .null, .null, .null, .int (nI 0)])) := eh_2
  have k_3 : h_2 x = some (.inr (0, [.ref la, .ref pa, .ref bu, .ref li, .int fa, .ref dn, va_rf sn])) := z_nx eh_2 (Nat.ne_of_lt hxn) (z_nxs eh_1)
  refine z_dup hb dX1_deny_8 rfl ?_
  refine z_null hb dX1_deny_9 ?_
  refine z_aload_n hb dX1_deny_10 rfl ?_
  refine z_callQ0 (b' := 0) (f' := 0) (rest := [.ref n]) (av := [.ref n, .null, .ref dn]) (z_siteI hb ho q1686 q1687 q1688 rfl zy_J25_init zl_J25_init dX1_deny_11 : z_Site M _ _ _ _ _ ([.null, .ref dn].reverse ++ .ref n :: [.ref n]) [.ref n] _) zk_J25_init q138 hrm (m_J25_init (z_nxs eh_2) (by omega)) (by omega) (by decide) (Nat.le_of_ble_eq_true rfl) (by omega) (by omega) (fun h9 n9 hq9 hn9 => ?_)
  obtain ⟨rfl, fs9, rfl⟩ := hq9
  refine z_aret hb hr (Or.inl ⟨_, rfl⟩) (Or.inr ⟨_, rfl⟩) dX1_deny_14 ?_
  rw [hQ]
  exact ⟨_, rfl, rfl, rfl, fs9, (by rw [eh_2, eh_1] <;> simp only [z_up_up] <;> rfl)⟩

set_option maxHeartbeats 1000000 in
theorem m_X5_init {l : Launch} {G : zG} {h : zH} {n : Nat} {t wo sg : Nat} {x y : Int32} (ht9 : h t = some (.inr (4, [.null, .int (nI 0), .int (nI 0), .int (nI 0)]))) (hnt : z_n0 G ≤ t) (hc16 : sg < 65536) : z_C l G yX5_init 2 0 0 [.ref t, .ref wo, .int (nI sg), .int x, .int y] h n (z_r0 (z_up h t (.inr (4, [.ref wo, .int (nI sg), .int x, .int y]))) n) := by
  refine z_start zk_X5_init zpl_RX5 (Nat.le_of_ble_eq_true rfl) ?_
  intro hn0 M hl hG ho hb hN hr hm hH hrm hQ
  subst hl hG
  have ho : zm_o M = RX5 := ho
  show z_V M h n 0 0 0 [(0, .ref t), (1, .ref wo), (2, .int (nI sg)), (3, .int x), (4, .int y)] []
  refine z_aload_n hb dX5_init_0 rfl ?_
  refine z_oinit hb ho hrm (by omega) q822 q155 q156 (by decide) dX5_init_1 ?_
  refine z_aload_n hb dX5_init_4 rfl ?_
  refine z_aload_n hb dX5_init_5 rfl ?_
  refine z_put (k := 0) (C := RX5) (T := TX5) (N := 4) hb ho zc4 in_X5 tyX5_ok nmX5 (zf_RX5_7 _) dX5_init_6 ht9 hnt (by decide) (Or.inr ⟨hm, rfl⟩) rfl rfl rfl (Nat.le_of_ble_eq_true rfl) ?_
  refine z_hn (fun h_1 eh_1 => ?_)
  have eh_1 : h_1 = z_up h t (.inr (4, [.ref wo, .int (nI 0), .int (nI 0), .int (nI 0)])) := eh_1
  refine z_aload_n hb dX5_init_9 rfl ?_
  refine z_iload_n hb dX5_init_10 rfl ?_
  refine z_put (k := 1) (C := RX5) (T := TX5) (N := 4) hb ho zc4 in_X5 tyX5_ok nmX5 (zf_RX5_13 _) dX5_init_11 (z_nxs eh_1) hnt (by decide) (Or.inr ⟨hm, rfl⟩) rfl (pk_charN (by omega)).1 (pk_charN (by omega)).2 (Nat.le_of_ble_eq_true rfl) ?_
  refine z_hn (fun h_2 eh_2 => ?_)
  have eh_2 : h_2 = z_up h_1 t (.inr (4, [.ref wo, .int (nI sg), .int (nI 0), .int (nI 0)])) := eh_2
  refine z_aload_n hb dX5_init_14 rfl ?_
  refine z_iload_n hb dX5_init_15 rfl ?_
  refine z_put (k := 2) (C := RX5) (T := TX5) (N := 4) hb ho zc4 in_X5 tyX5_ok nmX5 (zf_RX5_17 _) dX5_init_16 (z_nxs eh_2) hnt (by decide) (Or.inr ⟨hm, rfl⟩) rfl rfl rfl (Nat.le_of_ble_eq_true rfl) ?_
  refine z_hn (fun h_3 eh_3 => ?_)
  have eh_3 : h_3 = z_up h_2 t (.inr (4, [.ref wo, .int (nI sg), .int x, .int (nI 0)])) := eh_3
  refine z_aload_n hb dX5_init_19 rfl ?_
  refine z_iload hb dX5_init_20 rfl ?_
  refine z_put (k := 3) (C := RX5) (T := TX5) (N := 4) hb ho zc4 in_X5 tyX5_ok nmX5 (zf_RX5_21 _) dX5_init_22 (z_nxs eh_3) hnt (by decide) (Or.inr ⟨hm, rfl⟩) rfl rfl rfl (Nat.le_of_ble_eq_true rfl) ?_
  refine z_hn (fun h_4 eh_4 => ?_)
  have eh_4 : h_4 = z_up h_3 t (.inr (4, [.ref wo, .int (nI sg), .int x, .int y])) := eh_4
  refine z_vret hb hr dX5_init_25 ?_
  rw [hQ]
  exact ⟨rfl, (by rw [eh_4, eh_3, eh_2, eh_1] <;> simp only [z_up_up]), rfl⟩

