theorem z_Lx.ft {G : zG} {h h2 : zH} {b0 a e k t : Nat} {g : Nat → Nat} {fs : List Value} (q : z_Lx G h b0 a e k g) (ht : h t = some (.inr (1, fs))) (hf : z_fr (fun y => y = t) h h2) : z_Lx G h2 b0 a e k g := by
  obtain ⟨-, -, N, m9, f, h1, h2, -⟩ := id q
  exact q.fr hf (z_neO h1 ht rfl) (z_neA' h2 ht)
theorem z_Lx.cg {G : zG} {h : zH} {b0 a e k : Nat} {g g' : Nat → Nat} (q : z_Lx G h b0 a e k g) (hg : ∀ j, j < k → g' j = g j) : z_Lx G h b0 a e k g' := by
  obtain ⟨q1, q2, N, m9, f, h1, h2, h3, h4, h5, h6⟩ := q
  exact ⟨q1, q2, N, m9, f, h1, h2, h3, h4, h5, fun j hj => by rw [h6 j hj, hg j hj]⟩
theorem z_Lx.o {G : zG} {h : zH} {b0 a e k : Nat} {g : Nat → Nat} (q : z_Lx G h b0 a e k g) : ∃ m9 : Int32, h a = some (.inr (20, [.int m9, .ref e, .int (nI k)])) := by
  obtain ⟨-, -, N, m9, f, h1, -⟩ := q
  exact ⟨m9, h1⟩
theorem z_Lx.ar {G : zG} {h : zH} {b0 a e k : Nat} {g : Nat → Nat} (q : z_Lx G h b0 a e k g) : ∃ (N : Nat) (f : Nat → Option Nat), h e = some (z_ao G N f) := by
  obtain ⟨-, -, N, m9, f, h1, h2, -⟩ := q
  exact ⟨N, f, h2⟩
/-- a list stays when another one grows -/
theorem z_Lx.nx {G : zG} {h h2 : zH} {b0 a e k a2 e2 k2 : Nat} {g g2 : Nat → Nat} (q : z_Lx G h b0 a e k g) (q2 : z_Lx G h b0 a2 e2 k2 g2) (hf : z_fr (fun y => y = a2 ∨ (y = e2 ∧ b0 ≤ y)) h h2) (ha : a ≠ a2) (he : b0 ≤ e2 → e ≠ e2) : z_Lx G h2 b0 a e k g := by
  obtain ⟨m9, h1⟩ := q.o
  obtain ⟨N, f, h3⟩ := q.ar
  obtain ⟨m8, h4⟩ := q2.o
  obtain ⟨N2, f2, h5⟩ := q2.ar
  refine q.fr hf (fun z => ?_) (fun z => ?_)
  · rcases z with z | z
    · exact ha z
    · exact z_neA h1 h5 z.1
  · rcases z with z | z
    · exact z_neA' h3 h4 z
    · exact he (z.1 ▸ z.2) z.1

set_option maxHeartbeats 1000000 in
theorem m_X2_init {l : Launch} {G : zG} {h : zH} {n : Nat} {t b0 : Nat} {fE : Nat → Option Nat} {w : Nat → Int32} {v : Nat → Int64} (ht9 : h t = some (.inr (1, [.null, .null, .null, .int (nI 0), .int (nI 0), .int (nI 0), .int (nI 0), .int (nI 0)]))) (hEM : h (G.2.2.1 1002) = some (z_ao G 0 fE)) (hE0 : G.2.2.1 1002 < z_n0 G) (hb0 : z_n0 G ≤ b0) (hbt : b0 ≤ t) (hbn : b0 ≤ n) (hw0 : w 2 = nI 0 ∧ w 4 = nI 0 ∧ w 5 = nI 0 ∧ w 6 = nI 0) : z_C l G yX2_init 5 3 12 [.ref t] h n (z_q0 (fun h' n' => z_DR G h' b0 w v 0 0 0 t ∧ z_fr (fun y => y = t) h h')) := by
  refine z_start zk_X2_init zpl_RX2 (Nat.le_of_ble_eq_true rfl) ?_
  intro hn0 M hl hG ho hb hN hr hm hH hrm hQ
  subst hl hG
  have ho : zm_o M = RX2 := ho
  have htn : t < n ∨ True := Or.inr trivial
  let ra : Nat → Nat := fun _ => 0
  let sa : Nat → Nat := fun _ => 0
  let va : Nat → Nat := fun _ => 0
  show z_V M h n 3 12 0 [(0, .ref t)] []
  refine z_dom (fun hD0 => ?_)
  refine z_aload_n hb dX2_init_0 rfl ?_
  refine z_oinit hb ho hrm (by omega) q162 q155 q156 (by decide) dX2_init_1 ?_
  refine z_aload_n hb dX2_init_4 rfl ?_
  refine z_dom (fun hD_1 => ?_)
  refine z_new (N0 := 3) (b' := 2) (f' := 9) (fs := [.int (nI 0), .null, .int (nI 0)]) (C := RJ2) (T := TJ2) (N := 3) hb ho zc20 in_J2 tyJ2_ok q163 q164 q98 dX2_init_5 (zdf_J2) (by omega) (by omega) ?_
  refine z_hn (fun h_2 eh_2 => ?_)
  have eh_2 : h_2 = z_up h n (.inr (20, [.int (nI 0), .null, .int (nI 0)])) := eh_2
  have k_3 : h_2 t = some (.inr (1, [.null, .null, .null, .int (nI 0), .int (nI 0), .int (nI 0), .int (nI 0), .int (nI 0)])) := z_nx eh_2 (Nat.ne_of_lt (hD_1 _ _ ht9)) ht9
  have k_4 : h_2 ((zm_G M).2.2.1 1002) = some (.inl ((zm_G M).2.1 5, 0, .inr (.inr (.inr (.inr fE))))) := z_nx eh_2 (Nat.ne_of_lt (hD_1 _ _ hEM)) hEM
  refine z_dup hb dX2_init_8 rfl ?_
  refine z_call0 (b' := 2) (f' := 9) (rest := [.ref n, .ref t]) (av := [.ref n]) (z_siteI hb ho q165 q166 q167 rfl zy_J2_init zl_J2_init dX2_init_9 : z_Site M _ _ _ _ _ ([].reverse ++ .ref n :: [.ref n, .ref t]) [.ref n, .ref t] _) zk_J2_init q98 hrm (m_J2_init (z_nxs eh_2) (by omega)) (by omega) (by decide) (Nat.le_of_ble_eq_true rfl) (by omega) (by omega) ?_
  refine z_hn (fun h_5 eh_5 => ?_)
  have eh_5 : h_5 = z_up h_2 n (.inr (20, [.int (nI 0), .ref ((zm_G M).2.2.1 1002), .int (nI 0)])) := eh_5
  have k_6 : h_5 t = some (.inr (1, [.null, .null, .null, .int (nI 0), .int (nI 0), .int (nI 0), .int (nI 0), .int (nI 0)])) := z_nx eh_5 (Nat.ne_of_lt (hD_1 _ _ ht9)) k_3
  have k_7 : h_5 ((zm_G M).2.2.1 1002) = some (.inl ((zm_G M).2.1 5, 0, .inr (.inr (.inr (.inr fE))))) := z_nx eh_5 (Nat.ne_of_lt (hD_1 _ _ hEM)) k_4
  refine z_put (k := 0) (C := RX2) (T := TX2) (N := 8) hb ho zc1 in_X2 tyX2_ok nmX2 (zf_RX2_12 _) dX2_init_12 k_6 (Nat.le_trans hb0 hbt) (by decide) (Or.inr ⟨hm, rfl⟩) rfl rfl rfl (Nat.le_of_ble_eq_true rfl) ?_
  refine z_hn (fun h_8 eh_8 => ?_)
  have eh_8 : h_8 = z_up h_5 t (.inr (1, [.ref n, .null, .null, .int (nI 0), .int (nI 0), .int (nI 0), .int (nI 0), .int (nI 0)])) := eh_8
  have k_9 : h_8 ((zm_G M).2.2.1 1002) = some (.inl ((zm_G M).2.1 5, 0, .inr (.inr (.inr (.inr fE))))) := z_nx eh_8 (z_neA' k_7 k_6) k_7
  have k_10 : h_8 n = some (.inr (20, [.int (nI 0), .ref ((zm_G M).2.2.1 1002), .int (nI 0)])) := z_nx eh_8 (Nat.ne_of_gt (hD_1 _ _ ht9)) (z_nxs eh_5)
  refine z_aload_n hb dX2_init_15 rfl ?_
  refine z_dom (fun hD_11 => ?_)
  refine z_new (N0 := 3) (b' := 1) (f' := 6) (fs := [.int (nI 0), .null, .int (nI 0)]) (C := RJ2) (T := TJ2) (N := 3) hb ho zc20 in_J2 tyJ2_ok q163 q164 q98 dX2_init_16 (zdf_J2) (by omega) (by omega) ?_
  refine z_hn (fun h_12 eh_12 => ?_)
  have eh_12 : h_12 = z_up h_8 (n + 1) (.inr (20, [.int (nI 0), .null, .int (nI 0)])) := eh_12
  have k_13 : h_12 ((zm_G M).2.2.1 1002) = some (.inl ((zm_G M).2.1 5, 0, .inr (.inr (.inr (.inr fE))))) := z_nx eh_12 (Nat.ne_of_lt (hD_11 _ _ k_9)) k_9
  have k_14 : h_12 n = some (.inr (20, [.int (nI 0), .ref ((zm_G M).2.2.1 1002), .int (nI 0)])) := z_nx eh_12 (Nat.ne_of_lt (hD_11 _ _ k_10)) k_10
  have k_15 : h_12 t = some (.inr (1, [.ref n, .null, .null, .int (nI 0), .int (nI 0), .int (nI 0), .int (nI 0), .int (nI 0)])) := z_nx eh_12 (Nat.ne_of_lt (hD_11 _ _ (z_nxs eh_8))) (z_nxs eh_8)
  refine z_dup hb dX2_init_19 rfl ?_
  refine z_call0 (b' := 1) (f' := 6) (rest := [.ref (n + 1), .ref t]) (av := [.ref (n + 1)]) (z_siteI hb ho q165 q166 q167 rfl zy_J2_init zl_J2_init dX2_init_20 : z_Site M _ _ _ _ _ ([].reverse ++ .ref (n + 1) :: [.ref (n + 1), .ref t]) [.ref (n + 1), .ref t] _) zk_J2_init q98 hrm (m_J2_init (z_nxs eh_12) (by omega)) (by omega) (by decide) (Nat.le_of_ble_eq_true rfl) (by omega) (by omega) ?_
  refine z_hn (fun h_16 eh_16 => ?_)
  have eh_16 : h_16 = z_up h_12 (n + 1) (.inr (20, [.int (nI 0), .ref ((zm_G M).2.2.1 1002), .int (nI 0)])) := eh_16
  have k_17 : h_16 ((zm_G M).2.2.1 1002) = some (.inl ((zm_G M).2.1 5, 0, .inr (.inr (.inr (.inr fE))))) := z_nx eh_16 (Nat.ne_of_lt (hD_11 _ _ k_9)) k_13
  have k_18 : h_16 n = some (.inr (20, [.int (nI 0), .ref ((zm_G M).2.2.1 1002), .int (nI 0)])) := z_nx eh_16 (Nat.ne_of_lt (hD_11 _ _ k_10)) k_14
  have k_19 : h_16 t = some (.inr (1, [.ref n, .null, .null, .int (nI 0), .int (nI 0), .int (nI 0), .int (nI 0), .int (nI 0)])) := z_nx eh_16 (Nat.ne_of_lt (hD_11 _ _ (z_nxs eh_8))) k_15
  refine z_put (k := 1) (C := RX2) (T := TX2) (N := 8) hb ho zc1 in_X2 tyX2_ok nmX2 (zf_RX2_18 _) dX2_init_23 k_19 (Nat.le_trans hb0 hbt) (by decide) (Or.inr ⟨hm, rfl⟩) rfl rfl rfl (Nat.le_of_ble_eq_true rfl) ?_
  refine z_hn (fun h_20 eh_20 => ?_)
  have eh_20 : h_20 = z_up h_16 t (.inr (1, [.ref n, .ref (n + 1), .null, .int (nI 0), .int (nI 0), .int (nI 0), .int (nI 0), .int (nI 0)])) := eh_20
  have k_21 : h_20 ((zm_G M).2.2.1 1002) = some (.inl ((zm_G M).2.1 5, 0, .inr (.inr (.inr (.inr fE))))) := z_nx eh_20 (z_neA' k_17 k_19) k_17
  have k_22 : h_20 n = some (.inr (20, [.int (nI 0), .ref ((zm_G M).2.2.1 1002), .int (nI 0)])) := z_nx eh_20 (Nat.ne_of_gt (hD_1 _ _ ht9)) k_18
  have k_23 : h_20 (n + 1) = some (.inr (20, [.int (nI 0), .ref ((zm_G M).2.2.1 1002), .int (nI 0)])) := z_nx eh_20 (Nat.ne_of_gt (hD_11 _ _ (z_nxs eh_8))) (z_nxs eh_16)
  refine z_aload_n hb dX2_init_26 rfl ?_
  refine z_dom (fun hD_24 => ?_)
  refine z_new (N0 := 3) (b' := 0) (f' := 3) (fs := [.int (nI 0), .null, .int (nI 0)]) (C := RJ2) (T := TJ2) (N := 3) hb ho zc20 in_J2 tyJ2_ok q163 q164 q98 dX2_init_27 (zdf_J2) (by omega) (by omega) ?_
  refine z_hn (fun h_25 eh_25 => ?_)
  have eh_25 : h_25 = z_up h_20 (n + 2) (.inr (20, [.int (nI 0), .null, .int (nI 0)])) := eh_25
  have k_26 : h_25 ((zm_G M).2.2.1 1002) = some (.inl ((zm_G M).2.1 5, 0, .inr (.inr (.inr (.inr fE))))) := z_nx eh_25 (Nat.ne_of_lt (hD_24 _ _ k_21)) k_21
  have k_27 : h_25 n = some (.inr (20, [.int (nI 0), .ref ((zm_G M).2.2.1 1002), .int (nI 0)])) := z_nx eh_25 (Nat.ne_of_lt (hD_24 _ _ k_22)) k_22
  have k_28 : h_25 (n + 1) = some (.inr (20, [.int (nI 0), .ref ((zm_G M).2.2.1 1002), .int (nI 0)])) := z_nx eh_25 (Nat.ne_of_lt (hD_24 _ _ k_23)) k_23
  have k_29 : h_25 t = some (.inr (1, [.ref n, .ref (n + 1), .null, .int (nI 0), .int (nI 0), .int (nI 0), .int (nI 0), .int (nI 0)])) := z_nx eh_25 (Nat.ne_of_lt (hD_24 _ _ (z_nxs eh_20))) (z_nxs eh_20)
  refine z_dup hb dX2_init_30 rfl ?_
  refine z_call0 (b' := 0) (f' := 3) (rest := [.ref (n + 2), .ref t]) (av := [.ref (n + 2)]) (z_siteI hb ho q165 q166 q167 rfl zy_J2_init zl_J2_init dX2_init_31 : z_Site M _ _ _ _ _ ([].reverse ++ .ref (n + 2) :: [.ref (n + 2), .ref t]) [.ref (n + 2), .ref t] _) zk_J2_init q98 hrm (m_J2_init (z_nxs eh_25) (by omega)) (by omega) (by decide) (Nat.le_of_ble_eq_true rfl) (by omega) (by omega) ?_
  refine z_hn (fun h_30 eh_30 => ?_)
  have eh_30 : h_30 = z_up h_25 (n + 2) (.inr (20, [.int (nI 0), .ref ((zm_G M).2.2.1 1002), .int (nI 0)])) := eh_30
  have k_31 : h_30 ((zm_G M).2.2.1 1002) = some (.inl ((zm_G M).2.1 5, 0, .inr (.inr (.inr (.inr fE))))) := z_nx eh_30 (Nat.ne_of_lt (hD_24 _ _ k_21)) k_26
  have k_32 : h_30 n = some (.inr (20, [.int (nI 0), .ref ((zm_G M).2.2.1 1002), .int (nI 0)])) := z_nx eh_30 (Nat.ne_of_lt (hD_24 _ _ k_22)) k_27
  have k_33 : h_30 (n + 1) = some (.inr (20, [.int (nI 0), .ref ((zm_G M).2.2.1 1002), .int (nI 0)])) := z_nx eh_30 (Nat.ne_of_lt (hD_24 _ _ k_23)) k_28
  have k_34 : h_30 t = some (.inr (1, [.ref n, .ref (n + 1), .null, .int (nI 0), .int (nI 0), .int (nI 0), .int (nI 0), .int (nI 0)])) := z_nx eh_30 (Nat.ne_of_lt (hD_24 _ _ (z_nxs eh_20))) k_29
  refine z_put (k := 2) (C := RX2) (T := TX2) (N := 8) hb ho zc1 in_X2 tyX2_ok nmX2 (zf_RX2_21 _) dX2_init_34 k_34 (Nat.le_trans hb0 hbt) (by decide) (Or.inr ⟨hm, rfl⟩) rfl rfl rfl (Nat.le_of_ble_eq_true rfl) ?_
  refine z_hn (fun h_35 eh_35 => ?_)
  have eh_35 : h_35 = z_up h_30 t (.inr (1, [.ref n, .ref (n + 1), .ref (n + 2), .int (nI 0), .int (nI 0), .int (nI 0), .int (nI 0), .int (nI 0)])) := eh_35
  have k_36 : h_35 ((zm_G M).2.2.1 1002) = some (.inl ((zm_G M).2.1 5, 0, .inr (.inr (.inr (.inr fE))))) := z_nx eh_35 (z_neA' k_31 k_34) k_31
  have k_37 : h_35 n = some (.inr (20, [.int (nI 0), .ref ((zm_G M).2.2.1 1002), .int (nI 0)])) := z_nx eh_35 (Nat.ne_of_gt (hD_1 _ _ ht9)) k_32
  have k_38 : h_35 (n + 1) = some (.inr (20, [.int (nI 0), .ref ((zm_G M).2.2.1 1002), .int (nI 0)])) := z_nx eh_35 (Nat.ne_of_gt (hD_11 _ _ (z_nxs eh_8))) k_33
  have k_39 : h_35 (n + 2) = some (.inr (20, [.int (nI 0), .ref ((zm_G M).2.2.1 1002), .int (nI 0)])) := z_nx eh_35 (Nat.ne_of_gt (hD_24 _ _ (z_nxs eh_20))) (z_nxs eh_30)
  have hL0_0 : z_Lx (zm_G M) h_35 b0 n ((zm_G M).2.2.1 1002) 0 ra := ⟨by omega, Or.inr ⟨rfl, rfl⟩, 0, _, _, k_37, k_36, Nat.le_refl _, Or.inl rfl, ⟨fun z => absurd (Nat.lt_of_lt_of_le hE0 hb0) (Nat.not_lt.mpr z), fun _ => rfl⟩, fun j hj => absurd hj (Nat.not_lt_zero _)⟩
  have hL1_0 : z_Lx (zm_G M) h_35 b0 (n + 1) ((zm_G M).2.2.1 1002) 0 sa := ⟨by omega, Or.inr ⟨rfl, rfl⟩, 0, _, _, k_38, k_36, Nat.le_refl _, Or.inl rfl, ⟨fun z => absurd (Nat.lt_of_lt_of_le hE0 hb0) (Nat.not_lt.mpr z), fun _ => rfl⟩, fun j hj => absurd hj (Nat.not_lt_zero _)⟩
  have hL2_0 : z_Lx (zm_G M) h_35 b0 (n + 2) ((zm_G M).2.2.1 1002) 0 va := ⟨by omega, Or.inr ⟨rfl, rfl⟩, 0, _, _, k_39, k_36, Nat.le_refl _, Or.inl rfl, ⟨fun z => absurd (Nat.lt_of_lt_of_le hE0 hb0) (Nat.not_lt.mpr z), fun _ => rfl⟩, fun j hj => absurd hj (Nat.not_lt_zero _)⟩
  refine z_vret hb hr dX2_init_37 ?_
  rw [hQ]
  refine ⟨rfl, ⟨_, _, _, _, _, _, ra, sa, va, sa, sa, ⟨hbt, ?_⟩, hL0_0, hL1_0, hL2_0, ⟨by omega, by omega, by omega⟩, ⟨fun z => absurd (Nat.lt_of_lt_of_le hE0 hb0) (Nat.not_lt.mpr z), fun z => absurd (Nat.lt_of_lt_of_le hE0 hb0) (Nat.not_lt.mpr z), fun z => absurd (Nat.lt_of_lt_of_le hE0 hb0) (Nat.not_lt.mpr z)⟩, fun p hp => absurd hp (Nat.not_lt_zero _), fun p hp => absurd hp (Nat.not_lt_zero _), fun p hp => absurd hp (Nat.not_lt_zero _), fun i j hi => absurd hi (Nat.not_lt_zero _), fun i j hi => absurd hi (Nat.not_lt_zero _), fun i j hi => absurd hi (Nat.not_lt_zero _), fun i j hi => absurd hi (Nat.not_lt_zero _)⟩, ((z_frW hD0 (by omega) eh_30 (((z_frW hD0 (by omega) eh_16 (((z_frW hD0 (by omega) eh_5 (z_exN z_ex_r hD_1 eh_2).fr).t (z_fr_up (P := fun y => y = t) rfl eh_8)).t (z_exN z_ex_r hD_11 eh_12).fr)).t (z_fr_up (P := fun y => y = t) rfl eh_20)).t (z_exN z_ex_r hD_24 eh_25).fr)).t (z_fr_up (P := fun y => y = t) rfl eh_35))⟩
  rw [hw0.1, hw0.2.1, hw0.2.2.1, hw0.2.2.2]; exact (z_nxs eh_35)

