theorem z_BF.frn {G : zG} {h h2 : zH} {x b e cd : Nat} {cs : List Nat} {fs : List Value} (q : z_BF G h b e cd cs) (hx : h x = some (.inr (0, fs))) (f : z_fr (fun y => y = x) h h2) : z_BF G h2 b e cd cs := by
  obtain ⟨N, g, ml, q1, q2, q3⟩ := q
  exact ⟨N, g, ml, f _ _ q1 (fun z => by rw [z, hx] at q1; cases q1), f _ _ q2 (fun z => by rw [z, hx] at q2; cases q2), q3⟩

set_option maxHeartbeats 1000000 in
theorem m_X1_init {l : Launch} {G : zG} {h : zH} {n : Nat} {x : Nat} {w : Nat → Int32} {v : Nat → Int64} (hO : h x = some (.inr (0, [.null, .null, .null, .null, .int (nI 0), .null, .null]))) (hx0 : z_n0 G ≤ x) (hK : z_KC G h) (hw0 : w 2 = nI 0 ∧ w 4 = nI 0 ∧ w 5 = nI 0 ∧ w 6 = nI 0) : z_C l G yX1_init 6 10 100 [.ref x] h n (z_q0 (fun h9 n9 => ∃ la pa bu e e2, h9 x = some (z_Ob la pa bu (G.2.2.1 0) (-1) none none) ∧ z_Pd G h9 pa e 0 (fun _ => 0) ∧ z_BF G h9 bu e2 0 [] ∧ z_LN G h9 w v 0 0 0 la ∧ z_fr (fun y => y = x) h h9)) := by
  refine z_start zk_X1_init zpl_RX1 (Nat.le_of_ble_eq_true rfl) ?_
  intro hn0 M hl hG ho hb hN hr hm hH hrm hQ
  subst hl hG
  have ho : zm_o M = RX1 := ho
  refine z_dom (fun hdm => ?_)
  have hxn := hdm _ _ hO
  obtain ⟨fE, hEM⟩ := hK.em
  show z_V M h n 10 100 0 [(0, .ref x)] []
  refine z_aload_n hb dX1_init_0 rfl ?_
  refine z_oinit hb ho hrm (by omega) q154 q155 q156 (by decide) dX1_init_1 ?_
  refine z_aload_n hb dX1_init_4 rfl ?_
  refine z_new (N0 := 8) (b' := 9) (f' := 92) (fs := [.null, .null, .null, .int (nI 0), .int (nI 0), .int (nI 0), .int (nI 0), .int (nI 0)]) (C := RX2) (T := TX2) (N := 8) hb ho zc1 in_X2 tyX2_ok q157 q158 q95 dX1_init_5 (zdf_X2) (by omega) (by omega) ?_
  refine z_hn (fun h_1 eh_1 => ?_)
  have eh_1 : h_1 = z_up h n (.inr (1, [.null, .null, .null, .int (nI 0), .int (nI 0), .int (nI 0), .int (nI 0), .int (nI 0)])) := eh_1
  have k_2 : h_1 x = some (.inr (0, [.null, .null, .null, .null, .int (nI 0), .null, .null])) := z_nx eh_1 (Nat.ne_of_lt hxn) hO
  refine z_dup hb dX1_init_8 rfl ?_
  refine z_callQ0 (b' := 6) (f' := 80) (rest := [.ref n, .ref x]) (av := [.ref n]) (z_siteI hb ho q159 q160 q161 rfl zy_X2_init zl_X2_init dX1_init_9 : z_Site M _ _ _ _ _ ([].reverse ++ .ref n :: [.ref n, .ref x]) [.ref n, .ref x] _) zk_X2_init q95 hrm (m_X2_init (b0 := n) (w := w) (v := v) (z_nxs eh_1) ((z_exN z_ex_r hdm eh_1) _ _ hEM) hK.e0 hn0 (Nat.le_refl n) (Nat.le_succ n) hw0) (by omega) (by decide) (Nat.le_of_ble_eq_true rfl) (by omega) (by omega) (fun h8 n8 hq8 hn8 => ?_)
  obtain ⟨hDR, hf1⟩ := hq8
  refine z_dom (fun hd8 => ?_)
  have he2 : z_ex h h8 := fun y c q => hf1 y c ((z_exN z_ex_r hdm eh_1) y c q) (fun z => by have := hdm y c q; omega)
  have hx8 := he2 _ _ hO
  refine z_put (k := 0) (C := RX1) (T := TX1) (N := 7) hb ho zc0 in_X1 tyX1_ok nmX1 (zf_RX1_41 _) dX1_init_12 hx8 hx0 (by decide) (Or.inl rfl) rfl rfl rfl (Nat.le_of_ble_eq_true rfl) ?_
  refine z_hn (fun h_3 eh_3 => ?_)
  have eh_3 : h_3 = z_up h8 x (.inr (0, [.ref n, .null, .null, .null, .int (nI 0), .null, .null])) := eh_3
  refine z_aload_n hb dX1_init_15 rfl ?_
  refine z_new (N0 := 3) (b' := 5) (f' := 77) (fs := [.null, .int (nI 0), .int (nI 0)]) (C := RJ3) (T := TJ3) (N := 3) hb ho zc21 in_J3 tyJ3_ok q234 q235 q99 dX1_init_16 (zdf_J3) (by omega) (by omega) ?_
  refine z_hn (fun h_4 eh_4 => ?_)
  have eh_4 : h_4 = z_up h_3 n8 (.inr (21, [.null, .int (nI 0), .int (nI 0)])) := eh_4
  have k_5 : h_4 x = some (.inr (0, [.ref n, .null, .null, .null, .int (nI 0), .null, .null])) := z_nx eh_4 (Nat.ne_of_lt (Nat.lt_of_lt_of_le hxn (by omega))) (z_nxs eh_3)
  refine z_dup hb dX1_init_19 rfl ?_
  refine z_call0 (b' := 4) (f' := 60) (rest := [.ref n8, .ref x]) (av := [.ref n8]) (z_siteI hb ho q236 q237 q238 rfl zy_J3_init zl_J3_init dX1_init_20 : z_Site M _ _ _ _ _ ([].reverse ++ .ref n8 :: [.ref n8, .ref x]) [.ref n8, .ref x] _) zk_J3_init q99 hrm (m_J3_init (z_nxs eh_4) (by omega) (by omega)) (by omega) (by decide) (Nat.le_of_ble_eq_true rfl) (by omega) (by omega) ?_
  obtain ⟨h_6, eh_6⟩ : ∃ h_6, h_6 = z_up h_4 (n8 + 1) (.inl ((zm_G M).2.1 5, 17, .inr (.inr (.inr (.inr (fun _ => none)))))) := ⟨_, rfl⟩
  have k_7 : h_6 x = some (.inr (0, [.ref n, .null, .null, .null, .int (nI 0), .null, .null])) := z_nx eh_6 (Nat.ne_of_lt (Nat.lt_of_lt_of_le hxn (by omega))) k_5
  have k_8 : h_6 n8 = some (.inr (21, [.null, .int (nI 0), .int (nI 0)])) := z_nx eh_6 (by omega) (z_nxs eh_4)
  refine z_hh (h2 := z_up h_6 n8 (.inr (21, [.ref (n8 + 1), .int (nI 0), .int (nI 0)]))) (by rw [eh_6]) ?_
  refine z_hn (fun h_9 eh_9 => ?_)
  have eh_9 : h_9 = z_up h_6 n8 (.inr (21, [.ref (n8 + 1), .int (nI 0), .int (nI 0)])) := eh_9
  have k_10 : h_9 x = some (.inr (0, [.ref n, .null, .null, .null, .int (nI 0), .null, .null])) := z_nx eh_9 (z_neO k_7 k_8 rfl) k_7
  have k_11 : h_9 (n8 + 1) = some (.inl ((zm_G M).2.1 5, 17, .inr (.inr (.inr (.inr (fun _ => none)))))) := z_nx eh_9 (z_neA' (z_nxs eh_6) k_8) (z_nxs eh_6)
  refine z_put (k := 1) (C := RX1) (T := TX1) (N := 7) hb ho zc0 in_X1 tyX1_ok nmX1 (zf_RX1_48 _) dX1_init_23 k_10 hx0 (by decide) (Or.inr ⟨hm, rfl⟩) rfl rfl rfl (Nat.le_of_ble_eq_true rfl) ?_
  refine z_hn (fun h_12 eh_12 => ?_)
  have eh_12 : h_12 = z_up h_9 x (.inr (0, [.ref n, .ref n8, .null, .null, .int (nI 0), .null, .null])) := eh_12
  have k_13 : h_12 (n8 + 1) = some (.inl ((zm_G M).2.1 5, 17, .inr (.inr (.inr (.inr (fun _ => none)))))) := z_nx eh_12 (z_neA' k_11 k_10) k_11
  have k_14 : h_12 n8 = some (.inr (21, [.ref (n8 + 1), .int (nI 0), .int (nI 0)])) := z_nx eh_12 (z_neO (z_nxs eh_9) k_10 rfl) (z_nxs eh_9)
  refine z_aload_n hb dX1_init_26 rfl ?_
  refine z_new (N0 := 4) (b' := 3) (f' := 56) (fs := [.null, .int (nI 0), .int (nI 0), .int (nI 0)]) (C := RJ5) (T := TJ5) (N := 4) hb ho zc22 in_J5 tyJ5_ok q252 q253 q101 dX1_init_27 (zdf_J5) (by omega) (by omega) ?_
  refine z_hn (fun h_15 eh_15 => ?_)
  have eh_15 : h_15 = z_up h_12 (n8 + 1 + 1) (.inr (22, [.null, .int (nI 0), .int (nI 0), .int (nI 0)])) := eh_15
  have k_16 : h_15 (n8 + 1) = some (.inl ((zm_G M).2.1 5, 17, .inr (.inr (.inr (.inr (fun _ => none)))))) := z_nx eh_15 (by omega) k_13
  have k_17 : h_15 n8 = some (.inr (21, [.ref (n8 + 1), .int (nI 0), .int (nI 0)])) := z_nx eh_15 (by omega) k_14
  have k_18 : h_15 x = some (.inr (0, [.ref n, .ref n8, .null, .null, .int (nI 0), .null, .null])) := z_nx eh_15 (Nat.ne_of_lt (Nat.lt_of_lt_of_le hxn (by omega))) (z_nxs eh_12)
  refine z_dup hb dX1_init_30 rfl ?_
  refine z_callQ0 (b' := 2) (f' := 40) (rest := [.ref (n8 + 1 + 1), .ref x]) (av := [.ref (n8 + 1 + 1)]) (z_siteI hb ho q254 q255 q256 rfl zy_J5_init zl_J5_init dX1_init_31 : z_Site M _ _ _ _ _ ([].reverse ++ .ref (n8 + 1 + 1) :: [.ref (n8 + 1 + 1), .ref x]) [.ref (n8 + 1 + 1), .ref x] _) zk_J5_init q101 hrm (m_J5_init_b (z_nxs eh_15) (by omega) (by omega)) (by omega) (by decide) (Nat.le_of_ble_eq_true rfl) (by omega) (by omega) (fun h5 n5 hq5 hn5 => ?_)
  obtain ⟨hln5, hBF5, hfr5⟩ := hq5
  have k_19 : h5 (n8 + 1) = some (.inl ((zm_G M).2.1 5, 17, .inr (.inr (.inr (.inr (fun _ => none)))))) := hfr5 _ _ k_16 (by omega)
  have k_20 : h5 n8 = some (.inr (21, [.ref (n8 + 1), .int (nI 0), .int (nI 0)])) := hfr5 _ _ k_17 (by omega)
  have k_21 : h5 x = some (.inr (0, [.ref n, .ref n8, .null, .null, .int (nI 0), .null, .null])) := hfr5 _ _ k_18 (by omega)
  obtain ⟨fsb5, hob5⟩ := z_BF.o hBF5
  refine z_put (k := 2) (C := RX1) (T := TX1) (N := 7) hb ho zc0 in_X1 tyX1_ok nmX1 (zf_RX1_55 _) dX1_init_34 k_21 hx0 (by decide) (Or.inr ⟨hm, rfl⟩) rfl rfl rfl (Nat.le_of_ble_eq_true rfl) ?_
  refine z_hn (fun h_22 eh_22 => ?_)
  have eh_22 : h_22 = z_up h5 x (.inr (0, [.ref n, .ref n8, .ref (n8 + 1 + 1), .null, .int (nI 0), .null, .null])) := eh_22
  have k_23 : h_22 (n8 + 1) = some (.inl ((zm_G M).2.1 5, 17, .inr (.inr (.inr (.inr (fun _ => none)))))) := z_nx eh_22 (z_neA' k_19 k_21) k_19
  have k_24 : h_22 n8 = some (.inr (21, [.ref (n8 + 1), .int (nI 0), .int (nI 0)])) := z_nx eh_22 (z_neO k_20 k_21 rfl) k_20
  have k_25 : h_22 (n8 + 1 + 1) = some (.inr (22, fsb5)) := z_nx eh_22 (z_neO hob5 k_21 rfl) hob5
  refine z_aload_n hb dX1_init_37 rfl ?_
  refine z_ldcS (i := 0) hb ho rfl rfl rfl dX1_init_38 ?_
  refine z_put (k := 3) (C := RX1) (T := TX1) (N := 7) hb ho zc0 in_X1 tyX1_ok nmX1 (zf_RX1_61 _) dX1_init_40 (z_nxs eh_22) hx0 (by decide) (Or.inl rfl) rfl rfl rfl (Nat.le_of_ble_eq_true rfl) ?_
  refine z_hn (fun h_26 eh_26 => ?_)
  have eh_26 : h_26 = z_up h_22 x (.inr (0, [.ref n, .ref n8, .ref (n8 + 1 + 1), .ref ((zm_G M).2.2.1 0), .int (nI 0), .null, .null])) := eh_26
  have k_27 : h_26 (n8 + 1) = some (.inl ((zm_G M).2.1 5, 17, .inr (.inr (.inr (.inr (fun _ => none)))))) := z_nx eh_26 (z_neA' k_23 (z_nxs eh_22)) k_23
  have k_28 : h_26 n8 = some (.inr (21, [.ref (n8 + 1), .int (nI 0), .int (nI 0)])) := z_nx eh_26 (z_neO k_24 (z_nxs eh_22) rfl) k_24
  have k_29 : h_26 (n8 + 1 + 1) = some (.inr (22, fsb5)) := z_nx eh_26 (z_neO k_25 (z_nxs eh_22) rfl) k_25
  refine z_aload_n hb dX1_init_43 rfl ?_
  refine z_iconst (x := (-1)) hb dX1_init_44 (by decide) ?_
  refine z_put (k := 4) (C := RX1) (T := TX1) (N := 7) hb ho zc0 in_X1 tyX1_ok nmX1 (zf_RX1_65 _) dX1_init_45 (z_nxs eh_26) hx0 (by decide) (Or.inl rfl) rfl rfl rfl (Nat.le_of_ble_eq_true rfl) ?_
  refine z_hn (fun h_30 eh_30 => ?_)
  have eh_30 : h_30 = z_up h_26 x (.inr (0, [.ref n, .ref n8, .ref (n8 + 1 + 1), .ref ((zm_G M).2.2.1 0), .int (-1), .null, .null])) := eh_30
  have k_31 : h_30 (n8 + 1) = some (.inl ((zm_G M).2.1 5, 17, .inr (.inr (.inr (.inr (fun _ => none)))))) := z_nx eh_30 (z_neA' k_27 (z_nxs eh_26)) k_27
  have k_32 : h_30 n8 = some (.inr (21, [.ref (n8 + 1), .int (nI 0), .int (nI 0)])) := z_nx eh_30 (z_neO k_28 (z_nxs eh_26) rfl) k_28
  have k_33 : h_30 (n8 + 1 + 1) = some (.inr (22, fsb5)) := z_nx eh_30 (z_neO k_29 (z_nxs eh_26) rfl) k_29
  have hA0 := z_fr_up (P := fun y => y = x ∨ n8 ≤ y) (by omega) eh_3
  have hA1 := z_fr_up (P := fun y => y = x ∨ n8 ≤ y) (by omega) eh_4
  have hA2 := z_fr_up (P := fun y => y = x ∨ n8 ≤ y) (by omega) eh_6
  have hA3 := z_fr_up (P := fun y => y = x ∨ n8 ≤ y) (by omega) eh_9
  have hA4 := z_fr_up (P := fun y => y = x ∨ n8 ≤ y) (by omega) eh_12
  have hA5 := z_fr_up (P := fun y => y = x ∨ n8 ≤ y) (by omega) eh_15
  have hB0 : z_fr (fun y => y = x ∨ n8 ≤ y) _ _ := hfr5.w (fun y z => Or.inr (by omega))
  have hC0 := z_fr_up (P := fun y => y = x ∨ n8 ≤ y) (by omega) eh_22
  have hC1 := z_fr_up (P := fun y => y = x ∨ n8 ≤ y) (by omega) eh_26
  have hC2 := z_fr_up (P := fun y => y = x ∨ n8 ≤ y) (by omega) eh_30
  have hfr9 := (((((((((hA0.t hA1).t hA2).t hA3).t hA4).t hA5).t hB0).t hC0).t hC1).t hC2)
  refine z_vret hb hr dX1_init_48 ?_
  rw [hQ]
  have hfr0 : z_fr (fun y => y = x) h _ := fun y c q l => hfr9 y c (he2 y c q) (fun z => by have := hdm y c q; omega)
  refine ⟨rfl, n, n8, n8 + 1 + 1, (n8 + 1), _, (z_nxs eh_30), z_Pd_clr k_32 k_31 (by omega) (by omega), z_BF.frn hBF5 k_21 ?_, hDR.lN.kq (hfr9.kq ?_), hfr0⟩
  · exact (((z_fr_up (P := fun y => y = x) rfl eh_22).t (z_fr_up (P := fun y => y = x) rfl eh_26)).t (z_fr_up (P := fun y => y = x) rfl eh_30))
  · rintro y c (rfl | z) q r
    · rw [hx8] at q; cases q; simp [z_lnj] at r
    · have := hd8 y c q; omega

