theorem m_J6_substring1 : True := trivial
theorem m_J5_init_b {l : Launch} {G : zG} {h : zH} {n t : Nat} (ht9 : h t = some (.inr (22, [.null, .int (nI 0), .int (nI 0), .int (nI 0)]))) (hnt : z_n0 G ≤ t) (hnn : z_n0 G ≤ n) : z_C l G yJ5_init 2 1 16 [.ref t] h n (z_q0 (fun h9 n9 => n < n9 ∧ z_BF G h9 t n 0 [] ∧ z_fr (fun y => y = t) h h9)) := by
  refine z_C.dom fun hdm => (m_J5_init ht9 hnt).mono fun o h' n' ⟨q1, q2, q3⟩ => ⟨q1, by omega, ?_, ?_⟩
  · have htn := hdm _ _ ht9
    rw [q2]
    exact ⟨16, _, false, z_up_s, (z_up_n (Nat.ne_of_gt htn)).trans z_up_s, hnt, hnn, Nat.le_refl _, by omega, fun j hj => rfl, Or.inl ⟨rfl, Nat.zero_le _, fun j hj => absurd hj (Nat.not_lt_zero _)⟩⟩
  · intro y c q l
    rw [q2, z_up_n l, z_up_n (Nat.ne_of_lt (hdm _ _ q))]
    exact q
theorem z_exB {h0 h1 h2 : zH} {n0 b e : Nat} (d : z_dm h0 n0) (hb : n0 ≤ b) (he : n0 ≤ e) (a : z_ex h0 h1) (f : z_fr (fun y => y = b ∨ y = e) h1 h2) : z_ex h0 h2 := fun y c q => by
  have := d y c q
  exact f y c (a y c q) (fun z => by rcases z with z | z <;> omega)
theorem z_BF.o {G : zG} {h : zH} {b e cd : Nat} {cs : List Nat} (q : z_BF G h b e cd cs) : ∃ fs, h b = some (.inr (22, fs)) := by
  obtain ⟨N, f, ml, q1, -⟩ := q
  exact ⟨_, q1⟩
theorem z_alw {l1 l2 : List Nat} (h1 : ∀ b ∈ l1, b < 128) (h2 : ∀ b ∈ l2, b < 128) : ∀ b ∈ l1 ++ l2, b < 128 := fun b hb => (List.mem_append.mp hb).elim (h1 b) (h2 b)
theorem z_alw1 {c : Nat} (h : c < 128) : ∀ b ∈ [c], b < 128 := fun b hb => by rw [List.mem_singleton.mp hb]; exact h
theorem z_cI_lt {x : Int32} : ∀ b ∈ z_cI x, b < 128 := z_cd_lt
theorem z_cv_lt {v : Int64} : ∀ b ∈ z_cv v, b < 128 := z_cd_lt
theorem z_lit_lt (i : Nat) (hi : i < 55) : ∀ b ∈ z_lits.getD i [], b < 128 := by
  have : ∀ i, i < 55 → ∀ b ∈ z_lits.getD i [], b < 128 := by decide +kernel
  exact this i hi

set_option maxHeartbeats 1000000 in
theorem m_X10_text_8 {l : Launch} {G : zG} {h : zH} {n : Nat} {w : Nat → Int32} {v : Nat → Int64} {R S D a lr ls lv : Nat} {ra sa va : Nat → Nat} {k : Nat} (hL : z_Ln G h w v R S D a lr ls lv ra sa va) (hKS : z_KS G h) (hS8 : S ≤ 8) (hd1 : h (G.2.2.1 1000) = some (z_ab G 100 z_on)) (hd2 : h (G.2.2.1 1001) = some (z_ab G 100 z_tn)) (hn1 : G.2.2.1 1000 < z_n0 G ∧ G.2.2.1 1001 < z_n0 G) (hx : h (sa k) = some (.inr (8, [.int (w (176 + 4 * k + 1)), .int (nI 115)]))) : z_C l G yX10_text 10 12 3608 [.ref (sa k), .ref a] h n (z_q1 (fun r9 h9 n9 => ∃ s, r9 = .ref s ∧ n ≤ s ∧ s < n9 ∧ z_Sg G h9 s (115 :: z_cI (w (176 + 4 * k + 1))) (nI 0) ∧ z_ex h h9)) := by
  refine z_start zk_X10_text zpl_RX10 (Nat.le_of_ble_eq_true rfl) ?_
  intro hn0 M hl hG ho hb hN hr hm hH hrm hQ
  subst hl hG
  have ho : zm_o M = RX10 := ho
  obtain ⟨h1, ⟨e0, N0, m0, f0, r1, r2, r3, ⟨r4, r4n⟩, r5⟩, ⟨e, N, m9, f, h3, h4, h5, ⟨h6, h6n⟩, h7⟩, ⟨ev, Nv, mv, fv, v1, v2, v3, ⟨v4, v4n⟩, v5⟩, h9, hs, hv, hi, hrI⟩ := id hL
  show z_V M h n 12 3608 0 [(0, .ref (sa k)), (1, .ref a)] []
  refine z_dom (fun hD0 => ?_)
  refine z_dom (fun hD_1 => ?_)
  refine z_new (N0 := 4) (b' := 11) (f' := 3604) (fs := [.null, .int (nI 0), .int (nI 0), .int (nI 0)]) (C := RJ5) (T := TJ5) (N := 4) hb ho zc22 in_J5 tyJ5_ok q2512 q253 q101 dX10_text_0 (zdf_J5) (by omega) (by omega) ?_
  refine z_hn (fun h_2 eh_2 => ?_)
  have eh_2 : h_2 = z_up h n (.inr (22, [.null, .int (nI 0), .int (nI 0), .int (nI 0)])) := eh_2
  have k_3 : h_2 a = some (.inr (1, [.ref lr, .ref ls, .ref lv, .int (nI D), .int (w 2), .int (w 4), .int (w 5), .int (w 6)])) := z_nx eh_2 (Nat.ne_of_lt (hD_1 _ _ h1)) h1
  have k_4 : h_2 lr = some (.inr (20, [.int m0, .ref e0, .int (nI R)])) := z_nx eh_2 (Nat.ne_of_lt (hD_1 _ _ r1)) r1
  have k_5 : h_2 e0 = some (.inl ((zm_G M).2.1 5, N0, .inr (.inr (.inr (.inr f0))))) := z_nx eh_2 (Nat.ne_of_lt (hD_1 _ _ r2)) r2
  have k_6 : h_2 ls = some (.inr (20, [.int m9, .ref e, .int (nI S)])) := z_nx eh_2 (Nat.ne_of_lt (hD_1 _ _ h3)) h3
  have k_7 : h_2 e = some (.inl ((zm_G M).2.1 5, N, .inr (.inr (.inr (.inr f))))) := z_nx eh_2 (Nat.ne_of_lt (hD_1 _ _ h4)) h4
  have k_8 : h_2 lv = some (.inr (20, [.int mv, .ref ev, .int (nI S)])) := z_nx eh_2 (Nat.ne_of_lt (hD_1 _ _ v1)) v1
  have k_9 : h_2 ev = some (.inl ((zm_G M).2.1 5, Nv, .inr (.inr (.inr (.inr fv))))) := z_nx eh_2 (Nat.ne_of_lt (hD_1 _ _ v2)) v2
  have k_10 : h_2 (sa k) = some (.inr (8, [.int (w (176 + 4 * k + 1)), .int (nI 115)])) := z_nx eh_2 (Nat.ne_of_lt (hD_1 _ _ hx)) hx
  refine z_dup hb dX10_text_3 rfl ?_
  refine z_callQ0 (b' := 10) (f' := 3588) (rest := [.ref n]) (av := [.ref n]) (z_siteI hb ho q2513 q255 q256 rfl zy_J5_init zl_J5_init dX10_text_4 : z_Site M _ _ _ _ _ ([].reverse ++ .ref n :: [.ref n]) [.ref n] _) zk_J5_init q101 hrm (m_J5_init_b (z_nxs eh_2) (by omega) (by omega)) (by omega) (by decide) (Nat.le_of_ble_eq_true rfl) (by omega) (by omega) (fun h_12 n_13 hq_11 hn_13 => ?_)
  obtain ⟨hnnhq_11, hbfhq_11, hfrhq_11⟩ := hq_11
  have k_14 : h_12 a = some (.inr (1, [.ref lr, .ref ls, .ref lv, .int (nI D), .int (w 2), .int (w 4), .int (w 5), .int (w 6)])) := (z_exT hD0 (by omega) (z_exN z_ex_r hD_1 eh_2) hfrhq_11) _ _ h1
  have k_15 : h_12 lr = some (.inr (20, [.int m0, .ref e0, .int (nI R)])) := (z_exT hD0 (by omega) (z_exN z_ex_r hD_1 eh_2) hfrhq_11) _ _ r1
  have k_16 : h_12 e0 = some (.inl ((zm_G M).2.1 5, N0, .inr (.inr (.inr (.inr f0))))) := (z_exT hD0 (by omega) (z_exN z_ex_r hD_1 eh_2) hfrhq_11) _ _ r2
  have k_17 : h_12 ls = some (.inr (20, [.int m9, .ref e, .int (nI S)])) := (z_exT hD0 (by omega) (z_exN z_ex_r hD_1 eh_2) hfrhq_11) _ _ h3
  have k_18 : h_12 e = some (.inl ((zm_G M).2.1 5, N, .inr (.inr (.inr (.inr f))))) := (z_exT hD0 (by omega) (z_exN z_ex_r hD_1 eh_2) hfrhq_11) _ _ h4
  have k_19 : h_12 lv = some (.inr (20, [.int mv, .ref ev, .int (nI S)])) := (z_exT hD0 (by omega) (z_exN z_ex_r hD_1 eh_2) hfrhq_11) _ _ v1
  have k_20 : h_12 ev = some (.inl ((zm_G M).2.1 5, Nv, .inr (.inr (.inr (.inr fv))))) := (z_exT hD0 (by omega) (z_exN z_ex_r hD_1 eh_2) hfrhq_11) _ _ v2
  have k_21 : h_12 (sa k) = some (.inr (8, [.int (w (176 + 4 * k + 1)), .int (nI 115)])) := (z_exT hD0 (by omega) (z_exN z_ex_r hD_1 eh_2) hfrhq_11) _ _ hx
  obtain ⟨fsob_22, ob_22⟩ := z_BF.o hbfhq_11
  refine z_ldcS (i := 50) hb ho rfl rfl rfl dX10_text_7 ?_
  refine z_callQ1 (b' := 9) (f' := 3288) (rest := []) (av := [.ref n, .ref ((zm_G M).2.2.1 50)]) (z_siteV hb ho zc22 ob_22 q2515 q913 q914 ⟨_, _, _, _, zk_J5_append⟩ zy_J5_append zl_J5_append dX10_text_9 : z_Site M _ _ _ _ _ ([.ref ((zm_G M).2.2.1 50)].reverse ++ .ref n :: []) [] _) zk_J5_append q101 hrm (m_J5_append_s hbfhq_11 ((hKS 50 (by decide)).ex (z_exT hD0 (by omega) (z_exN z_ex_r hD_1 eh_2) hfrhq_11)) (by have := (show ([] : List Nat).length ≤ 0 from Nat.le_refl 0); have := (show (z_lits.getD 50 []).length ≤ 0 by decide); omega)) (by omega) (by decide) (Nat.le_of_ble_eq_true rfl) (by omega) (by omega) (fun rhq_23 h_24 n_25 hq_23 hn_25 => ?_)
  obtain ⟨rfl, hq_23⟩ := hq_23
  obtain ⟨e9hq_23, hbfhq_23, heehq_23, hfrhq_23⟩ := hq_23
  have hlnhq_23 : (([] : List Nat) ++ (z_lits.getD 50 [])).length ≤ 0 := by rw [List.length_append]; have := (show ([] : List Nat).length ≤ 0 from Nat.le_refl 0); have := (show (z_lits.getD 50 []).length ≤ 0 by decide); show _ + _ ≤ _; omega
  have hlohq_23 := z_alw (show ∀ b ∈ ([] : List Nat), b < 128 from fun b hb => nomatch hb) (z_lit_lt 50 (by decide))
  have k_26 : h_24 a = some (.inr (1, [.ref lr, .ref ls, .ref lv, .int (nI D), .int (w 2), .int (w 4), .int (w 5), .int (w 6)])) := (z_exB hD0 (by omega) (by omega) (z_exT hD0 (by omega) (z_exN z_ex_r hD_1 eh_2) hfrhq_11) hfrhq_23) _ _ h1
  have k_27 : h_24 lr = some (.inr (20, [.int m0, .ref e0, .int (nI R)])) := (z_exB hD0 (by omega) (by omega) (z_exT hD0 (by omega) (z_exN z_ex_r hD_1 eh_2) hfrhq_11) hfrhq_23) _ _ r1
  have k_28 : h_24 e0 = some (.inl ((zm_G M).2.1 5, N0, .inr (.inr (.inr (.inr f0))))) := (z_exB hD0 (by omega) (by omega) (z_exT hD0 (by omega) (z_exN z_ex_r hD_1 eh_2) hfrhq_11) hfrhq_23) _ _ r2
  have k_29 : h_24 ls = some (.inr (20, [.int m9, .ref e, .int (nI S)])) := (z_exB hD0 (by omega) (by omega) (z_exT hD0 (by omega) (z_exN z_ex_r hD_1 eh_2) hfrhq_11) hfrhq_23) _ _ h3
  have k_30 : h_24 e = some (.inl ((zm_G M).2.1 5, N, .inr (.inr (.inr (.inr f))))) := (z_exB hD0 (by omega) (by omega) (z_exT hD0 (by omega) (z_exN z_ex_r hD_1 eh_2) hfrhq_11) hfrhq_23) _ _ h4
  have k_31 : h_24 lv = some (.inr (20, [.int mv, .ref ev, .int (nI S)])) := (z_exB hD0 (by omega) (by omega) (z_exT hD0 (by omega) (z_exN z_ex_r hD_1 eh_2) hfrhq_11) hfrhq_23) _ _ v1
  have k_32 : h_24 ev = some (.inl ((zm_G M).2.1 5, Nv, .inr (.inr (.inr (.inr fv))))) := (z_exB hD0 (by omega) (by omega) (z_exT hD0 (by omega) (z_exN z_ex_r hD_1 eh_2) hfrhq_11) hfrhq_23) _ _ v2
  have k_33 : h_24 (sa k) = some (.inr (8, [.int (w (176 + 4 * k + 1)), .int (nI 115)])) := (z_exB hD0 (by omega) (by omega) (z_exT hD0 (by omega) (z_exN z_ex_r hD_1 eh_2) hfrhq_11) hfrhq_23) _ _ hx
  obtain ⟨fsob_34, ob_34⟩ := z_BF.o hbfhq_23
  refine z_aload_n hb dX10_text_12 rfl ?_
  refine z_call1 (b' := 9) (f' := 3288) (rest := [.ref n]) (av := [.ref (sa k)]) (z_siteU hb ho zc8 k_33 q2516 q2517 (Or.inl q2502) q1844 q2520 ⟨by decide +kernel, by decide +kernel⟩ (by show _ = some 0; decide +kernel) dX10_text_13 : z_Site M _ _ _ _ _ ([].reverse ++ .ref (sa k) :: [.ref n]) [.ref n] _) zk_X9_kind q127 hrm (m_X9_kind_8 k_33 rfl) (by omega) (by decide) (Nat.le_of_ble_eq_true rfl) (by omega) (by omega) ?_
  refine z_callQ1 (b' := 7) (f' := 2388) (rest := []) (av := [.ref n, .int (nI 115)]) (z_siteV hb ho zc22 ob_34 q2521 q2226 q2227 ⟨_, _, _, _, zk_J5_append_3⟩ zy_J5_append_3 zl_J5_append_3 dX10_text_16 : z_Site M _ _ _ _ _ ([.int (nI 115)].reverse ++ .ref n :: []) [] _) zk_J5_append_3 q101 hrm (m_J5_append_c hbfhq_23 (by omega) (by have := hlnhq_23; omega)) (by omega) (by decide) (Nat.le_of_ble_eq_true rfl) (by omega) (by omega) (fun rhq_35 h_36 n_37 hq_35 hn_37 => ?_)
  obtain ⟨rfl, hq_35⟩ := hq_35
  obtain ⟨e9hq_35, cdhq_35, hbfhq_35, -, heehq_35, hcdhq_35, hfrhq_35⟩ := hq_35
  obtain rfl : cdhq_35 = 0 := hcdhq_35 rfl (by omega)
  have hlnhq_35 : ((([] : List Nat) ++ (z_lits.getD 50 [])) ++ [115]).length ≤ 1 := by rw [List.length_append]; have := hlnhq_23; have := (show [115].length ≤ 1 from Nat.le_refl 1); show _ + _ ≤ _; omega
  have hlohq_35 := z_alw hlohq_23 (z_alw1 (show 115 < 128 by omega))
  have k_38 : h_36 a = some (.inr (1, [.ref lr, .ref ls, .ref lv, .int (nI D), .int (w 2), .int (w 4), .int (w 5), .int (w 6)])) := (z_exB hD0 (by omega) (by omega) (z_exB hD0 (by omega) (by omega) (z_exT hD0 (by omega) (z_exN z_ex_r hD_1 eh_2) hfrhq_11) hfrhq_23) hfrhq_35) _ _ h1
  have k_39 : h_36 lr = some (.inr (20, [.int m0, .ref e0, .int (nI R)])) := (z_exB hD0 (by omega) (by omega) (z_exB hD0 (by omega) (by omega) (z_exT hD0 (by omega) (z_exN z_ex_r hD_1 eh_2) hfrhq_11) hfrhq_23) hfrhq_35) _ _ r1
  have k_40 : h_36 e0 = some (.inl ((zm_G M).2.1 5, N0, .inr (.inr (.inr (.inr f0))))) := (z_exB hD0 (by omega) (by omega) (z_exB hD0 (by omega) (by omega) (z_exT hD0 (by omega) (z_exN z_ex_r hD_1 eh_2) hfrhq_11) hfrhq_23) hfrhq_35) _ _ r2
  have k_41 : h_36 ls = some (.inr (20, [.int m9, .ref e, .int (nI S)])) := (z_exB hD0 (by omega) (by omega) (z_exB hD0 (by omega) (by omega) (z_exT hD0 (by omega) (z_exN z_ex_r hD_1 eh_2) hfrhq_11) hfrhq_23) hfrhq_35) _ _ h3
  have k_42 : h_36 e = some (.inl ((zm_G M).2.1 5, N, .inr (.inr (.inr (.inr f))))) := (z_exB hD0 (by omega) (by omega) (z_exB hD0 (by omega) (by omega) (z_exT hD0 (by omega) (z_exN z_ex_r hD_1 eh_2) hfrhq_11) hfrhq_23) hfrhq_35) _ _ h4
  have k_43 : h_36 lv = some (.inr (20, [.int mv, .ref ev, .int (nI S)])) := (z_exB hD0 (by omega) (by omega) (z_exB hD0 (by omega) (by omega) (z_exT hD0 (by omega) (z_exN z_ex_r hD_1 eh_2) hfrhq_11) hfrhq_23) hfrhq_35) _ _ v1
  have k_44 : h_36 ev = some (.inl ((zm_G M).2.1 5, Nv, .inr (.inr (.inr (.inr fv))))) := (z_exB hD0 (by omega) (by omega) (z_exB hD0 (by omega) (by omega) (z_exT hD0 (by omega) (z_exN z_ex_r hD_1 eh_2) hfrhq_11) hfrhq_23) hfrhq_35) _ _ v2
  have k_45 : h_36 (sa k) = some (.inr (8, [.int (w (176 + 4 * k + 1)), .int (nI 115)])) := (z_exB hD0 (by omega) (by omega) (z_exB hD0 (by omega) (by omega) (z_exT hD0 (by omega) (z_exN z_ex_r hD_1 eh_2) hfrhq_11) hfrhq_23) hfrhq_35) _ _ hx
  obtain ⟨fsob_46, ob_46⟩ := z_BF.o hbfhq_35
  refine z_aload_n hb dX10_text_19 rfl ?_
  refine z_get (k := 0) (C := RX11) (T := TX11) (N := 2) hb ho zc8 in_X11 (zf_RX10_7 _) dX10_text_20 k_45 (by decide) rfl ?_
  refine z_callQ1 (b' := 6) (f' := 2088) (rest := []) (av := [.ref n, .int (w (176 + 4 * k + 1))]) (z_siteV hb ho zc22 ob_46 q2522 q1008 q1009 ⟨_, _, _, _, zk_J5_append_2⟩ zy_J5_append_2 zl_J5_append_2 dX10_text_23 : z_Site M _ _ _ _ _ ([.int (w (176 + 4 * k + 1))].reverse ++ .ref n :: []) [] _) zk_J5_append_2 q101 hrm (m_J5_append_I hbfhq_35 ((z_exB hD0 (by omega) (by omega) (z_exB hD0 (by omega) (by omega) (z_exT hD0 (by omega) (z_exN z_ex_r hD_1 eh_2) hfrhq_11) hfrhq_23) hfrhq_35) _ _ hd1) ((z_exB hD0 (by omega) (by omega) (z_exB hD0 (by omega) (by omega) (z_exT hD0 (by omega) (z_exN z_ex_r hD_1 eh_2) hfrhq_11) hfrhq_23) hfrhq_35) _ _ hd2) hn1 (by have := hlnhq_35; omega)) (by omega) (by decide) (Nat.le_of_ble_eq_true rfl) (by omega) (by omega) (fun rhq_47 h_48 n_49 hq_47 hn_49 => ?_)
  obtain ⟨rfl, hq_47⟩ := hq_47
  obtain ⟨e9hq_47, hbfhq_47, heehq_47, hfrhq_47⟩ := hq_47
  have hlnhq_47 : (((([] : List Nat) ++ (z_lits.getD 50 [])) ++ [115]) ++ z_cI (w (176 + 4 * k + 1))).length ≤ 15 := by rw [List.length_append]; have := hlnhq_35; have := (z_cI_len (x := w (176 + 4 * k + 1))); show _ + _ ≤ _; omega
  have hlohq_47 := z_alw hlohq_35 (z_cI_lt (x := w (176 + 4 * k + 1)))
  have k_50 : h_48 a = some (.inr (1, [.ref lr, .ref ls, .ref lv, .int (nI D), .int (w 2), .int (w 4), .int (w 5), .int (w 6)])) := (z_exB hD0 (by omega) (by omega) (z_exB hD0 (by omega) (by omega) (z_exB hD0 (by omega) (by omega) (z_exT hD0 (by omega) (z_exN z_ex_r hD_1 eh_2) hfrhq_11) hfrhq_23) hfrhq_35) hfrhq_47) _ _ h1
  have k_51 : h_48 lr = some (.inr (20, [.int m0, .ref e0, .int (nI R)])) := (z_exB hD0 (by omega) (by omega) (z_exB hD0 (by omega) (by omega) (z_exB hD0 (by omega) (by omega) (z_exT hD0 (by omega) (z_exN z_ex_r hD_1 eh_2) hfrhq_11) hfrhq_23) hfrhq_35) hfrhq_47) _ _ r1
  have k_52 : h_48 e0 = some (.inl ((zm_G M).2.1 5, N0, .inr (.inr (.inr (.inr f0))))) := (z_exB hD0 (by omega) (by omega) (z_exB hD0 (by omega) (by omega) (z_exB hD0 (by omega) (by omega) (z_exT hD0 (by omega) (z_exN z_ex_r hD_1 eh_2) hfrhq_11) hfrhq_23) hfrhq_35) hfrhq_47) _ _ r2
  have k_53 : h_48 ls = some (.inr (20, [.int m9, .ref e, .int (nI S)])) := (z_exB hD0 (by omega) (by omega) (z_exB hD0 (by omega) (by omega) (z_exB hD0 (by omega) (by omega) (z_exT hD0 (by omega) (z_exN z_ex_r hD_1 eh_2) hfrhq_11) hfrhq_23) hfrhq_35) hfrhq_47) _ _ h3
  have k_54 : h_48 e = some (.inl ((zm_G M).2.1 5, N, .inr (.inr (.inr (.inr f))))) := (z_exB hD0 (by omega) (by omega) (z_exB hD0 (by omega) (by omega) (z_exB hD0 (by omega) (by omega) (z_exT hD0 (by omega) (z_exN z_ex_r hD_1 eh_2) hfrhq_11) hfrhq_23) hfrhq_35) hfrhq_47) _ _ h4
  have k_55 : h_48 lv = some (.inr (20, [.int mv, .ref ev, .int (nI S)])) := (z_exB hD0 (by omega) (by omega) (z_exB hD0 (by omega) (by omega) (z_exB hD0 (by omega) (by omega) (z_exT hD0 (by omega) (z_exN z_ex_r hD_1 eh_2) hfrhq_11) hfrhq_23) hfrhq_35) hfrhq_47) _ _ v1
  have k_56 : h_48 ev = some (.inl ((zm_G M).2.1 5, Nv, .inr (.inr (.inr (.inr fv))))) := (z_exB hD0 (by omega) (by omega) (z_exB hD0 (by omega) (by omega) (z_exB hD0 (by omega) (by omega) (z_exT hD0 (by omega) (z_exN z_ex_r hD_1 eh_2) hfrhq_11) hfrhq_23) hfrhq_35) hfrhq_47) _ _ v2
  have k_57 : h_48 (sa k) = some (.inr (8, [.int (w (176 + 4 * k + 1)), .int (nI 115)])) := (z_exB hD0 (by omega) (by omega) (z_exB hD0 (by omega) (by omega) (z_exB hD0 (by omega) (by omega) (z_exT hD0 (by omega) (z_exN z_ex_r hD_1 eh_2) hfrhq_11) hfrhq_23) hfrhq_35) hfrhq_47) _ _ hx
  obtain ⟨fsob_58, ob_58⟩ := z_BF.o hbfhq_47
  refine z_callQ1 (b' := 4) (f' := 1784) (rest := []) (av := [.ref n]) (z_siteV hb ho zc22 ob_58 q2523 q1033 q1034 ⟨_, _, _, _, zk_J5_toString⟩ zy_J5_toString zl_J5_toString dX10_text_26 : z_Site M _ _ _ _ _ ([].reverse ++ .ref n :: []) [] _) zk_J5_toString q101 hrm (m_J5_toString hbfhq_47 (by have := hlnhq_47; omega) hlohq_47) (by omega) (by decide) (Nat.le_of_ble_eq_true rfl) (by omega) (by omega) (fun rhq_59 h_60 n_61 hq_59 hn_61 => ?_)
  obtain ⟨rfl, hq_59⟩ := hq_59
  obtain ⟨hnnhq_59, hsghq_59, hexhq_59⟩ := hq_59
  have k_62 : h_60 a = some (.inr (1, [.ref lr, .ref ls, .ref lv, .int (nI D), .int (w 2), .int (w 4), .int (w 5), .int (w 6)])) := (z_ex_t (z_exB hD0 (by omega) (by omega) (z_exB hD0 (by omega) (by omega) (z_exB hD0 (by omega) (by omega) (z_exT hD0 (by omega) (z_exN z_ex_r hD_1 eh_2) hfrhq_11) hfrhq_23) hfrhq_35) hfrhq_47) hexhq_59) _ _ h1
  have k_63 : h_60 lr = some (.inr (20, [.int m0, .ref e0, .int (nI R)])) := (z_ex_t (z_exB hD0 (by omega) (by omega) (z_exB hD0 (by omega) (by omega) (z_exB hD0 (by omega) (by omega) (z_exT hD0 (by omega) (z_exN z_ex_r hD_1 eh_2) hfrhq_11) hfrhq_23) hfrhq_35) hfrhq_47) hexhq_59) _ _ r1
  have k_64 : h_60 e0 = some (.inl ((zm_G M).2.1 5, N0, .inr (.inr (.inr (.inr f0))))) := (z_ex_t (z_exB hD0 (by omega) (by omega) (z_exB hD0 (by omega) (by omega) (z_exB hD0 (by omega) (by omega) (z_exT hD0 (by omega) (z_exN z_ex_r hD_1 eh_2) hfrhq_11) hfrhq_23) hfrhq_35) hfrhq_47) hexhq_59) _ _ r2
  have k_65 : h_60 ls = some (.inr (20, [.int m9, .ref e, .int (nI S)])) := (z_ex_t (z_exB hD0 (by omega) (by omega) (z_exB hD0 (by omega) (by omega) (z_exB hD0 (by omega) (by omega) (z_exT hD0 (by omega) (z_exN z_ex_r hD_1 eh_2) hfrhq_11) hfrhq_23) hfrhq_35) hfrhq_47) hexhq_59) _ _ h3
  have k_66 : h_60 e = some (.inl ((zm_G M).2.1 5, N, .inr (.inr (.inr (.inr f))))) := (z_ex_t (z_exB hD0 (by omega) (by omega) (z_exB hD0 (by omega) (by omega) (z_exB hD0 (by omega) (by omega) (z_exT hD0 (by omega) (z_exN z_ex_r hD_1 eh_2) hfrhq_11) hfrhq_23) hfrhq_35) hfrhq_47) hexhq_59) _ _ h4
  have k_67 : h_60 lv = some (.inr (20, [.int mv, .ref ev, .int (nI S)])) := (z_ex_t (z_exB hD0 (by omega) (by omega) (z_exB hD0 (by omega) (by omega) (z_exB hD0 (by omega) (by omega) (z_exT hD0 (by omega) (z_exN z_ex_r hD_1 eh_2) hfrhq_11) hfrhq_23) hfrhq_35) hfrhq_47) hexhq_59) _ _ v1
  have k_68 : h_60 ev = some (.inl ((zm_G M).2.1 5, Nv, .inr (.inr (.inr (.inr fv))))) := (z_ex_t (z_exB hD0 (by omega) (by omega) (z_exB hD0 (by omega) (by omega) (z_exB hD0 (by omega) (by omega) (z_exT hD0 (by omega) (z_exN z_ex_r hD_1 eh_2) hfrhq_11) hfrhq_23) hfrhq_35) hfrhq_47) hexhq_59) _ _ v2
  have k_69 : h_60 (sa k) = some (.inr (8, [.int (w (176 + 4 * k + 1)), .int (nI 115)])) := (z_ex_t (z_exB hD0 (by omega) (by omega) (z_exB hD0 (by omega) (by omega) (z_exB hD0 (by omega) (by omega) (z_exT hD0 (by omega) (z_exN z_ex_r hD_1 eh_2) hfrhq_11) hfrhq_23) hfrhq_35) hfrhq_47) hexhq_59) _ _ hx
  refine z_aret hb hr (Or.inl ⟨_, rfl⟩) (Or.inr ⟨_, rfl⟩) dX10_text_29 ?_
  rw [hQ]
  exact ⟨_, rfl, n_49, rfl, by omega, by omega, hsghq_59, (z_ex_t (z_exB hD0 (by omega) (by omega) (z_exB hD0 (by omega) (by omega) (z_exB hD0 (by omega) (by omega) (z_exT hD0 (by omega) (z_exN z_ex_r hD_1 eh_2) hfrhq_11) hfrhq_23) hfrhq_35) hfrhq_47) hexhq_59)⟩

set_option maxHeartbeats 1000000 in
theorem m_X10_text_9 {l : Launch} {G : zG} {h : zH} {n : Nat} {w : Nat → Int32} {v : Nat → Int64} {R S D a lr ls lv : Nat} {ra sa va : Nat → Nat} {k : Nat} (hL : z_Ln G h w v R S D a lr ls lv ra sa va) (hKS : z_KS G h) (hS8 : S ≤ 8) (hd1 : h (G.2.2.1 1000) = some (z_ab G 100 z_on)) (hd2 : h (G.2.2.1 1001) = some (z_ab G 100 z_tn)) (hn1 : G.2.2.1 1000 < z_n0 G ∧ G.2.2.1 1001 < z_n0 G) (hx : h (sa k) = some (.inr (9, [.int (w (176 + 4 * k + 1)), .int (nI 110)]))) : z_C l G yX10_text 10 12 3608 [.ref (sa k), .ref a] h n (z_q1 (fun r9 h9 n9 => ∃ s, r9 = .ref s ∧ n ≤ s ∧ s < n9 ∧ z_Sg G h9 s (110 :: z_cI (w (176 + 4 * k + 1))) (nI 0) ∧ z_ex h h9)) := by
  refine z_start zk_X10_text zpl_RX10 (Nat.le_of_ble_eq_true rfl) ?_
  intro hn0 M hl hG ho hb hN hr hm hH hrm hQ
  subst hl hG
  have ho : zm_o M = RX10 := ho
  obtain ⟨h1, ⟨e0, N0, m0, f0, r1, r2, r3, ⟨r4, r4n⟩, r5⟩, ⟨e, N, m9, f, h3, h4, h5, ⟨h6, h6n⟩, h7⟩, ⟨ev, Nv, mv, fv, v1, v2, v3, ⟨v4, v4n⟩, v5⟩, h9, hs, hv, hi, hrI⟩ := id hL
  show z_V M h n 12 3608 0 [(0, .ref (sa k)), (1, .ref a)] []
  refine z_dom (fun hD0 => ?_)
  refine z_dom (fun hD_1 => ?_)
  refine z_new (N0 := 4) (b' := 11) (f' := 3604) (fs := [.null, .int (nI 0), .int (nI 0), .int (nI 0)]) (C := RJ5) (T := TJ5) (N := 4) hb ho zc22 in_J5 tyJ5_ok q2512 q253 q101 dX10_text_0 (zdf_J5) (by omega) (by omega) ?_
  refine z_hn (fun h_2 eh_2 => ?_)
  have eh_2 : h_2 = z_up h n (.inr (22, [.null, .int (nI 0), .int (nI 0), .int (nI 0)])) := eh_2
  have k_3 : h_2 a = some (.inr (1, [.ref lr, .ref ls, .ref lv, .int (nI D), .int (w 2), .int (w 4), .int (w 5), .int (w 6)])) := z_nx eh_2 (Nat.ne_of_lt (hD_1 _ _ h1)) h1
  have k_4 : h_2 lr = some (.inr (20, [.int m0, .ref e0, .int (nI R)])) := z_nx eh_2 (Nat.ne_of_lt (hD_1 _ _ r1)) r1
  have k_5 : h_2 e0 = some (.inl ((zm_G M).2.1 5, N0, .inr (.inr (.inr (.inr f0))))) := z_nx eh_2 (Nat.ne_of_lt (hD_1 _ _ r2)) r2
  have k_6 : h_2 ls = some (.inr (20, [.int m9, .ref e, .int (nI S)])) := z_nx eh_2 (Nat.ne_of_lt (hD_1 _ _ h3)) h3
  have k_7 : h_2 e = some (.inl ((zm_G M).2.1 5, N, .inr (.inr (.inr (.inr f))))) := z_nx eh_2 (Nat.ne_of_lt (hD_1 _ _ h4)) h4
  have k_8 : h_2 lv = some (.inr (20, [.int mv, .ref ev, .int (nI S)])) := z_nx eh_2 (Nat.ne_of_lt (hD_1 _ _ v1)) v1
  have k_9 : h_2 ev = some (.inl ((zm_G M).2.1 5, Nv, .inr (.inr (.inr (.inr fv))))) := z_nx eh_2 (Nat.ne_of_lt (hD_1 _ _ v2)) v2
  have k_10 : h_2 (sa k) = some (.inr (9, [.int (w (176 + 4 * k + 1)), .int (nI 110)])) := z_nx eh_2 (Nat.ne_of_lt (hD_1 _ _ hx)) hx
  refine z_dup hb dX10_text_3 rfl ?_
  refine z_callQ0 (b' := 10) (f' := 3588) (rest := [.ref n]) (av := [.ref n]) (z_siteI hb ho q2513 q255 q256 rfl zy_J5_init zl_J5_init dX10_text_4 : z_Site M _ _ _ _ _ ([].reverse ++ .ref n :: [.ref n]) [.ref n] _) zk_J5_init q101 hrm (m_J5_init_b (z_nxs eh_2) (by omega) (by omega)) (by omega) (by decide) (Nat.le_of_ble_eq_true rfl) (by omega) (by omega) (fun h_12 n_13 hq_11 hn_13 => ?_)
  obtain ⟨hnnhq_11, hbfhq_11, hfrhq_11⟩ := hq_11
  have k_14 : h_12 a = some (.inr (1, [.ref lr, .ref ls, .ref lv, .int (nI D), .int (w 2), .int (w 4), .int (w 5), .int (w 6)])) := (z_exT hD0 (by omega) (z_exN z_ex_r hD_1 eh_2) hfrhq_11) _ _ h1
  have k_15 : h_12 lr = some (.inr (20, [.int m0, .ref e0, .int (nI R)])) := (z_exT hD0 (by omega) (z_exN z_ex_r hD_1 eh_2) hfrhq_11) _ _ r1
  have k_16 : h_12 e0 = some (.inl ((zm_G M).2.1 5, N0, .inr (.inr (.inr (.inr f0))))) := (z_exT hD0 (by omega) (z_exN z_ex_r hD_1 eh_2) hfrhq_11) _ _ r2
  have k_17 : h_12 ls = some (.inr (20, [.int m9, .ref e, .int (nI S)])) := (z_exT hD0 (by omega) (z_exN z_ex_r hD_1 eh_2) hfrhq_11) _ _ h3
  have k_18 : h_12 e = some (.inl ((zm_G M).2.1 5, N, .inr (.inr (.inr (.inr f))))) := (z_exT hD0 (by omega) (z_exN z_ex_r hD_1 eh_2) hfrhq_11) _ _ h4
  have k_19 : h_12 lv = some (.inr (20, [.int mv, .ref ev, .int (nI S)])) := (z_exT hD0 (by omega) (z_exN z_ex_r hD_1 eh_2) hfrhq_11) _ _ v1
  have k_20 : h_12 ev = some (.inl ((zm_G M).2.1 5, Nv, .inr (.inr (.inr (.inr fv))))) := (z_exT hD0 (by omega) (z_exN z_ex_r hD_1 eh_2) hfrhq_11) _ _ v2
  have k_21 : h_12 (sa k) = some (.inr (9, [.int (w (176 + 4 * k + 1)), .int (nI 110)])) := (z_exT hD0 (by omega) (z_exN z_ex_r hD_1 eh_2) hfrhq_11) _ _ hx
  obtain ⟨fsob_22, ob_22⟩ := z_BF.o hbfhq_11
  refine z_ldcS (i := 50) hb ho rfl rfl rfl dX10_text_7 ?_
  refine z_callQ1 (b' := 9) (f' := 3288) (rest := []) (av := [.ref n, .ref ((zm_G M).2.2.1 50)]) (z_siteV hb ho zc22 ob_22 q2515 q913 q914 ⟨_, _, _, _, zk_J5_append⟩ zy_J5_append zl_J5_append dX10_text_9 : z_Site M _ _ _ _ _ ([.ref ((zm_G M).2.2.1 50)].reverse ++ .ref n :: []) [] _) zk_J5_append q101 hrm (m_J5_append_s hbfhq_11 ((hKS 50 (by decide)).ex (z_exT hD0 (by omega) (z_exN z_ex_r hD_1 eh_2) hfrhq_11)) (by have := (show ([] : List Nat).length ≤ 0 from Nat.le_refl 0); have := (show (z_lits.getD 50 []).length ≤ 0 by decide); omega)) (by omega) (by decide) (Nat.le_of_ble_eq_true rfl) (by omega) (by omega) (fun rhq_23 h_24 n_25 hq_23 hn_25 => ?_)
  obtain ⟨rfl, hq_23⟩ := hq_23
  obtain ⟨e9hq_23, hbfhq_23, heehq_23, hfrhq_23⟩ := hq_23
  have hlnhq_23 : (([] : List Nat) ++ (z_lits.getD 50 [])).length ≤ 0 := by rw [List.length_append]; have := (show ([] : List Nat).length ≤ 0 from Nat.le_refl 0); have := (show (z_lits.getD 50 []).length ≤ 0 by decide); show _ + _ ≤ _; omega
  have hlohq_23 := z_alw (show ∀ b ∈ ([] : List Nat), b < 128 from fun b hb => nomatch hb) (z_lit_lt 50 (by decide))
  have k_26 : h_24 a = some (.inr (1, [.ref lr, .ref ls, .ref lv, .int (nI D), .int (w 2), .int (w 4), .int (w 5), .int (w 6)])) := (z_exB hD0 (by omega) (by omega) (z_exT hD0 (by omega) (z_exN z_ex_r hD_1 eh_2) hfrhq_11) hfrhq_23) _ _ h1
  have k_27 : h_24 lr = some (.inr (20, [.int m0, .ref e0, .int (nI R)])) := (z_exB hD0 (by omega) (by omega) (z_exT hD0 (by omega) (z_exN z_ex_r hD_1 eh_2) hfrhq_11) hfrhq_23) _ _ r1
  have k_28 : h_24 e0 = some (.inl ((zm_G M).2.1 5, N0, .inr (.inr (.inr (.inr f0))))) := (z_exB hD0 (by omega) (by omega) (z_exT hD0 (by omega) (z_exN z_ex_r hD_1 eh_2) hfrhq_11) hfrhq_23) _ _ r2
  have k_29 : h_24 ls = some (.inr (20, [.int m9, .ref e, .int (nI S)])) := (z_exB hD0 (by omega) (by omega) (z_exT hD0 (by omega) (z_exN z_ex_r hD_1 eh_2) hfrhq_11) hfrhq_23) _ _ h3
  have k_30 : h_24 e = some (.inl ((zm_G M).2.1 5, N, .inr (.inr (.inr (.inr f))))) := (z_exB hD0 (by omega) (by omega) (z_exT hD0 (by omega) (z_exN z_ex_r hD_1 eh_2) hfrhq_11) hfrhq_23) _ _ h4
  have k_31 : h_24 lv = some (.inr (20, [.int mv, .ref ev, .int (nI S)])) := (z_exB hD0 (by omega) (by omega) (z_exT hD0 (by omega) (z_exN z_ex_r hD_1 eh_2) hfrhq_11) hfrhq_23) _ _ v1
  have k_32 : h_24 ev = some (.inl ((zm_G M).2.1 5, Nv, .inr (.inr (.inr (.inr fv))))) := (z_exB hD0 (by omega) (by omega) (z_exT hD0 (by omega) (z_exN z_ex_r hD_1 eh_2) hfrhq_11) hfrhq_23) _ _ v2
  have k_33 : h_24 (sa k) = some (.inr (9, [.int (w (176 + 4 * k + 1)), .int (nI 110)])) := (z_exB hD0 (by omega) (by omega) (z_exT hD0 (by omega) (z_exN z_ex_r hD_1 eh_2) hfrhq_11) hfrhq_23) _ _ hx
  obtain ⟨fsob_34, ob_34⟩ := z_BF.o hbfhq_23
  refine z_aload_n hb dX10_text_12 rfl ?_
  refine z_call1 (b' := 9) (f' := 3288) (rest := [.ref n]) (av := [.ref (sa k)]) (z_siteU hb ho zc9 k_33 q2516 q2517 (Or.inl q2502) q1844 q2518 ⟨by decide +kernel, by decide +kernel⟩ (by show _ = some 0; decide +kernel) dX10_text_13 : z_Site M _ _ _ _ _ ([].reverse ++ .ref (sa k) :: [.ref n]) [.ref n] _) zk_X9_kind q127 hrm (m_X9_kind_9 k_33 rfl) (by omega) (by decide) (Nat.le_of_ble_eq_true rfl) (by omega) (by omega) ?_
  refine z_callQ1 (b' := 7) (f' := 2388) (rest := []) (av := [.ref n, .int (nI 110)]) (z_siteV hb ho zc22 ob_34 q2521 q2226 q2227 ⟨_, _, _, _, zk_J5_append_3⟩ zy_J5_append_3 zl_J5_append_3 dX10_text_16 : z_Site M _ _ _ _ _ ([.int (nI 110)].reverse ++ .ref n :: []) [] _) zk_J5_append_3 q101 hrm (m_J5_append_c hbfhq_23 (by omega) (by have := hlnhq_23; omega)) (by omega) (by decide) (Nat.le_of_ble_eq_true rfl) (by omega) (by omega) (fun rhq_35 h_36 n_37 hq_35 hn_37 => ?_)
  obtain ⟨rfl, hq_35⟩ := hq_35
  obtain ⟨e9hq_35, cdhq_35, hbfhq_35, -, heehq_35, hcdhq_35, hfrhq_35⟩ := hq_35
  obtain rfl : cdhq_35 = 0 := hcdhq_35 rfl (by omega)
  have hlnhq_35 : ((([] : List Nat) ++ (z_lits.getD 50 [])) ++ [110]).length ≤ 1 := by rw [List.length_append]; have := hlnhq_23; have := (show [110].length ≤ 1 from Nat.le_refl 1); show _ + _ ≤ _; omega
  have hlohq_35 := z_alw hlohq_23 (z_alw1 (show 110 < 128 by omega))
  have k_38 : h_36 a = some (.inr (1, [.ref lr, .ref ls, .ref lv, .int (nI D), .int (w 2), .int (w 4), .int (w 5), .int (w 6)])) := (z_exB hD0 (by omega) (by omega) (z_exB hD0 (by omega) (by omega) (z_exT hD0 (by omega) (z_exN z_ex_r hD_1 eh_2) hfrhq_11) hfrhq_23) hfrhq_35) _ _ h1
  have k_39 : h_36 lr = some (.inr (20, [.int m0, .ref e0, .int (nI R)])) := (z_exB hD0 (by omega) (by omega) (z_exB hD0 (by omega) (by omega) (z_exT hD0 (by omega) (z_exN z_ex_r hD_1 eh_2) hfrhq_11) hfrhq_23) hfrhq_35) _ _ r1
  have k_40 : h_36 e0 = some (.inl ((zm_G M).2.1 5, N0, .inr (.inr (.inr (.inr f0))))) := (z_exB hD0 (by omega) (by omega) (z_exB hD0 (by omega) (by omega) (z_exT hD0 (by omega) (z_exN z_ex_r hD_1 eh_2) hfrhq_11) hfrhq_23) hfrhq_35) _ _ r2
  have k_41 : h_36 ls = some (.inr (20, [.int m9, .ref e, .int (nI S)])) := (z_exB hD0 (by omega) (by omega) (z_exB hD0 (by omega) (by omega) (z_exT hD0 (by omega) (z_exN z_ex_r hD_1 eh_2) hfrhq_11) hfrhq_23) hfrhq_35) _ _ h3
  have k_42 : h_36 e = some (.inl ((zm_G M).2.1 5, N, .inr (.inr (.inr (.inr f))))) := (z_exB hD0 (by omega) (by omega) (z_exB hD0 (by omega) (by omega) (z_exT hD0 (by omega) (z_exN z_ex_r hD_1 eh_2) hfrhq_11) hfrhq_23) hfrhq_35) _ _ h4
  have k_43 : h_36 lv = some (.inr (20, [.int mv, .ref ev, .int (nI S)])) := (z_exB hD0 (by omega) (by omega) (z_exB hD0 (by omega) (by omega) (z_exT hD0 (by omega) (z_exN z_ex_r hD_1 eh_2) hfrhq_11) hfrhq_23) hfrhq_35) _ _ v1
  have k_44 : h_36 ev = some (.inl ((zm_G M).2.1 5, Nv, .inr (.inr (.inr (.inr fv))))) := (z_exB hD0 (by omega) (by omega) (z_exB hD0 (by omega) (by omega) (z_exT hD0 (by omega) (z_exN z_ex_r hD_1 eh_2) hfrhq_11) hfrhq_23) hfrhq_35) _ _ v2
  have k_45 : h_36 (sa k) = some (.inr (9, [.int (w (176 + 4 * k + 1)), .int (nI 110)])) := (z_exB hD0 (by omega) (by omega) (z_exB hD0 (by omega) (by omega) (z_exT hD0 (by omega) (z_exN z_ex_r hD_1 eh_2) hfrhq_11) hfrhq_23) hfrhq_35) _ _ hx
  obtain ⟨fsob_46, ob_46⟩ := z_BF.o hbfhq_35
  refine z_aload_n hb dX10_text_19 rfl ?_
  refine z_get (k := 0) (C := RX12) (T := TX12) (N := 2) hb ho zc9 in_X12 (zf_RX10_7 _) dX10_text_20 k_45 (by decide) rfl ?_
  refine z_callQ1 (b' := 6) (f' := 2088) (rest := []) (av := [.ref n, .int (w (176 + 4 * k + 1))]) (z_siteV hb ho zc22 ob_46 q2522 q1008 q1009 ⟨_, _, _, _, zk_J5_append_2⟩ zy_J5_append_2 zl_J5_append_2 dX10_text_23 : z_Site M _ _ _ _ _ ([.int (w (176 + 4 * k + 1))].reverse ++ .ref n :: []) [] _) zk_J5_append_2 q101 hrm (m_J5_append_I hbfhq_35 ((z_exB hD0 (by omega) (by omega) (z_exB hD0 (by omega) (by omega) (z_exT hD0 (by omega) (z_exN z_ex_r hD_1 eh_2) hfrhq_11) hfrhq_23) hfrhq_35) _ _ hd1) ((z_exB hD0 (by omega) (by omega) (z_exB hD0 (by omega) (by omega) (z_exT hD0 (by omega) (z_exN z_ex_r hD_1 eh_2) hfrhq_11) hfrhq_23) hfrhq_35) _ _ hd2) hn1 (by have := hlnhq_35; omega)) (by omega) (by decide) (Nat.le_of_ble_eq_true rfl) (by omega) (by omega) (fun rhq_47 h_48 n_49 hq_47 hn_49 => ?_)
  obtain ⟨rfl, hq_47⟩ := hq_47
  obtain ⟨e9hq_47, hbfhq_47, heehq_47, hfrhq_47⟩ := hq_47
  have hlnhq_47 : (((([] : List Nat) ++ (z_lits.getD 50 [])) ++ [110]) ++ z_cI (w (176 + 4 * k + 1))).length ≤ 15 := by rw [List.length_append]; have := hlnhq_35; have := (z_cI_len (x := w (176 + 4 * k + 1))); show _ + _ ≤ _; omega
  have hlohq_47 := z_alw hlohq_35 (z_cI_lt (x := w (176 + 4 * k + 1)))
  have k_50 : h_48 a = some (.inr (1, [.ref lr, .ref ls, .ref lv, .int (nI D), .int (w 2), .int (w 4), .int (w 5), .int (w 6)])) := (z_exB hD0 (by omega) (by omega) (z_exB hD0 (by omega) (by omega) (z_exB hD0 (by omega) (by omega) (z_exT hD0 (by omega) (z_exN z_ex_r hD_1 eh_2) hfrhq_11) hfrhq_23) hfrhq_35) hfrhq_47) _ _ h1
  have k_51 : h_48 lr = some (.inr (20, [.int m0, .ref e0, .int (nI R)])) := (z_exB hD0 (by omega) (by omega) (z_exB hD0 (by omega) (by omega) (z_exB hD0 (by omega) (by omega) (z_exT hD0 (by omega) (z_exN z_ex_r hD_1 eh_2) hfrhq_11) hfrhq_23) hfrhq_35) hfrhq_47) _ _ r1
  have k_52 : h_48 e0 = some (.inl ((zm_G M).2.1 5, N0, .inr (.inr (.inr (.inr f0))))) := (z_exB hD0 (by omega) (by omega) (z_exB hD0 (by omega) (by omega) (z_exB hD0 (by omega) (by omega) (z_exT hD0 (by omega) (z_exN z_ex_r hD_1 eh_2) hfrhq_11) hfrhq_23) hfrhq_35) hfrhq_47) _ _ r2
  have k_53 : h_48 ls = some (.inr (20, [.int m9, .ref e, .int (nI S)])) := (z_exB hD0 (by omega) (by omega) (z_exB hD0 (by omega) (by omega) (z_exB hD0 (by omega) (by omega) (z_exT hD0 (by omega) (z_exN z_ex_r hD_1 eh_2) hfrhq_11) hfrhq_23) hfrhq_35) hfrhq_47) _ _ h3
  have k_54 : h_48 e = some (.inl ((zm_G M).2.1 5, N, .inr (.inr (.inr (.inr f))))) := (z_exB hD0 (by omega) (by omega) (z_exB hD0 (by omega) (by omega) (z_exB hD0 (by omega) (by omega) (z_exT hD0 (by omega) (z_exN z_ex_r hD_1 eh_2) hfrhq_11) hfrhq_23) hfrhq_35) hfrhq_47) _ _ h4
  have k_55 : h_48 lv = some (.inr (20, [.int mv, .ref ev, .int (nI S)])) := (z_exB hD0 (by omega) (by omega) (z_exB hD0 (by omega) (by omega) (z_exB hD0 (by omega) (by omega) (z_exT hD0 (by omega) (z_exN z_ex_r hD_1 eh_2) hfrhq_11) hfrhq_23) hfrhq_35) hfrhq_47) _ _ v1
  have k_56 : h_48 ev = some (.inl ((zm_G M).2.1 5, Nv, .inr (.inr (.inr (.inr fv))))) := (z_exB hD0 (by omega) (by omega) (z_exB hD0 (by omega) (by omega) (z_exB hD0 (by omega) (by omega) (z_exT hD0 (by omega) (z_exN z_ex_r hD_1 eh_2) hfrhq_11) hfrhq_23) hfrhq_35) hfrhq_47) _ _ v2
  have k_57 : h_48 (sa k) = some (.inr (9, [.int (w (176 + 4 * k + 1)), .int (nI 110)])) := (z_exB hD0 (by omega) (by omega) (z_exB hD0 (by omega) (by omega) (z_exB hD0 (by omega) (by omega) (z_exT hD0 (by omega) (z_exN z_ex_r hD_1 eh_2) hfrhq_11) hfrhq_23) hfrhq_35) hfrhq_47) _ _ hx
  obtain ⟨fsob_58, ob_58⟩ := z_BF.o hbfhq_47
  refine z_callQ1 (b' := 4) (f' := 1784) (rest := []) (av := [.ref n]) (z_siteV hb ho zc22 ob_58 q2523 q1033 q1034 ⟨_, _, _, _, zk_J5_toString⟩ zy_J5_toString zl_J5_toString dX10_text_26 : z_Site M _ _ _ _ _ ([].reverse ++ .ref n :: []) [] _) zk_J5_toString q101 hrm (m_J5_toString hbfhq_47 (by have := hlnhq_47; omega) hlohq_47) (by omega) (by decide) (Nat.le_of_ble_eq_true rfl) (by omega) (by omega) (fun rhq_59 h_60 n_61 hq_59 hn_61 => ?_)
  obtain ⟨rfl, hq_59⟩ := hq_59
  obtain ⟨hnnhq_59, hsghq_59, hexhq_59⟩ := hq_59
  have k_62 : h_60 a = some (.inr (1, [.ref lr, .ref ls, .ref lv, .int (nI D), .int (w 2), .int (w 4), .int (w 5), .int (w 6)])) := (z_ex_t (z_exB hD0 (by omega) (by omega) (z_exB hD0 (by omega) (by omega) (z_exB hD0 (by omega) (by omega) (z_exT hD0 (by omega) (z_exN z_ex_r hD_1 eh_2) hfrhq_11) hfrhq_23) hfrhq_35) hfrhq_47) hexhq_59) _ _ h1
  have k_63 : h_60 lr = some (.inr (20, [.int m0, .ref e0, .int (nI R)])) := (z_ex_t (z_exB hD0 (by omega) (by omega) (z_exB hD0 (by omega) (by omega) (z_exB hD0 (by omega) (by omega) (z_exT hD0 (by omega) (z_exN z_ex_r hD_1 eh_2) hfrhq_11) hfrhq_23) hfrhq_35) hfrhq_47) hexhq_59) _ _ r1
  have k_64 : h_60 e0 = some (.inl ((zm_G M).2.1 5, N0, .inr (.inr (.inr (.inr f0))))) := (z_ex_t (z_exB hD0 (by omega) (by omega) (z_exB hD0 (by omega) (by omega) (z_exB hD0 (by omega) (by omega) (z_exT hD0 (by omega) (z_exN z_ex_r hD_1 eh_2) hfrhq_11) hfrhq_23) hfrhq_35) hfrhq_47) hexhq_59) _ _ r2
  have k_65 : h_60 ls = some (.inr (20, [.int m9, .ref e, .int (nI S)])) := (z_ex_t (z_exB hD0 (by omega) (by omega) (z_exB hD0 (by omega) (by omega) (z_exB hD0 (by omega) (by omega) (z_exT hD0 (by omega) (z_exN z_ex_r hD_1 eh_2) hfrhq_11) hfrhq_23) hfrhq_35) hfrhq_47) hexhq_59) _ _ h3
  have k_66 : h_60 e = some (.inl ((zm_G M).2.1 5, N, .inr (.inr (.inr (.inr f))))) := (z_ex_t (z_exB hD0 (by omega) (by omega) (z_exB hD0 (by omega) (by omega) (z_exB hD0 (by omega) (by omega) (z_exT hD0 (by omega) (z_exN z_ex_r hD_1 eh_2) hfrhq_11) hfrhq_23) hfrhq_35) hfrhq_47) hexhq_59) _ _ h4
  have k_67 : h_60 lv = some (.inr (20, [.int mv, .ref ev, .int (nI S)])) := (z_ex_t (z_exB hD0 (by omega) (by omega) (z_exB hD0 (by omega) (by omega) (z_exB hD0 (by omega) (by omega) (z_exT hD0 (by omega) (z_exN z_ex_r hD_1 eh_2) hfrhq_11) hfrhq_23) hfrhq_35) hfrhq_47) hexhq_59) _ _ v1
  have k_68 : h_60 ev = some (.inl ((zm_G M).2.1 5, Nv, .inr (.inr (.inr (.inr fv))))) := (z_ex_t (z_exB hD0 (by omega) (by omega) (z_exB hD0 (by omega) (by omega) (z_exB hD0 (by omega) (by omega) (z_exT hD0 (by omega) (z_exN z_ex_r hD_1 eh_2) hfrhq_11) hfrhq_23) hfrhq_35) hfrhq_47) hexhq_59) _ _ v2
  have k_69 : h_60 (sa k) = some (.inr (9, [.int (w (176 + 4 * k + 1)), .int (nI 110)])) := (z_ex_t (z_exB hD0 (by omega) (by omega) (z_exB hD0 (by omega) (by omega) (z_exB hD0 (by omega) (by omega) (z_exT hD0 (by omega) (z_exN z_ex_r hD_1 eh_2) hfrhq_11) hfrhq_23) hfrhq_35) hfrhq_47) hexhq_59) _ _ hx
  refine z_aret hb hr (Or.inl ⟨_, rfl⟩) (Or.inr ⟨_, rfl⟩) dX10_text_29 ?_
  rw [hQ]
  exact ⟨_, rfl, n_49, rfl, by omega, by omega, hsghq_59, (z_ex_t (z_exB hD0 (by omega) (by omega) (z_exB hD0 (by omega) (by omega) (z_exB hD0 (by omega) (by omega) (z_exT hD0 (by omega) (z_exN z_ex_r hD_1 eh_2) hfrhq_11) hfrhq_23) hfrhq_35) hfrhq_47) hexhq_59)⟩

set_option maxHeartbeats 1000000 in
theorem m_X10_text_10 {l : Launch} {G : zG} {h : zH} {n : Nat} {w : Nat → Int32} {v : Nat → Int64} {R S D a lr ls lv : Nat} {ra sa va : Nat → Nat} {k : Nat} (hL : z_Ln G h w v R S D a lr ls lv ra sa va) (hKS : z_KS G h) (hS8 : S ≤ 8) (hd1 : h (G.2.2.1 1000) = some (z_ab G 100 z_on)) (hd2 : h (G.2.2.1 1001) = some (z_ab G 100 z_tn)) (hn1 : G.2.2.1 1000 < z_n0 G ∧ G.2.2.1 1001 < z_n0 G) (hx : h (sa k) = some (.inr (10, [.int (w (176 + 4 * k + 1)), .int (nI 120)]))) : z_C l G yX10_text 10 12 3608 [.ref (sa k), .ref a] h n (z_q1 (fun r9 h9 n9 => ∃ s, r9 = .ref s ∧ n ≤ s ∧ s < n9 ∧ z_Sg G h9 s (120 :: z_cI (w (176 + 4 * k + 1))) (nI 0) ∧ z_ex h h9)) := by
  refine z_start zk_X10_text zpl_RX10 (Nat.le_of_ble_eq_true rfl) ?_
  intro hn0 M hl hG ho hb hN hr hm hH hrm hQ
  subst hl hG
  have ho : zm_o M = RX10 := ho
  obtain ⟨h1, ⟨e0, N0, m0, f0, r1, r2, r3, ⟨r4, r4n⟩, r5⟩, ⟨e, N, m9, f, h3, h4, h5, ⟨h6, h6n⟩, h7⟩, ⟨ev, Nv, mv, fv, v1, v2, v3, ⟨v4, v4n⟩, v5⟩, h9, hs, hv, hi, hrI⟩ := id hL
  show z_V M h n 12 3608 0 [(0, .ref (sa k)), (1, .ref a)] []
  refine z_dom (fun hD0 => ?_)
  refine z_dom (fun hD_1 => ?_)
  refine z_new (N0 := 4) (b' := 11) (f' := 3604) (fs := [.null, .int (nI 0), .int (nI 0), .int (nI 0)]) (C := RJ5) (T := TJ5) (N := 4) hb ho zc22 in_J5 tyJ5_ok q2512 q253 q101 dX10_text_0 (zdf_J5) (by omega) (by omega) ?_
  refine z_hn (fun h_2 eh_2 => ?_)
  have eh_2 : h_2 = z_up h n (.inr (22, [.null, .int (nI 0), .int (nI 0), .int (nI 0)])) := eh_2
  have k_3 : h_2 a = some (.inr (1, [.ref lr, .ref ls, .ref lv, .int (nI D), .int (w 2), .int (w 4), .int (w 5), .int (w 6)])) := z_nx eh_2 (Nat.ne_of_lt (hD_1 _ _ h1)) h1
  have k_4 : h_2 lr = some (.inr (20, [.int m0, .ref e0, .int (nI R)])) := z_nx eh_2 (Nat.ne_of_lt (hD_1 _ _ r1)) r1
  have k_5 : h_2 e0 = some (.inl ((zm_G M).2.1 5, N0, .inr (.inr (.inr (.inr f0))))) := z_nx eh_2 (Nat.ne_of_lt (hD_1 _ _ r2)) r2
  have k_6 : h_2 ls = some (.inr (20, [.int m9, .ref e, .int (nI S)])) := z_nx eh_2 (Nat.ne_of_lt (hD_1 _ _ h3)) h3
  have k_7 : h_2 e = some (.inl ((zm_G M).2.1 5, N, .inr (.inr (.inr (.inr f))))) := z_nx eh_2 (Nat.ne_of_lt (hD_1 _ _ h4)) h4
  have k_8 : h_2 lv = some (.inr (20, [.int mv, .ref ev, .int (nI S)])) := z_nx eh_2 (Nat.ne_of_lt (hD_1 _ _ v1)) v1
  have k_9 : h_2 ev = some (.inl ((zm_G M).2.1 5, Nv, .inr (.inr (.inr (.inr fv))))) := z_nx eh_2 (Nat.ne_of_lt (hD_1 _ _ v2)) v2
  have k_10 : h_2 (sa k) = some (.inr (10, [.int (w (176 + 4 * k + 1)), .int (nI 120)])) := z_nx eh_2 (Nat.ne_of_lt (hD_1 _ _ hx)) hx
  refine z_dup hb dX10_text_3 rfl ?_
  refine z_callQ0 (b' := 10) (f' := 3588) (rest := [.ref n]) (av := [.ref n]) (z_siteI hb ho q2513 q255 q256 rfl zy_J5_init zl_J5_init dX10_text_4 : z_Site M _ _ _ _ _ ([].reverse ++ .ref n :: [.ref n]) [.ref n] _) zk_J5_init q101 hrm (m_J5_init_b (z_nxs eh_2) (by omega) (by omega)) (by omega) (by decide) (Nat.le_of_ble_eq_true rfl) (by omega) (by omega) (fun h_12 n_13 hq_11 hn_13 => ?_)
  obtain ⟨hnnhq_11, hbfhq_11, hfrhq_11⟩ := hq_11
  have k_14 : h_12 a = some (.inr (1, [.ref lr, .ref ls, .ref lv, .int (nI D), .int (w 2), .int (w 4), .int (w 5), .int (w 6)])) := (z_exT hD0 (by omega) (z_exN z_ex_r hD_1 eh_2) hfrhq_11) _ _ h1
  have k_15 : h_12 lr = some (.inr (20, [.int m0, .ref e0, .int (nI R)])) := (z_exT hD0 (by omega) (z_exN z_ex_r hD_1 eh_2) hfrhq_11) _ _ r1
  have k_16 : h_12 e0 = some (.inl ((zm_G M).2.1 5, N0, .inr (.inr (.inr (.inr f0))))) := (z_exT hD0 (by omega) (z_exN z_ex_r hD_1 eh_2) hfrhq_11) _ _ r2
  have k_17 : h_12 ls = some (.inr (20, [.int m9, .ref e, .int (nI S)])) := (z_exT hD0 (by omega) (z_exN z_ex_r hD_1 eh_2) hfrhq_11) _ _ h3
  have k_18 : h_12 e = some (.inl ((zm_G M).2.1 5, N, .inr (.inr (.inr (.inr f))))) := (z_exT hD0 (by omega) (z_exN z_ex_r hD_1 eh_2) hfrhq_11) _ _ h4
  have k_19 : h_12 lv = some (.inr (20, [.int mv, .ref ev, .int (nI S)])) := (z_exT hD0 (by omega) (z_exN z_ex_r hD_1 eh_2) hfrhq_11) _ _ v1
  have k_20 : h_12 ev = some (.inl ((zm_G M).2.1 5, Nv, .inr (.inr (.inr (.inr fv))))) := (z_exT hD0 (by omega) (z_exN z_ex_r hD_1 eh_2) hfrhq_11) _ _ v2
  have k_21 : h_12 (sa k) = some (.inr (10, [.int (w (176 + 4 * k + 1)), .int (nI 120)])) := (z_exT hD0 (by omega) (z_exN z_ex_r hD_1 eh_2) hfrhq_11) _ _ hx
  obtain ⟨fsob_22, ob_22⟩ := z_BF.o hbfhq_11
  refine z_ldcS (i := 50) hb ho rfl rfl rfl dX10_text_7 ?_
  refine z_callQ1 (b' := 9) (f' := 3288) (rest := []) (av := [.ref n, .ref ((zm_G M).2.2.1 50)]) (z_siteV hb ho zc22 ob_22 q2515 q913 q914 ⟨_, _, _, _, zk_J5_append⟩ zy_J5_append zl_J5_append dX10_text_9 : z_Site M _ _ _ _ _ ([.ref ((zm_G M).2.2.1 50)].reverse ++ .ref n :: []) [] _) zk_J5_append q101 hrm (m_J5_append_s hbfhq_11 ((hKS 50 (by decide)).ex (z_exT hD0 (by omega) (z_exN z_ex_r hD_1 eh_2) hfrhq_11)) (by have := (show ([] : List Nat).length ≤ 0 from Nat.le_refl 0); have := (show (z_lits.getD 50 []).length ≤ 0 by decide); omega)) (by omega) (by decide) (Nat.le_of_ble_eq_true rfl) (by omega) (by omega) (fun rhq_23 h_24 n_25 hq_23 hn_25 => ?_)
  obtain ⟨rfl, hq_23⟩ := hq_23
  obtain ⟨e9hq_23, hbfhq_23, heehq_23, hfrhq_23⟩ := hq_23
  have hlnhq_23 : (([] : List Nat) ++ (z_lits.getD 50 [])).length ≤ 0 := by rw [List.length_append]; have := (show ([] : List Nat).length ≤ 0 from Nat.le_refl 0); have := (show (z_lits.getD 50 []).length ≤ 0 by decide); show _ + _ ≤ _; omega
  have hlohq_23 := z_alw (show ∀ b ∈ ([] : List Nat), b < 128 from fun b hb => nomatch hb) (z_lit_lt 50 (by decide))
  have k_26 : h_24 a = some (.inr (1, [.ref lr, .ref ls, .ref lv, .int (nI D), .int (w 2), .int (w 4), .int (w 5), .int (w 6)])) := (z_exB hD0 (by omega) (by omega) (z_exT hD0 (by omega) (z_exN z_ex_r hD_1 eh_2) hfrhq_11) hfrhq_23) _ _ h1
  have k_27 : h_24 lr = some (.inr (20, [.int m0, .ref e0, .int (nI R)])) := (z_exB hD0 (by omega) (by omega) (z_exT hD0 (by omega) (z_exN z_ex_r hD_1 eh_2) hfrhq_11) hfrhq_23) _ _ r1
  have k_28 : h_24 e0 = some (.inl ((zm_G M).2.1 5, N0, .inr (.inr (.inr (.inr f0))))) := (z_exB hD0 (by omega) (by omega) (z_exT hD0 (by omega) (z_exN z_ex_r hD_1 eh_2) hfrhq_11) hfrhq_23) _ _ r2
  have k_29 : h_24 ls = some (.inr (20, [.int m9, .ref e, .int (nI S)])) := (z_exB hD0 (by omega) (by omega) (z_exT hD0 (by omega) (z_exN z_ex_r hD_1 eh_2) hfrhq_11) hfrhq_23) _ _ h3
  have k_30 : h_24 e = some (.inl ((zm_G M).2.1 5, N, .inr (.inr (.inr (.inr f))))) := (z_exB hD0 (by omega) (by omega) (z_exT hD0 (by omega) (z_exN z_ex_r hD_1 eh_2) hfrhq_11) hfrhq_23) _ _ h4
  have k_31 : h_24 lv = some (.inr (20, [.int mv, .ref ev, .int (nI S)])) := (z_exB hD0 (by omega) (by omega) (z_exT hD0 (by omega) (z_exN z_ex_r hD_1 eh_2) hfrhq_11) hfrhq_23) _ _ v1
  have k_32 : h_24 ev = some (.inl ((zm_G M).2.1 5, Nv, .inr (.inr (.inr (.inr fv))))) := (z_exB hD0 (by omega) (by omega) (z_exT hD0 (by omega) (z_exN z_ex_r hD_1 eh_2) hfrhq_11) hfrhq_23) _ _ v2
  have k_33 : h_24 (sa k) = some (.inr (10, [.int (w (176 + 4 * k + 1)), .int (nI 120)])) := (z_exB hD0 (by omega) (by omega) (z_exT hD0 (by omega) (z_exN z_ex_r hD_1 eh_2) hfrhq_11) hfrhq_23) _ _ hx
  obtain ⟨fsob_34, ob_34⟩ := z_BF.o hbfhq_23
  refine z_aload_n hb dX10_text_12 rfl ?_
  refine z_call1 (b' := 9) (f' := 3288) (rest := [.ref n]) (av := [.ref (sa k)]) (z_siteU hb ho zc10 k_33 q2516 q2517 (Or.inl q2502) q1844 q2519 ⟨by decide +kernel, by decide +kernel⟩ (by show _ = some 0; decide +kernel) dX10_text_13 : z_Site M _ _ _ _ _ ([].reverse ++ .ref (sa k) :: [.ref n]) [.ref n] _) zk_X9_kind q127 hrm (m_X9_kind_10 k_33 rfl) (by omega) (by decide) (Nat.le_of_ble_eq_true rfl) (by omega) (by omega) ?_
  refine z_callQ1 (b' := 7) (f' := 2388) (rest := []) (av := [.ref n, .int (nI 120)]) (z_siteV hb ho zc22 ob_34 q2521 q2226 q2227 ⟨_, _, _, _, zk_J5_append_3⟩ zy_J5_append_3 zl_J5_append_3 dX10_text_16 : z_Site M _ _ _ _ _ ([.int (nI 120)].reverse ++ .ref n :: []) [] _) zk_J5_append_3 q101 hrm (m_J5_append_c hbfhq_23 (by omega) (by have := hlnhq_23; omega)) (by omega) (by decide) (Nat.le_of_ble_eq_true rfl) (by omega) (by omega) (fun rhq_35 h_36 n_37 hq_35 hn_37 => ?_)
  obtain ⟨rfl, hq_35⟩ := hq_35
  obtain ⟨e9hq_35, cdhq_35, hbfhq_35, -, heehq_35, hcdhq_35, hfrhq_35⟩ := hq_35
  obtain rfl : cdhq_35 = 0 := hcdhq_35 rfl (by omega)
  have hlnhq_35 : ((([] : List Nat) ++ (z_lits.getD 50 [])) ++ [120]).length ≤ 1 := by rw [List.length_append]; have := hlnhq_23; have := (show [120].length ≤ 1 from Nat.le_refl 1); show _ + _ ≤ _; omega
  have hlohq_35 := z_alw hlohq_23 (z_alw1 (show 120 < 128 by omega))
  have k_38 : h_36 a = some (.inr (1, [.ref lr, .ref ls, .ref lv, .int (nI D), .int (w 2), .int (w 4), .int (w 5), .int (w 6)])) := (z_exB hD0 (by omega) (by omega) (z_exB hD0 (by omega) (by omega) (z_exT hD0 (by omega) (z_exN z_ex_r hD_1 eh_2) hfrhq_11) hfrhq_23) hfrhq_35) _ _ h1
  have k_39 : h_36 lr = some (.inr (20, [.int m0, .ref e0, .int (nI R)])) := (z_exB hD0 (by omega) (by omega) (z_exB hD0 (by omega) (by omega) (z_exT hD0 (by omega) (z_exN z_ex_r hD_1 eh_2) hfrhq_11) hfrhq_23) hfrhq_35) _ _ r1
  have k_40 : h_36 e0 = some (.inl ((zm_G M).2.1 5, N0, .inr (.inr (.inr (.inr f0))))) := (z_exB hD0 (by omega) (by omega) (z_exB hD0 (by omega) (by omega) (z_exT hD0 (by omega) (z_exN z_ex_r hD_1 eh_2) hfrhq_11) hfrhq_23) hfrhq_35) _ _ r2
  have k_41 : h_36 ls = some (.inr (20, [.int m9, .ref e, .int (nI S)])) := (z_exB hD0 (by omega) (by omega) (z_exB hD0 (by omega) (by omega) (z_exT hD0 (by omega) (z_exN z_ex_r hD_1 eh_2) hfrhq_11) hfrhq_23) hfrhq_35) _ _ h3
  have k_42 : h_36 e = some (.inl ((zm_G M).2.1 5, N, .inr (.inr (.inr (.inr f))))) := (z_exB hD0 (by omega) (by omega) (z_exB hD0 (by omega) (by omega) (z_exT hD0 (by omega) (z_exN z_ex_r hD_1 eh_2) hfrhq_11) hfrhq_23) hfrhq_35) _ _ h4
  have k_43 : h_36 lv = some (.inr (20, [.int mv, .ref ev, .int (nI S)])) := (z_exB hD0 (by omega) (by omega) (z_exB hD0 (by omega) (by omega) (z_exT hD0 (by omega) (z_exN z_ex_r hD_1 eh_2) hfrhq_11) hfrhq_23) hfrhq_35) _ _ v1
  have k_44 : h_36 ev = some (.inl ((zm_G M).2.1 5, Nv, .inr (.inr (.inr (.inr fv))))) := (z_exB hD0 (by omega) (by omega) (z_exB hD0 (by omega) (by omega) (z_exT hD0 (by omega) (z_exN z_ex_r hD_1 eh_2) hfrhq_11) hfrhq_23) hfrhq_35) _ _ v2
  have k_45 : h_36 (sa k) = some (.inr (10, [.int (w (176 + 4 * k + 1)), .int (nI 120)])) := (z_exB hD0 (by omega) (by omega) (z_exB hD0 (by omega) (by omega) (z_exT hD0 (by omega) (z_exN z_ex_r hD_1 eh_2) hfrhq_11) hfrhq_23) hfrhq_35) _ _ hx
  obtain ⟨fsob_46, ob_46⟩ := z_BF.o hbfhq_35
  refine z_aload_n hb dX10_text_19 rfl ?_
  refine z_get (k := 0) (C := RX13) (T := TX13) (N := 2) hb ho zc10 in_X13 (zf_RX10_7 _) dX10_text_20 k_45 (by decide) rfl ?_
  refine z_callQ1 (b' := 6) (f' := 2088) (rest := []) (av := [.ref n, .int (w (176 + 4 * k + 1))]) (z_siteV hb ho zc22 ob_46 q2522 q1008 q1009 ⟨_, _, _, _, zk_J5_append_2⟩ zy_J5_append_2 zl_J5_append_2 dX10_text_23 : z_Site M _ _ _ _ _ ([.int (w (176 + 4 * k + 1))].reverse ++ .ref n :: []) [] _) zk_J5_append_2 q101 hrm (m_J5_append_I hbfhq_35 ((z_exB hD0 (by omega) (by omega) (z_exB hD0 (by omega) (by omega) (z_exT hD0 (by omega) (z_exN z_ex_r hD_1 eh_2) hfrhq_11) hfrhq_23) hfrhq_35) _ _ hd1) ((z_exB hD0 (by omega) (by omega) (z_exB hD0 (by omega) (by omega) (z_exT hD0 (by omega) (z_exN z_ex_r hD_1 eh_2) hfrhq_11) hfrhq_23) hfrhq_35) _ _ hd2) hn1 (by have := hlnhq_35; omega)) (by omega) (by decide) (Nat.le_of_ble_eq_true rfl) (by omega) (by omega) (fun rhq_47 h_48 n_49 hq_47 hn_49 => ?_)
  obtain ⟨rfl, hq_47⟩ := hq_47
  obtain ⟨e9hq_47, hbfhq_47, heehq_47, hfrhq_47⟩ := hq_47
  have hlnhq_47 : (((([] : List Nat) ++ (z_lits.getD 50 [])) ++ [120]) ++ z_cI (w (176 + 4 * k + 1))).length ≤ 15 := by rw [List.length_append]; have := hlnhq_35; have := (z_cI_len (x := w (176 + 4 * k + 1))); show _ + _ ≤ _; omega
  have hlohq_47 := z_alw hlohq_35 (z_cI_lt (x := w (176 + 4 * k + 1)))
  have k_50 : h_48 a = some (.inr (1, [.ref lr, .ref ls, .ref lv, .int (nI D), .int (w 2), .int (w 4), .int (w 5), .int (w 6)])) := (z_exB hD0 (by omega) (by omega) (z_exB hD0 (by omega) (by omega) (z_exB hD0 (by omega) (by omega) (z_exT hD0 (by omega) (z_exN z_ex_r hD_1 eh_2) hfrhq_11) hfrhq_23) hfrhq_35) hfrhq_47) _ _ h1
  have k_51 : h_48 lr = some (.inr (20, [.int m0, .ref e0, .int (nI R)])) := (z_exB hD0 (by omega) (by omega) (z_exB hD0 (by omega) (by omega) (z_exB hD0 (by omega) (by omega) (z_exT hD0 (by omega) (z_exN z_ex_r hD_1 eh_2) hfrhq_11) hfrhq_23) hfrhq_35) hfrhq_47) _ _ r1
  have k_52 : h_48 e0 = some (.inl ((zm_G M).2.1 5, N0, .inr (.inr (.inr (.inr f0))))) := (z_exB hD0 (by omega) (by omega) (z_exB hD0 (by omega) (by omega) (z_exB hD0 (by omega) (by omega) (z_exT hD0 (by omega) (z_exN z_ex_r hD_1 eh_2) hfrhq_11) hfrhq_23) hfrhq_35) hfrhq_47) _ _ r2
  have k_53 : h_48 ls = some (.inr (20, [.int m9, .ref e, .int (nI S)])) := (z_exB hD0 (by omega) (by omega) (z_exB hD0 (by omega) (by omega) (z_exB hD0 (by omega) (by omega) (z_exT hD0 (by omega) (z_exN z_ex_r hD_1 eh_2) hfrhq_11) hfrhq_23) hfrhq_35) hfrhq_47) _ _ h3
  have k_54 : h_48 e = some (.inl ((zm_G M).2.1 5, N, .inr (.inr (.inr (.inr f))))) := (z_exB hD0 (by omega) (by omega) (z_exB hD0 (by omega) (by omega) (z_exB hD0 (by omega) (by omega) (z_exT hD0 (by omega) (z_exN z_ex_r hD_1 eh_2) hfrhq_11) hfrhq_23) hfrhq_35) hfrhq_47) _ _ h4
  have k_55 : h_48 lv = some (.inr (20, [.int mv, .ref ev, .int (nI S)])) := (z_exB hD0 (by omega) (by omega) (z_exB hD0 (by omega) (by omega) (z_exB hD0 (by omega) (by omega) (z_exT hD0 (by omega) (z_exN z_ex_r hD_1 eh_2) hfrhq_11) hfrhq_23) hfrhq_35) hfrhq_47) _ _ v1
  have k_56 : h_48 ev = some (.inl ((zm_G M).2.1 5, Nv, .inr (.inr (.inr (.inr fv))))) := (z_exB hD0 (by omega) (by omega) (z_exB hD0 (by omega) (by omega) (z_exB hD0 (by omega) (by omega) (z_exT hD0 (by omega) (z_exN z_ex_r hD_1 eh_2) hfrhq_11) hfrhq_23) hfrhq_35) hfrhq_47) _ _ v2
  have k_57 : h_48 (sa k) = some (.inr (10, [.int (w (176 + 4 * k + 1)), .int (nI 120)])) := (z_exB hD0 (by omega) (by omega) (z_exB hD0 (by omega) (by omega) (z_exB hD0 (by omega) (by omega) (z_exT hD0 (by omega) (z_exN z_ex_r hD_1 eh_2) hfrhq_11) hfrhq_23) hfrhq_35) hfrhq_47) _ _ hx
  obtain ⟨fsob_58, ob_58⟩ := z_BF.o hbfhq_47
  refine z_callQ1 (b' := 4) (f' := 1784) (rest := []) (av := [.ref n]) (z_siteV hb ho zc22 ob_58 q2523 q1033 q1034 ⟨_, _, _, _, zk_J5_toString⟩ zy_J5_toString zl_J5_toString dX10_text_26 : z_Site M _ _ _ _ _ ([].reverse ++ .ref n :: []) [] _) zk_J5_toString q101 hrm (m_J5_toString hbfhq_47 (by have := hlnhq_47; omega) hlohq_47) (by omega) (by decide) (Nat.le_of_ble_eq_true rfl) (by omega) (by omega) (fun rhq_59 h_60 n_61 hq_59 hn_61 => ?_)
  obtain ⟨rfl, hq_59⟩ := hq_59
  obtain ⟨hnnhq_59, hsghq_59, hexhq_59⟩ := hq_59
  have k_62 : h_60 a = some (.inr (1, [.ref lr, .ref ls, .ref lv, .int (nI D), .int (w 2), .int (w 4), .int (w 5), .int (w 6)])) := (z_ex_t (z_exB hD0 (by omega) (by omega) (z_exB hD0 (by omega) (by omega) (z_exB hD0 (by omega) (by omega) (z_exT hD0 (by omega) (z_exN z_ex_r hD_1 eh_2) hfrhq_11) hfrhq_23) hfrhq_35) hfrhq_47) hexhq_59) _ _ h1
  have k_63 : h_60 lr = some (.inr (20, [.int m0, .ref e0, .int (nI R)])) := (z_ex_t (z_exB hD0 (by omega) (by omega) (z_exB hD0 (by omega) (by omega) (z_exB hD0 (by omega) (by omega) (z_exT hD0 (by omega) (z_exN z_ex_r hD_1 eh_2) hfrhq_11) hfrhq_23) hfrhq_35) hfrhq_47) hexhq_59) _ _ r1
  have k_64 : h_60 e0 = some (.inl ((zm_G M).2.1 5, N0, .inr (.inr (.inr (.inr f0))))) := (z_ex_t (z_exB hD0 (by omega) (by omega) (z_exB hD0 (by omega) (by omega) (z_exB hD0 (by omega) (by omega) (z_exT hD0 (by omega) (z_exN z_ex_r hD_1 eh_2) hfrhq_11) hfrhq_23) hfrhq_35) hfrhq_47) hexhq_59) _ _ r2
  have k_65 : h_60 ls = some (.inr (20, [.int m9, .ref e, .int (nI S)])) := (z_ex_t (z_exB hD0 (by omega) (by omega) (z_exB hD0 (by omega) (by omega) (z_exB hD0 (by omega) (by omega) (z_exT hD0 (by omega) (z_exN z_ex_r hD_1 eh_2) hfrhq_11) hfrhq_23) hfrhq_35) hfrhq_47) hexhq_59) _ _ h3
  have k_66 : h_60 e = some (.inl ((zm_G M).2.1 5, N, .inr (.inr (.inr (.inr f))))) := (z_ex_t (z_exB hD0 (by omega) (by omega) (z_exB hD0 (by omega) (by omega) (z_exB hD0 (by omega) (by omega) (z_exT hD0 (by omega) (z_exN z_ex_r hD_1 eh_2) hfrhq_11) hfrhq_23) hfrhq_35) hfrhq_47) hexhq_59) _ _ h4
  have k_67 : h_60 lv = some (.inr (20, [.int mv, .ref ev, .int (nI S)])) := (z_ex_t (z_exB hD0 (by omega) (by omega) (z_exB hD0 (by omega) (by omega) (z_exB hD0 (by omega) (by omega) (z_exT hD0 (by omega) (z_exN z_ex_r hD_1 eh_2) hfrhq_11) hfrhq_23) hfrhq_35) hfrhq_47) hexhq_59) _ _ v1
  have k_68 : h_60 ev = some (.inl ((zm_G M).2.1 5, Nv, .inr (.inr (.inr (.inr fv))))) := (z_ex_t (z_exB hD0 (by omega) (by omega) (z_exB hD0 (by omega) (by omega) (z_exB hD0 (by omega) (by omega) (z_exT hD0 (by omega) (z_exN z_ex_r hD_1 eh_2) hfrhq_11) hfrhq_23) hfrhq_35) hfrhq_47) hexhq_59) _ _ v2
  have k_69 : h_60 (sa k) = some (.inr (10, [.int (w (176 + 4 * k + 1)), .int (nI 120)])) := (z_ex_t (z_exB hD0 (by omega) (by omega) (z_exB hD0 (by omega) (by omega) (z_exB hD0 (by omega) (by omega) (z_exT hD0 (by omega) (z_exN z_ex_r hD_1 eh_2) hfrhq_11) hfrhq_23) hfrhq_35) hfrhq_47) hexhq_59) _ _ hx
  refine z_aret hb hr (Or.inl ⟨_, rfl⟩) (Or.inr ⟨_, rfl⟩) dX10_text_29 ?_
  rw [hQ]
  exact ⟨_, rfl, n_49, rfl, by omega, by omega, hsghq_59, (z_ex_t (z_exB hD0 (by omega) (by omega) (z_exB hD0 (by omega) (by omega) (z_exB hD0 (by omega) (by omega) (z_exT hD0 (by omega) (z_exN z_ex_r hD_1 eh_2) hfrhq_11) hfrhq_23) hfrhq_35) hfrhq_47) hexhq_59)⟩

set_option maxHeartbeats 1000000 in
theorem m_X14_text_p {l : Launch} {G : zG} {h : zH} {n : Nat} {w : Nat → Int32} {v : Nat → Int64} {R S D a lr ls lv : Nat} {ra sa va : Nat → Nat} {k : Nat} {s9 : Int32} (hL : z_Ln G h w v R S D a lr ls lv ra sa va) (hKS : z_KS G h) (hS8 : S ≤ 8) (hd1 : h (G.2.2.1 1000) = some (z_ab G 100 z_on)) (hd2 : h (G.2.2.1 1001) = some (z_ab G 100 z_tn)) (hn1 : G.2.2.1 1000 < z_n0 G ∧ G.2.2.1 1001 < z_n0 G) (hk : k < S) (hf : tw_f w k < k) (hs2 : tw_s w k < k) (hx : h (sa k) = some (.inr (11, [.int (nI 43), .ref (sa (tw_f w k)), .ref (sa (tw_s w k)), .int s9]))) : z_C l G yX14_text 10 12 3608 [.ref (sa k), .ref a] h n (z_q1 (fun r9 h9 n9 => ∃ s, r9 = .ref s ∧ n ≤ s ∧ s < n9 ∧ z_Sg G h9 s (z_cI (nI (tw_f w k)) ++ 43 :: z_cI (nI (tw_s w k))) (nI 0) ∧ z_ex h h9)) := by
  refine z_start zk_X14_text zpl_RX14 (Nat.le_of_ble_eq_true rfl) ?_
  intro hn0 M hl hG ho hb hN hr hm hH hrm hQ
  subst hl hG
  have ho : zm_o M = RX14 := ho
  obtain ⟨h1, ⟨e0, N0, m0, f0, r1, r2, r3, ⟨r4, r4n⟩, r5⟩, ⟨e, N, m9, f, h3, h4, h5, ⟨h6, h6n⟩, h7⟩, ⟨ev, Nv, mv, fv, v1, v2, v3, ⟨v4, v4n⟩, v5⟩, h9, hs, hv, hi, hrI⟩ := id hL
  show z_V M h n 12 3608 0 [(0, .ref (sa k)), (1, .ref a)] []
  refine z_dom (fun hD0 => ?_)
  refine z_dom (fun hD_1 => ?_)
  refine z_new (N0 := 4) (b' := 11) (f' := 3604) (fs := [.null, .int (nI 0), .int (nI 0), .int (nI 0)]) (C := RJ5) (T := TJ5) (N := 4) hb ho zc22 in_J5 tyJ5_ok q2528 q253 q101 dX14_text_0 (zdf_J5) (by omega) (by omega) ?_
  refine z_hn (fun h_2 eh_2 => ?_)
  have eh_2 : h_2 = z_up h n (.inr (22, [.null, .int (nI 0), .int (nI 0), .int (nI 0)])) := eh_2
  have k_3 : h_2 a = some (.inr (1, [.ref lr, .ref ls, .ref lv, .int (nI D), .int (w 2), .int (w 4), .int (w 5), .int (w 6)])) := z_nx eh_2 (Nat.ne_of_lt (hD_1 _ _ h1)) h1
  have k_4 : h_2 lr = some (.inr (20, [.int m0, .ref e0, .int (nI R)])) := z_nx eh_2 (Nat.ne_of_lt (hD_1 _ _ r1)) r1
  have k_5 : h_2 e0 = some (.inl ((zm_G M).2.1 5, N0, .inr (.inr (.inr (.inr f0))))) := z_nx eh_2 (Nat.ne_of_lt (hD_1 _ _ r2)) r2
  have k_6 : h_2 ls = some (.inr (20, [.int m9, .ref e, .int (nI S)])) := z_nx eh_2 (Nat.ne_of_lt (hD_1 _ _ h3)) h3
  have k_7 : h_2 e = some (.inl ((zm_G M).2.1 5, N, .inr (.inr (.inr (.inr f))))) := z_nx eh_2 (Nat.ne_of_lt (hD_1 _ _ h4)) h4
  have k_8 : h_2 lv = some (.inr (20, [.int mv, .ref ev, .int (nI S)])) := z_nx eh_2 (Nat.ne_of_lt (hD_1 _ _ v1)) v1
  have k_9 : h_2 ev = some (.inl ((zm_G M).2.1 5, Nv, .inr (.inr (.inr (.inr fv))))) := z_nx eh_2 (Nat.ne_of_lt (hD_1 _ _ v2)) v2
  have k_10 : h_2 (sa k) = some (.inr (11, [.int (nI 43), .ref (sa (tw_f w k)), .ref (sa (tw_s w k)), .int s9])) := z_nx eh_2 (Nat.ne_of_lt (hD_1 _ _ hx)) hx
  refine z_dup hb dX14_text_3 rfl ?_
  refine z_callQ0 (b' := 10) (f' := 3588) (rest := [.ref n]) (av := [.ref n]) (z_siteI hb ho q2529 q255 q256 rfl zy_J5_init zl_J5_init dX14_text_4 : z_Site M _ _ _ _ _ ([].reverse ++ .ref n :: [.ref n]) [.ref n] _) zk_J5_init q101 hrm (m_J5_init_b (z_nxs eh_2) (by omega) (by omega)) (by omega) (by decide) (Nat.le_of_ble_eq_true rfl) (by omega) (by omega) (fun h_12 n_13 hq_11 hn_13 => ?_)
  obtain ⟨hnnhq_11, hbfhq_11, hfrhq_11⟩ := hq_11
  have k_14 : h_12 a = some (.inr (1, [.ref lr, .ref ls, .ref lv, .int (nI D), .int (w 2), .int (w 4), .int (w 5), .int (w 6)])) := (z_exT hD0 (by omega) (z_exN z_ex_r hD_1 eh_2) hfrhq_11) _ _ h1
  have k_15 : h_12 lr = some (.inr (20, [.int m0, .ref e0, .int (nI R)])) := (z_exT hD0 (by omega) (z_exN z_ex_r hD_1 eh_2) hfrhq_11) _ _ r1
  have k_16 : h_12 e0 = some (.inl ((zm_G M).2.1 5, N0, .inr (.inr (.inr (.inr f0))))) := (z_exT hD0 (by omega) (z_exN z_ex_r hD_1 eh_2) hfrhq_11) _ _ r2
  have k_17 : h_12 ls = some (.inr (20, [.int m9, .ref e, .int (nI S)])) := (z_exT hD0 (by omega) (z_exN z_ex_r hD_1 eh_2) hfrhq_11) _ _ h3
  have k_18 : h_12 e = some (.inl ((zm_G M).2.1 5, N, .inr (.inr (.inr (.inr f))))) := (z_exT hD0 (by omega) (z_exN z_ex_r hD_1 eh_2) hfrhq_11) _ _ h4
  have k_19 : h_12 lv = some (.inr (20, [.int mv, .ref ev, .int (nI S)])) := (z_exT hD0 (by omega) (z_exN z_ex_r hD_1 eh_2) hfrhq_11) _ _ v1
  have k_20 : h_12 ev = some (.inl ((zm_G M).2.1 5, Nv, .inr (.inr (.inr (.inr fv))))) := (z_exT hD0 (by omega) (z_exN z_ex_r hD_1 eh_2) hfrhq_11) _ _ v2
  have k_21 : h_12 (sa k) = some (.inr (11, [.int (nI 43), .ref (sa (tw_f w k)), .ref (sa (tw_s w k)), .int s9])) := (z_exT hD0 (by omega) (z_exN z_ex_r hD_1 eh_2) hfrhq_11) _ _ hx
  obtain ⟨fsob_22, ob_22⟩ := z_BF.o hbfhq_11
  refine z_ldcS (i := 51) hb ho rfl rfl rfl dX14_text_7 ?_
  refine z_callQ1 (b' := 9) (f' := 3288) (rest := []) (av := [.ref n, .ref ((zm_G M).2.2.1 51)]) (z_siteV hb ho zc22 ob_22 q2531 q913 q914 ⟨_, _, _, _, zk_J5_append⟩ zy_J5_append zl_J5_append dX14_text_9 : z_Site M _ _ _ _ _ ([.ref ((zm_G M).2.2.1 51)].reverse ++ .ref n :: []) [] _) zk_J5_append q101 hrm (m_J5_append_s hbfhq_11 ((hKS 51 (by decide)).ex (z_exT hD0 (by omega) (z_exN z_ex_r hD_1 eh_2) hfrhq_11)) (by have := (show ([] : List Nat).length ≤ 0 from Nat.le_refl 0); have := (show (z_lits.getD 51 []).length ≤ 0 by decide); omega)) (by omega) (by decide) (Nat.le_of_ble_eq_true rfl) (by omega) (by omega) (fun rhq_23 h_24 n_25 hq_23 hn_25 => ?_)
  obtain ⟨rfl, hq_23⟩ := hq_23
  obtain ⟨e9hq_23, hbfhq_23, heehq_23, hfrhq_23⟩ := hq_23
  have hlnhq_23 : (([] : List Nat) ++ (z_lits.getD 51 [])).length ≤ 0 := by rw [List.length_append]; have := (show ([] : List Nat).length ≤ 0 from Nat.le_refl 0); have := (show (z_lits.getD 51 []).length ≤ 0 by decide); show _ + _ ≤ _; omega
  have hlohq_23 := z_alw (show ∀ b ∈ ([] : List Nat), b < 128 from fun b hb => nomatch hb) (z_lit_lt 51 (by decide))
  have k_26 : h_24 a = some (.inr (1, [.ref lr, .ref ls, .ref lv, .int (nI D), .int (w 2), .int (w 4), .int (w 5), .int (w 6)])) := (z_exB hD0 (by omega) (by omega) (z_exT hD0 (by omega) (z_exN z_ex_r hD_1 eh_2) hfrhq_11) hfrhq_23) _ _ h1
  have k_27 : h_24 lr = some (.inr (20, [.int m0, .ref e0, .int (nI R)])) := (z_exB hD0 (by omega) (by omega) (z_exT hD0 (by omega) (z_exN z_ex_r hD_1 eh_2) hfrhq_11) hfrhq_23) _ _ r1
  have k_28 : h_24 e0 = some (.inl ((zm_G M).2.1 5, N0, .inr (.inr (.inr (.inr f0))))) := (z_exB hD0 (by omega) (by omega) (z_exT hD0 (by omega) (z_exN z_ex_r hD_1 eh_2) hfrhq_11) hfrhq_23) _ _ r2
  have k_29 : h_24 ls = some (.inr (20, [.int m9, .ref e, .int (nI S)])) := (z_exB hD0 (by omega) (by omega) (z_exT hD0 (by omega) (z_exN z_ex_r hD_1 eh_2) hfrhq_11) hfrhq_23) _ _ h3
  have k_30 : h_24 e = some (.inl ((zm_G M).2.1 5, N, .inr (.inr (.inr (.inr f))))) := (z_exB hD0 (by omega) (by omega) (z_exT hD0 (by omega) (z_exN z_ex_r hD_1 eh_2) hfrhq_11) hfrhq_23) _ _ h4
  have k_31 : h_24 lv = some (.inr (20, [.int mv, .ref ev, .int (nI S)])) := (z_exB hD0 (by omega) (by omega) (z_exT hD0 (by omega) (z_exN z_ex_r hD_1 eh_2) hfrhq_11) hfrhq_23) _ _ v1
  have k_32 : h_24 ev = some (.inl ((zm_G M).2.1 5, Nv, .inr (.inr (.inr (.inr fv))))) := (z_exB hD0 (by omega) (by omega) (z_exT hD0 (by omega) (z_exN z_ex_r hD_1 eh_2) hfrhq_11) hfrhq_23) _ _ v2
  have k_33 : h_24 (sa k) = some (.inr (11, [.int (nI 43), .ref (sa (tw_f w k)), .ref (sa (tw_s w k)), .int s9])) := (z_exB hD0 (by omega) (by omega) (z_exT hD0 (by omega) (z_exN z_ex_r hD_1 eh_2) hfrhq_11) hfrhq_23) _ _ hx
  obtain ⟨fsob_34, ob_34⟩ := z_BF.o hbfhq_23
  refine z_aload_n hb dX14_text_12 rfl ?_
  refine z_aload_n hb dX14_text_13 rfl ?_
  refine z_get (k := 1) (C := RX14) (T := TX14) (N := 4) hb ho zc11 in_X14 (zf_RX14_7 _) dX14_text_14 k_33 (by decide) rfl ?_
  refine z_callN1 (b' := 9) (f' := 3288) (rest := [.ref n]) (av := [.ref a, .ref (sa (tw_f w k))]) (z_siteV hb ho zc1 k_26 q2532 q601 q602 ⟨_, _, _, _, zk_X2_indexOf⟩ zy_X2_indexOf zl_X2_indexOf dX14_text_17 : z_Site M _ _ _ _ _ ([.ref (sa (tw_f w k))].reverse ++ .ref a :: [.ref n]) [.ref n] _) zk_X2_indexOf q95 hrm (z_C.rn (m_X2_indexOf (hL.ex (z_exB hD0 (by omega) (by omega) (z_exT hD0 (by omega) (z_exN z_ex_r hD_1 eh_2) hfrhq_11) hfrhq_23)) (show tw_f w k < S by omega))) (by omega) (by decide) (Nat.le_of_ble_eq_true rfl) (by omega) (by omega) (fun n_35 hn_35 => ?_)
  refine z_callQ1 (b' := 8) (f' := 2988) (rest := []) (av := [.ref n, .int (nI (tw_f w k))]) (z_siteV hb ho zc22 ob_34 q2533 q1008 q1009 ⟨_, _, _, _, zk_J5_append_2⟩ zy_J5_append_2 zl_J5_append_2 dX14_text_20 : z_Site M _ _ _ _ _ ([.int (nI (tw_f w k))].reverse ++ .ref n :: []) [] _) zk_J5_append_2 q101 hrm (m_J5_append_I hbfhq_23 ((z_exB hD0 (by omega) (by omega) (z_exT hD0 (by omega) (z_exN z_ex_r hD_1 eh_2) hfrhq_11) hfrhq_23) _ _ hd1) ((z_exB hD0 (by omega) (by omega) (z_exT hD0 (by omega) (z_exN z_ex_r hD_1 eh_2) hfrhq_11) hfrhq_23) _ _ hd2) hn1 (by have := hlnhq_23; omega)) (by omega) (by decide) (Nat.le_of_ble_eq_true rfl) (by omega) (by omega) (fun rhq_36 h_37 n_38 hq_36 hn_38 => ?_)
  obtain ⟨rfl, hq_36⟩ := hq_36
  obtain ⟨e9hq_36, hbfhq_36, heehq_36, hfrhq_36⟩ := hq_36
  have hlnhq_36 : ((([] : List Nat) ++ (z_lits.getD 51 [])) ++ z_cI (nI (tw_f w k))).length ≤ 14 := by rw [List.length_append]; have := hlnhq_23; have := (z_cI_len (x := nI (tw_f w k))); show _ + _ ≤ _; omega
  have hlohq_36 := z_alw hlohq_23 (z_cI_lt (x := nI (tw_f w k)))
  have k_39 : h_37 a = some (.inr (1, [.ref lr, .ref ls, .ref lv, .int (nI D), .int (w 2), .int (w 4), .int (w 5), .int (w 6)])) := (z_exB hD0 (by omega) (by omega) (z_exB hD0 (by omega) (by omega) (z_exT hD0 (by omega) (z_exN z_ex_r hD_1 eh_2) hfrhq_11) hfrhq_23) hfrhq_36) _ _ h1
  have k_40 : h_37 lr = some (.inr (20, [.int m0, .ref e0, .int (nI R)])) := (z_exB hD0 (by omega) (by omega) (z_exB hD0 (by omega) (by omega) (z_exT hD0 (by omega) (z_exN z_ex_r hD_1 eh_2) hfrhq_11) hfrhq_23) hfrhq_36) _ _ r1
  have k_41 : h_37 e0 = some (.inl ((zm_G M).2.1 5, N0, .inr (.inr (.inr (.inr f0))))) := (z_exB hD0 (by omega) (by omega) (z_exB hD0 (by omega) (by omega) (z_exT hD0 (by omega) (z_exN z_ex_r hD_1 eh_2) hfrhq_11) hfrhq_23) hfrhq_36) _ _ r2
  have k_42 : h_37 ls = some (.inr (20, [.int m9, .ref e, .int (nI S)])) := (z_exB hD0 (by omega) (by omega) (z_exB hD0 (by omega) (by omega) (z_exT hD0 (by omega) (z_exN z_ex_r hD_1 eh_2) hfrhq_11) hfrhq_23) hfrhq_36) _ _ h3
  have k_43 : h_37 e = some (.inl ((zm_G M).2.1 5, N, .inr (.inr (.inr (.inr f))))) := (z_exB hD0 (by omega) (by omega) (z_exB hD0 (by omega) (by omega) (z_exT hD0 (by omega) (z_exN z_ex_r hD_1 eh_2) hfrhq_11) hfrhq_23) hfrhq_36) _ _ h4
  have k_44 : h_37 lv = some (.inr (20, [.int mv, .ref ev, .int (nI S)])) := (z_exB hD0 (by omega) (by omega) (z_exB hD0 (by omega) (by omega) (z_exT hD0 (by omega) (z_exN z_ex_r hD_1 eh_2) hfrhq_11) hfrhq_23) hfrhq_36) _ _ v1
  have k_45 : h_37 ev = some (.inl ((zm_G M).2.1 5, Nv, .inr (.inr (.inr (.inr fv))))) := (z_exB hD0 (by omega) (by omega) (z_exB hD0 (by omega) (by omega) (z_exT hD0 (by omega) (z_exN z_ex_r hD_1 eh_2) hfrhq_11) hfrhq_23) hfrhq_36) _ _ v2
  have k_46 : h_37 (sa k) = some (.inr (11, [.int (nI 43), .ref (sa (tw_f w k)), .ref (sa (tw_s w k)), .int s9])) := (z_exB hD0 (by omega) (by omega) (z_exB hD0 (by omega) (by omega) (z_exT hD0 (by omega) (z_exN z_ex_r hD_1 eh_2) hfrhq_11) hfrhq_23) hfrhq_36) _ _ hx
  obtain ⟨fsob_47, ob_47⟩ := z_BF.o hbfhq_36
  refine z_aload_n hb dX14_text_23 rfl ?_
  refine z_call1 (b' := 8) (f' := 2988) (rest := [.ref n]) (av := [.ref (sa k)]) (z_siteU hb ho zc11 k_46 q2534 q2535 (Or.inl q2502) q1844 q2536 ⟨by decide +kernel, by decide +kernel⟩ (by show _ = some 0; decide +kernel) dX14_text_24 : z_Site M _ _ _ _ _ ([].reverse ++ .ref (sa k) :: [.ref n]) [.ref n] _) zk_X9_kind q127 hrm (m_X9_kind_11 k_46 rfl) (by omega) (by decide) (Nat.le_of_ble_eq_true rfl) (by omega) (by omega) ?_
  refine z_callQ1 (b' := 6) (f' := 2088) (rest := []) (av := [.ref n, .int (nI 43)]) (z_siteV hb ho zc22 ob_47 q2537 q2226 q2227 ⟨_, _, _, _, zk_J5_append_3⟩ zy_J5_append_3 zl_J5_append_3 dX14_text_27 : z_Site M _ _ _ _ _ ([.int (nI 43)].reverse ++ .ref n :: []) [] _) zk_J5_append_3 q101 hrm (m_J5_append_c hbfhq_36 (by omega) (by have := hlnhq_36; omega)) (by omega) (by decide) (Nat.le_of_ble_eq_true rfl) (by omega) (by omega) (fun rhq_48 h_49 n_50 hq_48 hn_50 => ?_)
  obtain ⟨rfl, hq_48⟩ := hq_48
  obtain ⟨e9hq_48, cdhq_48, hbfhq_48, -, heehq_48, hcdhq_48, hfrhq_48⟩ := hq_48
  obtain rfl : cdhq_48 = 0 := hcdhq_48 rfl (by omega)
  have hlnhq_48 : (((([] : List Nat) ++ (z_lits.getD 51 [])) ++ z_cI (nI (tw_f w k))) ++ [43]).length ≤ 15 := by rw [List.length_append]; have := hlnhq_36; have := (show [43].length ≤ 1 from Nat.le_refl 1); show _ + _ ≤ _; omega
  have hlohq_48 := z_alw hlohq_36 (z_alw1 (show 43 < 128 by omega))
  have k_51 : h_49 a = some (.inr (1, [.ref lr, .ref ls, .ref lv, .int (nI D), .int (w 2), .int (w 4), .int (w 5), .int (w 6)])) := (z_exB hD0 (by omega) (by omega) (z_exB hD0 (by omega) (by omega) (z_exB hD0 (by omega) (by omega) (z_exT hD0 (by omega) (z_exN z_ex_r hD_1 eh_2) hfrhq_11) hfrhq_23) hfrhq_36) hfrhq_48) _ _ h1
  have k_52 : h_49 lr = some (.inr (20, [.int m0, .ref e0, .int (nI R)])) := (z_exB hD0 (by omega) (by omega) (z_exB hD0 (by omega) (by omega) (z_exB hD0 (by omega) (by omega) (z_exT hD0 (by omega) (z_exN z_ex_r hD_1 eh_2) hfrhq_11) hfrhq_23) hfrhq_36) hfrhq_48) _ _ r1
  have k_53 : h_49 e0 = some (.inl ((zm_G M).2.1 5, N0, .inr (.inr (.inr (.inr f0))))) := (z_exB hD0 (by omega) (by omega) (z_exB hD0 (by omega) (by omega) (z_exB hD0 (by omega) (by omega) (z_exT hD0 (by omega) (z_exN z_ex_r hD_1 eh_2) hfrhq_11) hfrhq_23) hfrhq_36) hfrhq_48) _ _ r2
  have k_54 : h_49 ls = some (.inr (20, [.int m9, .ref e, .int (nI S)])) := (z_exB hD0 (by omega) (by omega) (z_exB hD0 (by omega) (by omega) (z_exB hD0 (by omega) (by omega) (z_exT hD0 (by omega) (z_exN z_ex_r hD_1 eh_2) hfrhq_11) hfrhq_23) hfrhq_36) hfrhq_48) _ _ h3
  have k_55 : h_49 e = some (.inl ((zm_G M).2.1 5, N, .inr (.inr (.inr (.inr f))))) := (z_exB hD0 (by omega) (by omega) (z_exB hD0 (by omega) (by omega) (z_exB hD0 (by omega) (by omega) (z_exT hD0 (by omega) (z_exN z_ex_r hD_1 eh_2) hfrhq_11) hfrhq_23) hfrhq_36) hfrhq_48) _ _ h4
  have k_56 : h_49 lv = some (.inr (20, [.int mv, .ref ev, .int (nI S)])) := (z_exB hD0 (by omega) (by omega) (z_exB hD0 (by omega) (by omega) (z_exB hD0 (by omega) (by omega) (z_exT hD0 (by omega) (z_exN z_ex_r hD_1 eh_2) hfrhq_11) hfrhq_23) hfrhq_36) hfrhq_48) _ _ v1
  have k_57 : h_49 ev = some (.inl ((zm_G M).2.1 5, Nv, .inr (.inr (.inr (.inr fv))))) := (z_exB hD0 (by omega) (by omega) (z_exB hD0 (by omega) (by omega) (z_exB hD0 (by omega) (by omega) (z_exT hD0 (by omega) (z_exN z_ex_r hD_1 eh_2) hfrhq_11) hfrhq_23) hfrhq_36) hfrhq_48) _ _ v2
  have k_58 : h_49 (sa k) = some (.inr (11, [.int (nI 43), .ref (sa (tw_f w k)), .ref (sa (tw_s w k)), .int s9])) := (z_exB hD0 (by omega) (by omega) (z_exB hD0 (by omega) (by omega) (z_exB hD0 (by omega) (by omega) (z_exT hD0 (by omega) (z_exN z_ex_r hD_1 eh_2) hfrhq_11) hfrhq_23) hfrhq_36) hfrhq_48) _ _ hx
  obtain ⟨fsob_59, ob_59⟩ := z_BF.o hbfhq_48
  refine z_aload_n hb dX14_text_30 rfl ?_
  refine z_aload_n hb dX14_text_31 rfl ?_
  refine z_get (k := 2) (C := RX14) (T := TX14) (N := 4) hb ho zc11 in_X14 (zf_RX14_13 _) dX14_text_32 k_58 (by decide) rfl ?_
  refine z_callN1 (b' := 6) (f' := 2088) (rest := [.ref n]) (av := [.ref a, .ref (sa (tw_s w k))]) (z_siteV hb ho zc1 k_51 q2532 q601 q602 ⟨_, _, _, _, zk_X2_indexOf⟩ zy_X2_indexOf zl_X2_indexOf dX14_text_35 : z_Site M _ _ _ _ _ ([.ref (sa (tw_s w k))].reverse ++ .ref a :: [.ref n]) [.ref n] _) zk_X2_indexOf q95 hrm (z_C.rn (m_X2_indexOf (hL.ex (z_exB hD0 (by omega) (by omega) (z_exB hD0 (by omega) (by omega) (z_exB hD0 (by omega) (by omega) (z_exT hD0 (by omega) (z_exN z_ex_r hD_1 eh_2) hfrhq_11) hfrhq_23) hfrhq_36) hfrhq_48)) (show tw_s w k < S by omega))) (by omega) (by decide) (Nat.le_of_ble_eq_true rfl) (by omega) (by omega) (fun n_60 hn_60 => ?_)
  refine z_callQ1 (b' := 5) (f' := 1788) (rest := []) (av := [.ref n, .int (nI (tw_s w k))]) (z_siteV hb ho zc22 ob_59 q2533 q1008 q1009 ⟨_, _, _, _, zk_J5_append_2⟩ zy_J5_append_2 zl_J5_append_2 dX14_text_38 : z_Site M _ _ _ _ _ ([.int (nI (tw_s w k))].reverse ++ .ref n :: []) [] _) zk_J5_append_2 q101 hrm (m_J5_append_I hbfhq_48 ((z_exB hD0 (by omega) (by omega) (z_exB hD0 (by omega) (by omega) (z_exB hD0 (by omega) (by omega) (z_exT hD0 (by omega) (z_exN z_ex_r hD_1 eh_2) hfrhq_11) hfrhq_23) hfrhq_36) hfrhq_48) _ _ hd1) ((z_exB hD0 (by omega) (by omega) (z_exB hD0 (by omega) (by omega) (z_exB hD0 (by omega) (by omega) (z_exT hD0 (by omega) (z_exN z_ex_r hD_1 eh_2) hfrhq_11) hfrhq_23) hfrhq_36) hfrhq_48) _ _ hd2) hn1 (by have := hlnhq_48; omega)) (by omega) (by decide) (Nat.le_of_ble_eq_true rfl) (by omega) (by omega) (fun rhq_61 h_62 n_63 hq_61 hn_63 => ?_)
  obtain ⟨rfl, hq_61⟩ := hq_61
  obtain ⟨e9hq_61, hbfhq_61, heehq_61, hfrhq_61⟩ := hq_61
  have hlnhq_61 : ((((([] : List Nat) ++ (z_lits.getD 51 [])) ++ z_cI (nI (tw_f w k))) ++ [43]) ++ z_cI (nI (tw_s w k))).length ≤ 29 := by rw [List.length_append]; have := hlnhq_48; have := (z_cI_len (x := nI (tw_s w k))); show _ + _ ≤ _; omega
  have hlohq_61 := z_alw hlohq_48 (z_cI_lt (x := nI (tw_s w k)))
  have k_64 : h_62 a = some (.inr (1, [.ref lr, .ref ls, .ref lv, .int (nI D), .int (w 2), .int (w 4), .int (w 5), .int (w 6)])) := (z_exB hD0 (by omega) (by omega) (z_exB hD0 (by omega) (by omega) (z_exB hD0 (by omega) (by omega) (z_exB hD0 (by omega) (by omega) (z_exT hD0 (by omega) (z_exN z_ex_r hD_1 eh_2) hfrhq_11) hfrhq_23) hfrhq_36) hfrhq_48) hfrhq_61) _ _ h1
  have k_65 : h_62 lr = some (.inr (20, [.int m0, .ref e0, .int (nI R)])) := (z_exB hD0 (by omega) (by omega) (z_exB hD0 (by omega) (by omega) (z_exB hD0 (by omega) (by omega) (z_exB hD0 (by omega) (by omega) (z_exT hD0 (by omega) (z_exN z_ex_r hD_1 eh_2) hfrhq_11) hfrhq_23) hfrhq_36) hfrhq_48) hfrhq_61) _ _ r1
  have k_66 : h_62 e0 = some (.inl ((zm_G M).2.1 5, N0, .inr (.inr (.inr (.inr f0))))) := (z_exB hD0 (by omega) (by omega) (z_exB hD0 (by omega) (by omega) (z_exB hD0 (by omega) (by omega) (z_exB hD0 (by omega) (by omega) (z_exT hD0 (by omega) (z_exN z_ex_r hD_1 eh_2) hfrhq_11) hfrhq_23) hfrhq_36) hfrhq_48) hfrhq_61) _ _ r2
  have k_67 : h_62 ls = some (.inr (20, [.int m9, .ref e, .int (nI S)])) := (z_exB hD0 (by omega) (by omega) (z_exB hD0 (by omega) (by omega) (z_exB hD0 (by omega) (by omega) (z_exB hD0 (by omega) (by omega) (z_exT hD0 (by omega) (z_exN z_ex_r hD_1 eh_2) hfrhq_11) hfrhq_23) hfrhq_36) hfrhq_48) hfrhq_61) _ _ h3
  have k_68 : h_62 e = some (.inl ((zm_G M).2.1 5, N, .inr (.inr (.inr (.inr f))))) := (z_exB hD0 (by omega) (by omega) (z_exB hD0 (by omega) (by omega) (z_exB hD0 (by omega) (by omega) (z_exB hD0 (by omega) (by omega) (z_exT hD0 (by omega) (z_exN z_ex_r hD_1 eh_2) hfrhq_11) hfrhq_23) hfrhq_36) hfrhq_48) hfrhq_61) _ _ h4
  have k_69 : h_62 lv = some (.inr (20, [.int mv, .ref ev, .int (nI S)])) := (z_exB hD0 (by omega) (by omega) (z_exB hD0 (by omega) (by omega) (z_exB hD0 (by omega) (by omega) (z_exB hD0 (by omega) (by omega) (z_exT hD0 (by omega) (z_exN z_ex_r hD_1 eh_2) hfrhq_11) hfrhq_23) hfrhq_36) hfrhq_48) hfrhq_61) _ _ v1
  have k_70 : h_62 ev = some (.inl ((zm_G M).2.1 5, Nv, .inr (.inr (.inr (.inr fv))))) := (z_exB hD0 (by omega) (by omega) (z_exB hD0 (by omega) (by omega) (z_exB hD0 (by omega) (by omega) (z_exB hD0 (by omega) (by omega) (z_exT hD0 (by omega) (z_exN z_ex_r hD_1 eh_2) hfrhq_11) hfrhq_23) hfrhq_36) hfrhq_48) hfrhq_61) _ _ v2
  have k_71 : h_62 (sa k) = some (.inr (11, [.int (nI 43), .ref (sa (tw_f w k)), .ref (sa (tw_s w k)), .int s9])) := (z_exB hD0 (by omega) (by omega) (z_exB hD0 (by omega) (by omega) (z_exB hD0 (by omega) (by omega) (z_exB hD0 (by omega) (by omega) (z_exT hD0 (by omega) (z_exN z_ex_r hD_1 eh_2) hfrhq_11) hfrhq_23) hfrhq_36) hfrhq_48) hfrhq_61) _ _ hx
  obtain ⟨fsob_72, ob_72⟩ := z_BF.o hbfhq_61
  refine z_callQ1 (b' := 3) (f' := 1484) (rest := []) (av := [.ref n]) (z_siteV hb ho zc22 ob_72 q2538 q1033 q1034 ⟨_, _, _, _, zk_J5_toString⟩ zy_J5_toString zl_J5_toString dX14_text_41 : z_Site M _ _ _ _ _ ([].reverse ++ .ref n :: []) [] _) zk_J5_toString q101 hrm (m_J5_toString hbfhq_61 (by have := hlnhq_61; omega) hlohq_61) (by omega) (by decide) (Nat.le_of_ble_eq_true rfl) (by omega) (by omega) (fun rhq_73 h_74 n_75 hq_73 hn_75 => ?_)
  obtain ⟨rfl, hq_73⟩ := hq_73
  obtain ⟨hnnhq_73, hsghq_73, hexhq_73⟩ := hq_73
  have k_76 : h_74 a = some (.inr (1, [.ref lr, .ref ls, .ref lv, .int (nI D), .int (w 2), .int (w 4), .int (w 5), .int (w 6)])) := (z_ex_t (z_exB hD0 (by omega) (by omega) (z_exB hD0 (by omega) (by omega) (z_exB hD0 (by omega) (by omega) (z_exB hD0 (by omega) (by omega) (z_exT hD0 (by omega) (z_exN z_ex_r hD_1 eh_2) hfrhq_11) hfrhq_23) hfrhq_36) hfrhq_48) hfrhq_61) hexhq_73) _ _ h1
  have k_77 : h_74 lr = some (.inr (20, [.int m0, .ref e0, .int (nI R)])) := (z_ex_t (z_exB hD0 (by omega) (by omega) (z_exB hD0 (by omega) (by omega) (z_exB hD0 (by omega) (by omega) (z_exB hD0 (by omega) (by omega) (z_exT hD0 (by omega) (z_exN z_ex_r hD_1 eh_2) hfrhq_11) hfrhq_23) hfrhq_36) hfrhq_48) hfrhq_61) hexhq_73) _ _ r1
  have k_78 : h_74 e0 = some (.inl ((zm_G M).2.1 5, N0, .inr (.inr (.inr (.inr f0))))) := (z_ex_t (z_exB hD0 (by omega) (by omega) (z_exB hD0 (by omega) (by omega) (z_exB hD0 (by omega) (by omega) (z_exB hD0 (by omega) (by omega) (z_exT hD0 (by omega) (z_exN z_ex_r hD_1 eh_2) hfrhq_11) hfrhq_23) hfrhq_36) hfrhq_48) hfrhq_61) hexhq_73) _ _ r2
  have k_79 : h_74 ls = some (.inr (20, [.int m9, .ref e, .int (nI S)])) := (z_ex_t (z_exB hD0 (by omega) (by omega) (z_exB hD0 (by omega) (by omega) (z_exB hD0 (by omega) (by omega) (z_exB hD0 (by omega) (by omega) (z_exT hD0 (by omega) (z_exN z_ex_r hD_1 eh_2) hfrhq_11) hfrhq_23) hfrhq_36) hfrhq_48) hfrhq_61) hexhq_73) _ _ h3
  have k_80 : h_74 e = some (.inl ((zm_G M).2.1 5, N, .inr (.inr (.inr (.inr f))))) := (z_ex_t (z_exB hD0 (by omega) (by omega) (z_exB hD0 (by omega) (by omega) (z_exB hD0 (by omega) (by omega) (z_exB hD0 (by omega) (by omega) (z_exT hD0 (by omega) (z_exN z_ex_r hD_1 eh_2) hfrhq_11) hfrhq_23) hfrhq_36) hfrhq_48) hfrhq_61) hexhq_73) _ _ h4
  have k_81 : h_74 lv = some (.inr (20, [.int mv, .ref ev, .int (nI S)])) := (z_ex_t (z_exB hD0 (by omega) (by omega) (z_exB hD0 (by omega) (by omega) (z_exB hD0 (by omega) (by omega) (z_exB hD0 (by omega) (by omega) (z_exT hD0 (by omega) (z_exN z_ex_r hD_1 eh_2) hfrhq_11) hfrhq_23) hfrhq_36) hfrhq_48) hfrhq_61) hexhq_73) _ _ v1
  have k_82 : h_74 ev = some (.inl ((zm_G M).2.1 5, Nv, .inr (.inr (.inr (.inr fv))))) := (z_ex_t (z_exB hD0 (by omega) (by omega) (z_exB hD0 (by omega) (by omega) (z_exB hD0 (by omega) (by omega) (z_exB hD0 (by omega) (by omega) (z_exT hD0 (by omega) (z_exN z_ex_r hD_1 eh_2) hfrhq_11) hfrhq_23) hfrhq_36) hfrhq_48) hfrhq_61) hexhq_73) _ _ v2
  have k_83 : h_74 (sa k) = some (.inr (11, [.int (nI 43), .ref (sa (tw_f w k)), .ref (sa (tw_s w k)), .int s9])) := (z_ex_t (z_exB hD0 (by omega) (by omega) (z_exB hD0 (by omega) (by omega) (z_exB hD0 (by omega) (by omega) (z_exB hD0 (by omega) (by omega) (z_exT hD0 (by omega) (z_exN z_ex_r hD_1 eh_2) hfrhq_11) hfrhq_23) hfrhq_36) hfrhq_48) hfrhq_61) hexhq_73) _ _ hx
  refine z_aret hb hr (Or.inl ⟨_, rfl⟩) (Or.inr ⟨_, rfl⟩) dX14_text_44 ?_
  rw [hQ]
  refine ⟨_, rfl, n_63, rfl, by omega, by omega, ?_, (z_ex_t (z_exB hD0 (by omega) (by omega) (z_exB hD0 (by omega) (by omega) (z_exB hD0 (by omega) (by omega) (z_exB hD0 (by omega) (by omega) (z_exT hD0 (by omega) (z_exN z_ex_r hD_1 eh_2) hfrhq_11) hfrhq_23) hfrhq_36) hfrhq_48) hfrhq_61) hexhq_73)⟩
  have e9 := hsghq_73
  rw [show ((((([] : List Nat) ++ (z_lits.getD 51 [])) ++ z_cI (nI (tw_f w k))) ++ [43]) ++ z_cI (nI (tw_s w k))) = z_cI (nI (tw_f w k)) ++ 43 :: z_cI (nI (tw_s w k)) from by show (z_cI (nI (tw_f w k)) ++ [43]) ++ z_cI (nI (tw_s w k)) = _; rw [List.append_assoc]; rfl] at e9
  exact e9

set_option maxHeartbeats 1000000 in
theorem m_X14_text_m {l : Launch} {G : zG} {h : zH} {n : Nat} {w : Nat → Int32} {v : Nat → Int64} {R S D a lr ls lv : Nat} {ra sa va : Nat → Nat} {k : Nat} {s9 : Int32} (hL : z_Ln G h w v R S D a lr ls lv ra sa va) (hKS : z_KS G h) (hS8 : S ≤ 8) (hd1 : h (G.2.2.1 1000) = some (z_ab G 100 z_on)) (hd2 : h (G.2.2.1 1001) = some (z_ab G 100 z_tn)) (hn1 : G.2.2.1 1000 < z_n0 G ∧ G.2.2.1 1001 < z_n0 G) (hk : k < S) (hf : tw_f w k < k) (hs2 : tw_s w k < k) (hx : h (sa k) = some (.inr (11, [.int (nI 45), .ref (sa (tw_f w k)), .ref (sa (tw_s w k)), .int s9]))) : z_C l G yX14_text 10 12 3608 [.ref (sa k), .ref a] h n (z_q1 (fun r9 h9 n9 => ∃ s, r9 = .ref s ∧ n ≤ s ∧ s < n9 ∧ z_Sg G h9 s (z_cI (nI (tw_f w k)) ++ 45 :: z_cI (nI (tw_s w k))) (nI 0) ∧ z_ex h h9)) := by
  refine z_start zk_X14_text zpl_RX14 (Nat.le_of_ble_eq_true rfl) ?_
  intro hn0 M hl hG ho hb hN hr hm hH hrm hQ
  subst hl hG
  have ho : zm_o M = RX14 := ho
  obtain ⟨h1, ⟨e0, N0, m0, f0, r1, r2, r3, ⟨r4, r4n⟩, r5⟩, ⟨e, N, m9, f, h3, h4, h5, ⟨h6, h6n⟩, h7⟩, ⟨ev, Nv, mv, fv, v1, v2, v3, ⟨v4, v4n⟩, v5⟩, h9, hs, hv, hi, hrI⟩ := id hL
  show z_V M h n 12 3608 0 [(0, .ref (sa k)), (1, .ref a)] []
  refine z_dom (fun hD0 => ?_)
  refine z_dom (fun hD_1 => ?_)
  refine z_new (N0 := 4) (b' := 11) (f' := 3604) (fs := [.null, .int (nI 0), .int (nI 0), .int (nI 0)]) (C := RJ5) (T := TJ5) (N := 4) hb ho zc22 in_J5 tyJ5_ok q2528 q253 q101 dX14_text_0 (zdf_J5) (by omega) (by omega) ?_
  refine z_hn (fun h_2 eh_2 => ?_)
  have eh_2 : h_2 = z_up h n (.inr (22, [.null, .int (nI 0), .int (nI 0), .int (nI 0)])) := eh_2
  have k_3 : h_2 a = some (.inr (1, [.ref lr, .ref ls, .ref lv, .int (nI D), .int (w 2), .int (w 4), .int (w 5), .int (w 6)])) := z_nx eh_2 (Nat.ne_of_lt (hD_1 _ _ h1)) h1
  have k_4 : h_2 lr = some (.inr (20, [.int m0, .ref e0, .int (nI R)])) := z_nx eh_2 (Nat.ne_of_lt (hD_1 _ _ r1)) r1
  have k_5 : h_2 e0 = some (.inl ((zm_G M).2.1 5, N0, .inr (.inr (.inr (.inr f0))))) := z_nx eh_2 (Nat.ne_of_lt (hD_1 _ _ r2)) r2
  have k_6 : h_2 ls = some (.inr (20, [.int m9, .ref e, .int (nI S)])) := z_nx eh_2 (Nat.ne_of_lt (hD_1 _ _ h3)) h3
  have k_7 : h_2 e = some (.inl ((zm_G M).2.1 5, N, .inr (.inr (.inr (.inr f))))) := z_nx eh_2 (Nat.ne_of_lt (hD_1 _ _ h4)) h4
  have k_8 : h_2 lv = some (.inr (20, [.int mv, .ref ev, .int (nI S)])) := z_nx eh_2 (Nat.ne_of_lt (hD_1 _ _ v1)) v1
  have k_9 : h_2 ev = some (.inl ((zm_G M).2.1 5, Nv, .inr (.inr (.inr (.inr fv))))) := z_nx eh_2 (Nat.ne_of_lt (hD_1 _ _ v2)) v2
  have k_10 : h_2 (sa k) = some (.inr (11, [.int (nI 45), .ref (sa (tw_f w k)), .ref (sa (tw_s w k)), .int s9])) := z_nx eh_2 (Nat.ne_of_lt (hD_1 _ _ hx)) hx
  refine z_dup hb dX14_text_3 rfl ?_
  refine z_callQ0 (b' := 10) (f' := 3588) (rest := [.ref n]) (av := [.ref n]) (z_siteI hb ho q2529 q255 q256 rfl zy_J5_init zl_J5_init dX14_text_4 : z_Site M _ _ _ _ _ ([].reverse ++ .ref n :: [.ref n]) [.ref n] _) zk_J5_init q101 hrm (m_J5_init_b (z_nxs eh_2) (by omega) (by omega)) (by omega) (by decide) (Nat.le_of_ble_eq_true rfl) (by omega) (by omega) (fun h_12 n_13 hq_11 hn_13 => ?_)
  obtain ⟨hnnhq_11, hbfhq_11, hfrhq_11⟩ := hq_11
  have k_14 : h_12 a = some (.inr (1, [.ref lr, .ref ls, .ref lv, .int (nI D), .int (w 2), .int (w 4), .int (w 5), .int (w 6)])) := (z_exT hD0 (by omega) (z_exN z_ex_r hD_1 eh_2) hfrhq_11) _ _ h1
  have k_15 : h_12 lr = some (.inr (20, [.int m0, .ref e0, .int (nI R)])) := (z_exT hD0 (by omega) (z_exN z_ex_r hD_1 eh_2) hfrhq_11) _ _ r1
  have k_16 : h_12 e0 = some (.inl ((zm_G M).2.1 5, N0, .inr (.inr (.inr (.inr f0))))) := (z_exT hD0 (by omega) (z_exN z_ex_r hD_1 eh_2) hfrhq_11) _ _ r2
  have k_17 : h_12 ls = some (.inr (20, [.int m9, .ref e, .int (nI S)])) := (z_exT hD0 (by omega) (z_exN z_ex_r hD_1 eh_2) hfrhq_11) _ _ h3
  have k_18 : h_12 e = some (.inl ((zm_G M).2.1 5, N, .inr (.inr (.inr (.inr f))))) := (z_exT hD0 (by omega) (z_exN z_ex_r hD_1 eh_2) hfrhq_11) _ _ h4
  have k_19 : h_12 lv = some (.inr (20, [.int mv, .ref ev, .int (nI S)])) := (z_exT hD0 (by omega) (z_exN z_ex_r hD_1 eh_2) hfrhq_11) _ _ v1
  have k_20 : h_12 ev = some (.inl ((zm_G M).2.1 5, Nv, .inr (.inr (.inr (.inr fv))))) := (z_exT hD0 (by omega) (z_exN z_ex_r hD_1 eh_2) hfrhq_11) _ _ v2
  have k_21 : h_12 (sa k) = some (.inr (11, [.int (nI 45), .ref (sa (tw_f w k)), .ref (sa (tw_s w k)), .int s9])) := (z_exT hD0 (by omega) (z_exN z_ex_r hD_1 eh_2) hfrhq_11) _ _ hx
  obtain ⟨fsob_22, ob_22⟩ := z_BF.o hbfhq_11
  refine z_ldcS (i := 51) hb ho rfl rfl rfl dX14_text_7 ?_
  refine z_callQ1 (b' := 9) (f' := 3288) (rest := []) (av := [.ref n, .ref ((zm_G M).2.2.1 51)]) (z_siteV hb ho zc22 ob_22 q2531 q913 q914 ⟨_, _, _, _, zk_J5_append⟩ zy_J5_append zl_J5_append dX14_text_9 : z_Site M _ _ _ _ _ ([.ref ((zm_G M).2.2.1 51)].reverse ++ .ref n :: []) [] _) zk_J5_append q101 hrm (m_J5_append_s hbfhq_11 ((hKS 51 (by decide)).ex (z_exT hD0 (by omega) (z_exN z_ex_r hD_1 eh_2) hfrhq_11)) (by have := (show ([] : List Nat).length ≤ 0 from Nat.le_refl 0); have := (show (z_lits.getD 51 []).length ≤ 0 by decide); omega)) (by omega) (by decide) (Nat.le_of_ble_eq_true rfl) (by omega) (by omega) (fun rhq_23 h_24 n_25 hq_23 hn_25 => ?_)
  obtain ⟨rfl, hq_23⟩ := hq_23
  obtain ⟨e9hq_23, hbfhq_23, heehq_23, hfrhq_23⟩ := hq_23
  have hlnhq_23 : (([] : List Nat) ++ (z_lits.getD 51 [])).length ≤ 0 := by rw [List.length_append]; have := (show ([] : List Nat).length ≤ 0 from Nat.le_refl 0); have := (show (z_lits.getD 51 []).length ≤ 0 by decide); show _ + _ ≤ _; omega
  have hlohq_23 := z_alw (show ∀ b ∈ ([] : List Nat), b < 128 from fun b hb => nomatch hb) (z_lit_lt 51 (by decide))
  have k_26 : h_24 a = some (.inr (1, [.ref lr, .ref ls, .ref lv, .int (nI D), .int (w 2), .int (w 4), .int (w 5), .int (w 6)])) := (z_exB hD0 (by omega) (by omega) (z_exT hD0 (by omega) (z_exN z_ex_r hD_1 eh_2) hfrhq_11) hfrhq_23) _ _ h1
  have k_27 : h_24 lr = some (.inr (20, [.int m0, .ref e0, .int (nI R)])) := (z_exB hD0 (by omega) (by omega) (z_exT hD0 (by omega) (z_exN z_ex_r hD_1 eh_2) hfrhq_11) hfrhq_23) _ _ r1
  have k_28 : h_24 e0 = some (.inl ((zm_G M).2.1 5, N0, .inr (.inr (.inr (.inr f0))))) := (z_exB hD0 (by omega) (by omega) (z_exT hD0 (by omega) (z_exN z_ex_r hD_1 eh_2) hfrhq_11) hfrhq_23) _ _ r2
  have k_29 : h_24 ls = some (.inr (20, [.int m9, .ref e, .int (nI S)])) := (z_exB hD0 (by omega) (by omega) (z_exT hD0 (by omega) (z_exN z_ex_r hD_1 eh_2) hfrhq_11) hfrhq_23) _ _ h3
  have k_30 : h_24 e = some (.inl ((zm_G M).2.1 5, N, .inr (.inr (.inr (.inr f))))) := (z_exB hD0 (by omega) (by omega) (z_exT hD0 (by omega) (z_exN z_ex_r hD_1 eh_2) hfrhq_11) hfrhq_23) _ _ h4
  have k_31 : h_24 lv = some (.inr (20, [.int mv, .ref ev, .int (nI S)])) := (z_exB hD0 (by omega) (by omega) (z_exT hD0 (by omega) (z_exN z_ex_r hD_1 eh_2) hfrhq_11) hfrhq_23) _ _ v1
  have k_32 : h_24 ev = some (.inl ((zm_G M).2.1 5, Nv, .inr (.inr (.inr (.inr fv))))) := (z_exB hD0 (by omega) (by omega) (z_exT hD0 (by omega) (z_exN z_ex_r hD_1 eh_2) hfrhq_11) hfrhq_23) _ _ v2
  have k_33 : h_24 (sa k) = some (.inr (11, [.int (nI 45), .ref (sa (tw_f w k)), .ref (sa (tw_s w k)), .int s9])) := (z_exB hD0 (by omega) (by omega) (z_exT hD0 (by omega) (z_exN z_ex_r hD_1 eh_2) hfrhq_11) hfrhq_23) _ _ hx
  obtain ⟨fsob_34, ob_34⟩ := z_BF.o hbfhq_23
  refine z_aload_n hb dX14_text_12 rfl ?_
  refine z_aload_n hb dX14_text_13 rfl ?_
  refine z_get (k := 1) (C := RX14) (T := TX14) (N := 4) hb ho zc11 in_X14 (zf_RX14_7 _) dX14_text_14 k_33 (by decide) rfl ?_
  refine z_callN1 (b' := 9) (f' := 3288) (rest := [.ref n]) (av := [.ref a, .ref (sa (tw_f w k))]) (z_siteV hb ho zc1 k_26 q2532 q601 q602 ⟨_, _, _, _, zk_X2_indexOf⟩ zy_X2_indexOf zl_X2_indexOf dX14_text_17 : z_Site M _ _ _ _ _ ([.ref (sa (tw_f w k))].reverse ++ .ref a :: [.ref n]) [.ref n] _) zk_X2_indexOf q95 hrm (z_C.rn (m_X2_indexOf (hL.ex (z_exB hD0 (by omega) (by omega) (z_exT hD0 (by omega) (z_exN z_ex_r hD_1 eh_2) hfrhq_11) hfrhq_23)) (show tw_f w k < S by omega))) (by omega) (by decide) (Nat.le_of_ble_eq_true rfl) (by omega) (by omega) (fun n_35 hn_35 => ?_)
  refine z_callQ1 (b' := 8) (f' := 2988) (rest := []) (av := [.ref n, .int (nI (tw_f w k))]) (z_siteV hb ho zc22 ob_34 q2533 q1008 q1009 ⟨_, _, _, _, zk_J5_append_2⟩ zy_J5_append_2 zl_J5_append_2 dX14_text_20 : z_Site M _ _ _ _ _ ([.int (nI (tw_f w k))].reverse ++ .ref n :: []) [] _) zk_J5_append_2 q101 hrm (m_J5_append_I hbfhq_23 ((z_exB hD0 (by omega) (by omega) (z_exT hD0 (by omega) (z_exN z_ex_r hD_1 eh_2) hfrhq_11) hfrhq_23) _ _ hd1) ((z_exB hD0 (by omega) (by omega) (z_exT hD0 (by omega) (z_exN z_ex_r hD_1 eh_2) hfrhq_11) hfrhq_23) _ _ hd2) hn1 (by have := hlnhq_23; omega)) (by omega) (by decide) (Nat.le_of_ble_eq_true rfl) (by omega) (by omega) (fun rhq_36 h_37 n_38 hq_36 hn_38 => ?_)
  obtain ⟨rfl, hq_36⟩ := hq_36
  obtain ⟨e9hq_36, hbfhq_36, heehq_36, hfrhq_36⟩ := hq_36
  have hlnhq_36 : ((([] : List Nat) ++ (z_lits.getD 51 [])) ++ z_cI (nI (tw_f w k))).length ≤ 14 := by rw [List.length_append]; have := hlnhq_23; have := (z_cI_len (x := nI (tw_f w k))); show _ + _ ≤ _; omega
  have hlohq_36 := z_alw hlohq_23 (z_cI_lt (x := nI (tw_f w k)))
  have k_39 : h_37 a = some (.inr (1, [.ref lr, .ref ls, .ref lv, .int (nI D), .int (w 2), .int (w 4), .int (w 5), .int (w 6)])) := (z_exB hD0 (by omega) (by omega) (z_exB hD0 (by omega) (by omega) (z_exT hD0 (by omega) (z_exN z_ex_r hD_1 eh_2) hfrhq_11) hfrhq_23) hfrhq_36) _ _ h1
  have k_40 : h_37 lr = some (.inr (20, [.int m0, .ref e0, .int (nI R)])) := (z_exB hD0 (by omega) (by omega) (z_exB hD0 (by omega) (by omega) (z_exT hD0 (by omega) (z_exN z_ex_r hD_1 eh_2) hfrhq_11) hfrhq_23) hfrhq_36) _ _ r1
  have k_41 : h_37 e0 = some (.inl ((zm_G M).2.1 5, N0, .inr (.inr (.inr (.inr f0))))) := (z_exB hD0 (by omega) (by omega) (z_exB hD0 (by omega) (by omega) (z_exT hD0 (by omega) (z_exN z_ex_r hD_1 eh_2) hfrhq_11) hfrhq_23) hfrhq_36) _ _ r2
  have k_42 : h_37 ls = some (.inr (20, [.int m9, .ref e, .int (nI S)])) := (z_exB hD0 (by omega) (by omega) (z_exB hD0 (by omega) (by omega) (z_exT hD0 (by omega) (z_exN z_ex_r hD_1 eh_2) hfrhq_11) hfrhq_23) hfrhq_36) _ _ h3
  have k_43 : h_37 e = some (.inl ((zm_G M).2.1 5, N, .inr (.inr (.inr (.inr f))))) := (z_exB hD0 (by omega) (by omega) (z_exB hD0 (by omega) (by omega) (z_exT hD0 (by omega) (z_exN z_ex_r hD_1 eh_2) hfrhq_11) hfrhq_23) hfrhq_36) _ _ h4
  have k_44 : h_37 lv = some (.inr (20, [.int mv, .ref ev, .int (nI S)])) := (z_exB hD0 (by omega) (by omega) (z_exB hD0 (by omega) (by omega) (z_exT hD0 (by omega) (z_exN z_ex_r hD_1 eh_2) hfrhq_11) hfrhq_23) hfrhq_36) _ _ v1
  have k_45 : h_37 ev = some (.inl ((zm_G M).2.1 5, Nv, .inr (.inr (.inr (.inr fv))))) := (z_exB hD0 (by omega) (by omega) (z_exB hD0 (by omega) (by omega) (z_exT hD0 (by omega) (z_exN z_ex_r hD_1 eh_2) hfrhq_11) hfrhq_23) hfrhq_36) _ _ v2
  have k_46 : h_37 (sa k) = some (.inr (11, [.int (nI 45), .ref (sa (tw_f w k)), .ref (sa (tw_s w k)), .int s9])) := (z_exB hD0 (by omega) (by omega) (z_exB hD0 (by omega) (by omega) (z_exT hD0 (by omega) (z_exN z_ex_r hD_1 eh_2) hfrhq_11) hfrhq_23) hfrhq_36) _ _ hx
  obtain ⟨fsob_47, ob_47⟩ := z_BF.o hbfhq_36
  refine z_aload_n hb dX14_text_23 rfl ?_
  refine z_call1 (b' := 8) (f' := 2988) (rest := [.ref n]) (av := [.ref (sa k)]) (z_siteU hb ho zc11 k_46 q2534 q2535 (Or.inl q2502) q1844 q2536 ⟨by decide +kernel, by decide +kernel⟩ (by show _ = some 0; decide +kernel) dX14_text_24 : z_Site M _ _ _ _ _ ([].reverse ++ .ref (sa k) :: [.ref n]) [.ref n] _) zk_X9_kind q127 hrm (m_X9_kind_11 k_46 rfl) (by omega) (by decide) (Nat.le_of_ble_eq_true rfl) (by omega) (by omega) ?_
  refine z_callQ1 (b' := 6) (f' := 2088) (rest := []) (av := [.ref n, .int (nI 45)]) (z_siteV hb ho zc22 ob_47 q2537 q2226 q2227 ⟨_, _, _, _, zk_J5_append_3⟩ zy_J5_append_3 zl_J5_append_3 dX14_text_27 : z_Site M _ _ _ _ _ ([.int (nI 45)].reverse ++ .ref n :: []) [] _) zk_J5_append_3 q101 hrm (m_J5_append_c hbfhq_36 (by omega) (by have := hlnhq_36; omega)) (by omega) (by decide) (Nat.le_of_ble_eq_true rfl) (by omega) (by omega) (fun rhq_48 h_49 n_50 hq_48 hn_50 => ?_)
  obtain ⟨rfl, hq_48⟩ := hq_48
  obtain ⟨e9hq_48, cdhq_48, hbfhq_48, -, heehq_48, hcdhq_48, hfrhq_48⟩ := hq_48
  obtain rfl : cdhq_48 = 0 := hcdhq_48 rfl (by omega)
  have hlnhq_48 : (((([] : List Nat) ++ (z_lits.getD 51 [])) ++ z_cI (nI (tw_f w k))) ++ [45]).length ≤ 15 := by rw [List.length_append]; have := hlnhq_36; have := (show [45].length ≤ 1 from Nat.le_refl 1); show _ + _ ≤ _; omega
  have hlohq_48 := z_alw hlohq_36 (z_alw1 (show 45 < 128 by omega))
  have k_51 : h_49 a = some (.inr (1, [.ref lr, .ref ls, .ref lv, .int (nI D), .int (w 2), .int (w 4), .int (w 5), .int (w 6)])) := (z_exB hD0 (by omega) (by omega) (z_exB hD0 (by omega) (by omega) (z_exB hD0 (by omega) (by omega) (z_exT hD0 (by omega) (z_exN z_ex_r hD_1 eh_2) hfrhq_11) hfrhq_23) hfrhq_36) hfrhq_48) _ _ h1
  have k_52 : h_49 lr = some (.inr (20, [.int m0, .ref e0, .int (nI R)])) := (z_exB hD0 (by omega) (by omega) (z_exB hD0 (by omega) (by omega) (z_exB hD0 (by omega) (by omega) (z_exT hD0 (by omega) (z_exN z_ex_r hD_1 eh_2) hfrhq_11) hfrhq_23) hfrhq_36) hfrhq_48) _ _ r1
  have k_53 : h_49 e0 = some (.inl ((zm_G M).2.1 5, N0, .inr (.inr (.inr (.inr f0))))) := (z_exB hD0 (by omega) (by omega) (z_exB hD0 (by omega) (by omega) (z_exB hD0 (by omega) (by omega) (z_exT hD0 (by omega) (z_exN z_ex_r hD_1 eh_2) hfrhq_11) hfrhq_23) hfrhq_36) hfrhq_48) _ _ r2
  have k_54 : h_49 ls = some (.inr (20, [.int m9, .ref e, .int (nI S)])) := (z_exB hD0 (by omega) (by omega) (z_exB hD0 (by omega) (by omega) (z_exB hD0 (by omega) (by omega) (z_exT hD0 (by omega) (z_exN z_ex_r hD_1 eh_2) hfrhq_11) hfrhq_23) hfrhq_36) hfrhq_48) _ _ h3
  have k_55 : h_49 e = some (.inl ((zm_G M).2.1 5, N, .inr (.inr (.inr (.inr f))))) := (z_exB hD0 (by omega) (by omega) (z_exB hD0 (by omega) (by omega) (z_exB hD0 (by omega) (by omega) (z_exT hD0 (by omega) (z_exN z_ex_r hD_1 eh_2) hfrhq_11) hfrhq_23) hfrhq_36) hfrhq_48) _ _ h4
  have k_56 : h_49 lv = some (.inr (20, [.int mv, .ref ev, .int (nI S)])) := (z_exB hD0 (by omega) (by omega) (z_exB hD0 (by omega) (by omega) (z_exB hD0 (by omega) (by omega) (z_exT hD0 (by omega) (z_exN z_ex_r hD_1 eh_2) hfrhq_11) hfrhq_23) hfrhq_36) hfrhq_48) _ _ v1
  have k_57 : h_49 ev = some (.inl ((zm_G M).2.1 5, Nv, .inr (.inr (.inr (.inr fv))))) := (z_exB hD0 (by omega) (by omega) (z_exB hD0 (by omega) (by omega) (z_exB hD0 (by omega) (by omega) (z_exT hD0 (by omega) (z_exN z_ex_r hD_1 eh_2) hfrhq_11) hfrhq_23) hfrhq_36) hfrhq_48) _ _ v2
  have k_58 : h_49 (sa k) = some (.inr (11, [.int (nI 45), .ref (sa (tw_f w k)), .ref (sa (tw_s w k)), .int s9])) := (z_exB hD0 (by omega) (by omega) (z_exB hD0 (by omega) (by omega) (z_exB hD0 (by omega) (by omega) (z_exT hD0 (by omega) (z_exN z_ex_r hD_1 eh_2) hfrhq_11) hfrhq_23) hfrhq_36) hfrhq_48) _ _ hx
  obtain ⟨fsob_59, ob_59⟩ := z_BF.o hbfhq_48
  refine z_aload_n hb dX14_text_30 rfl ?_
  refine z_aload_n hb dX14_text_31 rfl ?_
  refine z_get (k := 2) (C := RX14) (T := TX14) (N := 4) hb ho zc11 in_X14 (zf_RX14_13 _) dX14_text_32 k_58 (by decide) rfl ?_
  refine z_callN1 (b' := 6) (f' := 2088) (rest := [.ref n]) (av := [.ref a, .ref (sa (tw_s w k))]) (z_siteV hb ho zc1 k_51 q2532 q601 q602 ⟨_, _, _, _, zk_X2_indexOf⟩ zy_X2_indexOf zl_X2_indexOf dX14_text_35 : z_Site M _ _ _ _ _ ([.ref (sa (tw_s w k))].reverse ++ .ref a :: [.ref n]) [.ref n] _) zk_X2_indexOf q95 hrm (z_C.rn (m_X2_indexOf (hL.ex (z_exB hD0 (by omega) (by omega) (z_exB hD0 (by omega) (by omega) (z_exB hD0 (by omega) (by omega) (z_exT hD0 (by omega) (z_exN z_ex_r hD_1 eh_2) hfrhq_11) hfrhq_23) hfrhq_36) hfrhq_48)) (show tw_s w k < S by omega))) (by omega) (by decide) (Nat.le_of_ble_eq_true rfl) (by omega) (by omega) (fun n_60 hn_60 => ?_)
  refine z_callQ1 (b' := 5) (f' := 1788) (rest := []) (av := [.ref n, .int (nI (tw_s w k))]) (z_siteV hb ho zc22 ob_59 q2533 q1008 q1009 ⟨_, _, _, _, zk_J5_append_2⟩ zy_J5_append_2 zl_J5_append_2 dX14_text_38 : z_Site M _ _ _ _ _ ([.int (nI (tw_s w k))].reverse ++ .ref n :: []) [] _) zk_J5_append_2 q101 hrm (m_J5_append_I hbfhq_48 ((z_exB hD0 (by omega) (by omega) (z_exB hD0 (by omega) (by omega) (z_exB hD0 (by omega) (by omega) (z_exT hD0 (by omega) (z_exN z_ex_r hD_1 eh_2) hfrhq_11) hfrhq_23) hfrhq_36) hfrhq_48) _ _ hd1) ((z_exB hD0 (by omega) (by omega) (z_exB hD0 (by omega) (by omega) (z_exB hD0 (by omega) (by omega) (z_exT hD0 (by omega) (z_exN z_ex_r hD_1 eh_2) hfrhq_11) hfrhq_23) hfrhq_36) hfrhq_48) _ _ hd2) hn1 (by have := hlnhq_48; omega)) (by omega) (by decide) (Nat.le_of_ble_eq_true rfl) (by omega) (by omega) (fun rhq_61 h_62 n_63 hq_61 hn_63 => ?_)
  obtain ⟨rfl, hq_61⟩ := hq_61
  obtain ⟨e9hq_61, hbfhq_61, heehq_61, hfrhq_61⟩ := hq_61
  have hlnhq_61 : ((((([] : List Nat) ++ (z_lits.getD 51 [])) ++ z_cI (nI (tw_f w k))) ++ [45]) ++ z_cI (nI (tw_s w k))).length ≤ 29 := by rw [List.length_append]; have := hlnhq_48; have := (z_cI_len (x := nI (tw_s w k))); show _ + _ ≤ _; omega
  have hlohq_61 := z_alw hlohq_48 (z_cI_lt (x := nI (tw_s w k)))
  have k_64 : h_62 a = some (.inr (1, [.ref lr, .ref ls, .ref lv, .int (nI D), .int (w 2), .int (w 4), .int (w 5), .int (w 6)])) := (z_exB hD0 (by omega) (by omega) (z_exB hD0 (by omega) (by omega) (z_exB hD0 (by omega) (by omega) (z_exB hD0 (by omega) (by omega) (z_exT hD0 (by omega) (z_exN z_ex_r hD_1 eh_2) hfrhq_11) hfrhq_23) hfrhq_36) hfrhq_48) hfrhq_61) _ _ h1
  have k_65 : h_62 lr = some (.inr (20, [.int m0, .ref e0, .int (nI R)])) := (z_exB hD0 (by omega) (by omega) (z_exB hD0 (by omega) (by omega) (z_exB hD0 (by omega) (by omega) (z_exB hD0 (by omega) (by omega) (z_exT hD0 (by omega) (z_exN z_ex_r hD_1 eh_2) hfrhq_11) hfrhq_23) hfrhq_36) hfrhq_48) hfrhq_61) _ _ r1
  have k_66 : h_62 e0 = some (.inl ((zm_G M).2.1 5, N0, .inr (.inr (.inr (.inr f0))))) := (z_exB hD0 (by omega) (by omega) (z_exB hD0 (by omega) (by omega) (z_exB hD0 (by omega) (by omega) (z_exB hD0 (by omega) (by omega) (z_exT hD0 (by omega) (z_exN z_ex_r hD_1 eh_2) hfrhq_11) hfrhq_23) hfrhq_36) hfrhq_48) hfrhq_61) _ _ r2
  have k_67 : h_62 ls = some (.inr (20, [.int m9, .ref e, .int (nI S)])) := (z_exB hD0 (by omega) (by omega) (z_exB hD0 (by omega) (by omega) (z_exB hD0 (by omega) (by omega) (z_exB hD0 (by omega) (by omega) (z_exT hD0 (by omega) (z_exN z_ex_r hD_1 eh_2) hfrhq_11) hfrhq_23) hfrhq_36) hfrhq_48) hfrhq_61) _ _ h3
  have k_68 : h_62 e = some (.inl ((zm_G M).2.1 5, N, .inr (.inr (.inr (.inr f))))) := (z_exB hD0 (by omega) (by omega) (z_exB hD0 (by omega) (by omega) (z_exB hD0 (by omega) (by omega) (z_exB hD0 (by omega) (by omega) (z_exT hD0 (by omega) (z_exN z_ex_r hD_1 eh_2) hfrhq_11) hfrhq_23) hfrhq_36) hfrhq_48) hfrhq_61) _ _ h4
  have k_69 : h_62 lv = some (.inr (20, [.int mv, .ref ev, .int (nI S)])) := (z_exB hD0 (by omega) (by omega) (z_exB hD0 (by omega) (by omega) (z_exB hD0 (by omega) (by omega) (z_exB hD0 (by omega) (by omega) (z_exT hD0 (by omega) (z_exN z_ex_r hD_1 eh_2) hfrhq_11) hfrhq_23) hfrhq_36) hfrhq_48) hfrhq_61) _ _ v1
  have k_70 : h_62 ev = some (.inl ((zm_G M).2.1 5, Nv, .inr (.inr (.inr (.inr fv))))) := (z_exB hD0 (by omega) (by omega) (z_exB hD0 (by omega) (by omega) (z_exB hD0 (by omega) (by omega) (z_exB hD0 (by omega) (by omega) (z_exT hD0 (by omega) (z_exN z_ex_r hD_1 eh_2) hfrhq_11) hfrhq_23) hfrhq_36) hfrhq_48) hfrhq_61) _ _ v2
  have k_71 : h_62 (sa k) = some (.inr (11, [.int (nI 45), .ref (sa (tw_f w k)), .ref (sa (tw_s w k)), .int s9])) := (z_exB hD0 (by omega) (by omega) (z_exB hD0 (by omega) (by omega) (z_exB hD0 (by omega) (by omega) (z_exB hD0 (by omega) (by omega) (z_exT hD0 (by omega) (z_exN z_ex_r hD_1 eh_2) hfrhq_11) hfrhq_23) hfrhq_36) hfrhq_48) hfrhq_61) _ _ hx
  obtain ⟨fsob_72, ob_72⟩ := z_BF.o hbfhq_61
  refine z_callQ1 (b' := 3) (f' := 1484) (rest := []) (av := [.ref n]) (z_siteV hb ho zc22 ob_72 q2538 q1033 q1034 ⟨_, _, _, _, zk_J5_toString⟩ zy_J5_toString zl_J5_toString dX14_text_41 : z_Site M _ _ _ _ _ ([].reverse ++ .ref n :: []) [] _) zk_J5_toString q101 hrm (m_J5_toString hbfhq_61 (by have := hlnhq_61; omega) hlohq_61) (by omega) (by decide) (Nat.le_of_ble_eq_true rfl) (by omega) (by omega) (fun rhq_73 h_74 n_75 hq_73 hn_75 => ?_)
  obtain ⟨rfl, hq_73⟩ := hq_73
  obtain ⟨hnnhq_73, hsghq_73, hexhq_73⟩ := hq_73
  have k_76 : h_74 a = some (.inr (1, [.ref lr, .ref ls, .ref lv, .int (nI D), .int (w 2), .int (w 4), .int (w 5), .int (w 6)])) := (z_ex_t (z_exB hD0 (by omega) (by omega) (z_exB hD0 (by omega) (by omega) (z_exB hD0 (by omega) (by omega) (z_exB hD0 (by omega) (by omega) (z_exT hD0 (by omega) (z_exN z_ex_r hD_1 eh_2) hfrhq_11) hfrhq_23) hfrhq_36) hfrhq_48) hfrhq_61) hexhq_73) _ _ h1
  have k_77 : h_74 lr = some (.inr (20, [.int m0, .ref e0, .int (nI R)])) := (z_ex_t (z_exB hD0 (by omega) (by omega) (z_exB hD0 (by omega) (by omega) (z_exB hD0 (by omega) (by omega) (z_exB hD0 (by omega) (by omega) (z_exT hD0 (by omega) (z_exN z_ex_r hD_1 eh_2) hfrhq_11) hfrhq_23) hfrhq_36) hfrhq_48) hfrhq_61) hexhq_73) _ _ r1
  have k_78 : h_74 e0 = some (.inl ((zm_G M).2.1 5, N0, .inr (.inr (.inr (.inr f0))))) := (z_ex_t (z_exB hD0 (by omega) (by omega) (z_exB hD0 (by omega) (by omega) (z_exB hD0 (by omega) (by omega) (z_exB hD0 (by omega) (by omega) (z_exT hD0 (by omega) (z_exN z_ex_r hD_1 eh_2) hfrhq_11) hfrhq_23) hfrhq_36) hfrhq_48) hfrhq_61) hexhq_73) _ _ r2
  have k_79 : h_74 ls = some (.inr (20, [.int m9, .ref e, .int (nI S)])) := (z_ex_t (z_exB hD0 (by omega) (by omega) (z_exB hD0 (by omega) (by omega) (z_exB hD0 (by omega) (by omega) (z_exB hD0 (by omega) (by omega) (z_exT hD0 (by omega) (z_exN z_ex_r hD_1 eh_2) hfrhq_11) hfrhq_23) hfrhq_36) hfrhq_48) hfrhq_61) hexhq_73) _ _ h3
  have k_80 : h_74 e = some (.inl ((zm_G M).2.1 5, N, .inr (.inr (.inr (.inr f))))) := (z_ex_t (z_exB hD0 (by omega) (by omega) (z_exB hD0 (by omega) (by omega) (z_exB hD0 (by omega) (by omega) (z_exB hD0 (by omega) (by omega) (z_exT hD0 (by omega) (z_exN z_ex_r hD_1 eh_2) hfrhq_11) hfrhq_23) hfrhq_36) hfrhq_48) hfrhq_61) hexhq_73) _ _ h4
  have k_81 : h_74 lv = some (.inr (20, [.int mv, .ref ev, .int (nI S)])) := (z_ex_t (z_exB hD0 (by omega) (by omega) (z_exB hD0 (by omega) (by omega) (z_exB hD0 (by omega) (by omega) (z_exB hD0 (by omega) (by omega) (z_exT hD0 (by omega) (z_exN z_ex_r hD_1 eh_2) hfrhq_11) hfrhq_23) hfrhq_36) hfrhq_48) hfrhq_61) hexhq_73) _ _ v1
  have k_82 : h_74 ev = some (.inl ((zm_G M).2.1 5, Nv, .inr (.inr (.inr (.inr fv))))) := (z_ex_t (z_exB hD0 (by omega) (by omega) (z_exB hD0 (by omega) (by omega) (z_exB hD0 (by omega) (by omega) (z_exB hD0 (by omega) (by omega) (z_exT hD0 (by omega) (z_exN z_ex_r hD_1 eh_2) hfrhq_11) hfrhq_23) hfrhq_36) hfrhq_48) hfrhq_61) hexhq_73) _ _ v2
  have k_83 : h_74 (sa k) = some (.inr (11, [.int (nI 45), .ref (sa (tw_f w k)), .ref (sa (tw_s w k)), .int s9])) := (z_ex_t (z_exB hD0 (by omega) (by omega) (z_exB hD0 (by omega) (by omega) (z_exB hD0 (by omega) (by omega) (z_exB hD0 (by omega) (by omega) (z_exT hD0 (by omega) (z_exN z_ex_r hD_1 eh_2) hfrhq_11) hfrhq_23) hfrhq_36) hfrhq_48) hfrhq_61) hexhq_73) _ _ hx
  refine z_aret hb hr (Or.inl ⟨_, rfl⟩) (Or.inr ⟨_, rfl⟩) dX14_text_44 ?_
  rw [hQ]
  refine ⟨_, rfl, n_63, rfl, by omega, by omega, ?_, (z_ex_t (z_exB hD0 (by omega) (by omega) (z_exB hD0 (by omega) (by omega) (z_exB hD0 (by omega) (by omega) (z_exB hD0 (by omega) (by omega) (z_exT hD0 (by omega) (z_exN z_ex_r hD_1 eh_2) hfrhq_11) hfrhq_23) hfrhq_36) hfrhq_48) hfrhq_61) hexhq_73)⟩
  have e9 := hsghq_73
  rw [show ((((([] : List Nat) ++ (z_lits.getD 51 [])) ++ z_cI (nI (tw_f w k))) ++ [45]) ++ z_cI (nI (tw_s w k))) = z_cI (nI (tw_f w k)) ++ 45 :: z_cI (nI (tw_s w k)) from by show (z_cI (nI (tw_f w k)) ++ [45]) ++ z_cI (nI (tw_s w k)) = _; rw [List.append_assoc]; rfl] at e9
  exact e9

set_option maxHeartbeats 1000000 in
theorem m_X16_text {l : Launch} {G : zG} {h : zH} {n : Nat} {w : Nat → Int32} {v : Nat → Int64} {R S D a lr ls lv : Nat} {ra sa va : Nat → Nat} {k : Nat} (hL : z_Ln G h w v R S D a lr ls lv ra sa va) (hKS : z_KS G h) (hS8 : S ≤ 8) (hd1 : h (G.2.2.1 1000) = some (z_ab G 100 z_on)) (hd2 : h (G.2.2.1 1001) = some (z_ab G 100 z_tn)) (hn1 : G.2.2.1 1000 < z_n0 G ∧ G.2.2.1 1001 < z_n0 G) (hk : k < S) (hf : tw_f w k < k) (hx : h (sa k) = some (.inr (12, [.ref (sa (tw_f w k)), .int (nI 114)]))) : z_C l G yX16_text 10 12 3608 [.ref (sa k), .ref a] h n (z_q1 (fun r9 h9 n9 => ∃ s, r9 = .ref s ∧ n ≤ s ∧ s < n9 ∧ z_Sg G h9 s (114 :: z_cI (nI (tw_f w k))) (nI 0) ∧ z_ex h h9)) := by
  refine z_start zk_X16_text zpl_RX16 (Nat.le_of_ble_eq_true rfl) ?_
  intro hn0 M hl hG ho hb hN hr hm hH hrm hQ
  subst hl hG
  have ho : zm_o M = RX16 := ho
  obtain ⟨h1, ⟨e0, N0, m0, f0, r1, r2, r3, ⟨r4, r4n⟩, r5⟩, ⟨e, N, m9, f, h3, h4, h5, ⟨h6, h6n⟩, h7⟩, ⟨ev, Nv, mv, fv, v1, v2, v3, ⟨v4, v4n⟩, v5⟩, h9, hs, hv, hi, hrI⟩ := id hL
  show z_V M h n 12 3608 0 [(0, .ref (sa k)), (1, .ref a)] []
  refine z_dom (fun hD0 => ?_)
  refine z_dom (fun hD_1 => ?_)
  refine z_new (N0 := 4) (b' := 11) (f' := 3604) (fs := [.null, .int (nI 0), .int (nI 0), .int (nI 0)]) (C := RJ5) (T := TJ5) (N := 4) hb ho zc22 in_J5 tyJ5_ok q2542 q253 q101 dX16_text_0 (zdf_J5) (by omega) (by omega) ?_
  refine z_hn (fun h_2 eh_2 => ?_)
  have eh_2 : h_2 = z_up h n (.inr (22, [.null, .int (nI 0), .int (nI 0), .int (nI 0)])) := eh_2
  have k_3 : h_2 a = some (.inr (1, [.ref lr, .ref ls, .ref lv, .int (nI D), .int (w 2), .int (w 4), .int (w 5), .int (w 6)])) := z_nx eh_2 (Nat.ne_of_lt (hD_1 _ _ h1)) h1
  have k_4 : h_2 lr = some (.inr (20, [.int m0, .ref e0, .int (nI R)])) := z_nx eh_2 (Nat.ne_of_lt (hD_1 _ _ r1)) r1
  have k_5 : h_2 e0 = some (.inl ((zm_G M).2.1 5, N0, .inr (.inr (.inr (.inr f0))))) := z_nx eh_2 (Nat.ne_of_lt (hD_1 _ _ r2)) r2
  have k_6 : h_2 ls = some (.inr (20, [.int m9, .ref e, .int (nI S)])) := z_nx eh_2 (Nat.ne_of_lt (hD_1 _ _ h3)) h3
  have k_7 : h_2 e = some (.inl ((zm_G M).2.1 5, N, .inr (.inr (.inr (.inr f))))) := z_nx eh_2 (Nat.ne_of_lt (hD_1 _ _ h4)) h4
  have k_8 : h_2 lv = some (.inr (20, [.int mv, .ref ev, .int (nI S)])) := z_nx eh_2 (Nat.ne_of_lt (hD_1 _ _ v1)) v1
  have k_9 : h_2 ev = some (.inl ((zm_G M).2.1 5, Nv, .inr (.inr (.inr (.inr fv))))) := z_nx eh_2 (Nat.ne_of_lt (hD_1 _ _ v2)) v2
  have k_10 : h_2 (sa k) = some (.inr (12, [.ref (sa (tw_f w k)), .int (nI 114)])) := z_nx eh_2 (Nat.ne_of_lt (hD_1 _ _ hx)) hx
  refine z_dup hb dX16_text_3 rfl ?_
  refine z_callQ0 (b' := 10) (f' := 3588) (rest := [.ref n]) (av := [.ref n]) (z_siteI hb ho q2543 q255 q256 rfl zy_J5_init zl_J5_init dX16_text_4 : z_Site M _ _ _ _ _ ([].reverse ++ .ref n :: [.ref n]) [.ref n] _) zk_J5_init q101 hrm (m_J5_init_b (z_nxs eh_2) (by omega) (by omega)) (by omega) (by decide) (Nat.le_of_ble_eq_true rfl) (by omega) (by omega) (fun h_12 n_13 hq_11 hn_13 => ?_)
  obtain ⟨hnnhq_11, hbfhq_11, hfrhq_11⟩ := hq_11
  have k_14 : h_12 a = some (.inr (1, [.ref lr, .ref ls, .ref lv, .int (nI D), .int (w 2), .int (w 4), .int (w 5), .int (w 6)])) := (z_exT hD0 (by omega) (z_exN z_ex_r hD_1 eh_2) hfrhq_11) _ _ h1
  have k_15 : h_12 lr = some (.inr (20, [.int m0, .ref e0, .int (nI R)])) := (z_exT hD0 (by omega) (z_exN z_ex_r hD_1 eh_2) hfrhq_11) _ _ r1
  have k_16 : h_12 e0 = some (.inl ((zm_G M).2.1 5, N0, .inr (.inr (.inr (.inr f0))))) := (z_exT hD0 (by omega) (z_exN z_ex_r hD_1 eh_2) hfrhq_11) _ _ r2
  have k_17 : h_12 ls = some (.inr (20, [.int m9, .ref e, .int (nI S)])) := (z_exT hD0 (by omega) (z_exN z_ex_r hD_1 eh_2) hfrhq_11) _ _ h3
  have k_18 : h_12 e = some (.inl ((zm_G M).2.1 5, N, .inr (.inr (.inr (.inr f))))) := (z_exT hD0 (by omega) (z_exN z_ex_r hD_1 eh_2) hfrhq_11) _ _ h4
  have k_19 : h_12 lv = some (.inr (20, [.int mv, .ref ev, .int (nI S)])) := (z_exT hD0 (by omega) (z_exN z_ex_r hD_1 eh_2) hfrhq_11) _ _ v1
  have k_20 : h_12 ev = some (.inl ((zm_G M).2.1 5, Nv, .inr (.inr (.inr (.inr fv))))) := (z_exT hD0 (by omega) (z_exN z_ex_r hD_1 eh_2) hfrhq_11) _ _ v2
  have k_21 : h_12 (sa k) = some (.inr (12, [.ref (sa (tw_f w k)), .int (nI 114)])) := (z_exT hD0 (by omega) (z_exN z_ex_r hD_1 eh_2) hfrhq_11) _ _ hx
  obtain ⟨fsob_22, ob_22⟩ := z_BF.o hbfhq_11
  refine z_ldcS (i := 52) hb ho rfl rfl rfl dX16_text_7 ?_
  refine z_callQ1 (b' := 9) (f' := 3288) (rest := []) (av := [.ref n, .ref ((zm_G M).2.2.1 52)]) (z_siteV hb ho zc22 ob_22 q2545 q913 q914 ⟨_, _, _, _, zk_J5_append⟩ zy_J5_append zl_J5_append dX16_text_9 : z_Site M _ _ _ _ _ ([.ref ((zm_G M).2.2.1 52)].reverse ++ .ref n :: []) [] _) zk_J5_append q101 hrm (m_J5_append_s hbfhq_11 ((hKS 52 (by decide)).ex (z_exT hD0 (by omega) (z_exN z_ex_r hD_1 eh_2) hfrhq_11)) (by have := (show ([] : List Nat).length ≤ 0 from Nat.le_refl 0); have := (show (z_lits.getD 52 []).length ≤ 0 by decide); omega)) (by omega) (by decide) (Nat.le_of_ble_eq_true rfl) (by omega) (by omega) (fun rhq_23 h_24 n_25 hq_23 hn_25 => ?_)
  obtain ⟨rfl, hq_23⟩ := hq_23
  obtain ⟨e9hq_23, hbfhq_23, heehq_23, hfrhq_23⟩ := hq_23
  have hlnhq_23 : (([] : List Nat) ++ (z_lits.getD 52 [])).length ≤ 0 := by rw [List.length_append]; have := (show ([] : List Nat).length ≤ 0 from Nat.le_refl 0); have := (show (z_lits.getD 52 []).length ≤ 0 by decide); show _ + _ ≤ _; omega
  have hlohq_23 := z_alw (show ∀ b ∈ ([] : List Nat), b < 128 from fun b hb => nomatch hb) (z_lit_lt 52 (by decide))
  have k_26 : h_24 a = some (.inr (1, [.ref lr, .ref ls, .ref lv, .int (nI D), .int (w 2), .int (w 4), .int (w 5), .int (w 6)])) := (z_exB hD0 (by omega) (by omega) (z_exT hD0 (by omega) (z_exN z_ex_r hD_1 eh_2) hfrhq_11) hfrhq_23) _ _ h1
  have k_27 : h_24 lr = some (.inr (20, [.int m0, .ref e0, .int (nI R)])) := (z_exB hD0 (by omega) (by omega) (z_exT hD0 (by omega) (z_exN z_ex_r hD_1 eh_2) hfrhq_11) hfrhq_23) _ _ r1
  have k_28 : h_24 e0 = some (.inl ((zm_G M).2.1 5, N0, .inr (.inr (.inr (.inr f0))))) := (z_exB hD0 (by omega) (by omega) (z_exT hD0 (by omega) (z_exN z_ex_r hD_1 eh_2) hfrhq_11) hfrhq_23) _ _ r2
  have k_29 : h_24 ls = some (.inr (20, [.int m9, .ref e, .int (nI S)])) := (z_exB hD0 (by omega) (by omega) (z_exT hD0 (by omega) (z_exN z_ex_r hD_1 eh_2) hfrhq_11) hfrhq_23) _ _ h3
  have k_30 : h_24 e = some (.inl ((zm_G M).2.1 5, N, .inr (.inr (.inr (.inr f))))) := (z_exB hD0 (by omega) (by omega) (z_exT hD0 (by omega) (z_exN z_ex_r hD_1 eh_2) hfrhq_11) hfrhq_23) _ _ h4
  have k_31 : h_24 lv = some (.inr (20, [.int mv, .ref ev, .int (nI S)])) := (z_exB hD0 (by omega) (by omega) (z_exT hD0 (by omega) (z_exN z_ex_r hD_1 eh_2) hfrhq_11) hfrhq_23) _ _ v1
  have k_32 : h_24 ev = some (.inl ((zm_G M).2.1 5, Nv, .inr (.inr (.inr (.inr fv))))) := (z_exB hD0 (by omega) (by omega) (z_exT hD0 (by omega) (z_exN z_ex_r hD_1 eh_2) hfrhq_11) hfrhq_23) _ _ v2
  have k_33 : h_24 (sa k) = some (.inr (12, [.ref (sa (tw_f w k)), .int (nI 114)])) := (z_exB hD0 (by omega) (by omega) (z_exT hD0 (by omega) (z_exN z_ex_r hD_1 eh_2) hfrhq_11) hfrhq_23) _ _ hx
  obtain ⟨fsob_34, ob_34⟩ := z_BF.o hbfhq_23
  refine z_aload_n hb dX16_text_12 rfl ?_
  refine z_call1 (b' := 9) (f' := 3288) (rest := [.ref n]) (av := [.ref (sa k)]) (z_siteU hb ho zc12 k_33 q2546 q2547 (Or.inl q2502) q1844 q2548 ⟨by decide +kernel, by decide +kernel⟩ (by show _ = some 0; decide +kernel) dX16_text_13 : z_Site M _ _ _ _ _ ([].reverse ++ .ref (sa k) :: [.ref n]) [.ref n] _) zk_X9_kind q127 hrm (m_X9_kind_12 k_33 rfl) (by omega) (by decide) (Nat.le_of_ble_eq_true rfl) (by omega) (by omega) ?_
  refine z_callQ1 (b' := 7) (f' := 2388) (rest := []) (av := [.ref n, .int (nI 114)]) (z_siteV hb ho zc22 ob_34 q2549 q2226 q2227 ⟨_, _, _, _, zk_J5_append_3⟩ zy_J5_append_3 zl_J5_append_3 dX16_text_16 : z_Site M _ _ _ _ _ ([.int (nI 114)].reverse ++ .ref n :: []) [] _) zk_J5_append_3 q101 hrm (m_J5_append_c hbfhq_23 (by omega) (by have := hlnhq_23; omega)) (by omega) (by decide) (Nat.le_of_ble_eq_true rfl) (by omega) (by omega) (fun rhq_35 h_36 n_37 hq_35 hn_37 => ?_)
  obtain ⟨rfl, hq_35⟩ := hq_35
  obtain ⟨e9hq_35, cdhq_35, hbfhq_35, -, heehq_35, hcdhq_35, hfrhq_35⟩ := hq_35
  obtain rfl : cdhq_35 = 0 := hcdhq_35 rfl (by omega)
  have hlnhq_35 : ((([] : List Nat) ++ (z_lits.getD 52 [])) ++ [114]).length ≤ 1 := by rw [List.length_append]; have := hlnhq_23; have := (show [114].length ≤ 1 from Nat.le_refl 1); show _ + _ ≤ _; omega
  have hlohq_35 := z_alw hlohq_23 (z_alw1 (show 114 < 128 by omega))
  have k_38 : h_36 a = some (.inr (1, [.ref lr, .ref ls, .ref lv, .int (nI D), .int (w 2), .int (w 4), .int (w 5), .int (w 6)])) := (z_exB hD0 (by omega) (by omega) (z_exB hD0 (by omega) (by omega) (z_exT hD0 (by omega) (z_exN z_ex_r hD_1 eh_2) hfrhq_11) hfrhq_23) hfrhq_35) _ _ h1
  have k_39 : h_36 lr = some (.inr (20, [.int m0, .ref e0, .int (nI R)])) := (z_exB hD0 (by omega) (by omega) (z_exB hD0 (by omega) (by omega) (z_exT hD0 (by omega) (z_exN z_ex_r hD_1 eh_2) hfrhq_11) hfrhq_23) hfrhq_35) _ _ r1
  have k_40 : h_36 e0 = some (.inl ((zm_G M).2.1 5, N0, .inr (.inr (.inr (.inr f0))))) := (z_exB hD0 (by omega) (by omega) (z_exB hD0 (by omega) (by omega) (z_exT hD0 (by omega) (z_exN z_ex_r hD_1 eh_2) hfrhq_11) hfrhq_23) hfrhq_35) _ _ r2
  have k_41 : h_36 ls = some (.inr (20, [.int m9, .ref e, .int (nI S)])) := (z_exB hD0 (by omega) (by omega) (z_exB hD0 (by omega) (by omega) (z_exT hD0 (by omega) (z_exN z_ex_r hD_1 eh_2) hfrhq_11) hfrhq_23) hfrhq_35) _ _ h3
  have k_42 : h_36 e = some (.inl ((zm_G M).2.1 5, N, .inr (.inr (.inr (.inr f))))) := (z_exB hD0 (by omega) (by omega) (z_exB hD0 (by omega) (by omega) (z_exT hD0 (by omega) (z_exN z_ex_r hD_1 eh_2) hfrhq_11) hfrhq_23) hfrhq_35) _ _ h4
  have k_43 : h_36 lv = some (.inr (20, [.int mv, .ref ev, .int (nI S)])) := (z_exB hD0 (by omega) (by omega) (z_exB hD0 (by omega) (by omega) (z_exT hD0 (by omega) (z_exN z_ex_r hD_1 eh_2) hfrhq_11) hfrhq_23) hfrhq_35) _ _ v1
  have k_44 : h_36 ev = some (.inl ((zm_G M).2.1 5, Nv, .inr (.inr (.inr (.inr fv))))) := (z_exB hD0 (by omega) (by omega) (z_exB hD0 (by omega) (by omega) (z_exT hD0 (by omega) (z_exN z_ex_r hD_1 eh_2) hfrhq_11) hfrhq_23) hfrhq_35) _ _ v2
  have k_45 : h_36 (sa k) = some (.inr (12, [.ref (sa (tw_f w k)), .int (nI 114)])) := (z_exB hD0 (by omega) (by omega) (z_exB hD0 (by omega) (by omega) (z_exT hD0 (by omega) (z_exN z_ex_r hD_1 eh_2) hfrhq_11) hfrhq_23) hfrhq_35) _ _ hx
  obtain ⟨fsob_46, ob_46⟩ := z_BF.o hbfhq_35
  refine z_aload_n hb dX16_text_19 rfl ?_
  refine z_aload_n hb dX16_text_20 rfl ?_
  refine z_call1 (b' := 7) (f' := 2388) (rest := [.ref a, .ref n]) (av := [.ref (sa k)]) (z_siteU hb ho zc12 k_45 q751 q752 (Or.inl q689) q691 q753 ⟨by decide +kernel, by decide +kernel⟩ (by show _ = some 0; decide +kernel) dX16_text_21 : z_Site M _ _ _ _ _ ([].reverse ++ .ref (sa k) :: [.ref a, .ref n]) [.ref a, .ref n] _) zk_X15_input q134 hrm (m_X15_input_12 k_45) (by omega) (by decide) (Nat.le_of_ble_eq_true rfl) (by omega) (by omega) ?_
  refine z_callN1 (b' := 7) (f' := 2388) (rest := [.ref n]) (av := [.ref a, .ref (sa (tw_f w k))]) (z_siteV hb ho zc1 k_38 q2550 q601 q602 ⟨_, _, _, _, zk_X2_indexOf⟩ zy_X2_indexOf zl_X2_indexOf dX16_text_24 : z_Site M _ _ _ _ _ ([.ref (sa (tw_f w k))].reverse ++ .ref a :: [.ref n]) [.ref n] _) zk_X2_indexOf q95 hrm (z_C.rn (m_X2_indexOf (hL.ex (z_exB hD0 (by omega) (by omega) (z_exB hD0 (by omega) (by omega) (z_exT hD0 (by omega) (z_exN z_ex_r hD_1 eh_2) hfrhq_11) hfrhq_23) hfrhq_35)) (show tw_f w k < S by omega))) (by omega) (by decide) (Nat.le_of_ble_eq_true rfl) (by omega) (by omega) (fun n_47 hn_47 => ?_)
  refine z_callQ1 (b' := 6) (f' := 2088) (rest := []) (av := [.ref n, .int (nI (tw_f w k))]) (z_siteV hb ho zc22 ob_46 q2551 q1008 q1009 ⟨_, _, _, _, zk_J5_append_2⟩ zy_J5_append_2 zl_J5_append_2 dX16_text_27 : z_Site M _ _ _ _ _ ([.int (nI (tw_f w k))].reverse ++ .ref n :: []) [] _) zk_J5_append_2 q101 hrm (m_J5_append_I hbfhq_35 ((z_exB hD0 (by omega) (by omega) (z_exB hD0 (by omega) (by omega) (z_exT hD0 (by omega) (z_exN z_ex_r hD_1 eh_2) hfrhq_11) hfrhq_23) hfrhq_35) _ _ hd1) ((z_exB hD0 (by omega) (by omega) (z_exB hD0 (by omega) (by omega) (z_exT hD0 (by omega) (z_exN z_ex_r hD_1 eh_2) hfrhq_11) hfrhq_23) hfrhq_35) _ _ hd2) hn1 (by have := hlnhq_35; omega)) (by omega) (by decide) (Nat.le_of_ble_eq_true rfl) (by omega) (by omega) (fun rhq_48 h_49 n_50 hq_48 hn_50 => ?_)
  obtain ⟨rfl, hq_48⟩ := hq_48
  obtain ⟨e9hq_48, hbfhq_48, heehq_48, hfrhq_48⟩ := hq_48
  have hlnhq_48 : (((([] : List Nat) ++ (z_lits.getD 52 [])) ++ [114]) ++ z_cI (nI (tw_f w k))).length ≤ 15 := by rw [List.length_append]; have := hlnhq_35; have := (z_cI_len (x := nI (tw_f w k))); show _ + _ ≤ _; omega
  have hlohq_48 := z_alw hlohq_35 (z_cI_lt (x := nI (tw_f w k)))
  have k_51 : h_49 a = some (.inr (1, [.ref lr, .ref ls, .ref lv, .int (nI D), .int (w 2), .int (w 4), .int (w 5), .int (w 6)])) := (z_exB hD0 (by omega) (by omega) (z_exB hD0 (by omega) (by omega) (z_exB hD0 (by omega) (by omega) (z_exT hD0 (by omega) (z_exN z_ex_r hD_1 eh_2) hfrhq_11) hfrhq_23) hfrhq_35) hfrhq_48) _ _ h1
  have k_52 : h_49 lr = some (.inr (20, [.int m0, .ref e0, .int (nI R)])) := (z_exB hD0 (by omega) (by omega) (z_exB hD0 (by omega) (by omega) (z_exB hD0 (by omega) (by omega) (z_exT hD0 (by omega) (z_exN z_ex_r hD_1 eh_2) hfrhq_11) hfrhq_23) hfrhq_35) hfrhq_48) _ _ r1
  have k_53 : h_49 e0 = some (.inl ((zm_G M).2.1 5, N0, .inr (.inr (.inr (.inr f0))))) := (z_exB hD0 (by omega) (by omega) (z_exB hD0 (by omega) (by omega) (z_exB hD0 (by omega) (by omega) (z_exT hD0 (by omega) (z_exN z_ex_r hD_1 eh_2) hfrhq_11) hfrhq_23) hfrhq_35) hfrhq_48) _ _ r2
  have k_54 : h_49 ls = some (.inr (20, [.int m9, .ref e, .int (nI S)])) := (z_exB hD0 (by omega) (by omega) (z_exB hD0 (by omega) (by omega) (z_exB hD0 (by omega) (by omega) (z_exT hD0 (by omega) (z_exN z_ex_r hD_1 eh_2) hfrhq_11) hfrhq_23) hfrhq_35) hfrhq_48) _ _ h3
  have k_55 : h_49 e = some (.inl ((zm_G M).2.1 5, N, .inr (.inr (.inr (.inr f))))) := (z_exB hD0 (by omega) (by omega) (z_exB hD0 (by omega) (by omega) (z_exB hD0 (by omega) (by omega) (z_exT hD0 (by omega) (z_exN z_ex_r hD_1 eh_2) hfrhq_11) hfrhq_23) hfrhq_35) hfrhq_48) _ _ h4
  have k_56 : h_49 lv = some (.inr (20, [.int mv, .ref ev, .int (nI S)])) := (z_exB hD0 (by omega) (by omega) (z_exB hD0 (by omega) (by omega) (z_exB hD0 (by omega) (by omega) (z_exT hD0 (by omega) (z_exN z_ex_r hD_1 eh_2) hfrhq_11) hfrhq_23) hfrhq_35) hfrhq_48) _ _ v1
  have k_57 : h_49 ev = some (.inl ((zm_G M).2.1 5, Nv, .inr (.inr (.inr (.inr fv))))) := (z_exB hD0 (by omega) (by omega) (z_exB hD0 (by omega) (by omega) (z_exB hD0 (by omega) (by omega) (z_exT hD0 (by omega) (z_exN z_ex_r hD_1 eh_2) hfrhq_11) hfrhq_23) hfrhq_35) hfrhq_48) _ _ v2
  have k_58 : h_49 (sa k) = some (.inr (12, [.ref (sa (tw_f w k)), .int (nI 114)])) := (z_exB hD0 (by omega) (by omega) (z_exB hD0 (by omega) (by omega) (z_exB hD0 (by omega) (by omega) (z_exT hD0 (by omega) (z_exN z_ex_r hD_1 eh_2) hfrhq_11) hfrhq_23) hfrhq_35) hfrhq_48) _ _ hx
  obtain ⟨fsob_59, ob_59⟩ := z_BF.o hbfhq_48
  refine z_callQ1 (b' := 4) (f' := 1784) (rest := []) (av := [.ref n]) (z_siteV hb ho zc22 ob_59 q2552 q1033 q1034 ⟨_, _, _, _, zk_J5_toString⟩ zy_J5_toString zl_J5_toString dX16_text_30 : z_Site M _ _ _ _ _ ([].reverse ++ .ref n :: []) [] _) zk_J5_toString q101 hrm (m_J5_toString hbfhq_48 (by have := hlnhq_48; omega) hlohq_48) (by omega) (by decide) (Nat.le_of_ble_eq_true rfl) (by omega) (by omega) (fun rhq_60 h_61 n_62 hq_60 hn_62 => ?_)
  obtain ⟨rfl, hq_60⟩ := hq_60
  obtain ⟨hnnhq_60, hsghq_60, hexhq_60⟩ := hq_60
  have k_63 : h_61 a = some (.inr (1, [.ref lr, .ref ls, .ref lv, .int (nI D), .int (w 2), .int (w 4), .int (w 5), .int (w 6)])) := (z_ex_t (z_exB hD0 (by omega) (by omega) (z_exB hD0 (by omega) (by omega) (z_exB hD0 (by omega) (by omega) (z_exT hD0 (by omega) (z_exN z_ex_r hD_1 eh_2) hfrhq_11) hfrhq_23) hfrhq_35) hfrhq_48) hexhq_60) _ _ h1
  have k_64 : h_61 lr = some (.inr (20, [.int m0, .ref e0, .int (nI R)])) := (z_ex_t (z_exB hD0 (by omega) (by omega) (z_exB hD0 (by omega) (by omega) (z_exB hD0 (by omega) (by omega) (z_exT hD0 (by omega) (z_exN z_ex_r hD_1 eh_2) hfrhq_11) hfrhq_23) hfrhq_35) hfrhq_48) hexhq_60) _ _ r1
  have k_65 : h_61 e0 = some (.inl ((zm_G M).2.1 5, N0, .inr (.inr (.inr (.inr f0))))) := (z_ex_t (z_exB hD0 (by omega) (by omega) (z_exB hD0 (by omega) (by omega) (z_exB hD0 (by omega) (by omega) (z_exT hD0 (by omega) (z_exN z_ex_r hD_1 eh_2) hfrhq_11) hfrhq_23) hfrhq_35) hfrhq_48) hexhq_60) _ _ r2
  have k_66 : h_61 ls = some (.inr (20, [.int m9, .ref e, .int (nI S)])) := (z_ex_t (z_exB hD0 (by omega) (by omega) (z_exB hD0 (by omega) (by omega) (z_exB hD0 (by omega) (by omega) (z_exT hD0 (by omega) (z_exN z_ex_r hD_1 eh_2) hfrhq_11) hfrhq_23) hfrhq_35) hfrhq_48) hexhq_60) _ _ h3
  have k_67 : h_61 e = some (.inl ((zm_G M).2.1 5, N, .inr (.inr (.inr (.inr f))))) := (z_ex_t (z_exB hD0 (by omega) (by omega) (z_exB hD0 (by omega) (by omega) (z_exB hD0 (by omega) (by omega) (z_exT hD0 (by omega) (z_exN z_ex_r hD_1 eh_2) hfrhq_11) hfrhq_23) hfrhq_35) hfrhq_48) hexhq_60) _ _ h4
  have k_68 : h_61 lv = some (.inr (20, [.int mv, .ref ev, .int (nI S)])) := (z_ex_t (z_exB hD0 (by omega) (by omega) (z_exB hD0 (by omega) (by omega) (z_exB hD0 (by omega) (by omega) (z_exT hD0 (by omega) (z_exN z_ex_r hD_1 eh_2) hfrhq_11) hfrhq_23) hfrhq_35) hfrhq_48) hexhq_60) _ _ v1
  have k_69 : h_61 ev = some (.inl ((zm_G M).2.1 5, Nv, .inr (.inr (.inr (.inr fv))))) := (z_ex_t (z_exB hD0 (by omega) (by omega) (z_exB hD0 (by omega) (by omega) (z_exB hD0 (by omega) (by omega) (z_exT hD0 (by omega) (z_exN z_ex_r hD_1 eh_2) hfrhq_11) hfrhq_23) hfrhq_35) hfrhq_48) hexhq_60) _ _ v2
  have k_70 : h_61 (sa k) = some (.inr (12, [.ref (sa (tw_f w k)), .int (nI 114)])) := (z_ex_t (z_exB hD0 (by omega) (by omega) (z_exB hD0 (by omega) (by omega) (z_exB hD0 (by omega) (by omega) (z_exT hD0 (by omega) (z_exN z_ex_r hD_1 eh_2) hfrhq_11) hfrhq_23) hfrhq_35) hfrhq_48) hexhq_60) _ _ hx
  refine z_aret hb hr (Or.inl ⟨_, rfl⟩) (Or.inr ⟨_, rfl⟩) dX16_text_33 ?_
  rw [hQ]
  exact ⟨_, rfl, n_50, rfl, by omega, by omega, hsghq_60, (z_ex_t (z_exB hD0 (by omega) (by omega) (z_exB hD0 (by omega) (by omega) (z_exB hD0 (by omega) (by omega) (z_exT hD0 (by omega) (z_exN z_ex_r hD_1 eh_2) hfrhq_11) hfrhq_23) hfrhq_35) hfrhq_48) hexhq_60)⟩

set_option maxHeartbeats 1000000 in
theorem m_X17_text {l : Launch} {G : zG} {h : zH} {n : Nat} {w : Nat → Int32} {v : Nat → Int64} {R S D a lr ls lv : Nat} {ra sa va : Nat → Nat} {k : Nat} (hL : z_Ln G h w v R S D a lr ls lv ra sa va) (hKS : z_KS G h) (hS8 : S ≤ 8) (hd1 : h (G.2.2.1 1000) = some (z_ab G 100 z_on)) (hd2 : h (G.2.2.1 1001) = some (z_ab G 100 z_tn)) (hn1 : G.2.2.1 1000 < z_n0 G ∧ G.2.2.1 1001 < z_n0 G) (hk : k < S) (hf : tw_f w k < k) (hx : h (sa k) = some (.inr (13, [.ref (sa (tw_f w k)), .int (nI 107), .int (w (176 + 4 * k + 1))]))) : z_C l G yX17_text 10 12 3608 [.ref (sa k), .ref a] h n (z_q1 (fun r9 h9 n9 => ∃ s, r9 = .ref s ∧ n ≤ s ∧ s < n9 ∧ z_Sg G h9 s (107 :: (z_cI (nI (tw_f w k)) ++ 62 :: z_cI (w (176 + 4 * k + 1)))) (nI 0) ∧ z_ex h h9)) := by
  refine z_start zk_X17_text zpl_RX17 (Nat.le_of_ble_eq_true rfl) ?_
  intro hn0 M hl hG ho hb hN hr hm hH hrm hQ
  subst hl hG
  have ho : zm_o M = RX17 := ho
  obtain ⟨h1, ⟨e0, N0, m0, f0, r1, r2, r3, ⟨r4, r4n⟩, r5⟩, ⟨e, N, m9, f, h3, h4, h5, ⟨h6, h6n⟩, h7⟩, ⟨ev, Nv, mv, fv, v1, v2, v3, ⟨v4, v4n⟩, v5⟩, h9, hs, hv, hi, hrI⟩ := id hL
  show z_V M h n 12 3608 0 [(0, .ref (sa k)), (1, .ref a)] []
  refine z_dom (fun hD0 => ?_)
  refine z_dom (fun hD_1 => ?_)
  refine z_new (N0 := 4) (b' := 11) (f' := 3604) (fs := [.null, .int (nI 0), .int (nI 0), .int (nI 0)]) (C := RJ5) (T := TJ5) (N := 4) hb ho zc22 in_J5 tyJ5_ok q2496 q253 q101 dX17_text_0 (zdf_J5) (by omega) (by omega) ?_
  refine z_hn (fun h_2 eh_2 => ?_)
  have eh_2 : h_2 = z_up h n (.inr (22, [.null, .int (nI 0), .int (nI 0), .int (nI 0)])) := eh_2
  have k_3 : h_2 a = some (.inr (1, [.ref lr, .ref ls, .ref lv, .int (nI D), .int (w 2), .int (w 4), .int (w 5), .int (w 6)])) := z_nx eh_2 (Nat.ne_of_lt (hD_1 _ _ h1)) h1
  have k_4 : h_2 lr = some (.inr (20, [.int m0, .ref e0, .int (nI R)])) := z_nx eh_2 (Nat.ne_of_lt (hD_1 _ _ r1)) r1
  have k_5 : h_2 e0 = some (.inl ((zm_G M).2.1 5, N0, .inr (.inr (.inr (.inr f0))))) := z_nx eh_2 (Nat.ne_of_lt (hD_1 _ _ r2)) r2
  have k_6 : h_2 ls = some (.inr (20, [.int m9, .ref e, .int (nI S)])) := z_nx eh_2 (Nat.ne_of_lt (hD_1 _ _ h3)) h3
  have k_7 : h_2 e = some (.inl ((zm_G M).2.1 5, N, .inr (.inr (.inr (.inr f))))) := z_nx eh_2 (Nat.ne_of_lt (hD_1 _ _ h4)) h4
  have k_8 : h_2 lv = some (.inr (20, [.int mv, .ref ev, .int (nI S)])) := z_nx eh_2 (Nat.ne_of_lt (hD_1 _ _ v1)) v1
  have k_9 : h_2 ev = some (.inl ((zm_G M).2.1 5, Nv, .inr (.inr (.inr (.inr fv))))) := z_nx eh_2 (Nat.ne_of_lt (hD_1 _ _ v2)) v2
  have k_10 : h_2 (sa k) = some (.inr (13, [.ref (sa (tw_f w k)), .int (nI 107), .int (w (176 + 4 * k + 1))])) := z_nx eh_2 (Nat.ne_of_lt (hD_1 _ _ hx)) hx
  refine z_dup hb dX17_text_3 rfl ?_
  refine z_callQ0 (b' := 10) (f' := 3588) (rest := [.ref n]) (av := [.ref n]) (z_siteI hb ho q2497 q255 q256 rfl zy_J5_init zl_J5_init dX17_text_4 : z_Site M _ _ _ _ _ ([].reverse ++ .ref n :: [.ref n]) [.ref n] _) zk_J5_init q101 hrm (m_J5_init_b (z_nxs eh_2) (by omega) (by omega)) (by omega) (by decide) (Nat.le_of_ble_eq_true rfl) (by omega) (by omega) (fun h_12 n_13 hq_11 hn_13 => ?_)
  obtain ⟨hnnhq_11, hbfhq_11, hfrhq_11⟩ := hq_11
  have k_14 : h_12 a = some (.inr (1, [.ref lr, .ref ls, .ref lv, .int (nI D), .int (w 2), .int (w 4), .int (w 5), .int (w 6)])) := (z_exT hD0 (by omega) (z_exN z_ex_r hD_1 eh_2) hfrhq_11) _ _ h1
  have k_15 : h_12 lr = some (.inr (20, [.int m0, .ref e0, .int (nI R)])) := (z_exT hD0 (by omega) (z_exN z_ex_r hD_1 eh_2) hfrhq_11) _ _ r1
  have k_16 : h_12 e0 = some (.inl ((zm_G M).2.1 5, N0, .inr (.inr (.inr (.inr f0))))) := (z_exT hD0 (by omega) (z_exN z_ex_r hD_1 eh_2) hfrhq_11) _ _ r2
  have k_17 : h_12 ls = some (.inr (20, [.int m9, .ref e, .int (nI S)])) := (z_exT hD0 (by omega) (z_exN z_ex_r hD_1 eh_2) hfrhq_11) _ _ h3
  have k_18 : h_12 e = some (.inl ((zm_G M).2.1 5, N, .inr (.inr (.inr (.inr f))))) := (z_exT hD0 (by omega) (z_exN z_ex_r hD_1 eh_2) hfrhq_11) _ _ h4
  have k_19 : h_12 lv = some (.inr (20, [.int mv, .ref ev, .int (nI S)])) := (z_exT hD0 (by omega) (z_exN z_ex_r hD_1 eh_2) hfrhq_11) _ _ v1
  have k_20 : h_12 ev = some (.inl ((zm_G M).2.1 5, Nv, .inr (.inr (.inr (.inr fv))))) := (z_exT hD0 (by omega) (z_exN z_ex_r hD_1 eh_2) hfrhq_11) _ _ v2
  have k_21 : h_12 (sa k) = some (.inr (13, [.ref (sa (tw_f w k)), .int (nI 107), .int (w (176 + 4 * k + 1))])) := (z_exT hD0 (by omega) (z_exN z_ex_r hD_1 eh_2) hfrhq_11) _ _ hx
  obtain ⟨fsob_22, ob_22⟩ := z_BF.o hbfhq_11
  refine z_ldcS (i := 48) hb ho rfl rfl rfl dX17_text_7 ?_
  refine z_callQ1 (b' := 9) (f' := 3288) (rest := []) (av := [.ref n, .ref ((zm_G M).2.2.1 48)]) (z_siteV hb ho zc22 ob_22 q2499 q913 q914 ⟨_, _, _, _, zk_J5_append⟩ zy_J5_append zl_J5_append dX17_text_9 : z_Site M _ _ _ _ _ ([.ref ((zm_G M).2.2.1 48)].reverse ++ .ref n :: []) [] _) zk_J5_append q101 hrm (m_J5_append_s hbfhq_11 ((hKS 48 (by decide)).ex (z_exT hD0 (by omega) (z_exN z_ex_r hD_1 eh_2) hfrhq_11)) (by have := (show ([] : List Nat).length ≤ 0 from Nat.le_refl 0); have := (show (z_lits.getD 48 []).length ≤ 0 by decide); omega)) (by omega) (by decide) (Nat.le_of_ble_eq_true rfl) (by omega) (by omega) (fun rhq_23 h_24 n_25 hq_23 hn_25 => ?_)
  obtain ⟨rfl, hq_23⟩ := hq_23
  obtain ⟨e9hq_23, hbfhq_23, heehq_23, hfrhq_23⟩ := hq_23
  have hlnhq_23 : (([] : List Nat) ++ (z_lits.getD 48 [])).length ≤ 0 := by rw [List.length_append]; have := (show ([] : List Nat).length ≤ 0 from Nat.le_refl 0); have := (show (z_lits.getD 48 []).length ≤ 0 by decide); show _ + _ ≤ _; omega
  have hlohq_23 := z_alw (show ∀ b ∈ ([] : List Nat), b < 128 from fun b hb => nomatch hb) (z_lit_lt 48 (by decide))
  have k_26 : h_24 a = some (.inr (1, [.ref lr, .ref ls, .ref lv, .int (nI D), .int (w 2), .int (w 4), .int (w 5), .int (w 6)])) := (z_exB hD0 (by omega) (by omega) (z_exT hD0 (by omega) (z_exN z_ex_r hD_1 eh_2) hfrhq_11) hfrhq_23) _ _ h1
  have k_27 : h_24 lr = some (.inr (20, [.int m0, .ref e0, .int (nI R)])) := (z_exB hD0 (by omega) (by omega) (z_exT hD0 (by omega) (z_exN z_ex_r hD_1 eh_2) hfrhq_11) hfrhq_23) _ _ r1
  have k_28 : h_24 e0 = some (.inl ((zm_G M).2.1 5, N0, .inr (.inr (.inr (.inr f0))))) := (z_exB hD0 (by omega) (by omega) (z_exT hD0 (by omega) (z_exN z_ex_r hD_1 eh_2) hfrhq_11) hfrhq_23) _ _ r2
  have k_29 : h_24 ls = some (.inr (20, [.int m9, .ref e, .int (nI S)])) := (z_exB hD0 (by omega) (by omega) (z_exT hD0 (by omega) (z_exN z_ex_r hD_1 eh_2) hfrhq_11) hfrhq_23) _ _ h3
  have k_30 : h_24 e = some (.inl ((zm_G M).2.1 5, N, .inr (.inr (.inr (.inr f))))) := (z_exB hD0 (by omega) (by omega) (z_exT hD0 (by omega) (z_exN z_ex_r hD_1 eh_2) hfrhq_11) hfrhq_23) _ _ h4
  have k_31 : h_24 lv = some (.inr (20, [.int mv, .ref ev, .int (nI S)])) := (z_exB hD0 (by omega) (by omega) (z_exT hD0 (by omega) (z_exN z_ex_r hD_1 eh_2) hfrhq_11) hfrhq_23) _ _ v1
  have k_32 : h_24 ev = some (.inl ((zm_G M).2.1 5, Nv, .inr (.inr (.inr (.inr fv))))) := (z_exB hD0 (by omega) (by omega) (z_exT hD0 (by omega) (z_exN z_ex_r hD_1 eh_2) hfrhq_11) hfrhq_23) _ _ v2
  have k_33 : h_24 (sa k) = some (.inr (13, [.ref (sa (tw_f w k)), .int (nI 107), .int (w (176 + 4 * k + 1))])) := (z_exB hD0 (by omega) (by omega) (z_exT hD0 (by omega) (z_exN z_ex_r hD_1 eh_2) hfrhq_11) hfrhq_23) _ _ hx
  obtain ⟨fsob_34, ob_34⟩ := z_BF.o hbfhq_23
  refine z_aload_n hb dX17_text_12 rfl ?_
  refine z_call1 (b' := 9) (f' := 3288) (rest := [.ref n]) (av := [.ref (sa k)]) (z_siteU hb ho zc13 k_33 q2500 q2501 (Or.inl q2502) q1844 q2503 ⟨by decide +kernel, by decide +kernel⟩ (by show _ = some 0; decide +kernel) dX17_text_13 : z_Site M _ _ _ _ _ ([].reverse ++ .ref (sa k) :: [.ref n]) [.ref n] _) zk_X9_kind q127 hrm (m_X9_kind_13 k_33 rfl) (by omega) (by decide) (Nat.le_of_ble_eq_true rfl) (by omega) (by omega) ?_
  refine z_callQ1 (b' := 7) (f' := 2388) (rest := []) (av := [.ref n, .int (nI 107)]) (z_siteV hb ho zc22 ob_34 q2504 q2226 q2227 ⟨_, _, _, _, zk_J5_append_3⟩ zy_J5_append_3 zl_J5_append_3 dX17_text_16 : z_Site M _ _ _ _ _ ([.int (nI 107)].reverse ++ .ref n :: []) [] _) zk_J5_append_3 q101 hrm (m_J5_append_c hbfhq_23 (by omega) (by have := hlnhq_23; omega)) (by omega) (by decide) (Nat.le_of_ble_eq_true rfl) (by omega) (by omega) (fun rhq_35 h_36 n_37 hq_35 hn_37 => ?_)
  obtain ⟨rfl, hq_35⟩ := hq_35
  obtain ⟨e9hq_35, cdhq_35, hbfhq_35, -, heehq_35, hcdhq_35, hfrhq_35⟩ := hq_35
  obtain rfl : cdhq_35 = 0 := hcdhq_35 rfl (by omega)
  have hlnhq_35 : ((([] : List Nat) ++ (z_lits.getD 48 [])) ++ [107]).length ≤ 1 := by rw [List.length_append]; have := hlnhq_23; have := (show [107].length ≤ 1 from Nat.le_refl 1); show _ + _ ≤ _; omega
  have hlohq_35 := z_alw hlohq_23 (z_alw1 (show 107 < 128 by omega))
  have k_38 : h_36 a = some (.inr (1, [.ref lr, .ref ls, .ref lv, .int (nI D), .int (w 2), .int (w 4), .int (w 5), .int (w 6)])) := (z_exB hD0 (by omega) (by omega) (z_exB hD0 (by omega) (by omega) (z_exT hD0 (by omega) (z_exN z_ex_r hD_1 eh_2) hfrhq_11) hfrhq_23) hfrhq_35) _ _ h1
  have k_39 : h_36 lr = some (.inr (20, [.int m0, .ref e0, .int (nI R)])) := (z_exB hD0 (by omega) (by omega) (z_exB hD0 (by omega) (by omega) (z_exT hD0 (by omega) (z_exN z_ex_r hD_1 eh_2) hfrhq_11) hfrhq_23) hfrhq_35) _ _ r1
  have k_40 : h_36 e0 = some (.inl ((zm_G M).2.1 5, N0, .inr (.inr (.inr (.inr f0))))) := (z_exB hD0 (by omega) (by omega) (z_exB hD0 (by omega) (by omega) (z_exT hD0 (by omega) (z_exN z_ex_r hD_1 eh_2) hfrhq_11) hfrhq_23) hfrhq_35) _ _ r2
  have k_41 : h_36 ls = some (.inr (20, [.int m9, .ref e, .int (nI S)])) := (z_exB hD0 (by omega) (by omega) (z_exB hD0 (by omega) (by omega) (z_exT hD0 (by omega) (z_exN z_ex_r hD_1 eh_2) hfrhq_11) hfrhq_23) hfrhq_35) _ _ h3
  have k_42 : h_36 e = some (.inl ((zm_G M).2.1 5, N, .inr (.inr (.inr (.inr f))))) := (z_exB hD0 (by omega) (by omega) (z_exB hD0 (by omega) (by omega) (z_exT hD0 (by omega) (z_exN z_ex_r hD_1 eh_2) hfrhq_11) hfrhq_23) hfrhq_35) _ _ h4
  have k_43 : h_36 lv = some (.inr (20, [.int mv, .ref ev, .int (nI S)])) := (z_exB hD0 (by omega) (by omega) (z_exB hD0 (by omega) (by omega) (z_exT hD0 (by omega) (z_exN z_ex_r hD_1 eh_2) hfrhq_11) hfrhq_23) hfrhq_35) _ _ v1
  have k_44 : h_36 ev = some (.inl ((zm_G M).2.1 5, Nv, .inr (.inr (.inr (.inr fv))))) := (z_exB hD0 (by omega) (by omega) (z_exB hD0 (by omega) (by omega) (z_exT hD0 (by omega) (z_exN z_ex_r hD_1 eh_2) hfrhq_11) hfrhq_23) hfrhq_35) _ _ v2
  have k_45 : h_36 (sa k) = some (.inr (13, [.ref (sa (tw_f w k)), .int (nI 107), .int (w (176 + 4 * k + 1))])) := (z_exB hD0 (by omega) (by omega) (z_exB hD0 (by omega) (by omega) (z_exT hD0 (by omega) (z_exN z_ex_r hD_1 eh_2) hfrhq_11) hfrhq_23) hfrhq_35) _ _ hx
  obtain ⟨fsob_46, ob_46⟩ := z_BF.o hbfhq_35
  refine z_aload_n hb dX17_text_19 rfl ?_
  refine z_aload_n hb dX17_text_20 rfl ?_
  refine z_call1 (b' := 7) (f' := 2388) (rest := [.ref a, .ref n]) (av := [.ref (sa k)]) (z_siteU hb ho zc13 k_45 q687 q688 (Or.inl q689) q691 q690 ⟨by decide +kernel, by decide +kernel⟩ (by show _ = some 0; decide +kernel) dX17_text_21 : z_Site M _ _ _ _ _ ([].reverse ++ .ref (sa k) :: [.ref a, .ref n]) [.ref a, .ref n] _) zk_X15_input q134 hrm (m_X15_input_13 k_45) (by omega) (by decide) (Nat.le_of_ble_eq_true rfl) (by omega) (by omega) ?_
  refine z_callN1 (b' := 7) (f' := 2388) (rest := [.ref n]) (av := [.ref a, .ref (sa (tw_f w k))]) (z_siteV hb ho zc1 k_38 q2505 q601 q602 ⟨_, _, _, _, zk_X2_indexOf⟩ zy_X2_indexOf zl_X2_indexOf dX17_text_24 : z_Site M _ _ _ _ _ ([.ref (sa (tw_f w k))].reverse ++ .ref a :: [.ref n]) [.ref n] _) zk_X2_indexOf q95 hrm (z_C.rn (m_X2_indexOf (hL.ex (z_exB hD0 (by omega) (by omega) (z_exB hD0 (by omega) (by omega) (z_exT hD0 (by omega) (z_exN z_ex_r hD_1 eh_2) hfrhq_11) hfrhq_23) hfrhq_35)) (show tw_f w k < S by omega))) (by omega) (by decide) (Nat.le_of_ble_eq_true rfl) (by omega) (by omega) (fun n_47 hn_47 => ?_)
  refine z_callQ1 (b' := 6) (f' := 2088) (rest := []) (av := [.ref n, .int (nI (tw_f w k))]) (z_siteV hb ho zc22 ob_46 q2506 q1008 q1009 ⟨_, _, _, _, zk_J5_append_2⟩ zy_J5_append_2 zl_J5_append_2 dX17_text_27 : z_Site M _ _ _ _ _ ([.int (nI (tw_f w k))].reverse ++ .ref n :: []) [] _) zk_J5_append_2 q101 hrm (m_J5_append_I hbfhq_35 ((z_exB hD0 (by omega) (by omega) (z_exB hD0 (by omega) (by omega) (z_exT hD0 (by omega) (z_exN z_ex_r hD_1 eh_2) hfrhq_11) hfrhq_23) hfrhq_35) _ _ hd1) ((z_exB hD0 (by omega) (by omega) (z_exB hD0 (by omega) (by omega) (z_exT hD0 (by omega) (z_exN z_ex_r hD_1 eh_2) hfrhq_11) hfrhq_23) hfrhq_35) _ _ hd2) hn1 (by have := hlnhq_35; omega)) (by omega) (by decide) (Nat.le_of_ble_eq_true rfl) (by omega) (by omega) (fun rhq_48 h_49 n_50 hq_48 hn_50 => ?_)
  obtain ⟨rfl, hq_48⟩ := hq_48
  obtain ⟨e9hq_48, hbfhq_48, heehq_48, hfrhq_48⟩ := hq_48
  have hlnhq_48 : (((([] : List Nat) ++ (z_lits.getD 48 [])) ++ [107]) ++ z_cI (nI (tw_f w k))).length ≤ 15 := by rw [List.length_append]; have := hlnhq_35; have := (z_cI_len (x := nI (tw_f w k))); show _ + _ ≤ _; omega
  have hlohq_48 := z_alw hlohq_35 (z_cI_lt (x := nI (tw_f w k)))
  have k_51 : h_49 a = some (.inr (1, [.ref lr, .ref ls, .ref lv, .int (nI D), .int (w 2), .int (w 4), .int (w 5), .int (w 6)])) := (z_exB hD0 (by omega) (by omega) (z_exB hD0 (by omega) (by omega) (z_exB hD0 (by omega) (by omega) (z_exT hD0 (by omega) (z_exN z_ex_r hD_1 eh_2) hfrhq_11) hfrhq_23) hfrhq_35) hfrhq_48) _ _ h1
  have k_52 : h_49 lr = some (.inr (20, [.int m0, .ref e0, .int (nI R)])) := (z_exB hD0 (by omega) (by omega) (z_exB hD0 (by omega) (by omega) (z_exB hD0 (by omega) (by omega) (z_exT hD0 (by omega) (z_exN z_ex_r hD_1 eh_2) hfrhq_11) hfrhq_23) hfrhq_35) hfrhq_48) _ _ r1
  have k_53 : h_49 e0 = some (.inl ((zm_G M).2.1 5, N0, .inr (.inr (.inr (.inr f0))))) := (z_exB hD0 (by omega) (by omega) (z_exB hD0 (by omega) (by omega) (z_exB hD0 (by omega) (by omega) (z_exT hD0 (by omega) (z_exN z_ex_r hD_1 eh_2) hfrhq_11) hfrhq_23) hfrhq_35) hfrhq_48) _ _ r2
  have k_54 : h_49 ls = some (.inr (20, [.int m9, .ref e, .int (nI S)])) := (z_exB hD0 (by omega) (by omega) (z_exB hD0 (by omega) (by omega) (z_exB hD0 (by omega) (by omega) (z_exT hD0 (by omega) (z_exN z_ex_r hD_1 eh_2) hfrhq_11) hfrhq_23) hfrhq_35) hfrhq_48) _ _ h3
  have k_55 : h_49 e = some (.inl ((zm_G M).2.1 5, N, .inr (.inr (.inr (.inr f))))) := (z_exB hD0 (by omega) (by omega) (z_exB hD0 (by omega) (by omega) (z_exB hD0 (by omega) (by omega) (z_exT hD0 (by omega) (z_exN z_ex_r hD_1 eh_2) hfrhq_11) hfrhq_23) hfrhq_35) hfrhq_48) _ _ h4
  have k_56 : h_49 lv = some (.inr (20, [.int mv, .ref ev, .int (nI S)])) := (z_exB hD0 (by omega) (by omega) (z_exB hD0 (by omega) (by omega) (z_exB hD0 (by omega) (by omega) (z_exT hD0 (by omega) (z_exN z_ex_r hD_1 eh_2) hfrhq_11) hfrhq_23) hfrhq_35) hfrhq_48) _ _ v1
  have k_57 : h_49 ev = some (.inl ((zm_G M).2.1 5, Nv, .inr (.inr (.inr (.inr fv))))) := (z_exB hD0 (by omega) (by omega) (z_exB hD0 (by omega) (by omega) (z_exB hD0 (by omega) (by omega) (z_exT hD0 (by omega) (z_exN z_ex_r hD_1 eh_2) hfrhq_11) hfrhq_23) hfrhq_35) hfrhq_48) _ _ v2
  have k_58 : h_49 (sa k) = some (.inr (13, [.ref (sa (tw_f w k)), .int (nI 107), .int (w (176 + 4 * k + 1))])) := (z_exB hD0 (by omega) (by omega) (z_exB hD0 (by omega) (by omega) (z_exB hD0 (by omega) (by omega) (z_exT hD0 (by omega) (z_exN z_ex_r hD_1 eh_2) hfrhq_11) hfrhq_23) hfrhq_35) hfrhq_48) _ _ hx
  obtain ⟨fsob_59, ob_59⟩ := z_BF.o hbfhq_48
  refine z_ldcS (i := 49) hb ho rfl rfl rfl dX17_text_30 ?_
  refine z_callQ1 (b' := 5) (f' := 1788) (rest := []) (av := [.ref n, .ref ((zm_G M).2.2.1 49)]) (z_siteV hb ho zc22 ob_59 q2499 q913 q914 ⟨_, _, _, _, zk_J5_append⟩ zy_J5_append zl_J5_append dX17_text_32 : z_Site M _ _ _ _ _ ([.ref ((zm_G M).2.2.1 49)].reverse ++ .ref n :: []) [] _) zk_J5_append q101 hrm (m_J5_append_s hbfhq_48 ((hKS 49 (by decide)).ex (z_exB hD0 (by omega) (by omega) (z_exB hD0 (by omega) (by omega) (z_exB hD0 (by omega) (by omega) (z_exT hD0 (by omega) (z_exN z_ex_r hD_1 eh_2) hfrhq_11) hfrhq_23) hfrhq_35) hfrhq_48)) (by have := hlnhq_48; have := (show (z_lits.getD 49 []).length ≤ 1 by decide); omega)) (by omega) (by decide) (Nat.le_of_ble_eq_true rfl) (by omega) (by omega) (fun rhq_60 h_61 n_62 hq_60 hn_62 => ?_)
  obtain ⟨rfl, hq_60⟩ := hq_60
  obtain ⟨e9hq_60, hbfhq_60, heehq_60, hfrhq_60⟩ := hq_60
  have hlnhq_60 : ((((([] : List Nat) ++ (z_lits.getD 48 [])) ++ [107]) ++ z_cI (nI (tw_f w k))) ++ (z_lits.getD 49 [])).length ≤ 16 := by rw [List.length_append]; have := hlnhq_48; have := (show (z_lits.getD 49 []).length ≤ 1 by decide); show _ + _ ≤ _; omega
  have hlohq_60 := z_alw hlohq_48 (z_lit_lt 49 (by decide))
  have k_63 : h_61 a = some (.inr (1, [.ref lr, .ref ls, .ref lv, .int (nI D), .int (w 2), .int (w 4), .int (w 5), .int (w 6)])) := (z_exB hD0 (by omega) (by omega) (z_exB hD0 (by omega) (by omega) (z_exB hD0 (by omega) (by omega) (z_exB hD0 (by omega) (by omega) (z_exT hD0 (by omega) (z_exN z_ex_r hD_1 eh_2) hfrhq_11) hfrhq_23) hfrhq_35) hfrhq_48) hfrhq_60) _ _ h1
  have k_64 : h_61 lr = some (.inr (20, [.int m0, .ref e0, .int (nI R)])) := (z_exB hD0 (by omega) (by omega) (z_exB hD0 (by omega) (by omega) (z_exB hD0 (by omega) (by omega) (z_exB hD0 (by omega) (by omega) (z_exT hD0 (by omega) (z_exN z_ex_r hD_1 eh_2) hfrhq_11) hfrhq_23) hfrhq_35) hfrhq_48) hfrhq_60) _ _ r1
  have k_65 : h_61 e0 = some (.inl ((zm_G M).2.1 5, N0, .inr (.inr (.inr (.inr f0))))) := (z_exB hD0 (by omega) (by omega) (z_exB hD0 (by omega) (by omega) (z_exB hD0 (by omega) (by omega) (z_exB hD0 (by omega) (by omega) (z_exT hD0 (by omega) (z_exN z_ex_r hD_1 eh_2) hfrhq_11) hfrhq_23) hfrhq_35) hfrhq_48) hfrhq_60) _ _ r2
  have k_66 : h_61 ls = some (.inr (20, [.int m9, .ref e, .int (nI S)])) := (z_exB hD0 (by omega) (by omega) (z_exB hD0 (by omega) (by omega) (z_exB hD0 (by omega) (by omega) (z_exB hD0 (by omega) (by omega) (z_exT hD0 (by omega) (z_exN z_ex_r hD_1 eh_2) hfrhq_11) hfrhq_23) hfrhq_35) hfrhq_48) hfrhq_60) _ _ h3
  have k_67 : h_61 e = some (.inl ((zm_G M).2.1 5, N, .inr (.inr (.inr (.inr f))))) := (z_exB hD0 (by omega) (by omega) (z_exB hD0 (by omega) (by omega) (z_exB hD0 (by omega) (by omega) (z_exB hD0 (by omega) (by omega) (z_exT hD0 (by omega) (z_exN z_ex_r hD_1 eh_2) hfrhq_11) hfrhq_23) hfrhq_35) hfrhq_48) hfrhq_60) _ _ h4
  have k_68 : h_61 lv = some (.inr (20, [.int mv, .ref ev, .int (nI S)])) := (z_exB hD0 (by omega) (by omega) (z_exB hD0 (by omega) (by omega) (z_exB hD0 (by omega) (by omega) (z_exB hD0 (by omega) (by omega) (z_exT hD0 (by omega) (z_exN z_ex_r hD_1 eh_2) hfrhq_11) hfrhq_23) hfrhq_35) hfrhq_48) hfrhq_60) _ _ v1
  have k_69 : h_61 ev = some (.inl ((zm_G M).2.1 5, Nv, .inr (.inr (.inr (.inr fv))))) := (z_exB hD0 (by omega) (by omega) (z_exB hD0 (by omega) (by omega) (z_exB hD0 (by omega) (by omega) (z_exB hD0 (by omega) (by omega) (z_exT hD0 (by omega) (z_exN z_ex_r hD_1 eh_2) hfrhq_11) hfrhq_23) hfrhq_35) hfrhq_48) hfrhq_60) _ _ v2
  have k_70 : h_61 (sa k) = some (.inr (13, [.ref (sa (tw_f w k)), .int (nI 107), .int (w (176 + 4 * k + 1))])) := (z_exB hD0 (by omega) (by omega) (z_exB hD0 (by omega) (by omega) (z_exB hD0 (by omega) (by omega) (z_exB hD0 (by omega) (by omega) (z_exT hD0 (by omega) (z_exN z_ex_r hD_1 eh_2) hfrhq_11) hfrhq_23) hfrhq_35) hfrhq_48) hfrhq_60) _ _ hx
  obtain ⟨fsob_71, ob_71⟩ := z_BF.o hbfhq_60
  refine z_aload_n hb dX17_text_35 rfl ?_
  refine z_get (k := 2) (C := RX17) (T := TX17) (N := 3) hb ho zc13 in_X17 (zf_RX17_7 _) dX17_text_36 k_70 (by decide) rfl ?_
  refine z_callQ1 (b' := 4) (f' := 1488) (rest := []) (av := [.ref n, .int (w (176 + 4 * k + 1))]) (z_siteV hb ho zc22 ob_71 q2506 q1008 q1009 ⟨_, _, _, _, zk_J5_append_2⟩ zy_J5_append_2 zl_J5_append_2 dX17_text_39 : z_Site M _ _ _ _ _ ([.int (w (176 + 4 * k + 1))].reverse ++ .ref n :: []) [] _) zk_J5_append_2 q101 hrm (m_J5_append_I hbfhq_60 ((z_exB hD0 (by omega) (by omega) (z_exB hD0 (by omega) (by omega) (z_exB hD0 (by omega) (by omega) (z_exB hD0 (by omega) (by omega) (z_exT hD0 (by omega) (z_exN z_ex_r hD_1 eh_2) hfrhq_11) hfrhq_23) hfrhq_35) hfrhq_48) hfrhq_60) _ _ hd1) ((z_exB hD0 (by omega) (by omega) (z_exB hD0 (by omega) (by omega) (z_exB hD0 (by omega) (by omega) (z_exB hD0 (by omega) (by omega) (z_exT hD0 (by omega) (z_exN z_ex_r hD_1 eh_2) hfrhq_11) hfrhq_23) hfrhq_35) hfrhq_48) hfrhq_60) _ _ hd2) hn1 (by have := hlnhq_60; omega)) (by omega) (by decide) (Nat.le_of_ble_eq_true rfl) (by omega) (by omega) (fun rhq_72 h_73 n_74 hq_72 hn_74 => ?_)
  obtain ⟨rfl, hq_72⟩ := hq_72
  obtain ⟨e9hq_72, hbfhq_72, heehq_72, hfrhq_72⟩ := hq_72
  have hlnhq_72 : (((((([] : List Nat) ++ (z_lits.getD 48 [])) ++ [107]) ++ z_cI (nI (tw_f w k))) ++ (z_lits.getD 49 [])) ++ z_cI (w (176 + 4 * k + 1))).length ≤ 30 := by rw [List.length_append]; have := hlnhq_60; have := (z_cI_len (x := w (176 + 4 * k + 1))); show _ + _ ≤ _; omega
  have hlohq_72 := z_alw hlohq_60 (z_cI_lt (x := w (176 + 4 * k + 1)))
  have k_75 : h_73 a = some (.inr (1, [.ref lr, .ref ls, .ref lv, .int (nI D), .int (w 2), .int (w 4), .int (w 5), .int (w 6)])) := (z_exB hD0 (by omega) (by omega) (z_exB hD0 (by omega) (by omega) (z_exB hD0 (by omega) (by omega) (z_exB hD0 (by omega) (by omega) (z_exB hD0 (by omega) (by omega) (z_exT hD0 (by omega) (z_exN z_ex_r hD_1 eh_2) hfrhq_11) hfrhq_23) hfrhq_35) hfrhq_48) hfrhq_60) hfrhq_72) _ _ h1
  have k_76 : h_73 lr = some (.inr (20, [.int m0, .ref e0, .int (nI R)])) := (z_exB hD0 (by omega) (by omega) (z_exB hD0 (by omega) (by omega) (z_exB hD0 (by omega) (by omega) (z_exB hD0 (by omega) (by omega) (z_exB hD0 (by omega) (by omega) (z_exT hD0 (by omega) (z_exN z_ex_r hD_1 eh_2) hfrhq_11) hfrhq_23) hfrhq_35) hfrhq_48) hfrhq_60) hfrhq_72) _ _ r1
  have k_77 : h_73 e0 = some (.inl ((zm_G M).2.1 5, N0, .inr (.inr (.inr (.inr f0))))) := (z_exB hD0 (by omega) (by omega) (z_exB hD0 (by omega) (by omega) (z_exB hD0 (by omega) (by omega) (z_exB hD0 (by omega) (by omega) (z_exB hD0 (by omega) (by omega) (z_exT hD0 (by omega) (z_exN z_ex_r hD_1 eh_2) hfrhq_11) hfrhq_23) hfrhq_35) hfrhq_48) hfrhq_60) hfrhq_72) _ _ r2
  have k_78 : h_73 ls = some (.inr (20, [.int m9, .ref e, .int (nI S)])) := (z_exB hD0 (by omega) (by omega) (z_exB hD0 (by omega) (by omega) (z_exB hD0 (by omega) (by omega) (z_exB hD0 (by omega) (by omega) (z_exB hD0 (by omega) (by omega) (z_exT hD0 (by omega) (z_exN z_ex_r hD_1 eh_2) hfrhq_11) hfrhq_23) hfrhq_35) hfrhq_48) hfrhq_60) hfrhq_72) _ _ h3
  have k_79 : h_73 e = some (.inl ((zm_G M).2.1 5, N, .inr (.inr (.inr (.inr f))))) := (z_exB hD0 (by omega) (by omega) (z_exB hD0 (by omega) (by omega) (z_exB hD0 (by omega) (by omega) (z_exB hD0 (by omega) (by omega) (z_exB hD0 (by omega) (by omega) (z_exT hD0 (by omega) (z_exN z_ex_r hD_1 eh_2) hfrhq_11) hfrhq_23) hfrhq_35) hfrhq_48) hfrhq_60) hfrhq_72) _ _ h4
  have k_80 : h_73 lv = some (.inr (20, [.int mv, .ref ev, .int (nI S)])) := (z_exB hD0 (by omega) (by omega) (z_exB hD0 (by omega) (by omega) (z_exB hD0 (by omega) (by omega) (z_exB hD0 (by omega) (by omega) (z_exB hD0 (by omega) (by omega) (z_exT hD0 (by omega) (z_exN z_ex_r hD_1 eh_2) hfrhq_11) hfrhq_23) hfrhq_35) hfrhq_48) hfrhq_60) hfrhq_72) _ _ v1
  have k_81 : h_73 ev = some (.inl ((zm_G M).2.1 5, Nv, .inr (.inr (.inr (.inr fv))))) := (z_exB hD0 (by omega) (by omega) (z_exB hD0 (by omega) (by omega) (z_exB hD0 (by omega) (by omega) (z_exB hD0 (by omega) (by omega) (z_exB hD0 (by omega) (by omega) (z_exT hD0 (by omega) (z_exN z_ex_r hD_1 eh_2) hfrhq_11) hfrhq_23) hfrhq_35) hfrhq_48) hfrhq_60) hfrhq_72) _ _ v2
  have k_82 : h_73 (sa k) = some (.inr (13, [.ref (sa (tw_f w k)), .int (nI 107), .int (w (176 + 4 * k + 1))])) := (z_exB hD0 (by omega) (by omega) (z_exB hD0 (by omega) (by omega) (z_exB hD0 (by omega) (by omega) (z_exB hD0 (by omega) (by omega) (z_exB hD0 (by omega) (by omega) (z_exT hD0 (by omega) (z_exN z_ex_r hD_1 eh_2) hfrhq_11) hfrhq_23) hfrhq_35) hfrhq_48) hfrhq_60) hfrhq_72) _ _ hx
  obtain ⟨fsob_83, ob_83⟩ := z_BF.o hbfhq_72
  refine z_callQ1 (b' := 2) (f' := 1184) (rest := []) (av := [.ref n]) (z_siteV hb ho zc22 ob_83 q2508 q1033 q1034 ⟨_, _, _, _, zk_J5_toString⟩ zy_J5_toString zl_J5_toString dX17_text_42 : z_Site M _ _ _ _ _ ([].reverse ++ .ref n :: []) [] _) zk_J5_toString q101 hrm (m_J5_toString hbfhq_72 (by have := hlnhq_72; omega) hlohq_72) (by omega) (by decide) (Nat.le_of_ble_eq_true rfl) (by omega) (by omega) (fun rhq_84 h_85 n_86 hq_84 hn_86 => ?_)
  obtain ⟨rfl, hq_84⟩ := hq_84
  obtain ⟨hnnhq_84, hsghq_84, hexhq_84⟩ := hq_84
  have k_87 : h_85 a = some (.inr (1, [.ref lr, .ref ls, .ref lv, .int (nI D), .int (w 2), .int (w 4), .int (w 5), .int (w 6)])) := (z_ex_t (z_exB hD0 (by omega) (by omega) (z_exB hD0 (by omega) (by omega) (z_exB hD0 (by omega) (by omega) (z_exB hD0 (by omega) (by omega) (z_exB hD0 (by omega) (by omega) (z_exT hD0 (by omega) (z_exN z_ex_r hD_1 eh_2) hfrhq_11) hfrhq_23) hfrhq_35) hfrhq_48) hfrhq_60) hfrhq_72) hexhq_84) _ _ h1
  have k_88 : h_85 lr = some (.inr (20, [.int m0, .ref e0, .int (nI R)])) := (z_ex_t (z_exB hD0 (by omega) (by omega) (z_exB hD0 (by omega) (by omega) (z_exB hD0 (by omega) (by omega) (z_exB hD0 (by omega) (by omega) (z_exB hD0 (by omega) (by omega) (z_exT hD0 (by omega) (z_exN z_ex_r hD_1 eh_2) hfrhq_11) hfrhq_23) hfrhq_35) hfrhq_48) hfrhq_60) hfrhq_72) hexhq_84) _ _ r1
  have k_89 : h_85 e0 = some (.inl ((zm_G M).2.1 5, N0, .inr (.inr (.inr (.inr f0))))) := (z_ex_t (z_exB hD0 (by omega) (by omega) (z_exB hD0 (by omega) (by omega) (z_exB hD0 (by omega) (by omega) (z_exB hD0 (by omega) (by omega) (z_exB hD0 (by omega) (by omega) (z_exT hD0 (by omega) (z_exN z_ex_r hD_1 eh_2) hfrhq_11) hfrhq_23) hfrhq_35) hfrhq_48) hfrhq_60) hfrhq_72) hexhq_84) _ _ r2
  have k_90 : h_85 ls = some (.inr (20, [.int m9, .ref e, .int (nI S)])) := (z_ex_t (z_exB hD0 (by omega) (by omega) (z_exB hD0 (by omega) (by omega) (z_exB hD0 (by omega) (by omega) (z_exB hD0 (by omega) (by omega) (z_exB hD0 (by omega) (by omega) (z_exT hD0 (by omega) (z_exN z_ex_r hD_1 eh_2) hfrhq_11) hfrhq_23) hfrhq_35) hfrhq_48) hfrhq_60) hfrhq_72) hexhq_84) _ _ h3
  have k_91 : h_85 e = some (.inl ((zm_G M).2.1 5, N, .inr (.inr (.inr (.inr f))))) := (z_ex_t (z_exB hD0 (by omega) (by omega) (z_exB hD0 (by omega) (by omega) (z_exB hD0 (by omega) (by omega) (z_exB hD0 (by omega) (by omega) (z_exB hD0 (by omega) (by omega) (z_exT hD0 (by omega) (z_exN z_ex_r hD_1 eh_2) hfrhq_11) hfrhq_23) hfrhq_35) hfrhq_48) hfrhq_60) hfrhq_72) hexhq_84) _ _ h4
  have k_92 : h_85 lv = some (.inr (20, [.int mv, .ref ev, .int (nI S)])) := (z_ex_t (z_exB hD0 (by omega) (by omega) (z_exB hD0 (by omega) (by omega) (z_exB hD0 (by omega) (by omega) (z_exB hD0 (by omega) (by omega) (z_exB hD0 (by omega) (by omega) (z_exT hD0 (by omega) (z_exN z_ex_r hD_1 eh_2) hfrhq_11) hfrhq_23) hfrhq_35) hfrhq_48) hfrhq_60) hfrhq_72) hexhq_84) _ _ v1
  have k_93 : h_85 ev = some (.inl ((zm_G M).2.1 5, Nv, .inr (.inr (.inr (.inr fv))))) := (z_ex_t (z_exB hD0 (by omega) (by omega) (z_exB hD0 (by omega) (by omega) (z_exB hD0 (by omega) (by omega) (z_exB hD0 (by omega) (by omega) (z_exB hD0 (by omega) (by omega) (z_exT hD0 (by omega) (z_exN z_ex_r hD_1 eh_2) hfrhq_11) hfrhq_23) hfrhq_35) hfrhq_48) hfrhq_60) hfrhq_72) hexhq_84) _ _ v2
  have k_94 : h_85 (sa k) = some (.inr (13, [.ref (sa (tw_f w k)), .int (nI 107), .int (w (176 + 4 * k + 1))])) := (z_ex_t (z_exB hD0 (by omega) (by omega) (z_exB hD0 (by omega) (by omega) (z_exB hD0 (by omega) (by omega) (z_exB hD0 (by omega) (by omega) (z_exB hD0 (by omega) (by omega) (z_exT hD0 (by omega) (z_exN z_ex_r hD_1 eh_2) hfrhq_11) hfrhq_23) hfrhq_35) hfrhq_48) hfrhq_60) hfrhq_72) hexhq_84) _ _ hx
  refine z_aret hb hr (Or.inl ⟨_, rfl⟩) (Or.inr ⟨_, rfl⟩) dX17_text_45 ?_
  rw [hQ]
  refine ⟨_, rfl, n_74, rfl, by omega, by omega, ?_, (z_ex_t (z_exB hD0 (by omega) (by omega) (z_exB hD0 (by omega) (by omega) (z_exB hD0 (by omega) (by omega) (z_exB hD0 (by omega) (by omega) (z_exB hD0 (by omega) (by omega) (z_exT hD0 (by omega) (z_exN z_ex_r hD_1 eh_2) hfrhq_11) hfrhq_23) hfrhq_35) hfrhq_48) hfrhq_60) hfrhq_72) hexhq_84)⟩
  have e9 := hsghq_84
  rw [show (((((([] : List Nat) ++ (z_lits.getD 48 [])) ++ [107]) ++ z_cI (nI (tw_f w k))) ++ (z_lits.getD 49 [])) ++ z_cI (w (176 + 4 * k + 1))) = 107 :: (z_cI (nI (tw_f w k)) ++ 62 :: z_cI (w (176 + 4 * k + 1))) from by show (107 :: z_cI (nI (tw_f w k)) ++ [62]) ++ z_cI (w (176 + 4 * k + 1)) = _; rw [List.append_assoc]; rfl] at e9
  exact e9

/-- the text of a step -/
def z_tx (w : Nat → Int32) (k : Nat) : List Nat :=
  if w (176 + 4 * k) = nI 115 then 115 :: z_cI (w (176 + 4 * k + 1)) else if w (176 + 4 * k) = nI 110 then 110 :: z_cI (w (176 + 4 * k + 1)) else if w (176 + 4 * k) = nI 120 then 120 :: z_cI (w (176 + 4 * k + 1)) else
  if w (176 + 4 * k) = nI 43 then z_cI (nI (tw_f w k)) ++ 43 :: z_cI (nI (tw_s w k)) else if w (176 + 4 * k) = nI 45 then z_cI (nI (tw_f w k)) ++ 45 :: z_cI (nI (tw_s w k)) else
  if w (176 + 4 * k) = nI 114 then 114 :: z_cI (nI (tw_f w k)) else 107 :: (z_cI (nI (tw_f w k)) ++ 62 :: z_cI (w (176 + 4 * k + 1)))
theorem z_tx_115 {w : Nat → Int32} {k : Nat} (h : w (176 + 4 * k) = nI 115) : z_tx w k = 115 :: z_cI (w (176 + 4 * k + 1)) := by unfold z_tx; rw [h, if_pos rfl]
theorem z_tx_110 {w : Nat → Int32} {k : Nat} (h : w (176 + 4 * k) = nI 110) : z_tx w k = 110 :: z_cI (w (176 + 4 * k + 1)) := by unfold z_tx; rw [h, if_neg (by decide), if_pos rfl]
theorem z_tx_120 {w : Nat → Int32} {k : Nat} (h : w (176 + 4 * k) = nI 120) : z_tx w k = 120 :: z_cI (w (176 + 4 * k + 1)) := by unfold z_tx; rw [h, if_neg (by decide), if_neg (by decide), if_pos rfl]
theorem z_tx_43 {w : Nat → Int32} {k : Nat} (h : w (176 + 4 * k) = nI 43) : z_tx w k = z_cI (nI (tw_f w k)) ++ 43 :: z_cI (nI (tw_s w k)) := by unfold z_tx; rw [h, if_neg (by decide), if_neg (by decide), if_neg (by decide), if_pos rfl]
theorem z_tx_45 {w : Nat → Int32} {k : Nat} (h : w (176 + 4 * k) = nI 45) : z_tx w k = z_cI (nI (tw_f w k)) ++ 45 :: z_cI (nI (tw_s w k)) := by unfold z_tx; rw [h, if_neg (by decide), if_neg (by decide), if_neg (by decide), if_neg (by decide), if_pos rfl]
theorem z_tx_114 {w : Nat → Int32} {k : Nat} (h : w (176 + 4 * k) = nI 114) : z_tx w k = 114 :: z_cI (nI (tw_f w k)) := by unfold z_tx; rw [h, if_neg (by decide), if_neg (by decide), if_neg (by decide), if_neg (by decide), if_neg (by decide), if_pos rfl]
theorem z_tx_107 {w : Nat → Int32} {k : Nat} (h : w (176 + 4 * k) = nI 107) : z_tx w k = 107 :: (z_cI (nI (tw_f w k)) ++ 62 :: z_cI (w (176 + 4 * k + 1))) := by unfold z_tx; rw [h, if_neg (by decide), if_neg (by decide), if_neg (by decide), if_neg (by decide), if_neg (by decide), if_neg (by decide)]
theorem z_tx_len {w : Nat → Int32} {k : Nat} : (z_tx w k).length ≤ 30 := by
  have h1 := z_cI_len (x := w (176 + 4 * k + 1))
  have h2 := z_cI_len (x := nI (tw_f w k))
  have h3 := z_cI_len (x := nI (tw_s w k))
  unfold z_tx
  split
  · rw [List.length_cons]; omega
  · split
    · rw [List.length_cons]; omega
    · split
      · rw [List.length_cons]; omega
      · split
        · rw [List.length_append, List.length_cons]; omega
        · split
          · rw [List.length_append, List.length_cons]; omega
          · split
            · rw [List.length_cons]; omega
            · rw [List.length_cons, List.length_append, List.length_cons]; omega
def z_yt : Nat → MethodName
  | 11 => yX14_text
  | 12 => yX16_text
  | 13 => yX17_text
  | _ => yX10_text
theorem m_text {l : Launch} {G : zG} {h : zH} {w : Nat → Int32} {v : Nat → Int64} {R S D a lr ls lv : Nat} {ra sa va : Nat → Nat} {k : Nat} (hL : z_Ln G h w v R S D a lr ls lv ra sa va) (hKS : z_KS G h) (hS8 : S ≤ 8) (hd1 : h (G.2.2.1 1000) = some (z_ab G 100 z_on)) (hd2 : h (G.2.2.1 1001) = some (z_ab G 100 z_tn)) (hn1 : G.2.2.1 1000 < z_n0 G ∧ G.2.2.1 1001 < z_n0 G) (hk : k < S) : ∀ ci fs, h (sa k) = some (.inr (ci, fs)) → ∀ n : Nat, z_C l G (z_yt ci) 10 12 3608 [.ref (sa k), .ref a] h n (z_q1 (fun r9 h9 n9 => ∃ s, r9 = .ref s ∧ n ≤ s ∧ s < n9 ∧ z_Sg G h9 s (z_tx w k) (nI 0) ∧ z_ex h h9)) := by
  intro ci fs hx n
  obtain ⟨-, -, -, -, -, hs, -⟩ := id hL
  rcases hs k hk with ⟨qk, q⟩ | ⟨qk, q⟩ | ⟨qk, q⟩ | ⟨qk, g1, g2, q⟩ | ⟨qk, g1, g2, q⟩ | ⟨qk, g1, g2, q⟩ | ⟨qk, g1, g2, q⟩
  all_goals obtain ⟨rfl, rfl⟩ := z_inj hx q
  · rw [z_tx_115 qk]; exact m_X10_text_8 hL hKS hS8 hd1 hd2 hn1 hx
  · rw [z_tx_110 qk]; exact m_X10_text_9 hL hKS hS8 hd1 hd2 hn1 hx
  · rw [z_tx_120 qk]; exact m_X10_text_10 hL hKS hS8 hd1 hd2 hn1 hx
  · rw [z_tx_43 qk]; exact m_X14_text_p hL hKS hS8 hd1 hd2 hn1 hk g1 g2 hx
  · rw [z_tx_45 qk]; exact m_X14_text_m hL hKS hS8 hd1 hd2 hn1 hk g1 g2 hx
  · rw [z_tx_114 qk]; exact m_X16_text hL hKS hS8 hd1 hd2 hn1 hk g1 hx
  · rw [z_tx_107 qk]; exact m_X17_text hL hKS hS8 hd1 hd2 hn1 hk g1 hx

