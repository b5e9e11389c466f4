def z_lits : List (List Nat) := [[], [114, 111, 119], [117, 110, 114, 101, 99, 111, 103, 110, 105, 122, 101, 100, 32, 98, 97, 115, 105, 99, 32, 116, 121, 112, 101, 58, 32], [32, 62, 32], [114, 111, 119], [103, 111, 110, 101], [110, 101, 120, 116], [98, 97, 115, 101], [112, 97, 105, 114], [114, 117, 110], [107, 101, 101, 112], [99, 117, 116], [78, 111, 32, 118, 97, 108, 117, 101, 32, 112, 114, 101, 115, 101, 110, 116], [115, 110, 120], [43, 45], [83, 111, 114, 114, 121, 44, 32, 100, 101, 113, 117, 101, 32, 116, 111, 111, 32, 98, 105, 103], [103, 111, 110, 101], [110, 101, 120, 116], [73, 110, 100, 101, 120, 58, 32], [44, 32, 83, 105, 122, 101, 58, 32], [98, 97, 115, 101], [112, 97, 105, 114], [114, 117, 110], [107, 101, 101, 112], [99, 117, 116], [114, 101, 112, 97, 105, 114], [32, 114, 111, 119, 32, 103, 111, 110, 101, 32, 110, 101, 120, 116, 32, 98, 97, 115, 101, 32, 112, 97, 105, 114, 32, 114, 117, 110, 32, 107, 101, 101, 112, 32, 99, 117, 116, 32, 114, 101, 112, 97, 105, 114, 32], [97, 98, 99, 100, 101, 102, 103, 104, 105, 106, 107, 108, 109, 110, 111, 112, 113, 114, 115, 116, 117, 118, 119, 120, 121, 122], [32], [], [], [110, 101, 120, 116], [114, 111, 119], [103, 111, 110, 101], [98, 97, 115, 101], [112, 97, 105, 114], [107, 101, 101, 112], [97, 98, 99, 100, 101], [48, 49, 50, 51, 52, 53, 54, 55, 56, 57], [115, 110, 120], [43, 45], [59], [83, 116, 114, 105, 110, 103, 32, 105, 110, 100, 101, 120, 32, 111, 117, 116, 32, 111, 102, 32, 114, 97, 110, 103, 101, 58, 32], [102, 114, 111, 109, 73, 110, 100, 101, 120, 40], [41, 32, 62, 32, 116, 111, 73, 110, 100, 101, 120, 40], [41], [65, 114, 114, 97, 121, 32, 105, 110, 100, 101, 120, 32, 111, 117, 116, 32, 111, 102, 32, 114, 97, 110, 103, 101, 58, 32], [58], [], [62], [], [], [], [44], [33]]
/-- the String constants -/
def z_KS (G : zG) (h : zH) : Prop := ∀ i, i < 55 → z_Sg G h (G.2.2.1 i) (z_lits.getD i []) (z_hs (z_lits.getD i []))
theorem z_Sg.ex {G : zG} {h h2 : zH} {s : Nat} {l : List Nat} {hs : Int32} (q : z_Sg G h s l hs) (e : z_ex h h2) : z_Sg G h2 s l hs := by
  obtain ⟨e1, hz, h1, h2, h3⟩ := q
  exact ⟨e1, hz, e _ _ h1, e _ _ h2, h3⟩
theorem z_KS.ex {G : zG} {h h2 : zH} (q : z_KS G h) (e : z_ex h h2) : z_KS G h2 := fun i hi => (q i hi).ex e
theorem z_ix_snx {c : Nat} (hc : c < 65536) : (c = 115 ∨ c = 110 ∨ c = 120) ∨ z_ix (z_lits.getD 13 []) c = none := by
  rcases Nat.lt_or_ge c 256 with h | h
  · have : ∀ c, c < 256 → (c = 115 ∨ c = 110 ∨ c = 120) ∨ z_ix (z_lits.getD 13 []) c = none := by decide +kernel
    exact this c h
  · right
    unfold z_ix
    rw [if_neg (by omega)]
theorem z_ix_pm {c : Nat} (hc : c < 65536) : (c = 43 ∨ c = 45) ∨ z_ix (z_lits.getD 14 []) c = none := by
  rcases Nat.lt_or_ge c 256 with h | h
  · have : ∀ c, c < 256 → (c = 43 ∨ c = 45) ∨ z_ix (z_lits.getD 14 []) c = none := by decide +kernel
    exact this c h
  · right
    unfold z_ix
    rw [if_neg (by omega)]

set_option maxHeartbeats 1000000 in
theorem m_X2_addBase_115 {l : Launch} {G : zG} {h : zH} {n : Nat} {b0 : Nat} {w : Nat → Int32} {v : Nat → Int64} {R S D a lr er ls es lv ev : Nat} {ra sa va na ba : Nat → Nat} {c : Nat} (hDr : z_Dr G h b0 w v R S D a lr er ls es lv ev ra sa va na ba) (hb0 : z_n0 G ≤ b0) (hR4 : R ≤ 40) (hD6 : D ≤ 6) (hS7 : S < 8) (hbn : b0 ≤ n) (hiW : z_inp w S) (hKS : z_KS G h) (hc9 : c ≤ 99) : z_C l G yX2_addBase 31 50 356 [.ref a, .int (nI 115), .int (nI c)] h n (z_q1 (fun r9 h' n' => r9 = .int (nI S) ∧ z_DR G h' b0 (tw_ns0 (tw_nst w S (nI 115) (nI c) 0 0) S (D + 1)) (tw_ns5 (tw_nst w S (nI 115) (nI c) 0 0) R S v (D + 1)) R (S + 1) D a ∧ z_fb b0 h h')) := by
  refine z_start zk_X2_addBase zpl_RX2 (Nat.le_of_ble_eq_true rfl) ?_
  intro hn0 M hl hG ho hb hN hr hm hH hrm hQ
  subst hl hG
  have ho : zm_o M = RX2 := ho
  obtain ⟨⟨ha0, h1⟩, ⟨lr0, lr1, N0, m0, f0, r1, r2, r3, r4, r4b, r5⟩, ⟨ls0, ls1, N, m9, f, h3, h4, h5, h6, h6b, h7⟩, ⟨lv0, lv1, Nv, mv, fv, v1, v2, v3, v4, v4b, v5⟩, hne, hse, h9, hs, hvx, hi, hrI, hna, hba⟩ := id hDr
  have r4N := r4.le
  have h6N := h6.le
  have v4N := v4.le
  obtain ⟨e13, hz13, k131, k132, k133, k134⟩ := hKS 13 (by decide)
  show z_V M h n 50 356 0 [(0, .ref a), (1, .int (nI 115)), (2, .int (nI c))] []
  refine z_dom (fun hD0 => ?_)
  refine z_ldcS (i := 13) hb ho rfl rfl rfl dX2_addBase_0 ?_
  refine z_iload_n hb dX2_addBase_2 rfl ?_
  refine z_callN1 (b' := 50) (f' := 356) (rest := []) (av := [.ref ((zm_G M).2.2.1 13), .int (nI 115)]) (z_siteV hb ho zc23 k131 q1411 q1412 q1413 ⟨_, _, _, _, zk_J6_indexOf⟩ zy_J6_indexOf zl_J6_indexOf dX2_addBase_3 : z_Site M _ _ _ _ _ ([.int (nI 115)].reverse ++ .ref ((zm_G M).2.2.1 13) :: []) [] _) zk_J6_indexOf q102 hrm (m_J6_indexOf (hKS 13 (by decide)) (show 115 < 65536 by omega)) (by omega) (by decide) (Nat.le_of_ble_eq_true rfl) (by omega) (by omega) (fun n_1 hn_1 => ?_)
  refine z_toI (y := nI 0) (by decide +kernel) ?_
  refine z_if_ltN (tgt := 13) hb dX2_addBase_6 (by decide) (by omega) ?_
  refine z_iconst (x := nI 1) hb dX2_addBase_9 (by decide) ?_
  refine z_toI (y := z_b true) (by decide) ?_
  refine z_goto (tgt := 14) hb dX2_addBase_10 (by decide) ?_
  refine z_callC0 (b' := 49) (f' := 350) (rest := []) (av := [.int (z_b true)]) (z_siteSN hb ho q1457 q1141 q94 ⟨_, _, _, _, zk_X1_requireArgument⟩ zy_X1_requireArgument zl_X1_requireArgument dX2_addBase_14 : z_Site M _ _ _ _ _ ([.int (z_b true)].reverse ++ []) [] _) zk_X1_requireArgument q94 hrm (m_X1_requireArgument true) (by omega) (by decide) (Nat.le_of_ble_eq_true rfl) (by omega) (by omega) (fun c_14 => ?_) (fun c_14 => ?_)
  · refine z_iload_n hb dX2_addBase_17 rfl ?_
    refine z_iconst (x := nI 0) hb dX2_addBase_18 (by decide) ?_
    refine z_bipush (x := nI 99) hb dX2_addBase_19 (by decide) ?_
    refine z_callC0 (b' := 48) (f' := 344) (rest := []) (av := [.int (nI c), .int (nI 0), .int (nI 99)]) (z_siteSN hb ho q1148 q1135 q94 ⟨_, _, _, _, zk_X1_requireRange⟩ zy_X1_requireRange zl_X1_requireRange dX2_addBase_21 : z_Site M _ _ _ _ _ ([.int (nI c), .int (nI 0), .int (nI 99)].reverse ++ []) [] _) zk_X1_requireRange q94 hrm (m_X1_requireRange (nI c) (nI 0) (nI 99)) (by omega) (by decide) (Nat.le_of_ble_eq_true rfl) (by omega) (by omega) (fun c_21 => ?_) (fun c_21 => ?_)
    · refine z_iload_n hb dX2_addBase_24 rfl ?_
      refine z_lookup (off := 27) (tgt := 52) hb dX2_addBase_25 (by decide) (by decide +kernel) (by decide) ?_
      refine z_aload_n hb dX2_addBase_52 rfl ?_
      refine z_dom (fun hD_2 => ?_)
      refine z_new (N0 := 2) (b' := 47) (f' := 342) (fs := [.int (nI 0), .int (nI 0)]) (C := RX11) (T := TX11) (N := 2) hb ho zc8 in_X11 tyX11_ok q1458 q1459 q129 dX2_addBase_53 (zdf_X11) (by omega) (by omega) ?_
      refine z_hn (fun h_3 eh_3 => ?_)
      have eh_3 : h_3 = z_up h n_1 (.inr (8, [.int (nI 0), .int (nI 0)])) := eh_3
      have k_4 : h_3 a = some (.inr (1, [.ref lr, .ref ls, .ref lv, .int (nI D), .int (w 2), .int (w 4), .int (w 5), .int (w 6)])) := z_nx eh_3 (Nat.ne_of_lt (hD_2 _ _ h1)) h1
      have k_5 : h_3 lr = some (.inr (20, [.int m0, .ref er, .int (nI R)])) := z_nx eh_3 (Nat.ne_of_lt (hD_2 _ _ r1)) r1
      have k_6 : h_3 er = some (.inl ((zm_G M).2.1 5, N0, .inr (.inr (.inr (.inr f0))))) := z_nx eh_3 (Nat.ne_of_lt (hD_2 _ _ r2)) r2
      have k_7 : h_3 ls = some (.inr (20, [.int m9, .ref es, .int (nI S)])) := z_nx eh_3 (Nat.ne_of_lt (hD_2 _ _ h3)) h3
      have k_8 : h_3 es = some (.inl ((zm_G M).2.1 5, N, .inr (.inr (.inr (.inr f))))) := z_nx eh_3 (Nat.ne_of_lt (hD_2 _ _ h4)) h4
      have k_9 : h_3 lv = some (.inr (20, [.int mv, .ref ev, .int (nI S)])) := z_nx eh_3 (Nat.ne_of_lt (hD_2 _ _ v1)) v1
      have k_10 : h_3 ev = some (.inl ((zm_G M).2.1 5, Nv, .inr (.inr (.inr (.inr fv))))) := z_nx eh_3 (Nat.ne_of_lt (hD_2 _ _ v2)) v2
      have k_11 : h_3 ((zm_G M).2.2.1 13) = some (.inr (23, [.ref e13, .int (nI 0), .int (z_hs (z_lits.getD 13 [])), .int hz13])) := z_nx eh_3 (Nat.ne_of_lt (hD_2 _ _ k131)) k131
      refine z_dup hb dX2_addBase_56 rfl ?_
      refine z_iload_n hb dX2_addBase_57 rfl ?_
      refine z_call0 (b' := 47) (f' := 342) (rest := [.ref n_1, .ref a]) (av := [.ref n_1, .int (nI c)]) (z_siteI hb ho q1460 q1461 q1462 rfl zy_X11_init zl_X11_init dX2_addBase_58 : z_Site M _ _ _ _ _ ([.int (nI c)].reverse ++ .ref n_1 :: [.ref n_1, .ref a]) [.ref n_1, .ref a] _) zk_X11_init q129 hrm (m_X11_init (nI c) (z_nxs eh_3) (by omega)) (by omega) (by decide) (Nat.le_of_ble_eq_true rfl) (by omega) (by omega) ?_
      refine z_hn (fun h_12 eh_12 => ?_)
      have eh_12 : h_12 = z_up h_3 n_1 (.inr (8, [.int (nI c), .int (nI 115)])) := eh_12
      have k_13 : h_12 a = some (.inr (1, [.ref lr, .ref ls, .ref lv, .int (nI D), .int (w 2), .int (w 4), .int (w 5), .int (w 6)])) := z_nx eh_12 (Nat.ne_of_lt (hD_2 _ _ h1)) k_4
      have k_14 : h_12 lr = some (.inr (20, [.int m0, .ref er, .int (nI R)])) := z_nx eh_12 (Nat.ne_of_lt (hD_2 _ _ r1)) k_5
      have k_15 : h_12 er = some (.inl ((zm_G M).2.1 5, N0, .inr (.inr (.inr (.inr f0))))) := z_nx eh_12 (Nat.ne_of_lt (hD_2 _ _ r2)) k_6
      have k_16 : h_12 ls = some (.inr (20, [.int m9, .ref es, .int (nI S)])) := z_nx eh_12 (Nat.ne_of_lt (hD_2 _ _ h3)) k_7
      have k_17 : h_12 es = some (.inl ((zm_G M).2.1 5, N, .inr (.inr (.inr (.inr f))))) := z_nx eh_12 (Nat.ne_of_lt (hD_2 _ _ h4)) k_8
      have k_18 : h_12 lv = some (.inr (20, [.int mv, .ref ev, .int (nI S)])) := z_nx eh_12 (Nat.ne_of_lt (hD_2 _ _ v1)) k_9
      have k_19 : h_12 ev = some (.inl ((zm_G M).2.1 5, Nv, .inr (.inr (.inr (.inr fv))))) := z_nx eh_12 (Nat.ne_of_lt (hD_2 _ _ v2)) k_10
      have k_20 : h_12 ((zm_G M).2.2.1 13) = some (.inr (23, [.ref e13, .int (nI 0), .int (z_hs (z_lits.getD 13 [])), .int hz13])) := z_nx eh_12 (Nat.ne_of_lt (hD_2 _ _ k131)) k_11
      have e_21 := eh_12
      rw [eh_3, z_up_up] at e_21
      refine z_callQ1 (b' := 2) (f' := 46) (rest := []) (av := [.ref a, .ref n_1]) (z_siteV hb ho zc1 k_13 q1477 q1479 qs13 ⟨_, _, _, _, zk_X2_add⟩ zy_X2_add zl_X2_add dX2_addBase_61 : z_Site M _ _ _ _ _ ([.ref n_1].reverse ++ .ref a :: []) [] _) zk_X2_add q95 hrm (m_X2_add (hDr.kp (z_exN z_ex_r hD_2 e_21).kp) hb0 hR4 hD6 hS7 (by omega) (fun k hk => Nat.ne_of_lt (Nat.lt_of_lt_of_le (hDr.sn hD0 k hk) (by omega))) ((z_Sp_base hS7).1 (z_nxs eh_12)) hiW (Or.inl (Or.inl rfl))) (by omega) (by decide) (Nat.le_of_ble_eq_true rfl) (by omega) (by omega) (fun rhq_22 h_23 n_24 hq_22 hn_24 => ?_)
      obtain ⟨rfl, hq_22⟩ := hq_22
      refine z_goto (tgt := 94) hb dX2_addBase_64 (by decide) ?_
      refine z_iret hb hr dX2_addBase_94 ?_
      rw [hQ]
      exact ⟨_, rfl, rfl, hq_22.1, ((z_exN z_ex_r hD_2 e_21).fb.t hq_22.2)⟩
    · exact absurd c_21 (by rw [show decide (nI 0 ≤ nI c ∧ nI c ≤ nI 99) = true from z_inN (by omega) (by omega) (by omega)]; exact Bool.noConfusion)
  · cases c_14

set_option maxHeartbeats 1000000 in
theorem m_X2_addBase_110 {l : Launch} {G : zG} {h : zH} {n : Nat} {b0 : Nat} {w : Nat → Int32} {v : Nat → Int64} {R S D a lr er ls es lv ev : Nat} {ra sa va na ba : Nat → Nat} {c : Nat} (hDr : z_Dr G h b0 w v R S D a lr er ls es lv ev ra sa va na ba) (hb0 : z_n0 G ≤ b0) (hR4 : R ≤ 40) (hD6 : D ≤ 6) (hS7 : S < 8) (hbn : b0 ≤ n) (hiW : z_inp w S) (hKS : z_KS G h) (hc9 : c ≤ 99) : z_C l G yX2_addBase 31 50 356 [.ref a, .int (nI 110), .int (nI c)] h n (z_q1 (fun r9 h' n' => r9 = .int (nI S) ∧ z_DR G h' b0 (tw_ns0 (tw_nst w S (nI 110) (nI c) 0 0) S (D + 1)) (tw_ns5 (tw_nst w S (nI 110) (nI c) 0 0) R S v (D + 1)) R (S + 1) D a ∧ z_fb b0 h h')) := by
  refine z_start zk_X2_addBase zpl_RX2 (Nat.le_of_ble_eq_true rfl) ?_
  intro hn0 M hl hG ho hb hN hr hm hH hrm hQ
  subst hl hG
  have ho : zm_o M = RX2 := ho
  obtain ⟨⟨ha0, h1⟩, ⟨lr0, lr1, N0, m0, f0, r1, r2, r3, r4, r4b, r5⟩, ⟨ls0, ls1, N, m9, f, h3, h4, h5, h6, h6b, h7⟩, ⟨lv0, lv1, Nv, mv, fv, v1, v2, v3, v4, v4b, v5⟩, hne, hse, h9, hs, hvx, hi, hrI, hna, hba⟩ := id hDr
  have r4N := r4.le
  have h6N := h6.le
  have v4N := v4.le
  obtain ⟨e13, hz13, k131, k132, k133, k134⟩ := hKS 13 (by decide)
  show z_V M h n 50 356 0 [(0, .ref a), (1, .int (nI 110)), (2, .int (nI c))] []
  refine z_dom (fun hD0 => ?_)
  refine z_ldcS (i := 13) hb ho rfl rfl rfl dX2_addBase_0 ?_
  refine z_iload_n hb dX2_addBase_2 rfl ?_
  refine z_callN1 (b' := 50) (f' := 356) (rest := []) (av := [.ref ((zm_G M).2.2.1 13), .int (nI 110)]) (z_siteV hb ho zc23 k131 q1411 q1412 q1413 ⟨_, _, _, _, zk_J6_indexOf⟩ zy_J6_indexOf zl_J6_indexOf dX2_addBase_3 : z_Site M _ _ _ _ _ ([.int (nI 110)].reverse ++ .ref ((zm_G M).2.2.1 13) :: []) [] _) zk_J6_indexOf q102 hrm (m_J6_indexOf (hKS 13 (by decide)) (show 110 < 65536 by omega)) (by omega) (by decide) (Nat.le_of_ble_eq_true rfl) (by omega) (by omega) (fun n_1 hn_1 => ?_)
  refine z_toI (y := nI 1) (by decide +kernel) ?_
  refine z_if_ltN (tgt := 13) hb dX2_addBase_6 (by decide) (by omega) ?_
  refine z_iconst (x := nI 1) hb dX2_addBase_9 (by decide) ?_
  refine z_toI (y := z_b true) (by decide) ?_
  refine z_goto (tgt := 14) hb dX2_addBase_10 (by decide) ?_
  refine z_callC0 (b' := 49) (f' := 350) (rest := []) (av := [.int (z_b true)]) (z_siteSN hb ho q1457 q1141 q94 ⟨_, _, _, _, zk_X1_requireArgument⟩ zy_X1_requireArgument zl_X1_requireArgument dX2_addBase_14 : z_Site M _ _ _ _ _ ([.int (z_b true)].reverse ++ []) [] _) zk_X1_requireArgument q94 hrm (m_X1_requireArgument true) (by omega) (by decide) (Nat.le_of_ble_eq_true rfl) (by omega) (by omega) (fun c_14 => ?_) (fun c_14 => ?_)
  · refine z_iload_n hb dX2_addBase_17 rfl ?_
    refine z_iconst (x := nI 0) hb dX2_addBase_18 (by decide) ?_
    refine z_bipush (x := nI 99) hb dX2_addBase_19 (by decide) ?_
    refine z_callC0 (b' := 48) (f' := 344) (rest := []) (av := [.int (nI c), .int (nI 0), .int (nI 99)]) (z_siteSN hb ho q1148 q1135 q94 ⟨_, _, _, _, zk_X1_requireRange⟩ zy_X1_requireRange zl_X1_requireRange dX2_addBase_21 : z_Site M _ _ _ _ _ ([.int (nI c), .int (nI 0), .int (nI 99)].reverse ++ []) [] _) zk_X1_requireRange q94 hrm (m_X1_requireRange (nI c) (nI 0) (nI 99)) (by omega) (by decide) (Nat.le_of_ble_eq_true rfl) (by omega) (by omega) (fun c_21 => ?_) (fun c_21 => ?_)
    · refine z_iload_n hb dX2_addBase_24 rfl ?_
      refine z_lookup (off := 42) (tgt := 67) hb dX2_addBase_25 (by decide) (by decide +kernel) (by decide) ?_
      refine z_aload_n hb dX2_addBase_67 rfl ?_
      refine z_dom (fun hD_2 => ?_)
      refine z_new (N0 := 2) (b' := 47) (f' := 342) (fs := [.int (nI 0), .int (nI 0)]) (C := RX12) (T := TX12) (N := 2) hb ho zc9 in_X12 tyX12_ok q1482 q1483 q130 dX2_addBase_68 (zdf_X12) (by omega) (by omega) ?_
      refine z_hn (fun h_3 eh_3 => ?_)
      have eh_3 : h_3 = z_up h n_1 (.inr (9, [.int (nI 0), .int (nI 0)])) := eh_3
      have k_4 : h_3 a = some (.inr (1, [.ref lr, .ref ls, .ref lv, .int (nI D), .int (w 2), .int (w 4), .int (w 5), .int (w 6)])) := z_nx eh_3 (Nat.ne_of_lt (hD_2 _ _ h1)) h1
      have k_5 : h_3 lr = some (.inr (20, [.int m0, .ref er, .int (nI R)])) := z_nx eh_3 (Nat.ne_of_lt (hD_2 _ _ r1)) r1
      have k_6 : h_3 er = some (.inl ((zm_G M).2.1 5, N0, .inr (.inr (.inr (.inr f0))))) := z_nx eh_3 (Nat.ne_of_lt (hD_2 _ _ r2)) r2
      have k_7 : h_3 ls = some (.inr (20, [.int m9, .ref es, .int (nI S)])) := z_nx eh_3 (Nat.ne_of_lt (hD_2 _ _ h3)) h3
      have k_8 : h_3 es = some (.inl ((zm_G M).2.1 5, N, .inr (.inr (.inr (.inr f))))) := z_nx eh_3 (Nat.ne_of_lt (hD_2 _ _ h4)) h4
      have k_9 : h_3 lv = some (.inr (20, [.int mv, .ref ev, .int (nI S)])) := z_nx eh_3 (Nat.ne_of_lt (hD_2 _ _ v1)) v1
      have k_10 : h_3 ev = some (.inl ((zm_G M).2.1 5, Nv, .inr (.inr (.inr (.inr fv))))) := z_nx eh_3 (Nat.ne_of_lt (hD_2 _ _ v2)) v2
      have k_11 : h_3 ((zm_G M).2.2.1 13) = some (.inr (23, [.ref e13, .int (nI 0), .int (z_hs (z_lits.getD 13 [])), .int hz13])) := z_nx eh_3 (Nat.ne_of_lt (hD_2 _ _ k131)) k131
      refine z_dup hb dX2_addBase_71 rfl ?_
      refine z_iload_n hb dX2_addBase_72 rfl ?_
      refine z_call0 (b' := 47) (f' := 342) (rest := [.ref n_1, .ref a]) (av := [.ref n_1, .int (nI c)]) (z_siteI hb ho q1484 q1485 q1486 rfl zy_X12_init zl_X12_init dX2_addBase_73 : z_Site M _ _ _ _ _ ([.int (nI c)].reverse ++ .ref n_1 :: [.ref n_1, .ref a]) [.ref n_1, .ref a] _) zk_X12_init q130 hrm (m_X12_init (nI c) (z_nxs eh_3) (by omega)) (by omega) (by decide) (Nat.le_of_ble_eq_true rfl) (by omega) (by omega) ?_
      refine z_hn (fun h_12 eh_12 => ?_)
      have eh_12 : h_12 = z_up h_3 n_1 (.inr (9, [.int (nI c), .int (nI 110)])) := eh_12
      have k_13 : h_12 a = some (.inr (1, [.ref lr, .ref ls, .ref lv, .int (nI D), .int (w 2), .int (w 4), .int (w 5), .int (w 6)])) := z_nx eh_12 (Nat.ne_of_lt (hD_2 _ _ h1)) k_4
      have k_14 : h_12 lr = some (.inr (20, [.int m0, .ref er, .int (nI R)])) := z_nx eh_12 (Nat.ne_of_lt (hD_2 _ _ r1)) k_5
      have k_15 : h_12 er = some (.inl ((zm_G M).2.1 5, N0, .inr (.inr (.inr (.inr f0))))) := z_nx eh_12 (Nat.ne_of_lt (hD_2 _ _ r2)) k_6
      have k_16 : h_12 ls = some (.inr (20, [.int m9, .ref es, .int (nI S)])) := z_nx eh_12 (Nat.ne_of_lt (hD_2 _ _ h3)) k_7
      have k_17 : h_12 es = some (.inl ((zm_G M).2.1 5, N, .inr (.inr (.inr (.inr f))))) := z_nx eh_12 (Nat.ne_of_lt (hD_2 _ _ h4)) k_8
      have k_18 : h_12 lv = some (.inr (20, [.int mv, .ref ev, .int (nI S)])) := z_nx eh_12 (Nat.ne_of_lt (hD_2 _ _ v1)) k_9
      have k_19 : h_12 ev = some (.inl ((zm_G M).2.1 5, Nv, .inr (.inr (.inr (.inr fv))))) := z_nx eh_12 (Nat.ne_of_lt (hD_2 _ _ v2)) k_10
      have k_20 : h_12 ((zm_G M).2.2.1 13) = some (.inr (23, [.ref e13, .int (nI 0), .int (z_hs (z_lits.getD 13 [])), .int hz13])) := z_nx eh_12 (Nat.ne_of_lt (hD_2 _ _ k131)) k_11
      have e_21 := eh_12
      rw [eh_3, z_up_up] at e_21
      refine z_callQ1 (b' := 2) (f' := 46) (rest := []) (av := [.ref a, .ref n_1]) (z_siteV hb ho zc1 k_13 q1477 q1479 qs13 ⟨_, _, _, _, zk_X2_add⟩ zy_X2_add zl_X2_add dX2_addBase_76 : z_Site M _ _ _ _ _ ([.ref n_1].reverse ++ .ref a :: []) [] _) zk_X2_add q95 hrm (m_X2_add (hDr.kp (z_exN z_ex_r hD_2 e_21).kp) hb0 hR4 hD6 hS7 (by omega) (fun k hk => Nat.ne_of_lt (Nat.lt_of_lt_of_le (hDr.sn hD0 k hk) (by omega))) ((z_Sp_base hS7).2.1 (z_nxs eh_12)) hiW (Or.inl (Or.inr (Or.inl rfl)))) (by omega) (by decide) (Nat.le_of_ble_eq_true rfl) (by omega) (by omega) (fun rhq_22 h_23 n_24 hq_22 hn_24 => ?_)
      obtain ⟨rfl, hq_22⟩ := hq_22
      refine z_goto (tgt := 94) hb dX2_addBase_79 (by decide) ?_
      refine z_iret hb hr dX2_addBase_94 ?_
      rw [hQ]
      exact ⟨_, rfl, rfl, hq_22.1, ((z_exN z_ex_r hD_2 e_21).fb.t hq_22.2)⟩
    · exact absurd c_21 (by rw [show decide (nI 0 ≤ nI c ∧ nI c ≤ nI 99) = true from z_inN (by omega) (by omega) (by omega)]; exact Bool.noConfusion)
  · cases c_14

set_option maxHeartbeats 1000000 in
theorem m_X2_addBase_120 {l : Launch} {G : zG} {h : zH} {n : Nat} {b0 : Nat} {w : Nat → Int32} {v : Nat → Int64} {R S D a lr er ls es lv ev : Nat} {ra sa va na ba : Nat → Nat} {c : Nat} (hDr : z_Dr G h b0 w v R S D a lr er ls es lv ev ra sa va na ba) (hb0 : z_n0 G ≤ b0) (hR4 : R ≤ 40) (hD6 : D ≤ 6) (hS7 : S < 8) (hbn : b0 ≤ n) (hiW : z_inp w S) (hKS : z_KS G h) (hc9 : c ≤ 99) : z_C l G yX2_addBase 31 50 356 [.ref a, .int (nI 120), .int (nI c)] h n (z_q1 (fun r9 h' n' => r9 = .int (nI S) ∧ z_DR G h' b0 (tw_ns0 (tw_nst w S (nI 120) (nI c) 0 0) S (D + 1)) (tw_ns5 (tw_nst w S (nI 120) (nI c) 0 0) R S v (D + 1)) R (S + 1) D a ∧ z_fb b0 h h')) := by
  refine z_start zk_X2_addBase zpl_RX2 (Nat.le_of_ble_eq_true rfl) ?_
  intro hn0 M hl hG ho hb hN hr hm hH hrm hQ
  subst hl hG
  have ho : zm_o M = RX2 := ho
  obtain ⟨⟨ha0, h1⟩, ⟨lr0, lr1, N0, m0, f0, r1, r2, r3, r4, r4b, r5⟩, ⟨ls0, ls1, N, m9, f, h3, h4, h5, h6, h6b, h7⟩, ⟨lv0, lv1, Nv, mv, fv, v1, v2, v3, v4, v4b, v5⟩, hne, hse, h9, hs, hvx, hi, hrI, hna, hba⟩ := id hDr
  have r4N := r4.le
  have h6N := h6.le
  have v4N := v4.le
  obtain ⟨e13, hz13, k131, k132, k133, k134⟩ := hKS 13 (by decide)
  show z_V M h n 50 356 0 [(0, .ref a), (1, .int (nI 120)), (2, .int (nI c))] []
  refine z_dom (fun hD0 => ?_)
  refine z_ldcS (i := 13) hb ho rfl rfl rfl dX2_addBase_0 ?_
  refine z_iload_n hb dX2_addBase_2 rfl ?_
  refine z_callN1 (b' := 50) (f' := 356) (rest := []) (av := [.ref ((zm_G M).2.2.1 13), .int (nI 120)]) (z_siteV hb ho zc23 k131 q1411 q1412 q1413 ⟨_, _, _, _, zk_J6_indexOf⟩ zy_J6_indexOf zl_J6_indexOf dX2_addBase_3 : z_Site M _ _ _ _ _ ([.int (nI 120)].reverse ++ .ref ((zm_G M).2.2.1 13) :: []) [] _) zk_J6_indexOf q102 hrm (m_J6_indexOf (hKS 13 (by decide)) (show 120 < 65536 by omega)) (by omega) (by decide) (Nat.le_of_ble_eq_true rfl) (by omega) (by omega) (fun n_1 hn_1 => ?_)
  refine z_toI (y := nI 2) (by decide +kernel) ?_
  refine z_if_ltN (tgt := 13) hb dX2_addBase_6 (by decide) (by omega) ?_
  refine z_iconst (x := nI 1) hb dX2_addBase_9 (by decide) ?_
  refine z_toI (y := z_b true) (by decide) ?_
  refine z_goto (tgt := 14) hb dX2_addBase_10 (by decide) ?_
  refine z_callC0 (b' := 49) (f' := 350) (rest := []) (av := [.int (z_b true)]) (z_siteSN hb ho q1457 q1141 q94 ⟨_, _, _, _, zk_X1_requireArgument⟩ zy_X1_requireArgument zl_X1_requireArgument dX2_addBase_14 : z_Site M _ _ _ _ _ ([.int (z_b true)].reverse ++ []) [] _) zk_X1_requireArgument q94 hrm (m_X1_requireArgument true) (by omega) (by decide) (Nat.le_of_ble_eq_true rfl) (by omega) (by omega) (fun c_14 => ?_) (fun c_14 => ?_)
  · refine z_iload_n hb dX2_addBase_17 rfl ?_
    refine z_iconst (x := nI 0) hb dX2_addBase_18 (by decide) ?_
    refine z_bipush (x := nI 99) hb dX2_addBase_19 (by decide) ?_
    refine z_callC0 (b' := 48) (f' := 344) (rest := []) (av := [.int (nI c), .int (nI 0), .int (nI 99)]) (z_siteSN hb ho q1148 q1135 q94 ⟨_, _, _, _, zk_X1_requireRange⟩ zy_X1_requireRange zl_X1_requireRange dX2_addBase_21 : z_Site M _ _ _ _ _ ([.int (nI c), .int (nI 0), .int (nI 99)].reverse ++ []) [] _) zk_X1_requireRange q94 hrm (m_X1_requireRange (nI c) (nI 0) (nI 99)) (by omega) (by decide) (Nat.le_of_ble_eq_true rfl) (by omega) (by omega) (fun c_21 => ?_) (fun c_21 => ?_)
    · refine z_iload_n hb dX2_addBase_24 rfl ?_
      refine z_lookup (off := 57) (tgt := 82) hb dX2_addBase_25 (by decide) (by decide +kernel) (by decide) ?_
      refine z_aload_n hb dX2_addBase_82 rfl ?_
      refine z_dom (fun hD_2 => ?_)
      refine z_new (N0 := 2) (b' := 47) (f' := 342) (fs := [.int (nI 0), .int (nI 0)]) (C := RX13) (T := TX13) (N := 2) hb ho zc10 in_X13 tyX13_ok q1491 q1492 q131 dX2_addBase_83 (zdf_X13) (by omega) (by omega) ?_
      refine z_hn (fun h_3 eh_3 => ?_)
      have eh_3 : h_3 = z_up h n_1 (.inr (10, [.int (nI 0), .int (nI 0)])) := eh_3
      have k_4 : h_3 a = some (.inr (1, [.ref lr, .ref ls, .ref lv, .int (nI D), .int (w 2), .int (w 4), .int (w 5), .int (w 6)])) := z_nx eh_3 (Nat.ne_of_lt (hD_2 _ _ h1)) h1
      have k_5 : h_3 lr = some (.inr (20, [.int m0, .ref er, .int (nI R)])) := z_nx eh_3 (Nat.ne_of_lt (hD_2 _ _ r1)) r1
      have k_6 : h_3 er = some (.inl ((zm_G M).2.1 5, N0, .inr (.inr (.inr (.inr f0))))) := z_nx eh_3 (Nat.ne_of_lt (hD_2 _ _ r2)) r2
      have k_7 : h_3 ls = some (.inr (20, [.int m9, .ref es, .int (nI S)])) := z_nx eh_3 (Nat.ne_of_lt (hD_2 _ _ h3)) h3
      have k_8 : h_3 es = some (.inl ((zm_G M).2.1 5, N, .inr (.inr (.inr (.inr f))))) := z_nx eh_3 (Nat.ne_of_lt (hD_2 _ _ h4)) h4
      have k_9 : h_3 lv = some (.inr (20, [.int mv, .ref ev, .int (nI S)])) := z_nx eh_3 (Nat.ne_of_lt (hD_2 _ _ v1)) v1
      have k_10 : h_3 ev = some (.inl ((zm_G M).2.1 5, Nv, .inr (.inr (.inr (.inr fv))))) := z_nx eh_3 (Nat.ne_of_lt (hD_2 _ _ v2)) v2
      have k_11 : h_3 ((zm_G M).2.2.1 13) = some (.inr (23, [.ref e13, .int (nI 0), .int (z_hs (z_lits.getD 13 [])), .int hz13])) := z_nx eh_3 (Nat.ne_of_lt (hD_2 _ _ k131)) k131
      refine z_dup hb dX2_addBase_86 rfl ?_
      refine z_iload_n hb dX2_addBase_87 rfl ?_
      refine z_call0 (b' := 47) (f' := 342) (rest := [.ref n_1, .ref a]) (av := [.ref n_1, .int (nI c)]) (z_siteI hb ho q1493 q1494 q1495 rfl zy_X13_init zl_X13_init dX2_addBase_88 : z_Site M _ _ _ _ _ ([.int (nI c)].reverse ++ .ref n_1 :: [.ref n_1, .ref a]) [.ref n_1, .ref a] _) zk_X13_init q131 hrm (m_X13_init (nI c) (z_nxs eh_3) (by omega)) (by omega) (by decide) (Nat.le_of_ble_eq_true rfl) (by omega) (by omega) ?_
      refine z_hn (fun h_12 eh_12 => ?_)
      have eh_12 : h_12 = z_up h_3 n_1 (.inr (10, [.int (nI c), .int (nI 120)])) := eh_12
      have k_13 : h_12 a = some (.inr (1, [.ref lr, .ref ls, .ref lv, .int (nI D), .int (w 2), .int (w 4), .int (w 5), .int (w 6)])) := z_nx eh_12 (Nat.ne_of_lt (hD_2 _ _ h1)) k_4
      have k_14 : h_12 lr = some (.inr (20, [.int m0, .ref er, .int (nI R)])) := z_nx eh_12 (Nat.ne_of_lt (hD_2 _ _ r1)) k_5
      have k_15 : h_12 er = some (.inl ((zm_G M).2.1 5, N0, .inr (.inr (.inr (.inr f0))))) := z_nx eh_12 (Nat.ne_of_lt (hD_2 _ _ r2)) k_6
      have k_16 : h_12 ls = some (.inr (20, [.int m9, .ref es, .int (nI S)])) := z_nx eh_12 (Nat.ne_of_lt (hD_2 _ _ h3)) k_7
      have k_17 : h_12 es = some (.inl ((zm_G M).2.1 5, N, .inr (.inr (.inr (.inr f))))) := z_nx eh_12 (Nat.ne_of_lt (hD_2 _ _ h4)) k_8
      have k_18 : h_12 lv = some (.inr (20, [.int mv, .ref ev, .int (nI S)])) := z_nx eh_12 (Nat.ne_of_lt (hD_2 _ _ v1)) k_9
      have k_19 : h_12 ev = some (.inl ((zm_G M).2.1 5, Nv, .inr (.inr (.inr (.inr fv))))) := z_nx eh_12 (Nat.ne_of_lt (hD_2 _ _ v2)) k_10
      have k_20 : h_12 ((zm_G M).2.2.1 13) = some (.inr (23, [.ref e13, .int (nI 0), .int (z_hs (z_lits.getD 13 [])), .int hz13])) := z_nx eh_12 (Nat.ne_of_lt (hD_2 _ _ k131)) k_11
      have e_21 := eh_12
      rw [eh_3, z_up_up] at e_21
      refine z_callQ1 (b' := 2) (f' := 46) (rest := []) (av := [.ref a, .ref n_1]) (z_siteV hb ho zc1 k_13 q1477 q1479 qs13 ⟨_, _, _, _, zk_X2_add⟩ zy_X2_add zl_X2_add dX2_addBase_91 : z_Site M _ _ _ _ _ ([.ref n_1].reverse ++ .ref a :: []) [] _) zk_X2_add q95 hrm (m_X2_add (hDr.kp (z_exN z_ex_r hD_2 e_21).kp) hb0 hR4 hD6 hS7 (by omega) (fun k hk => Nat.ne_of_lt (Nat.lt_of_lt_of_le (hDr.sn hD0 k hk) (by omega))) ((z_Sp_base hS7).2.2 (z_nxs eh_12)) hiW (Or.inl (Or.inr (Or.inr rfl)))) (by omega) (by decide) (Nat.le_of_ble_eq_true rfl) (by omega) (by omega) (fun rhq_22 h_23 n_24 hq_22 hn_24 => ?_)
      obtain ⟨rfl, hq_22⟩ := hq_22
      refine z_iret hb hr dX2_addBase_94 ?_
      rw [hQ]
      exact ⟨_, rfl, rfl, hq_22.1, ((z_exN z_ex_r hD_2 e_21).fb.t hq_22.2)⟩
    · exact absurd c_21 (by rw [show decide (nI 0 ≤ nI c ∧ nI c ≤ nI 99) = true from z_inN (by omega) (by omega) (by omega)]; exact Bool.noConfusion)
  · cases c_14

set_option maxHeartbeats 1000000 in
theorem m_X2_addPair_p {l : Launch} {G : zG} {h : zH} {n : Nat} {b0 : Nat} {w : Nat → Int32} {v : Nat → Int64} {R S D a lr er ls es lv ev : Nat} {ra sa va na ba : Nat → Nat} {i j : Nat} (hDr : z_Dr G h b0 w v R S D a lr er ls es lv ev ra sa va na ba) (hb0 : z_n0 G ≤ b0) (hR4 : R ≤ 40) (hD6 : D ≤ 6) (hS7 : S < 8) (hbn : b0 ≤ n) (hiW : z_inp w S) (hKS : z_KS G h) (hi9 : i < S) (hj9 : j < S) : z_C l G yX2_addPair 31 50 356 [.ref a, .int (nI 43), .int (nI i), .int (nI j)] h n (z_q1 (fun r9 h' n' => r9 = .int (nI S) ∧ z_DR G h' b0 (tw_ns0 (tw_nst w S (nI 43) (nI 0) i j) S (D + 1)) (tw_ns5 (tw_nst w S (nI 43) (nI 0) i j) R S v (D + 1)) R (S + 1) D a ∧ z_fb b0 h h')) := by
  refine z_start zk_X2_addPair zpl_RX2 (Nat.le_of_ble_eq_true rfl) ?_
  intro hn0 M hl hG ho hb hN hr hm hH hrm hQ
  subst hl hG
  have ho : zm_o M = RX2 := ho
  obtain ⟨⟨ha0, h1⟩, ⟨lr0, lr1, N0, m0, f0, r1, r2, r3, r4, r4b, r5⟩, ⟨ls0, ls1, N, m9, f, h3, h4, h5, h6, h6b, h7⟩, ⟨lv0, lv1, Nv, mv, fv, v1, v2, v3, v4, v4b, v5⟩, hne, hse, h9, hs, hvx, hi, hrI, hna, hba⟩ := id hDr
  have r4N := r4.le
  have h6N := h6.le
  have v4N := v4.le
  obtain ⟨e14, hz14, k141, k142, k143, k144⟩ := hKS 14 (by decide)
  show z_V M h n 50 356 0 [(0, .ref a), (1, .int (nI 43)), (2, .int (nI i)), (3, .int (nI j))] []
  refine z_dom (fun hD0 => ?_)
  refine z_ldcS (i := 14) hb ho rfl rfl rfl dX2_addPair_0 ?_
  refine z_iload_n hb dX2_addPair_2 rfl ?_
  refine z_callN1 (b' := 50) (f' := 356) (rest := []) (av := [.ref ((zm_G M).2.2.1 14), .int (nI 43)]) (z_siteV hb ho zc23 k141 q1411 q1412 q1413 ⟨_, _, _, _, zk_J6_indexOf⟩ zy_J6_indexOf zl_J6_indexOf dX2_addPair_3 : z_Site M _ _ _ _ _ ([.int (nI 43)].reverse ++ .ref ((zm_G M).2.2.1 14) :: []) [] _) zk_J6_indexOf q102 hrm (m_J6_indexOf (hKS 14 (by decide)) (show 43 < 65536 by omega)) (by omega) (by decide) (Nat.le_of_ble_eq_true rfl) (by omega) (by omega) (fun n_1 hn_1 => ?_)
  refine z_toI (y := nI 0) (by decide +kernel) ?_
  refine z_if_ltN (tgt := 13) hb dX2_addPair_6 (by decide) (by omega) ?_
  refine z_iconst (x := nI 1) hb dX2_addPair_9 (by decide) ?_
  refine z_toI (y := z_b true) (by decide) ?_
  refine z_goto (tgt := 14) hb dX2_addPair_10 (by decide) ?_
  refine z_callC0 (b' := 49) (f' := 350) (rest := []) (av := [.int (z_b true)]) (z_siteSN hb ho q1457 q1141 q94 ⟨_, _, _, _, zk_X1_requireArgument⟩ zy_X1_requireArgument zl_X1_requireArgument dX2_addPair_14 : z_Site M _ _ _ _ _ ([.int (z_b true)].reverse ++ []) [] _) zk_X1_requireArgument q94 hrm (m_X1_requireArgument true) (by omega) (by decide) (Nat.le_of_ble_eq_true rfl) (by omega) (by omega) (fun c_14 => ?_) (fun c_14 => ?_)
  · refine z_aload_n hb dX2_addPair_17 rfl ?_
    refine z_iload_n hb dX2_addPair_18 rfl ?_
    refine z_call1 (b' := 48) (f' := 344) (rest := []) (av := [.ref a, .int (nI i)]) (z_siteV hb ho zc1 h1 q1505 q1506 q1507 ⟨_, _, _, _, zk_X2_step⟩ zy_X2_step zl_X2_step dX2_addPair_19 : z_Site M _ _ _ _ _ ([.int (nI i)].reverse ++ .ref a :: []) [] _) zk_X2_step q95 hrm (m_X2_step hDr.ln (by omega) hi9) (by omega) (by decide) (Nat.le_of_ble_eq_true rfl) (by omega) (by omega) ?_
    refine z_astore (lv' := [(4, .ref (sa i)), (0, .ref a), (1, .int (nI 43)), (2, .int (nI i)), (3, .int (nI j))]) hb dX2_addPair_22 (by rw [hN]; decide) rfl ?_
    refine z_aload_n hb dX2_addPair_24 rfl ?_
    refine z_dom (fun hD_2 => ?_)
    refine z_new (N0 := 4) (b' := 47) (f' := 340) (fs := [.int (nI 0), .null, .null, .int (nI 0)]) (C := RX14) (T := TX14) (N := 4) hb ho zc11 in_X14 tyX14_ok q1527 q1528 q133 dX2_addPair_25 (zdf_X14) (by omega) (by omega) ?_
    refine z_hn (fun h_3 eh_3 => ?_)
    have eh_3 : h_3 = z_up h n_1 (.inr (11, [.int (nI 0), .null, .null, .int (nI 0)])) := eh_3
    have k_4 : h_3 a = some (.inr (1, [.ref lr, .ref ls, .ref lv, .int (nI D), .int (w 2), .int (w 4), .int (w 5), .int (w 6)])) := z_nx eh_3 (Nat.ne_of_lt (hD_2 _ _ h1)) h1
    have k_5 : h_3 lr = some (.inr (20, [.int m0, .ref er, .int (nI R)])) := z_nx eh_3 (Nat.ne_of_lt (hD_2 _ _ r1)) r1
    have k_6 : h_3 er = some (.inl ((zm_G M).2.1 5, N0, .inr (.inr (.inr (.inr f0))))) := z_nx eh_3 (Nat.ne_of_lt (hD_2 _ _ r2)) r2
    have k_7 : h_3 ls = some (.inr (20, [.int m9, .ref es, .int (nI S)])) := z_nx eh_3 (Nat.ne_of_lt (hD_2 _ _ h3)) h3
    have k_8 : h_3 es = some (.inl ((zm_G M).2.1 5, N, .inr (.inr (.inr (.inr f))))) := z_nx eh_3 (Nat.ne_of_lt (hD_2 _ _ h4)) h4
    have k_9 : h_3 lv = some (.inr (20, [.int mv, .ref ev, .int (nI S)])) := z_nx eh_3 (Nat.ne_of_lt (hD_2 _ _ v1)) v1
    have k_10 : h_3 ev = some (.inl ((zm_G M).2.1 5, Nv, .inr (.inr (.inr (.inr fv))))) := z_nx eh_3 (Nat.ne_of_lt (hD_2 _ _ v2)) v2
    have k_11 : h_3 ((zm_G M).2.2.1 14) = some (.inr (23, [.ref e14, .int (nI 0), .int (z_hs (z_lits.getD 14 [])), .int hz14])) := z_nx eh_3 (Nat.ne_of_lt (hD_2 _ _ k141)) k141
    refine z_dup hb dX2_addPair_28 rfl ?_
    refine z_iload_n hb dX2_addPair_29 rfl ?_
    refine z_aload hb dX2_addPair_30 rfl ?_
    refine z_aload_n hb dX2_addPair_32 rfl ?_
    refine z_iload_n hb dX2_addPair_33 rfl ?_
    refine z_call1 (b' := 46) (f' := 334) (rest := [.ref (sa i), .int (nI 43), .ref n_1, .ref n_1, .ref a]) (av := [.ref a, .int (nI j)]) (z_siteV hb ho zc1 k_4 q1505 q1506 q1507 ⟨_, _, _, _, zk_X2_step⟩ zy_X2_step zl_X2_step dX2_addPair_34 : z_Site M _ _ _ _ _ ([.int (nI j)].reverse ++ .ref a :: [.ref (sa i), .int (nI 43), .ref n_1, .ref n_1, .ref a]) [.ref (sa i), .int (nI 43), .ref n_1, .ref n_1, .ref a] _) zk_X2_step q95 hrm (m_X2_step (hDr.kp (z_exN z_ex_r hD_2 eh_3).kp).ln (by omega) hj9) (by omega) (by decide) (Nat.le_of_ble_eq_true rfl) (by omega) (by omega) ?_
    refine z_call0 (b' := 46) (f' := 334) (rest := [.ref n_1, .ref a]) (av := [.ref n_1, .int (nI 43), .ref (sa i), .ref (sa j)]) (z_siteI hb ho q1529 q1530 q1531 rfl zy_X14_init zl_X14_init dX2_addPair_37 : z_Site M _ _ _ _ _ ([.int (nI 43), .ref (sa i), .ref (sa j)].reverse ++ .ref n_1 :: [.ref n_1, .ref a]) [.ref n_1, .ref a] _) zk_X14_init q133 hrm (m_X14_init_p (z_nxs eh_3) (by omega)) (by omega) (by decide) (Nat.le_of_ble_eq_true rfl) (by omega) (by omega) ?_
    refine z_hn (fun h_12 eh_12 => ?_)
    have eh_12 : h_12 = z_up h_3 n_1 (.inr (11, [.int (nI 43), .ref (sa i), .ref (sa j), .int (nI 1)])) := eh_12
    have k_13 : h_12 a = some (.inr (1, [.ref lr, .ref ls, .ref lv, .int (nI D), .int (w 2), .int (w 4), .int (w 5), .int (w 6)])) := z_nx eh_12 (Nat.ne_of_lt (hD_2 _ _ h1)) k_4
    have k_14 : h_12 lr = some (.inr (20, [.int m0, .ref er, .int (nI R)])) := z_nx eh_12 (Nat.ne_of_lt (hD_2 _ _ r1)) k_5
    have k_15 : h_12 er = some (.inl ((zm_G M).2.1 5, N0, .inr (.inr (.inr (.inr f0))))) := z_nx eh_12 (Nat.ne_of_lt (hD_2 _ _ r2)) k_6
    have k_16 : h_12 ls = some (.inr (20, [.int m9, .ref es, .int (nI S)])) := z_nx eh_12 (Nat.ne_of_lt (hD_2 _ _ h3)) k_7
    have k_17 : h_12 es = some (.inl ((zm_G M).2.1 5, N, .inr (.inr (.inr (.inr f))))) := z_nx eh_12 (Nat.ne_of_lt (hD_2 _ _ h4)) k_8
    have k_18 : h_12 lv = some (.inr (20, [.int mv, .ref ev, .int (nI S)])) := z_nx eh_12 (Nat.ne_of_lt (hD_2 _ _ v1)) k_9
    have k_19 : h_12 ev = some (.inl ((zm_G M).2.1 5, Nv, .inr (.inr (.inr (.inr fv))))) := z_nx eh_12 (Nat.ne_of_lt (hD_2 _ _ v2)) k_10
    have k_20 : h_12 ((zm_G M).2.2.1 14) = some (.inr (23, [.ref e14, .int (nI 0), .int (z_hs (z_lits.getD 14 [])), .int hz14])) := z_nx eh_12 (Nat.ne_of_lt (hD_2 _ _ k141)) k_11
    have e_21 := eh_12
    rw [eh_3, z_up_up] at e_21
    refine z_callQ1 (b' := 1) (f' := 38) (rest := []) (av := [.ref a, .ref n_1]) (z_siteV hb ho zc1 k_13 q1477 q1479 qs13 ⟨_, _, _, _, zk_X2_add⟩ zy_X2_add zl_X2_add dX2_addPair_40 : z_Site M _ _ _ _ _ ([.ref n_1].reverse ++ .ref a :: []) [] _) zk_X2_add q95 hrm (m_X2_add (hDr.kp (z_exN z_ex_r hD_2 e_21).kp) hb0 hR4 hD6 hS7 (by omega) (fun k hk => Nat.ne_of_lt (Nat.lt_of_lt_of_le (hDr.sn hD0 k hk) (by omega))) (z_Sp_plus (bd := nI 0) hS7 hi9 hj9 (z_nxs eh_12)) hiW (Or.inr (Or.inl ⟨Or.inl rfl, hi9, hj9⟩))) (by omega) (by decide) (Nat.le_of_ble_eq_true rfl) (by omega) (by omega) (fun rhq_22 h_23 n_24 hq_22 hn_24 => ?_)
    obtain ⟨rfl, hq_22⟩ := hq_22
    refine z_iret hb hr dX2_addPair_43 ?_
    rw [hQ]
    exact ⟨_, rfl, rfl, hq_22.1, ((z_exN z_ex_r hD_2 e_21).fb.t hq_22.2)⟩
  · cases c_14

set_option maxHeartbeats 1000000 in
theorem m_X2_addPair_m {l : Launch} {G : zG} {h : zH} {n : Nat} {b0 : Nat} {w : Nat → Int32} {v : Nat → Int64} {R S D a lr er ls es lv ev : Nat} {ra sa va na ba : Nat → Nat} {i j : Nat} (hDr : z_Dr G h b0 w v R S D a lr er ls es lv ev ra sa va na ba) (hb0 : z_n0 G ≤ b0) (hR4 : R ≤ 40) (hD6 : D ≤ 6) (hS7 : S < 8) (hbn : b0 ≤ n) (hiW : z_inp w S) (hKS : z_KS G h) (hi9 : i < S) (hj9 : j < S) : z_C l G yX2_addPair 31 50 356 [.ref a, .int (nI 45), .int (nI i), .int (nI j)] h n (z_q1 (fun r9 h' n' => r9 = .int (nI S) ∧ z_DR G h' b0 (tw_ns0 (tw_nst w S (nI 45) (nI 0) i j) S (D + 1)) (tw_ns5 (tw_nst w S (nI 45) (nI 0) i j) R S v (D + 1)) R (S + 1) D a ∧ z_fb b0 h h')) := by
  refine z_start zk_X2_addPair zpl_RX2 (Nat.le_of_ble_eq_true rfl) ?_
  intro hn0 M hl hG ho hb hN hr hm hH hrm hQ
  subst hl hG
  have ho : zm_o M = RX2 := ho
  obtain ⟨⟨ha0, h1⟩, ⟨lr0, lr1, N0, m0, f0, r1, r2, r3, r4, r4b, r5⟩, ⟨ls0, ls1, N, m9, f, h3, h4, h5, h6, h6b, h7⟩, ⟨lv0, lv1, Nv, mv, fv, v1, v2, v3, v4, v4b, v5⟩, hne, hse, h9, hs, hvx, hi, hrI, hna, hba⟩ := id hDr
  have r4N := r4.le
  have h6N := h6.le
  have v4N := v4.le
  obtain ⟨e14, hz14, k141, k142, k143, k144⟩ := hKS 14 (by decide)
  show z_V M h n 50 356 0 [(0, .ref a), (1, .int (nI 45)), (2, .int (nI i)), (3, .int (nI j))] []
  refine z_dom (fun hD0 => ?_)
  refine z_ldcS (i := 14) hb ho rfl rfl rfl dX2_addPair_0 ?_
  refine z_iload_n hb dX2_addPair_2 rfl ?_
  refine z_callN1 (b' := 50) (f' := 356) (rest := []) (av := [.ref ((zm_G M).2.2.1 14), .int (nI 45)]) (z_siteV hb ho zc23 k141 q1411 q1412 q1413 ⟨_, _, _, _, zk_J6_indexOf⟩ zy_J6_indexOf zl_J6_indexOf dX2_addPair_3 : z_Site M _ _ _ _ _ ([.int (nI 45)].reverse ++ .ref ((zm_G M).2.2.1 14) :: []) [] _) zk_J6_indexOf q102 hrm (m_J6_indexOf (hKS 14 (by decide)) (show 45 < 65536 by omega)) (by omega) (by decide) (Nat.le_of_ble_eq_true rfl) (by omega) (by omega) (fun n_1 hn_1 => ?_)
  refine z_toI (y := nI 1) (by decide +kernel) ?_
  refine z_if_ltN (tgt := 13) hb dX2_addPair_6 (by decide) (by omega) ?_
  refine z_iconst (x := nI 1) hb dX2_addPair_9 (by decide) ?_
  refine z_toI (y := z_b true) (by decide) ?_
  refine z_goto (tgt := 14) hb dX2_addPair_10 (by decide) ?_
  refine z_callC0 (b' := 49) (f' := 350) (rest := []) (av := [.int (z_b true)]) (z_siteSN hb ho q1457 q1141 q94 ⟨_, _, _, _, zk_X1_requireArgument⟩ zy_X1_requireArgument zl_X1_requireArgument dX2_addPair_14 : z_Site M _ _ _ _ _ ([.int (z_b true)].reverse ++ []) [] _) zk_X1_requireArgument q94 hrm (m_X1_requireArgument true) (by omega) (by decide) (Nat.le_of_ble_eq_true rfl) (by omega) (by omega) (fun c_14 => ?_) (fun c_14 => ?_)
  · refine z_aload_n hb dX2_addPair_17 rfl ?_
    refine z_iload_n hb dX2_addPair_18 rfl ?_
    refine z_call1 (b' := 48) (f' := 344) (rest := []) (av := [.ref a, .int (nI i)]) (z_siteV hb ho zc1 h1 q1505 q1506 q1507 ⟨_, _, _, _, zk_X2_step⟩ zy_X2_step zl_X2_step dX2_addPair_19 : z_Site M _ _ _ _ _ ([.int (nI i)].reverse ++ .ref a :: []) [] _) zk_X2_step q95 hrm (m_X2_step hDr.ln (by omega) hi9) (by omega) (by decide) (Nat.le_of_ble_eq_true rfl) (by omega) (by omega) ?_
    refine z_astore (lv' := [(4, .ref (sa i)), (0, .ref a), (1, .int (nI 45)), (2, .int (nI i)), (3, .int (nI j))]) hb dX2_addPair_22 (by rw [hN]; decide) rfl ?_
    refine z_aload_n hb dX2_addPair_24 rfl ?_
    refine z_dom (fun hD_2 => ?_)
    refine z_new (N0 := 4) (b' := 47) (f' := 340) (fs := [.int (nI 0), .null, .null, .int (nI 0)]) (C := RX14) (T := TX14) (N := 4) hb ho zc11 in_X14 tyX14_ok q1527 q1528 q133 dX2_addPair_25 (zdf_X14) (by omega) (by omega) ?_
    refine z_hn (fun h_3 eh_3 => ?_)
    have eh_3 : h_3 = z_up h n_1 (.inr (11, [.int (nI 0), .null, .null, .int (nI 0)])) := eh_3
    have k_4 : h_3 a = some (.inr (1, [.ref lr, .ref ls, .ref lv, .int (nI D), .int (w 2), .int (w 4), .int (w 5), .int (w 6)])) := z_nx eh_3 (Nat.ne_of_lt (hD_2 _ _ h1)) h1
    have k_5 : h_3 lr = some (.inr (20, [.int m0, .ref er, .int (nI R)])) := z_nx eh_3 (Nat.ne_of_lt (hD_2 _ _ r1)) r1
    have k_6 : h_3 er = some (.inl ((zm_G M).2.1 5, N0, .inr (.inr (.inr (.inr f0))))) := z_nx eh_3 (Nat.ne_of_lt (hD_2 _ _ r2)) r2
    have k_7 : h_3 ls = some (.inr (20, [.int m9, .ref es, .int (nI S)])) := z_nx eh_3 (Nat.ne_of_lt (hD_2 _ _ h3)) h3
    have k_8 : h_3 es = some (.inl ((zm_G M).2.1 5, N, .inr (.inr (.inr (.inr f))))) := z_nx eh_3 (Nat.ne_of_lt (hD_2 _ _ h4)) h4
    have k_9 : h_3 lv = some (.inr (20, [.int mv, .ref ev, .int (nI S)])) := z_nx eh_3 (Nat.ne_of_lt (hD_2 _ _ v1)) v1
    have k_10 : h_3 ev = some (.inl ((zm_G M).2.1 5, Nv, .inr (.inr (.inr (.inr fv))))) := z_nx eh_3 (Nat.ne_of_lt (hD_2 _ _ v2)) v2
    have k_11 : h_3 ((zm_G M).2.2.1 14) = some (.inr (23, [.ref e14, .int (nI 0), .int (z_hs (z_lits.getD 14 [])), .int hz14])) := z_nx eh_3 (Nat.ne_of_lt (hD_2 _ _ k141)) k141
    refine z_dup hb dX2_addPair_28 rfl ?_
    refine z_iload_n hb dX2_addPair_29 rfl ?_
    refine z_aload hb dX2_addPair_30 rfl ?_
    refine z_aload_n hb dX2_addPair_32 rfl ?_
    refine z_iload_n hb dX2_addPair_33 rfl ?_
    refine z_call1 (b' := 46) (f' := 334) (rest := [.ref (sa i), .int (nI 45), .ref n_1, .ref n_1, .ref a]) (av := [.ref a, .int (nI j)]) (z_siteV hb ho zc1 k_4 q1505 q1506 q1507 ⟨_, _, _, _, zk_X2_step⟩ zy_X2_step zl_X2_step dX2_addPair_34 : z_Site M _ _ _ _ _ ([.int (nI j)].reverse ++ .ref a :: [.ref (sa i), .int (nI 45), .ref n_1, .ref n_1, .ref a]) [.ref (sa i), .int (nI 45), .ref n_1, .ref n_1, .ref a] _) zk_X2_step q95 hrm (m_X2_step (hDr.kp (z_exN z_ex_r hD_2 eh_3).kp).ln (by omega) hj9) (by omega) (by decide) (Nat.le_of_ble_eq_true rfl) (by omega) (by omega) ?_
    refine z_call0 (b' := 46) (f' := 334) (rest := [.ref n_1, .ref a]) (av := [.ref n_1, .int (nI 45), .ref (sa i), .ref (sa j)]) (z_siteI hb ho q1529 q1530 q1531 rfl zy_X14_init zl_X14_init dX2_addPair_37 : z_Site M _ _ _ _ _ ([.int (nI 45), .ref (sa i), .ref (sa j)].reverse ++ .ref n_1 :: [.ref n_1, .ref a]) [.ref n_1, .ref a] _) zk_X14_init q133 hrm (m_X14_init_m (z_nxs eh_3) (by omega)) (by omega) (by decide) (Nat.le_of_ble_eq_true rfl) (by omega) (by omega) ?_
    refine z_hn (fun h_12 eh_12 => ?_)
    have eh_12 : h_12 = z_up h_3 n_1 (.inr (11, [.int (nI 45), .ref (sa i), .ref (sa j), .int (-1)])) := eh_12
    have k_13 : h_12 a = some (.inr (1, [.ref lr, .ref ls, .ref lv, .int (nI D), .int (w 2), .int (w 4), .int (w 5), .int (w 6)])) := z_nx eh_12 (Nat.ne_of_lt (hD_2 _ _ h1)) k_4
    have k_14 : h_12 lr = some (.inr (20, [.int m0, .ref er, .int (nI R)])) := z_nx eh_12 (Nat.ne_of_lt (hD_2 _ _ r1)) k_5
    have k_15 : h_12 er = some (.inl ((zm_G M).2.1 5, N0, .inr (.inr (.inr (.inr f0))))) := z_nx eh_12 (Nat.ne_of_lt (hD_2 _ _ r2)) k_6
    have k_16 : h_12 ls = some (.inr (20, [.int m9, .ref es, .int (nI S)])) := z_nx eh_12 (Nat.ne_of_lt (hD_2 _ _ h3)) k_7
    have k_17 : h_12 es = some (.inl ((zm_G M).2.1 5, N, .inr (.inr (.inr (.inr f))))) := z_nx eh_12 (Nat.ne_of_lt (hD_2 _ _ h4)) k_8
    have k_18 : h_12 lv = some (.inr (20, [.int mv, .ref ev, .int (nI S)])) := z_nx eh_12 (Nat.ne_of_lt (hD_2 _ _ v1)) k_9
    have k_19 : h_12 ev = some (.inl ((zm_G M).2.1 5, Nv, .inr (.inr (.inr (.inr fv))))) := z_nx eh_12 (Nat.ne_of_lt (hD_2 _ _ v2)) k_10
    have k_20 : h_12 ((zm_G M).2.2.1 14) = some (.inr (23, [.ref e14, .int (nI 0), .int (z_hs (z_lits.getD 14 [])), .int hz14])) := z_nx eh_12 (Nat.ne_of_lt (hD_2 _ _ k141)) k_11
    have e_21 := eh_12
    rw [eh_3, z_up_up] at e_21
    refine z_callQ1 (b' := 1) (f' := 38) (rest := []) (av := [.ref a, .ref n_1]) (z_siteV hb ho zc1 k_13 q1477 q1479 qs13 ⟨_, _, _, _, zk_X2_add⟩ zy_X2_add zl_X2_add dX2_addPair_40 : z_Site M _ _ _ _ _ ([.ref n_1].reverse ++ .ref a :: []) [] _) zk_X2_add q95 hrm (m_X2_add (hDr.kp (z_exN z_ex_r hD_2 e_21).kp) hb0 hR4 hD6 hS7 (by omega) (fun k hk => Nat.ne_of_lt (Nat.lt_of_lt_of_le (hDr.sn hD0 k hk) (by omega))) (z_Sp_minus (bd := nI 0) hS7 hi9 hj9 (z_nxs eh_12)) hiW (Or.inr (Or.inl ⟨Or.inr rfl, hi9, hj9⟩))) (by omega) (by decide) (Nat.le_of_ble_eq_true rfl) (by omega) (by omega) (fun rhq_22 h_23 n_24 hq_22 hn_24 => ?_)
    obtain ⟨rfl, hq_22⟩ := hq_22
    refine z_iret hb hr dX2_addPair_43 ?_
    rw [hQ]
    exact ⟨_, rfl, rfl, hq_22.1, ((z_exN z_ex_r hD_2 e_21).fb.t hq_22.2)⟩
  · cases c_14

set_option maxHeartbeats 1000000 in
theorem m_X2_addBase_no1 {l : Launch} {G : zG} {h : zH} {n : Nat} {w : Nat → Int32} {v : Nat → Int64} {R S D a lr ls lv : Nat} {ra sa va : Nat → Nat} {c : Nat} {x : Int32} (hL : z_Ln G h w v R S D a lr ls lv ra sa va) (hS8 : S ≤ 8) (hKS : z_KS G h) (hc16 : c < 65536) (hx : z_ix (z_lits.getD 13 []) c = none) : z_C l G yX2_addBase 31 50 356 [.ref a, .int (nI c), .int x] h n (z_tf 27 [] h n) := by
  refine z_start zk_X2_addBase zpl_RX2 (Nat.le_of_ble_eq_true rfl) ?_
  intro hn0 M hl hG ho hb hN hr hm hH hrm hQ
  subst hl hG
  have ho : zm_o M = RX2 := ho
  obtain ⟨h1, ⟨e0, N0, m0, f0, r1, r2, r3, ⟨r4, r4n⟩, r5⟩, ⟨e, N, m9, f, h3, h4, h5, ⟨h6, h6n⟩, h7⟩, ⟨ev, Nv, mv, fv, v1, v2, v3, ⟨v4, v4n⟩, v5⟩, h9, hs, hv, hi, hrI⟩ := id hL
  obtain ⟨e13, hz13, k131, k132, k133, k134⟩ := hKS 13 (by decide)
  show z_V M h n 50 356 0 [(0, .ref a), (1, .int (nI c)), (2, .int x)] []
  refine z_dom (fun hD0 => ?_)
  refine z_ldcS (i := 13) hb ho rfl rfl rfl dX2_addBase_0 ?_
  refine z_iload_n hb dX2_addBase_2 rfl ?_
  refine z_callN1 (b' := 50) (f' := 356) (rest := []) (av := [.ref ((zm_G M).2.2.1 13), .int (nI c)]) (z_siteV hb ho zc23 k131 q1411 q1412 q1413 ⟨_, _, _, _, zk_J6_indexOf⟩ zy_J6_indexOf zl_J6_indexOf dX2_addBase_3 : z_Site M _ _ _ _ _ ([.int (nI c)].reverse ++ .ref ((zm_G M).2.2.1 13) :: []) [] _) zk_J6_indexOf q102 hrm (m_J6_indexOf (hKS 13 (by decide)) (show c < 65536 by omega)) (by omega) (by decide) (Nat.le_of_ble_eq_true rfl) (by omega) (by omega) (fun n_1 hn_1 => ?_)
  refine z_toI (y := (-1 : Int32)) (by rw [hx]; rfl) ?_
  refine z_if_lt (tgt := 13) hb dX2_addBase_6 (by decide) (fun c_6 => ?_) (fun c_6 => ?_)
  · refine z_iconst (x := nI 0) hb dX2_addBase_13 (by decide) ?_
    refine z_toI (y := z_b false) (by decide) ?_
    refine z_callC0 (b' := 49) (f' := 350) (rest := []) (av := [.int (z_b false)]) (z_siteSN hb ho q1457 q1141 q94 ⟨_, _, _, _, zk_X1_requireArgument⟩ zy_X1_requireArgument zl_X1_requireArgument dX2_addBase_14 : z_Site M _ _ _ _ _ ([.int (z_b false)].reverse ++ []) [] _) zk_X1_requireArgument q94 hrm (m_X1_requireArgument false) (by omega) (by decide) (Nat.le_of_ble_eq_true rfl) (by omega) (by omega) (fun c_14 => ?_) (fun c_14 => ?_)
    · cases c_14
    · exact z_out ho hH zc27 z_up_s (by omega) (fun _ h => nomatch h) (by rw [hQ]; exact ⟨_, rfl, by omega, Nat.lt_succ_self _, rfl⟩)
  · exact absurd (show (-1 : Int32) < 0 by decide) (by first | exact c_6 | exact Int32.not_lt.mpr c_6)

set_option maxHeartbeats 1000000 in
theorem m_X2_addPair_no1 {l : Launch} {G : zG} {h : zH} {n : Nat} {w : Nat → Int32} {v : Nat → Int64} {R S D a lr ls lv : Nat} {ra sa va : Nat → Nat} {c : Nat} {x y : Int32} (hL : z_Ln G h w v R S D a lr ls lv ra sa va) (hS8 : S ≤ 8) (hKS : z_KS G h) (hc16 : c < 65536) (hx : z_ix (z_lits.getD 14 []) c = none) : z_C l G yX2_addPair 31 50 356 [.ref a, .int (nI c), .int x, .int y] h n (z_tf 27 [] h n) := by
  refine z_start zk_X2_addPair zpl_RX2 (Nat.le_of_ble_eq_true rfl) ?_
  intro hn0 M hl hG ho hb hN hr hm hH hrm hQ
  subst hl hG
  have ho : zm_o M = RX2 := ho
  obtain ⟨h1, ⟨e0, N0, m0, f0, r1, r2, r3, ⟨r4, r4n⟩, r5⟩, ⟨e, N, m9, f, h3, h4, h5, ⟨h6, h6n⟩, h7⟩, ⟨ev, Nv, mv, fv, v1, v2, v3, ⟨v4, v4n⟩, v5⟩, h9, hs, hv, hi, hrI⟩ := id hL
  obtain ⟨e14, hz14, k141, k142, k143, k144⟩ := hKS 14 (by decide)
  show z_V M h n 50 356 0 [(0, .ref a), (1, .int (nI c)), (2, .int x), (3, .int y)] []
  refine z_dom (fun hD0 => ?_)
  refine z_ldcS (i := 14) hb ho rfl rfl rfl dX2_addPair_0 ?_
  refine z_iload_n hb dX2_addPair_2 rfl ?_
  refine z_callN1 (b' := 50) (f' := 356) (rest := []) (av := [.ref ((zm_G M).2.2.1 14), .int (nI c)]) (z_siteV hb ho zc23 k141 q1411 q1412 q1413 ⟨_, _, _, _, zk_J6_indexOf⟩ zy_J6_indexOf zl_J6_indexOf dX2_addPair_3 : z_Site M _ _ _ _ _ ([.int (nI c)].reverse ++ .ref ((zm_G M).2.2.1 14) :: []) [] _) zk_J6_indexOf q102 hrm (m_J6_indexOf (hKS 14 (by decide)) (show c < 65536 by omega)) (by omega) (by decide) (Nat.le_of_ble_eq_true rfl) (by omega) (by omega) (fun n_1 hn_1 => ?_)
  refine z_toI (y := (-1 : Int32)) (by rw [hx]; rfl) ?_
  refine z_if_lt (tgt := 13) hb dX2_addPair_6 (by decide) (fun c_6 => ?_) (fun c_6 => ?_)
  · refine z_iconst (x := nI 0) hb dX2_addPair_13 (by decide) ?_
    refine z_toI (y := z_b false) (by decide) ?_
    refine z_callC0 (b' := 49) (f' := 350) (rest := []) (av := [.int (z_b false)]) (z_siteSN hb ho q1457 q1141 q94 ⟨_, _, _, _, zk_X1_requireArgument⟩ zy_X1_requireArgument zl_X1_requireArgument dX2_addPair_14 : z_Site M _ _ _ _ _ ([.int (z_b false)].reverse ++ []) [] _) zk_X1_requireArgument q94 hrm (m_X1_requireArgument false) (by omega) (by decide) (Nat.le_of_ble_eq_true rfl) (by omega) (by omega) (fun c_14 => ?_) (fun c_14 => ?_)
    · cases c_14
    · exact z_out ho hH zc27 z_up_s (by omega) (fun _ h => nomatch h) (by rw [hQ]; exact ⟨_, rfl, by omega, Nat.lt_succ_self _, rfl⟩)
  · exact absurd (show (-1 : Int32) < 0 by decide) (by first | exact c_6 | exact Int32.not_lt.mpr c_6)

set_option maxHeartbeats 1000000 in
theorem m_X2_addBase_no2_115 {l : Launch} {G : zG} {h : zH} {n : Nat} {w : Nat → Int32} {v : Nat → Int64} {R S D a lr ls lv : Nat} {ra sa va : Nat → Nat} {x : Int32} (hL : z_Ln G h w v R S D a lr ls lv ra sa va) (hS8 : S ≤ 8) (hKS : z_KS G h) (hx : decide (nI 0 ≤ x ∧ x ≤ nI 99) = false) : z_C l G yX2_addBase 31 50 356 [.ref a, .int (nI 115), .int x] h n (z_tf 27 [] h n) := by
  refine z_start zk_X2_addBase zpl_RX2 (Nat.le_of_ble_eq_true rfl) ?_
  intro hn0 M hl hG ho hb hN hr hm hH hrm hQ
  subst hl hG
  have ho : zm_o M = RX2 := ho
  obtain ⟨h1, ⟨e0, N0, m0, f0, r1, r2, r3, ⟨r4, r4n⟩, r5⟩, ⟨e, N, m9, f, h3, h4, h5, ⟨h6, h6n⟩, h7⟩, ⟨ev, Nv, mv, fv, v1, v2, v3, ⟨v4, v4n⟩, v5⟩, h9, hs, hv, hi, hrI⟩ := id hL
  obtain ⟨e13, hz13, k131, k132, k133, k134⟩ := hKS 13 (by decide)
  show z_V M h n 50 356 0 [(0, .ref a), (1, .int (nI 115)), (2, .int x)] []
  refine z_dom (fun hD0 => ?_)
  refine z_ldcS (i := 13) hb ho rfl rfl rfl dX2_addBase_0 ?_
  refine z_iload_n hb dX2_addBase_2 rfl ?_
  refine z_callN1 (b' := 50) (f' := 356) (rest := []) (av := [.ref ((zm_G M).2.2.1 13), .int (nI 115)]) (z_siteV hb ho zc23 k131 q1411 q1412 q1413 ⟨_, _, _, _, zk_J6_indexOf⟩ zy_J6_indexOf zl_J6_indexOf dX2_addBase_3 : z_Site M _ _ _ _ _ ([.int (nI 115)].reverse ++ .ref ((zm_G M).2.2.1 13) :: []) [] _) zk_J6_indexOf q102 hrm (m_J6_indexOf (hKS 13 (by decide)) (show 115 < 65536 by omega)) (by omega) (by decide) (Nat.le_of_ble_eq_true rfl) (by omega) (by omega) (fun n_1 hn_1 => ?_)
  refine z_toI (y := nI 0) (by decide +kernel) ?_
  refine z_if_ltN (tgt := 13) hb dX2_addBase_6 (by decide) (by omega) ?_
  refine z_iconst (x := nI 1) hb dX2_addBase_9 (by decide) ?_
  refine z_toI (y := z_b true) (by decide) ?_
  refine z_goto (tgt := 14) hb dX2_addBase_10 (by decide) ?_
  refine z_callC0 (b' := 49) (f' := 350) (rest := []) (av := [.int (z_b true)]) (z_siteSN hb ho q1457 q1141 q94 ⟨_, _, _, _, zk_X1_requireArgument⟩ zy_X1_requireArgument zl_X1_requireArgument dX2_addBase_14 : z_Site M _ _ _ _ _ ([.int (z_b true)].reverse ++ []) [] _) zk_X1_requireArgument q94 hrm (m_X1_requireArgument true) (by omega) (by decide) (Nat.le_of_ble_eq_true rfl) (by omega) (by omega) (fun c_14 => ?_) (fun c_14 => ?_)
  · refine z_iload_n hb dX2_addBase_17 rfl ?_
    refine z_iconst (x := nI 0) hb dX2_addBase_18 (by decide) ?_
    refine z_bipush (x := nI 99) hb dX2_addBase_19 (by decide) ?_
    refine z_callC0 (b' := 48) (f' := 344) (rest := []) (av := [.int x, .int (nI 0), .int (nI 99)]) (z_siteSN hb ho q1148 q1135 q94 ⟨_, _, _, _, zk_X1_requireRange⟩ zy_X1_requireRange zl_X1_requireRange dX2_addBase_21 : z_Site M _ _ _ _ _ ([.int x, .int (nI 0), .int (nI 99)].reverse ++ []) [] _) zk_X1_requireRange q94 hrm (m_X1_requireRange x (nI 0) (nI 99)) (by omega) (by decide) (Nat.le_of_ble_eq_true rfl) (by omega) (by omega) (fun c_21 => ?_) (fun c_21 => ?_)
    · rw [hx] at c_21; cases c_21
    · exact z_out ho hH zc27 z_up_s (by omega) (fun _ h => nomatch h) (by rw [hQ]; exact ⟨_, rfl, by omega, Nat.lt_succ_self _, rfl⟩)
  · cases c_14

set_option maxHeartbeats 1000000 in
theorem m_X2_addBase_no3_115 {l : Launch} {G : zG} {h : zH} {n : Nat} {w : Nat → Int32} {v : Nat → Int64} {R S D a lr ls lv : Nat} {ra sa va : Nat → Nat} {c : Nat} (hL : z_Ln G h w v R S D a lr ls lv ra sa va) (hS8 : S ≤ 8) (hKS : z_KS G h) (hc9 : c ≤ 99) (hS9 : S = 8) : z_C l G yX2_addBase 31 50 356 [.ref a, .int (nI 115), .int (nI c)] h n (z_tf 5 [.null, .null, .null, .null, .null, .int (nI 0), .int (nI 1), .int (nI 8)] h n) := by
  refine z_start zk_X2_addBase zpl_RX2 (Nat.le_of_ble_eq_true rfl) ?_
  intro hn0 M hl hG ho hb hN hr hm hH hrm hQ
  subst hl hG
  have ho : zm_o M = RX2 := ho
  obtain ⟨h1, ⟨e0, N0, m0, f0, r1, r2, r3, ⟨r4, r4n⟩, r5⟩, ⟨e, N, m9, f, h3, h4, h5, ⟨h6, h6n⟩, h7⟩, ⟨ev, Nv, mv, fv, v1, v2, v3, ⟨v4, v4n⟩, v5⟩, h9, hs, hv, hi, hrI⟩ := id hL
  obtain ⟨e13, hz13, k131, k132, k133, k134⟩ := hKS 13 (by decide)
  show z_V M h n 50 356 0 [(0, .ref a), (1, .int (nI 115)), (2, .int (nI c))] []
  refine z_dom (fun hD0 => ?_)
  refine z_ldcS (i := 13) hb ho rfl rfl rfl dX2_addBase_0 ?_
  refine z_iload_n hb dX2_addBase_2 rfl ?_
  refine z_callN1 (b' := 50) (f' := 356) (rest := []) (av := [.ref ((zm_G M).2.2.1 13), .int (nI 115)]) (z_siteV hb ho zc23 k131 q1411 q1412 q1413 ⟨_, _, _, _, zk_J6_indexOf⟩ zy_J6_indexOf zl_J6_indexOf dX2_addBase_3 : z_Site M _ _ _ _ _ ([.int (nI 115)].reverse ++ .ref ((zm_G M).2.2.1 13) :: []) [] _) zk_J6_indexOf q102 hrm (m_J6_indexOf (hKS 13 (by decide)) (show 115 < 65536 by omega)) (by omega) (by decide) (Nat.le_of_ble_eq_true rfl) (by omega) (by omega) (fun n_1 hn_1 => ?_)
  refine z_toI (y := nI 0) (by decide +kernel) ?_
  refine z_if_ltN (tgt := 13) hb dX2_addBase_6 (by decide) (by omega) ?_
  refine z_iconst (x := nI 1) hb dX2_addBase_9 (by decide) ?_
  refine z_toI (y := z_b true) (by decide) ?_
  refine z_goto (tgt := 14) hb dX2_addBase_10 (by decide) ?_
  refine z_callC0 (b' := 49) (f' := 350) (rest := []) (av := [.int (z_b true)]) (z_siteSN hb ho q1457 q1141 q94 ⟨_, _, _, _, zk_X1_requireArgument⟩ zy_X1_requireArgument zl_X1_requireArgument dX2_addBase_14 : z_Site M _ _ _ _ _ ([.int (z_b true)].reverse ++ []) [] _) zk_X1_requireArgument q94 hrm (m_X1_requireArgument true) (by omega) (by decide) (Nat.le_of_ble_eq_true rfl) (by omega) (by omega) (fun c_14 => ?_) (fun c_14 => ?_)
  · refine z_iload_n hb dX2_addBase_17 rfl ?_
    refine z_iconst (x := nI 0) hb dX2_addBase_18 (by decide) ?_
    refine z_bipush (x := nI 99) hb dX2_addBase_19 (by decide) ?_
    refine z_callC0 (b' := 48) (f' := 344) (rest := []) (av := [.int (nI c), .int (nI 0), .int (nI 99)]) (z_siteSN hb ho q1148 q1135 q94 ⟨_, _, _, _, zk_X1_requireRange⟩ zy_X1_requireRange zl_X1_requireRange dX2_addBase_21 : z_Site M _ _ _ _ _ ([.int (nI c), .int (nI 0), .int (nI 99)].reverse ++ []) [] _) zk_X1_requireRange q94 hrm (m_X1_requireRange (nI c) (nI 0) (nI 99)) (by omega) (by decide) (Nat.le_of_ble_eq_true rfl) (by omega) (by omega) (fun c_21 => ?_) (fun c_21 => ?_)
    · refine z_iload_n hb dX2_addBase_24 rfl ?_
      refine z_lookup (off := 27) (tgt := 52) hb dX2_addBase_25 (by decide) (by decide +kernel) (by decide) ?_
      refine z_aload_n hb dX2_addBase_52 rfl ?_
      refine z_dom (fun hD_2 => ?_)
      refine z_new (N0 := 2) (b' := 47) (f' := 342) (fs := [.int (nI 0), .int (nI 0)]) (C := RX11) (T := TX11) (N := 2) hb ho zc8 in_X11 tyX11_ok q1458 q1459 q129 dX2_addBase_53 (zdf_X11) (by omega) (by omega) ?_
      refine z_hn (fun h_3 eh_3 => ?_)
      have eh_3 : h_3 = z_up h n_1 (.inr (8, [.int (nI 0), .int (nI 0)])) := eh_3
      have k_4 : h_3 a = some (.inr (1, [.ref lr, .ref ls, .ref lv, .int (nI D), .int (w 2), .int (w 4), .int (w 5), .int (w 6)])) := z_nx eh_3 (Nat.ne_of_lt (hD_2 _ _ h1)) h1
      have k_5 : h_3 lr = some (.inr (20, [.int m0, .ref e0, .int (nI R)])) := z_nx eh_3 (Nat.ne_of_lt (hD_2 _ _ r1)) r1
      have k_6 : h_3 e0 = some (.inl ((zm_G M).2.1 5, N0, .inr (.inr (.inr (.inr f0))))) := z_nx eh_3 (Nat.ne_of_lt (hD_2 _ _ r2)) r2
      have k_7 : h_3 ls = some (.inr (20, [.int m9, .ref e, .int (nI S)])) := z_nx eh_3 (Nat.ne_of_lt (hD_2 _ _ h3)) h3
      have k_8 : h_3 e = some (.inl ((zm_G M).2.1 5, N, .inr (.inr (.inr (.inr f))))) := z_nx eh_3 (Nat.ne_of_lt (hD_2 _ _ h4)) h4
      have k_9 : h_3 lv = some (.inr (20, [.int mv, .ref ev, .int (nI S)])) := z_nx eh_3 (Nat.ne_of_lt (hD_2 _ _ v1)) v1
      have k_10 : h_3 ev = some (.inl ((zm_G M).2.1 5, Nv, .inr (.inr (.inr (.inr fv))))) := z_nx eh_3 (Nat.ne_of_lt (hD_2 _ _ v2)) v2
      have k_11 : h_3 ((zm_G M).2.2.1 13) = some (.inr (23, [.ref e13, .int (nI 0), .int (z_hs (z_lits.getD 13 [])), .int hz13])) := z_nx eh_3 (Nat.ne_of_lt (hD_2 _ _ k131)) k131
      refine z_dup hb dX2_addBase_56 rfl ?_
      refine z_iload_n hb dX2_addBase_57 rfl ?_
      refine z_call0 (b' := 47) (f' := 342) (rest := [.ref n_1, .ref a]) (av := [.ref n_1, .int (nI c)]) (z_siteI hb ho q1460 q1461 q1462 rfl zy_X11_init zl_X11_init dX2_addBase_58 : z_Site M _ _ _ _ _ ([.int (nI c)].reverse ++ .ref n_1 :: [.ref n_1, .ref a]) [.ref n_1, .ref a] _) zk_X11_init q129 hrm (m_X11_init (nI c) (z_nxs eh_3) (by omega)) (by omega) (by decide) (Nat.le_of_ble_eq_true rfl) (by omega) (by omega) ?_
      refine z_hn (fun h_12 eh_12 => ?_)
      have eh_12 : h_12 = z_up h_3 n_1 (.inr (8, [.int (nI c), .int (nI 115)])) := eh_12
      have k_13 : h_12 a = some (.inr (1, [.ref lr, .ref ls, .ref lv, .int (nI D), .int (w 2), .int (w 4), .int (w 5), .int (w 6)])) := z_nx eh_12 (Nat.ne_of_lt (hD_2 _ _ h1)) k_4
      have k_14 : h_12 lr = some (.inr (20, [.int m0, .ref e0, .int (nI R)])) := z_nx eh_12 (Nat.ne_of_lt (hD_2 _ _ r1)) k_5
      have k_15 : h_12 e0 = some (.inl ((zm_G M).2.1 5, N0, .inr (.inr (.inr (.inr f0))))) := z_nx eh_12 (Nat.ne_of_lt (hD_2 _ _ r2)) k_6
      have k_16 : h_12 ls = some (.inr (20, [.int m9, .ref e, .int (nI S)])) := z_nx eh_12 (Nat.ne_of_lt (hD_2 _ _ h3)) k_7
      have k_17 : h_12 e = some (.inl ((zm_G M).2.1 5, N, .inr (.inr (.inr (.inr f))))) := z_nx eh_12 (Nat.ne_of_lt (hD_2 _ _ h4)) k_8
      have k_18 : h_12 lv = some (.inr (20, [.int mv, .ref ev, .int (nI S)])) := z_nx eh_12 (Nat.ne_of_lt (hD_2 _ _ v1)) k_9
      have k_19 : h_12 ev = some (.inl ((zm_G M).2.1 5, Nv, .inr (.inr (.inr (.inr fv))))) := z_nx eh_12 (Nat.ne_of_lt (hD_2 _ _ v2)) k_10
      have k_20 : h_12 ((zm_G M).2.2.1 13) = some (.inr (23, [.ref e13, .int (nI 0), .int (z_hs (z_lits.getD 13 [])), .int hz13])) := z_nx eh_12 (Nat.ne_of_lt (hD_2 _ _ k131)) k_11
      refine z_callTf (b' := 46) (f' := 334) (rest := []) (av := [.ref a, .ref n_1]) (z_siteV hb ho zc1 k_13 q1477 q1479 qs13 ⟨_, _, _, _, zk_X2_add⟩ zy_X2_add zl_X2_add dX2_addBase_61 : z_Site M _ _ _ _ _ ([.ref n_1].reverse ++ .ref a :: []) [] _) zk_X2_add q95 hrm (m_X2_add_no (hL.ex (z_exW hD0 (by omega) eh_12 (z_exN z_ex_r hD_2 eh_3))) hS9) (by omega) (by decide) (Nat.le_of_ble_eq_true rfl) (by omega) (by omega) (fun q_21 n_22 hq_21 hn_22 => ?_)
      refine z_lessX (z_ex_up (z_exW hD0 (by omega) eh_12 (z_exN z_ex_r hD_2 eh_3))) ?_
      exact z_out ho hH zc5 z_up_s (by omega) (fun _ h => nomatch h) (by rw [hQ]; exact ⟨_, rfl, by omega, by omega, rfl⟩)
    · exact absurd c_21 (by rw [show decide (nI 0 ≤ nI c ∧ nI c ≤ nI 99) = true from z_inN (by omega) (by omega) (by omega)]; exact Bool.noConfusion)
  · cases c_14

set_option maxHeartbeats 1000000 in
theorem m_X2_addBase_no2_110 {l : Launch} {G : zG} {h : zH} {n : Nat} {w : Nat → Int32} {v : Nat → Int64} {R S D a lr ls lv : Nat} {ra sa va : Nat → Nat} {x : Int32} (hL : z_Ln G h w v R S D a lr ls lv ra sa va) (hS8 : S ≤ 8) (hKS : z_KS G h) (hx : decide (nI 0 ≤ x ∧ x ≤ nI 99) = false) : z_C l G yX2_addBase 31 50 356 [.ref a, .int (nI 110), .int x] h n (z_tf 27 [] h n) := by
  refine z_start zk_X2_addBase zpl_RX2 (Nat.le_of_ble_eq_true rfl) ?_
  intro hn0 M hl hG ho hb hN hr hm hH hrm hQ
  subst hl hG
  have ho : zm_o M = RX2 := ho
  obtain ⟨h1, ⟨e0, N0, m0, f0, r1, r2, r3, ⟨r4, r4n⟩, r5⟩, ⟨e, N, m9, f, h3, h4, h5, ⟨h6, h6n⟩, h7⟩, ⟨ev, Nv, mv, fv, v1, v2, v3, ⟨v4, v4n⟩, v5⟩, h9, hs, hv, hi, hrI⟩ := id hL
  obtain ⟨e13, hz13, k131, k132, k133, k134⟩ := hKS 13 (by decide)
  show z_V M h n 50 356 0 [(0, .ref a), (1, .int (nI 110)), (2, .int x)] []
  refine z_dom (fun hD0 => ?_)
  refine z_ldcS (i := 13) hb ho rfl rfl rfl dX2_addBase_0 ?_
  refine z_iload_n hb dX2_addBase_2 rfl ?_
  refine z_callN1 (b' := 50) (f' := 356) (rest := []) (av := [.ref ((zm_G M).2.2.1 13), .int (nI 110)]) (z_siteV hb ho zc23 k131 q1411 q1412 q1413 ⟨_, _, _, _, zk_J6_indexOf⟩ zy_J6_indexOf zl_J6_indexOf dX2_addBase_3 : z_Site M _ _ _ _ _ ([.int (nI 110)].reverse ++ .ref ((zm_G M).2.2.1 13) :: []) [] _) zk_J6_indexOf q102 hrm (m_J6_indexOf (hKS 13 (by decide)) (show 110 < 65536 by omega)) (by omega) (by decide) (Nat.le_of_ble_eq_true rfl) (by omega) (by omega) (fun n_1 hn_1 => ?_)
  refine z_toI (y := nI 1) (by decide +kernel) ?_
  refine z_if_ltN (tgt := 13) hb dX2_addBase_6 (by decide) (by omega) ?_
  refine z_iconst (x := nI 1) hb dX2_addBase_9 (by decide) ?_
  refine z_toI (y := z_b true) (by decide) ?_
  refine z_goto (tgt := 14) hb dX2_addBase_10 (by decide) ?_
  refine z_callC0 (b' := 49) (f' := 350) (rest := []) (av := [.int (z_b true)]) (z_siteSN hb ho q1457 q1141 q94 ⟨_, _, _, _, zk_X1_requireArgument⟩ zy_X1_requireArgument zl_X1_requireArgument dX2_addBase_14 : z_Site M _ _ _ _ _ ([.int (z_b true)].reverse ++ []) [] _) zk_X1_requireArgument q94 hrm (m_X1_requireArgument true) (by omega) (by decide) (Nat.le_of_ble_eq_true rfl) (by omega) (by omega) (fun c_14 => ?_) (fun c_14 => ?_)
  · refine z_iload_n hb dX2_addBase_17 rfl ?_
    refine z_iconst (x := nI 0) hb dX2_addBase_18 (by decide) ?_
    refine z_bipush (x := nI 99) hb dX2_addBase_19 (by decide) ?_
    refine z_callC0 (b' := 48) (f' := 344) (rest := []) (av := [.int x, .int (nI 0), .int (nI 99)]) (z_siteSN hb ho q1148 q1135 q94 ⟨_, _, _, _, zk_X1_requireRange⟩ zy_X1_requireRange zl_X1_requireRange dX2_addBase_21 : z_Site M _ _ _ _ _ ([.int x, .int (nI 0), .int (nI 99)].reverse ++ []) [] _) zk_X1_requireRange q94 hrm (m_X1_requireRange x (nI 0) (nI 99)) (by omega) (by decide) (Nat.le_of_ble_eq_true rfl) (by omega) (by omega) (fun c_21 => ?_) (fun c_21 => ?_)
    · rw [hx] at c_21; cases c_21
    · exact z_out ho hH zc27 z_up_s (by omega) (fun _ h => nomatch h) (by rw [hQ]; exact ⟨_, rfl, by omega, Nat.lt_succ_self _, rfl⟩)
  · cases c_14

set_option maxHeartbeats 1000000 in
theorem m_X2_addBase_no3_110 {l : Launch} {G : zG} {h : zH} {n : Nat} {w : Nat → Int32} {v : Nat → Int64} {R S D a lr ls lv : Nat} {ra sa va : Nat → Nat} {c : Nat} (hL : z_Ln G h w v R S D a lr ls lv ra sa va) (hS8 : S ≤ 8) (hKS : z_KS G h) (hc9 : c ≤ 99) (hS9 : S = 8) : z_C l G yX2_addBase 31 50 356 [.ref a, .int (nI 110), .int (nI c)] h n (z_tf 5 [.null, .null, .null, .null, .null, .int (nI 0), .int (nI 1), .int (nI 8)] h n) := by
  refine z_start zk_X2_addBase zpl_RX2 (Nat.le_of_ble_eq_true rfl) ?_
  intro hn0 M hl hG ho hb hN hr hm hH hrm hQ
  subst hl hG
  have ho : zm_o M = RX2 := ho
  obtain ⟨h1, ⟨e0, N0, m0, f0, r1, r2, r3, ⟨r4, r4n⟩, r5⟩, ⟨e, N, m9, f, h3, h4, h5, ⟨h6, h6n⟩, h7⟩, ⟨ev, Nv, mv, fv, v1, v2, v3, ⟨v4, v4n⟩, v5⟩, h9, hs, hv, hi, hrI⟩ := id hL
  obtain ⟨e13, hz13, k131, k132, k133, k134⟩ := hKS 13 (by decide)
  show z_V M h n 50 356 0 [(0, .ref a), (1, .int (nI 110)), (2, .int (nI c))] []
  refine z_dom (fun hD0 => ?_)
  refine z_ldcS (i := 13) hb ho rfl rfl rfl dX2_addBase_0 ?_
  refine z_iload_n hb dX2_addBase_2 rfl ?_
  refine z_callN1 (b' := 50) (f' := 356) (rest := []) (av := [.ref ((zm_G M).2.2.1 13), .int (nI 110)]) (z_siteV hb ho zc23 k131 q1411 q1412 q1413 ⟨_, _, _, _, zk_J6_indexOf⟩ zy_J6_indexOf zl_J6_indexOf dX2_addBase_3 : z_Site M _ _ _ _ _ ([.int (nI 110)].reverse ++ .ref ((zm_G M).2.2.1 13) :: []) [] _) zk_J6_indexOf q102 hrm (m_J6_indexOf (hKS 13 (by decide)) (show 110 < 65536 by omega)) (by omega) (by decide) (Nat.le_of_ble_eq_true rfl) (by omega) (by omega) (fun n_1 hn_1 => ?_)
  refine z_toI (y := nI 1) (by decide +kernel) ?_
  refine z_if_ltN (tgt := 13) hb dX2_addBase_6 (by decide) (by omega) ?_
  refine z_iconst (x := nI 1) hb dX2_addBase_9 (by decide) ?_
  refine z_toI (y := z_b true) (by decide) ?_
  refine z_goto (tgt := 14) hb dX2_addBase_10 (by decide) ?_
  refine z_callC0 (b' := 49) (f' := 350) (rest := []) (av := [.int (z_b true)]) (z_siteSN hb ho q1457 q1141 q94 ⟨_, _, _, _, zk_X1_requireArgument⟩ zy_X1_requireArgument zl_X1_requireArgument dX2_addBase_14 : z_Site M _ _ _ _ _ ([.int (z_b true)].reverse ++ []) [] _) zk_X1_requireArgument q94 hrm (m_X1_requireArgument true) (by omega) (by decide) (Nat.le_of_ble_eq_true rfl) (by omega) (by omega) (fun c_14 => ?_) (fun c_14 => ?_)
  · refine z_iload_n hb dX2_addBase_17 rfl ?_
    refine z_iconst (x := nI 0) hb dX2_addBase_18 (by decide) ?_
    refine z_bipush (x := nI 99) hb dX2_addBase_19 (by decide) ?_
    refine z_callC0 (b' := 48) (f' := 344) (rest := []) (av := [.int (nI c), .int (nI 0), .int (nI 99)]) (z_siteSN hb ho q1148 q1135 q94 ⟨_, _, _, _, zk_X1_requireRange⟩ zy_X1_requireRange zl_X1_requireRange dX2_addBase_21 : z_Site M _ _ _ _ _ ([.int (nI c), .int (nI 0), .int (nI 99)].reverse ++ []) [] _) zk_X1_requireRange q94 hrm (m_X1_requireRange (nI c) (nI 0) (nI 99)) (by omega) (by decide) (Nat.le_of_ble_eq_true rfl) (by omega) (by omega) (fun c_21 => ?_) (fun c_21 => ?_)
    · refine z_iload_n hb dX2_addBase_24 rfl ?_
      refine z_lookup (off := 42) (tgt := 67) hb dX2_addBase_25 (by decide) (by decide +kernel) (by decide) ?_
      refine z_aload_n hb dX2_addBase_67 rfl ?_
      refine z_dom (fun hD_2 => ?_)
      refine z_new (N0 := 2) (b' := 47) (f' := 342) (fs := [.int (nI 0), .int (nI 0)]) (C := RX12) (T := TX12) (N := 2) hb ho zc9 in_X12 tyX12_ok q1482 q1483 q130 dX2_addBase_68 (zdf_X12) (by omega) (by omega) ?_
      refine z_hn (fun h_3 eh_3 => ?_)
      have eh_3 : h_3 = z_up h n_1 (.inr (9, [.int (nI 0), .int (nI 0)])) := eh_3
      have k_4 : h_3 a = some (.inr (1, [.ref lr, .ref ls, .ref lv, .int (nI D), .int (w 2), .int (w 4), .int (w 5), .int (w 6)])) := z_nx eh_3 (Nat.ne_of_lt (hD_2 _ _ h1)) h1
      have k_5 : h_3 lr = some (.inr (20, [.int m0, .ref e0, .int (nI R)])) := z_nx eh_3 (Nat.ne_of_lt (hD_2 _ _ r1)) r1
      have k_6 : h_3 e0 = some (.inl ((zm_G M).2.1 5, N0, .inr (.inr (.inr (.inr f0))))) := z_nx eh_3 (Nat.ne_of_lt (hD_2 _ _ r2)) r2
      have k_7 : h_3 ls = some (.inr (20, [.int m9, .ref e, .int (nI S)])) := z_nx eh_3 (Nat.ne_of_lt (hD_2 _ _ h3)) h3
      have k_8 : h_3 e = some (.inl ((zm_G M).2.1 5, N, .inr (.inr (.inr (.inr f))))) := z_nx eh_3 (Nat.ne_of_lt (hD_2 _ _ h4)) h4
      have k_9 : h_3 lv = some (.inr (20, [.int mv, .ref ev, .int (nI S)])) := z_nx eh_3 (Nat.ne_of_lt (hD_2 _ _ v1)) v1
      have k_10 : h_3 ev = some (.inl ((zm_G M).2.1 5, Nv, .inr (.inr (.inr (.inr fv))))) := z_nx eh_3 (Nat.ne_of_lt (hD_2 _ _ v2)) v2
      have k_11 : h_3 ((zm_G M).2.2.1 13) = some (.inr (23, [.ref e13, .int (nI 0), .int (z_hs (z_lits.getD 13 [])), .int hz13])) := z_nx eh_3 (Nat.ne_of_lt (hD_2 _ _ k131)) k131
      refine z_dup hb dX2_addBase_71 rfl ?_
      refine z_iload_n hb dX2_addBase_72 rfl ?_
      refine z_call0 (b' := 47) (f' := 342) (rest := [.ref n_1, .ref a]) (av := [.ref n_1, .int (nI c)]) (z_siteI hb ho q1484 q1485 q1486 rfl zy_X12_init zl_X12_init dX2_addBase_73 : z_Site M _ _ _ _ _ ([.int (nI c)].reverse ++ .ref n_1 :: [.ref n_1, .ref a]) [.ref n_1, .ref a] _) zk_X12_init q130 hrm (m_X12_init (nI c) (z_nxs eh_3) (by omega)) (by omega) (by decide) (Nat.le_of_ble_eq_true rfl) (by omega) (by omega) ?_
      refine z_hn (fun h_12 eh_12 => ?_)
      have eh_12 : h_12 = z_up h_3 n_1 (.inr (9, [.int (nI c), .int (nI 110)])) := eh_12
      have k_13 : h_12 a = some (.inr (1, [.ref lr, .ref ls, .ref lv, .int (nI D), .int (w 2), .int (w 4), .int (w 5), .int (w 6)])) := z_nx eh_12 (Nat.ne_of_lt (hD_2 _ _ h1)) k_4
      have k_14 : h_12 lr = some (.inr (20, [.int m0, .ref e0, .int (nI R)])) := z_nx eh_12 (Nat.ne_of_lt (hD_2 _ _ r1)) k_5
      have k_15 : h_12 e0 = some (.inl ((zm_G M).2.1 5, N0, .inr (.inr (.inr (.inr f0))))) := z_nx eh_12 (Nat.ne_of_lt (hD_2 _ _ r2)) k_6
      have k_16 : h_12 ls = some (.inr (20, [.int m9, .ref e, .int (nI S)])) := z_nx eh_12 (Nat.ne_of_lt (hD_2 _ _ h3)) k_7
      have k_17 : h_12 e = some (.inl ((zm_G M).2.1 5, N, .inr (.inr (.inr (.inr f))))) := z_nx eh_12 (Nat.ne_of_lt (hD_2 _ _ h4)) k_8
      have k_18 : h_12 lv = some (.inr (20, [.int mv, .ref ev, .int (nI S)])) := z_nx eh_12 (Nat.ne_of_lt (hD_2 _ _ v1)) k_9
      have k_19 : h_12 ev = some (.inl ((zm_G M).2.1 5, Nv, .inr (.inr (.inr (.inr fv))))) := z_nx eh_12 (Nat.ne_of_lt (hD_2 _ _ v2)) k_10
      have k_20 : h_12 ((zm_G M).2.2.1 13) = some (.inr (23, [.ref e13, .int (nI 0), .int (z_hs (z_lits.getD 13 [])), .int hz13])) := z_nx eh_12 (Nat.ne_of_lt (hD_2 _ _ k131)) k_11
      refine z_callTf (b' := 46) (f' := 334) (rest := []) (av := [.ref a, .ref n_1]) (z_siteV hb ho zc1 k_13 q1477 q1479 qs13 ⟨_, _, _, _, zk_X2_add⟩ zy_X2_add zl_X2_add dX2_addBase_76 : z_Site M _ _ _ _ _ ([.ref n_1].reverse ++ .ref a :: []) [] _) zk_X2_add q95 hrm (m_X2_add_no (hL.ex (z_exW hD0 (by omega) eh_12 (z_exN z_ex_r hD_2 eh_3))) hS9) (by omega) (by decide) (Nat.le_of_ble_eq_true rfl) (by omega) (by omega) (fun q_21 n_22 hq_21 hn_22 => ?_)
      refine z_lessX (z_ex_up (z_exW hD0 (by omega) eh_12 (z_exN z_ex_r hD_2 eh_3))) ?_
      exact z_out ho hH zc5 z_up_s (by omega) (fun _ h => nomatch h) (by rw [hQ]; exact ⟨_, rfl, by omega, by omega, rfl⟩)
    · exact absurd c_21 (by rw [show decide (nI 0 ≤ nI c ∧ nI c ≤ nI 99) = true from z_inN (by omega) (by omega) (by omega)]; exact Bool.noConfusion)
  · cases c_14

set_option maxHeartbeats 1000000 in
theorem m_X2_addBase_no2_120 {l : Launch} {G : zG} {h : zH} {n : Nat} {w : Nat → Int32} {v : Nat → Int64} {R S D a lr ls lv : Nat} {ra sa va : Nat → Nat} {x : Int32} (hL : z_Ln G h w v R S D a lr ls lv ra sa va) (hS8 : S ≤ 8) (hKS : z_KS G h) (hx : decide (nI 0 ≤ x ∧ x ≤ nI 99) = false) : z_C l G yX2_addBase 31 50 356 [.ref a, .int (nI 120), .int x] h n (z_tf 27 [] h n) := by
  refine z_start zk_X2_addBase zpl_RX2 (Nat.le_of_ble_eq_true rfl) ?_
  intro hn0 M hl hG ho hb hN hr hm hH hrm hQ
  subst hl hG
  have ho : zm_o M = RX2 := ho
  obtain ⟨h1, ⟨e0, N0, m0, f0, r1, r2, r3, ⟨r4, r4n⟩, r5⟩, ⟨e, N, m9, f, h3, h4, h5, ⟨h6, h6n⟩, h7⟩, ⟨ev, Nv, mv, fv, v1, v2, v3, ⟨v4, v4n⟩, v5⟩, h9, hs, hv, hi, hrI⟩ := id hL
  obtain ⟨e13, hz13, k131, k132, k133, k134⟩ := hKS 13 (by decide)
  show z_V M h n 50 356 0 [(0, .ref a), (1, .int (nI 120)), (2, .int x)] []
  refine z_dom (fun hD0 => ?_)
  refine z_ldcS (i := 13) hb ho rfl rfl rfl dX2_addBase_0 ?_
  refine z_iload_n hb dX2_addBase_2 rfl ?_
  refine z_callN1 (b' := 50) (f' := 356) (rest := []) (av := [.ref ((zm_G M).2.2.1 13), .int (nI 120)]) (z_siteV hb ho zc23 k131 q1411 q1412 q1413 ⟨_, _, _, _, zk_J6_indexOf⟩ zy_J6_indexOf zl_J6_indexOf dX2_addBase_3 : z_Site M _ _ _ _ _ ([.int (nI 120)].reverse ++ .ref ((zm_G M).2.2.1 13) :: []) [] _) zk_J6_indexOf q102 hrm (m_J6_indexOf (hKS 13 (by decide)) (show 120 < 65536 by omega)) (by omega) (by decide) (Nat.le_of_ble_eq_true rfl) (by omega) (by omega) (fun n_1 hn_1 => ?_)
  refine z_toI (y := nI 2) (by decide +kernel) ?_
  refine z_if_ltN (tgt := 13) hb dX2_addBase_6 (by decide) (by omega) ?_
  refine z_iconst (x := nI 1) hb dX2_addBase_9 (by decide) ?_
  refine z_toI (y := z_b true) (by decide) ?_
  refine z_goto (tgt := 14) hb dX2_addBase_10 (by decide) ?_
  refine z_callC0 (b' := 49) (f' := 350) (rest := []) (av := [.int (z_b true)]) (z_siteSN hb ho q1457 q1141 q94 ⟨_, _, _, _, zk_X1_requireArgument⟩ zy_X1_requireArgument zl_X1_requireArgument dX2_addBase_14 : z_Site M _ _ _ _ _ ([.int (z_b true)].reverse ++ []) [] _) zk_X1_requireArgument q94 hrm (m_X1_requireArgument true) (by omega) (by decide) (Nat.le_of_ble_eq_true rfl) (by omega) (by omega) (fun c_14 => ?_) (fun c_14 => ?_)
  · refine z_iload_n hb dX2_addBase_17 rfl ?_
    refine z_iconst (x := nI 0) hb dX2_addBase_18 (by decide) ?_
    refine z_bipush (x := nI 99) hb dX2_addBase_19 (by decide) ?_
    refine z_callC0 (b' := 48) (f' := 344) (rest := []) (av := [.int x, .int (nI 0), .int (nI 99)]) (z_siteSN hb ho q1148 q1135 q94 ⟨_, _, _, _, zk_X1_requireRange⟩ zy_X1_requireRange zl_X1_requireRange dX2_addBase_21 : z_Site M _ _ _ _ _ ([.int x, .int (nI 0), .int (nI 99)].reverse ++ []) [] _) zk_X1_requireRange q94 hrm (m_X1_requireRange x (nI 0) (nI 99)) (by omega) (by decide) (Nat.le_of_ble_eq_true rfl) (by omega) (by omega) (fun c_21 => ?_) (fun c_21 => ?_)
    · rw [hx] at c_21; cases c_21
    · exact z_out ho hH zc27 z_up_s (by omega) (fun _ h => nomatch h) (by rw [hQ]; exact ⟨_, rfl, by omega, Nat.lt_succ_self _, rfl⟩)
  · cases c_14

set_option maxHeartbeats 1000000 in
theorem m_X2_addBase_no3_120 {l : Launch} {G : zG} {h : zH} {n : Nat} {w : Nat → Int32} {v : Nat → Int64} {R S D a lr ls lv : Nat} {ra sa va : Nat → Nat} {c : Nat} (hL : z_Ln G h w v R S D a lr ls lv ra sa va) (hS8 : S ≤ 8) (hKS : z_KS G h) (hc9 : c ≤ 99) (hS9 : S = 8) : z_C l G yX2_addBase 31 50 356 [.ref a, .int (nI 120), .int (nI c)] h n (z_tf 5 [.null, .null, .null, .null, .null, .int (nI 0), .int (nI 1), .int (nI 8)] h n) := by
  refine z_start zk_X2_addBase zpl_RX2 (Nat.le_of_ble_eq_true rfl) ?_
  intro hn0 M hl hG ho hb hN hr hm hH hrm hQ
  subst hl hG
  have ho : zm_o M = RX2 := ho
  obtain ⟨h1, ⟨e0, N0, m0, f0, r1, r2, r3, ⟨r4, r4n⟩, r5⟩, ⟨e, N, m9, f, h3, h4, h5, ⟨h6, h6n⟩, h7⟩, ⟨ev, Nv, mv, fv, v1, v2, v3, ⟨v4, v4n⟩, v5⟩, h9, hs, hv, hi, hrI⟩ := id hL
  obtain ⟨e13, hz13, k131, k132, k133, k134⟩ := hKS 13 (by decide)
  show z_V M h n 50 356 0 [(0, .ref a), (1, .int (nI 120)), (2, .int (nI c))] []
  refine z_dom (fun hD0 => ?_)
  refine z_ldcS (i := 13) hb ho rfl rfl rfl dX2_addBase_0 ?_
  refine z_iload_n hb dX2_addBase_2 rfl ?_
  refine z_callN1 (b' := 50) (f' := 356) (rest := []) (av := [.ref ((zm_G M).2.2.1 13), .int (nI 120)]) (z_siteV hb ho zc23 k131 q1411 q1412 q1413 ⟨_, _, _, _, zk_J6_indexOf⟩ zy_J6_indexOf zl_J6_indexOf dX2_addBase_3 : z_Site M _ _ _ _ _ ([.int (nI 120)].reverse ++ .ref ((zm_G M).2.2.1 13) :: []) [] _) zk_J6_indexOf q102 hrm (m_J6_indexOf (hKS 13 (by decide)) (show 120 < 65536 by omega)) (by omega) (by decide) (Nat.le_of_ble_eq_true rfl) (by omega) (by omega) (fun n_1 hn_1 => ?_)
  refine z_toI (y := nI 2) (by decide +kernel) ?_
  refine z_if_ltN (tgt := 13) hb dX2_addBase_6 (by decide) (by omega) ?_
  refine z_iconst (x := nI 1) hb dX2_addBase_9 (by decide) ?_
  refine z_toI (y := z_b true) (by decide) ?_
  refine z_goto (tgt := 14) hb dX2_addBase_10 (by decide) ?_
  refine z_callC0 (b' := 49) (f' := 350) (rest := []) (av := [.int (z_b true)]) (z_siteSN hb ho q1457 q1141 q94 ⟨_, _, _, _, zk_X1_requireArgument⟩ zy_X1_requireArgument zl_X1_requireArgument dX2_addBase_14 : z_Site M _ _ _ _ _ ([.int (z_b true)].reverse ++ []) [] _) zk_X1_requireArgument q94 hrm (m_X1_requireArgument true) (by omega) (by decide) (Nat.le_of_ble_eq_true rfl) (by omega) (by omega) (fun c_14 => ?_) (fun c_14 => ?_)
  · refine z_iload_n hb dX2_addBase_17 rfl ?_
    refine z_iconst (x := nI 0) hb dX2_addBase_18 (by decide) ?_
    refine z_bipush (x := nI 99) hb dX2_addBase_19 (by decide) ?_
    refine z_callC0 (b' := 48) (f' := 344) (rest := []) (av := [.int (nI c), .int (nI 0), .int (nI 99)]) (z_siteSN hb ho q1148 q1135 q94 ⟨_, _, _, _, zk_X1_requireRange⟩ zy_X1_requireRange zl_X1_requireRange dX2_addBase_21 : z_Site M _ _ _ _ _ ([.int (nI c), .int (nI 0), .int (nI 99)].reverse ++ []) [] _) zk_X1_requireRange q94 hrm (m_X1_requireRange (nI c) (nI 0) (nI 99)) (by omega) (by decide) (Nat.le_of_ble_eq_true rfl) (by omega) (by omega) (fun c_21 => ?_) (fun c_21 => ?_)
    · refine z_iload_n hb dX2_addBase_24 rfl ?_
      refine z_lookup (off := 57) (tgt := 82) hb dX2_addBase_25 (by decide) (by decide +kernel) (by decide) ?_
      refine z_aload_n hb dX2_addBase_82 rfl ?_
      refine z_dom (fun hD_2 => ?_)
      refine z_new (N0 := 2) (b' := 47) (f' := 342) (fs := [.int (nI 0), .int (nI 0)]) (C := RX13) (T := TX13) (N := 2) hb ho zc10 in_X13 tyX13_ok q1491 q1492 q131 dX2_addBase_83 (zdf_X13) (by omega) (by omega) ?_
      refine z_hn (fun h_3 eh_3 => ?_)
      have eh_3 : h_3 = z_up h n_1 (.inr (10, [.int (nI 0), .int (nI 0)])) := eh_3
      have k_4 : h_3 a = some (.inr (1, [.ref lr, .ref ls, .ref lv, .int (nI D), .int (w 2), .int (w 4), .int (w 5), .int (w 6)])) := z_nx eh_3 (Nat.ne_of_lt (hD_2 _ _ h1)) h1
      have k_5 : h_3 lr = some (.inr (20, [.int m0, .ref e0, .int (nI R)])) := z_nx eh_3 (Nat.ne_of_lt (hD_2 _ _ r1)) r1
      have k_6 : h_3 e0 = some (.inl ((zm_G M).2.1 5, N0, .inr (.inr (.inr (.inr f0))))) := z_nx eh_3 (Nat.ne_of_lt (hD_2 _ _ r2)) r2
      have k_7 : h_3 ls = some (.inr (20, [.int m9, .ref e, .int (nI S)])) := z_nx eh_3 (Nat.ne_of_lt (hD_2 _ _ h3)) h3
      have k_8 : h_3 e = some (.inl ((zm_G M).2.1 5, N, .inr (.inr (.inr (.inr f))))) := z_nx eh_3 (Nat.ne_of_lt (hD_2 _ _ h4)) h4
      have k_9 : h_3 lv = some (.inr (20, [.int mv, .ref ev, .int (nI S)])) := z_nx eh_3 (Nat.ne_of_lt (hD_2 _ _ v1)) v1
      have k_10 : h_3 ev = some (.inl ((zm_G M).2.1 5, Nv, .inr (.inr (.inr (.inr fv))))) := z_nx eh_3 (Nat.ne_of_lt (hD_2 _ _ v2)) v2
      have k_11 : h_3 ((zm_G M).2.2.1 13) = some (.inr (23, [.ref e13, .int (nI 0), .int (z_hs (z_lits.getD 13 [])), .int hz13])) := z_nx eh_3 (Nat.ne_of_lt (hD_2 _ _ k131)) k131
      refine z_dup hb dX2_addBase_86 rfl ?_
      refine z_iload_n hb dX2_addBase_87 rfl ?_
      refine z_call0 (b' := 47) (f' := 342) (rest := [.ref n_1, .ref a]) (av := [.ref n_1, .int (nI c)]) (z_siteI hb ho q1493 q1494 q1495 rfl zy_X13_init zl_X13_init dX2_addBase_88 : z_Site M _ _ _ _ _ ([.int (nI c)].reverse ++ .ref n_1 :: [.ref n_1, .ref a]) [.ref n_1, .ref a] _) zk_X13_init q131 hrm (m_X13_init (nI c) (z_nxs eh_3) (by omega)) (by omega) (by decide) (Nat.le_of_ble_eq_true rfl) (by omega) (by omega) ?_
      refine z_hn (fun h_12 eh_12 => ?_)
      have eh_12 : h_12 = z_up h_3 n_1 (.inr (10, [.int (nI c), .int (nI 120)])) := eh_12
      have k_13 : h_12 a = some (.inr (1, [.ref lr, .ref ls, .ref lv, .int (nI D), .int (w 2), .int (w 4), .int (w 5), .int (w 6)])) := z_nx eh_12 (Nat.ne_of_lt (hD_2 _ _ h1)) k_4
      have k_14 : h_12 lr = some (.inr (20, [.int m0, .ref e0, .int (nI R)])) := z_nx eh_12 (Nat.ne_of_lt (hD_2 _ _ r1)) k_5
      have k_15 : h_12 e0 = some (.inl ((zm_G M).2.1 5, N0, .inr (.inr (.inr (.inr f0))))) := z_nx eh_12 (Nat.ne_of_lt (hD_2 _ _ r2)) k_6
      have k_16 : h_12 ls = some (.inr (20, [.int m9, .ref e, .int (nI S)])) := z_nx eh_12 (Nat.ne_of_lt (hD_2 _ _ h3)) k_7
      have k_17 : h_12 e = some (.inl ((zm_G M).2.1 5, N, .inr (.inr (.inr (.inr f))))) := z_nx eh_12 (Nat.ne_of_lt (hD_2 _ _ h4)) k_8
      have k_18 : h_12 lv = some (.inr (20, [.int mv, .ref ev, .int (nI S)])) := z_nx eh_12 (Nat.ne_of_lt (hD_2 _ _ v1)) k_9
      have k_19 : h_12 ev = some (.inl ((zm_G M).2.1 5, Nv, .inr (.inr (.inr (.inr fv))))) := z_nx eh_12 (Nat.ne_of_lt (hD_2 _ _ v2)) k_10
      have k_20 : h_12 ((zm_G M).2.2.1 13) = some (.inr (23, [.ref e13, .int (nI 0), .int (z_hs (z_lits.getD 13 [])), .int hz13])) := z_nx eh_12 (Nat.ne_of_lt (hD_2 _ _ k131)) k_11
      refine z_callTf (b' := 46) (f' := 334) (rest := []) (av := [.ref a, .ref n_1]) (z_siteV hb ho zc1 k_13 q1477 q1479 qs13 ⟨_, _, _, _, zk_X2_add⟩ zy_X2_add zl_X2_add dX2_addBase_91 : z_Site M _ _ _ _ _ ([.ref n_1].reverse ++ .ref a :: []) [] _) zk_X2_add q95 hrm (m_X2_add_no (hL.ex (z_exW hD0 (by omega) eh_12 (z_exN z_ex_r hD_2 eh_3))) hS9) (by omega) (by decide) (Nat.le_of_ble_eq_true rfl) (by omega) (by omega) (fun q_21 n_22 hq_21 hn_22 => ?_)
      refine z_lessX (z_ex_up (z_exW hD0 (by omega) eh_12 (z_exN z_ex_r hD_2 eh_3))) ?_
      exact z_out ho hH zc5 z_up_s (by omega) (fun _ h => nomatch h) (by rw [hQ]; exact ⟨_, rfl, by omega, by omega, rfl⟩)
    · exact absurd c_21 (by rw [show decide (nI 0 ≤ nI c ∧ nI c ≤ nI 99) = true from z_inN (by omega) (by omega) (by omega)]; exact Bool.noConfusion)
  · cases c_14

set_option maxHeartbeats 1000000 in
theorem m_X2_addPair_no2_p {l : Launch} {G : zG} {h : zH} {n : Nat} {w : Nat → Int32} {v : Nat → Int64} {R S D a lr ls lv : Nat} {ra sa va : Nat → Nat} {x y : Int32} (hL : z_Ln G h w v R S D a lr ls lv ra sa va) (hS8 : S ≤ 8) (hKS : z_KS G h) (hx : tw_isS S x = false) : z_C l G yX2_addPair 31 50 356 [.ref a, .int (nI 43), .int x, .int y] h n (z_tf 28 [] h n) := by
  refine z_start zk_X2_addPair zpl_RX2 (Nat.le_of_ble_eq_true rfl) ?_
  intro hn0 M hl hG ho hb hN hr hm hH hrm hQ
  subst hl hG
  have ho : zm_o M = RX2 := ho
  obtain ⟨h1, ⟨e0, N0, m0, f0, r1, r2, r3, ⟨r4, r4n⟩, r5⟩, ⟨e, N, m9, f, h3, h4, h5, ⟨h6, h6n⟩, h7⟩, ⟨ev, Nv, mv, fv, v1, v2, v3, ⟨v4, v4n⟩, v5⟩, h9, hs, hv, hi, hrI⟩ := id hL
  obtain ⟨e14, hz14, k141, k142, k143, k144⟩ := hKS 14 (by decide)
  show z_V M h n 50 356 0 [(0, .ref a), (1, .int (nI 43)), (2, .int x), (3, .int y)] []
  refine z_dom (fun hD0 => ?_)
  refine z_ldcS (i := 14) hb ho rfl rfl rfl dX2_addPair_0 ?_
  refine z_iload_n hb dX2_addPair_2 rfl ?_
  refine z_callN1 (b' := 50) (f' := 356) (rest := []) (av := [.ref ((zm_G M).2.2.1 14), .int (nI 43)]) (z_siteV hb ho zc23 k141 q1411 q1412 q1413 ⟨_, _, _, _, zk_J6_indexOf⟩ zy_J6_indexOf zl_J6_indexOf dX2_addPair_3 : z_Site M _ _ _ _ _ ([.int (nI 43)].reverse ++ .ref ((zm_G M).2.2.1 14) :: []) [] _) zk_J6_indexOf q102 hrm (m_J6_indexOf (hKS 14 (by decide)) (show 43 < 65536 by omega)) (by omega) (by decide) (Nat.le_of_ble_eq_true rfl) (by omega) (by omega) (fun n_1 hn_1 => ?_)
  refine z_toI (y := nI 0) (by decide +kernel) ?_
  refine z_if_ltN (tgt := 13) hb dX2_addPair_6 (by decide) (by omega) ?_
  refine z_iconst (x := nI 1) hb dX2_addPair_9 (by decide) ?_
  refine z_toI (y := z_b true) (by decide) ?_
  refine z_goto (tgt := 14) hb dX2_addPair_10 (by decide) ?_
  refine z_callC0 (b' := 49) (f' := 350) (rest := []) (av := [.int (z_b true)]) (z_siteSN hb ho q1457 q1141 q94 ⟨_, _, _, _, zk_X1_requireArgument⟩ zy_X1_requireArgument zl_X1_requireArgument dX2_addPair_14 : z_Site M _ _ _ _ _ ([.int (z_b true)].reverse ++ []) [] _) zk_X1_requireArgument q94 hrm (m_X1_requireArgument true) (by omega) (by decide) (Nat.le_of_ble_eq_true rfl) (by omega) (by omega) (fun c_14 => ?_) (fun c_14 => ?_)
  · refine z_aload_n hb dX2_addPair_17 rfl ?_
    refine z_iload_n hb dX2_addPair_18 rfl ?_
    refine z_callTf (b' := 48) (f' := 344) (rest := []) (av := [.ref a, .int x]) (z_siteV hb ho zc1 h1 q1505 q1506 q1507 ⟨_, _, _, _, zk_X2_step⟩ zy_X2_step zl_X2_step dX2_addPair_19 : z_Site M _ _ _ _ _ ([.int x].reverse ++ .ref a :: []) [] _) zk_X2_step q95 hrm (z_C.tf (m_X2_step_no hL hS8 hx)) (by omega) (by decide) (Nat.le_of_ble_eq_true rfl) (by omega) (by omega) (fun q_2 n_3 hq_2 hn_3 => ?_)
    exact z_out ho hH zc28 z_up_s (by omega) (fun _ h => nomatch h) (by rw [hQ]; exact ⟨_, rfl, by omega, by omega, rfl⟩)
  · cases c_14

set_option maxHeartbeats 1000000 in
theorem m_X2_addPair_no3_p {l : Launch} {G : zG} {h : zH} {n : Nat} {w : Nat → Int32} {v : Nat → Int64} {R S D a lr ls lv : Nat} {ra sa va : Nat → Nat} {k : Nat} {x : Int32} (hL : z_Ln G h w v R S D a lr ls lv ra sa va) (hS8 : S ≤ 8) (hKS : z_KS G h) (hk : k < S) (hx : tw_isS S x = false) : z_C l G yX2_addPair 31 50 356 [.ref a, .int (nI 43), .int (nI k), .int x] h n (z_tf 28 [] h n) := by
  refine z_start zk_X2_addPair zpl_RX2 (Nat.le_of_ble_eq_true rfl) ?_
  intro hn0 M hl hG ho hb hN hr hm hH hrm hQ
  subst hl hG
  have ho : zm_o M = RX2 := ho
  obtain ⟨h1, ⟨e0, N0, m0, f0, r1, r2, r3, ⟨r4, r4n⟩, r5⟩, ⟨e, N, m9, f, h3, h4, h5, ⟨h6, h6n⟩, h7⟩, ⟨ev, Nv, mv, fv, v1, v2, v3, ⟨v4, v4n⟩, v5⟩, h9, hs, hv, hi, hrI⟩ := id hL
  obtain ⟨e14, hz14, k141, k142, k143, k144⟩ := hKS 14 (by decide)
  show z_V M h n 50 356 0 [(0, .ref a), (1, .int (nI 43)), (2, .int (nI k)), (3, .int x)] []
  refine z_dom (fun hD0 => ?_)
  refine z_ldcS (i := 14) hb ho rfl rfl rfl dX2_addPair_0 ?_
  refine z_iload_n hb dX2_addPair_2 rfl ?_
  refine z_callN1 (b' := 50) (f' := 356) (rest := []) (av := [.ref ((zm_G M).2.2.1 14), .int (nI 43)]) (z_siteV hb ho zc23 k141 q1411 q1412 q1413 ⟨_, _, _, _, zk_J6_indexOf⟩ zy_J6_indexOf zl_J6_indexOf dX2_addPair_3 : z_Site M _ _ _ _ _ ([.int (nI 43)].reverse ++ .ref ((zm_G M).2.2.1 14) :: []) [] _) zk_J6_indexOf q102 hrm (m_J6_indexOf (hKS 14 (by decide)) (show 43 < 65536 by omega)) (by omega) (by decide) (Nat.le_of_ble_eq_true rfl) (by omega) (by omega) (fun n_1 hn_1 => ?_)
  refine z_toI (y := nI 0) (by decide +kernel) ?_
  refine z_if_ltN (tgt := 13) hb dX2_addPair_6 (by decide) (by omega) ?_
  refine z_iconst (x := nI 1) hb dX2_addPair_9 (by decide) ?_
  refine z_toI (y := z_b true) (by decide) ?_
  refine z_goto (tgt := 14) hb dX2_addPair_10 (by decide) ?_
  refine z_callC0 (b' := 49) (f' := 350) (rest := []) (av := [.int (z_b true)]) (z_siteSN hb ho q1457 q1141 q94 ⟨_, _, _, _, zk_X1_requireArgument⟩ zy_X1_requireArgument zl_X1_requireArgument dX2_addPair_14 : z_Site M _ _ _ _ _ ([.int (z_b true)].reverse ++ []) [] _) zk_X1_requireArgument q94 hrm (m_X1_requireArgument true) (by omega) (by decide) (Nat.le_of_ble_eq_true rfl) (by omega) (by omega) (fun c_14 => ?_) (fun c_14 => ?_)
  · refine z_aload_n hb dX2_addPair_17 rfl ?_
    refine z_iload_n hb dX2_addPair_18 rfl ?_
    refine z_call1 (b' := 48) (f' := 344) (rest := []) (av := [.ref a, .int (nI k)]) (z_siteV hb ho zc1 h1 q1505 q1506 q1507 ⟨_, _, _, _, zk_X2_step⟩ zy_X2_step zl_X2_step dX2_addPair_19 : z_Site M _ _ _ _ _ ([.int (nI k)].reverse ++ .ref a :: []) [] _) zk_X2_step q95 hrm (m_X2_step hL hS8 hk) (by omega) (by decide) (Nat.le_of_ble_eq_true rfl) (by omega) (by omega) ?_
    refine z_astore (lv' := [(4, .ref (sa k)), (0, .ref a), (1, .int (nI 43)), (2, .int (nI k)), (3, .int x)]) hb dX2_addPair_22 (by rw [hN]; decide) rfl ?_
    refine z_aload_n hb dX2_addPair_24 rfl ?_
    refine z_dom (fun hD_2 => ?_)
    refine z_new (N0 := 4) (b' := 47) (f' := 340) (fs := [.int (nI 0), .null, .null, .int (nI 0)]) (C := RX14) (T := TX14) (N := 4) hb ho zc11 in_X14 tyX14_ok q1527 q1528 q133 dX2_addPair_25 (zdf_X14) (by omega) (by omega) ?_
    refine z_hn (fun h_3 eh_3 => ?_)
    have eh_3 : h_3 = z_up h n_1 (.inr (11, [.int (nI 0), .null, .null, .int (nI 0)])) := eh_3
    have k_4 : h_3 a = some (.inr (1, [.ref lr, .ref ls, .ref lv, .int (nI D), .int (w 2), .int (w 4), .int (w 5), .int (w 6)])) := z_nx eh_3 (Nat.ne_of_lt (hD_2 _ _ h1)) h1
    have k_5 : h_3 lr = some (.inr (20, [.int m0, .ref e0, .int (nI R)])) := z_nx eh_3 (Nat.ne_of_lt (hD_2 _ _ r1)) r1
    have k_6 : h_3 e0 = some (.inl ((zm_G M).2.1 5, N0, .inr (.inr (.inr (.inr f0))))) := z_nx eh_3 (Nat.ne_of_lt (hD_2 _ _ r2)) r2
    have k_7 : h_3 ls = some (.inr (20, [.int m9, .ref e, .int (nI S)])) := z_nx eh_3 (Nat.ne_of_lt (hD_2 _ _ h3)) h3
    have k_8 : h_3 e = some (.inl ((zm_G M).2.1 5, N, .inr (.inr (.inr (.inr f))))) := z_nx eh_3 (Nat.ne_of_lt (hD_2 _ _ h4)) h4
    have k_9 : h_3 lv = some (.inr (20, [.int mv, .ref ev, .int (nI S)])) := z_nx eh_3 (Nat.ne_of_lt (hD_2 _ _ v1)) v1
    have k_10 : h_3 ev = some (.inl ((zm_G M).2.1 5, Nv, .inr (.inr (.inr (.inr fv))))) := z_nx eh_3 (Nat.ne_of_lt (hD_2 _ _ v2)) v2
    have k_11 : h_3 ((zm_G M).2.2.1 14) = some (.inr (23, [.ref e14, .int (nI 0), .int (z_hs (z_lits.getD 14 [])), .int hz14])) := z_nx eh_3 (Nat.ne_of_lt (hD_2 _ _ k141)) k141
    refine z_dup hb dX2_addPair_28 rfl ?_
    refine z_iload_n hb dX2_addPair_29 rfl ?_
    refine z_aload hb dX2_addPair_30 rfl ?_
    refine z_aload_n hb dX2_addPair_32 rfl ?_
    refine z_iload_n hb dX2_addPair_33 rfl ?_
    refine z_callTf (b' := 46) (f' := 334) (rest := [.ref (sa k), .int (nI 43), .ref n_1, .ref n_1, .ref a]) (av := [.ref a, .int x]) (z_siteV hb ho zc1 k_4 q1505 q1506 q1507 ⟨_, _, _, _, zk_X2_step⟩ zy_X2_step zl_X2_step dX2_addPair_34 : z_Site M _ _ _ _ _ ([.int x].reverse ++ .ref a :: [.ref (sa k), .int (nI 43), .ref n_1, .ref n_1, .ref a]) [.ref (sa k), .int (nI 43), .ref n_1, .ref n_1, .ref a] _) zk_X2_step q95 hrm (z_C.tf (m_X2_step_no (hL.ex (z_exN z_ex_r hD_2 eh_3)) hS8 hx)) (by omega) (by decide) (Nat.le_of_ble_eq_true rfl) (by omega) (by omega) (fun q_12 n_13 hq_12 hn_13 => ?_)
    refine z_lessX (z_ex_up (z_exN z_ex_r hD_2 eh_3)) ?_
    exact z_out ho hH zc28 z_up_s (by omega) (fun _ h => nomatch h) (by rw [hQ]; exact ⟨_, rfl, by omega, by omega, rfl⟩)
  · cases c_14

set_option maxHeartbeats 1000000 in
theorem m_X2_addPair_no4_p {l : Launch} {G : zG} {h : zH} {n : Nat} {w : Nat → Int32} {v : Nat → Int64} {R S D a lr ls lv : Nat} {ra sa va : Nat → Nat} {i j : Nat} (hL : z_Ln G h w v R S D a lr ls lv ra sa va) (hS8 : S ≤ 8) (hKS : z_KS G h) (hi9 : i < S) (hj9 : j < S) (hS9 : S = 8) : z_C l G yX2_addPair 31 50 356 [.ref a, .int (nI 43), .int (nI i), .int (nI j)] h n (z_tf 5 [.null, .null, .null, .null, .null, .int (nI 0), .int (nI 1), .int (nI 8)] h n) := by
  refine z_start zk_X2_addPair zpl_RX2 (Nat.le_of_ble_eq_true rfl) ?_
  intro hn0 M hl hG ho hb hN hr hm hH hrm hQ
  subst hl hG
  have ho : zm_o M = RX2 := ho
  obtain ⟨h1, ⟨e0, N0, m0, f0, r1, r2, r3, ⟨r4, r4n⟩, r5⟩, ⟨e, N, m9, f, h3, h4, h5, ⟨h6, h6n⟩, h7⟩, ⟨ev, Nv, mv, fv, v1, v2, v3, ⟨v4, v4n⟩, v5⟩, h9, hs, hv, hi, hrI⟩ := id hL
  obtain ⟨e14, hz14, k141, k142, k143, k144⟩ := hKS 14 (by decide)
  show z_V M h n 50 356 0 [(0, .ref a), (1, .int (nI 43)), (2, .int (nI i)), (3, .int (nI j))] []
  refine z_dom (fun hD0 => ?_)
  refine z_ldcS (i := 14) hb ho rfl rfl rfl dX2_addPair_0 ?_
  refine z_iload_n hb dX2_addPair_2 rfl ?_
  refine z_callN1 (b' := 50) (f' := 356) (rest := []) (av := [.ref ((zm_G M).2.2.1 14), .int (nI 43)]) (z_siteV hb ho zc23 k141 q1411 q1412 q1413 ⟨_, _, _, _, zk_J6_indexOf⟩ zy_J6_indexOf zl_J6_indexOf dX2_addPair_3 : z_Site M _ _ _ _ _ ([.int (nI 43)].reverse ++ .ref ((zm_G M).2.2.1 14) :: []) [] _) zk_J6_indexOf q102 hrm (m_J6_indexOf (hKS 14 (by decide)) (show 43 < 65536 by omega)) (by omega) (by decide) (Nat.le_of_ble_eq_true rfl) (by omega) (by omega) (fun n_1 hn_1 => ?_)
  refine z_toI (y := nI 0) (by decide +kernel) ?_
  refine z_if_ltN (tgt := 13) hb dX2_addPair_6 (by decide) (by omega) ?_
  refine z_iconst (x := nI 1) hb dX2_addPair_9 (by decide) ?_
  refine z_toI (y := z_b true) (by decide) ?_
  refine z_goto (tgt := 14) hb dX2_addPair_10 (by decide) ?_
  refine z_callC0 (b' := 49) (f' := 350) (rest := []) (av := [.int (z_b true)]) (z_siteSN hb ho q1457 q1141 q94 ⟨_, _, _, _, zk_X1_requireArgument⟩ zy_X1_requireArgument zl_X1_requireArgument dX2_addPair_14 : z_Site M _ _ _ _ _ ([.int (z_b true)].reverse ++ []) [] _) zk_X1_requireArgument q94 hrm (m_X1_requireArgument true) (by omega) (by decide) (Nat.le_of_ble_eq_true rfl) (by omega) (by omega) (fun c_14 => ?_) (fun c_14 => ?_)
  · refine z_aload_n hb dX2_addPair_17 rfl ?_
    refine z_iload_n hb dX2_addPair_18 rfl ?_
    refine z_call1 (b' := 48) (f' := 344) (rest := []) (av := [.ref a, .int (nI i)]) (z_siteV hb ho zc1 h1 q1505 q1506 q1507 ⟨_, _, _, _, zk_X2_step⟩ zy_X2_step zl_X2_step dX2_addPair_19 : z_Site M _ _ _ _ _ ([.int (nI i)].reverse ++ .ref a :: []) [] _) zk_X2_step q95 hrm (m_X2_step hL hS8 hi9) (by omega) (by decide) (Nat.le_of_ble_eq_true rfl) (by omega) (by omega) ?_
    refine z_astore (lv' := [(4, .ref (sa i)), (0, .ref a), (1, .int (nI 43)), (2, .int (nI i)), (3, .int (nI j))]) hb dX2_addPair_22 (by rw [hN]; decide) rfl ?_
    refine z_aload_n hb dX2_addPair_24 rfl ?_
    refine z_dom (fun hD_2 => ?_)
    refine z_new (N0 := 4) (b' := 47) (f' := 340) (fs := [.int (nI 0), .null, .null, .int (nI 0)]) (C := RX14) (T := TX14) (N := 4) hb ho zc11 in_X14 tyX14_ok q1527 q1528 q133 dX2_addPair_25 (zdf_X14) (by omega) (by omega) ?_
    refine z_hn (fun h_3 eh_3 => ?_)
    have eh_3 : h_3 = z_up h n_1 (.inr (11, [.int (nI 0), .null, .null, .int (nI 0)])) := eh_3
    have k_4 : h_3 a = some (.inr (1, [.ref lr, .ref ls, .ref lv, .int (nI D), .int (w 2), .int (w 4), .int (w 5), .int (w 6)])) := z_nx eh_3 (Nat.ne_of_lt (hD_2 _ _ h1)) h1
    have k_5 : h_3 lr = some (.inr (20, [.int m0, .ref e0, .int (nI R)])) := z_nx eh_3 (Nat.ne_of_lt (hD_2 _ _ r1)) r1
    have k_6 : h_3 e0 = some (.inl ((zm_G M).2.1 5, N0, .inr (.inr (.inr (.inr f0))))) := z_nx eh_3 (Nat.ne_of_lt (hD_2 _ _ r2)) r2
    have k_7 : h_3 ls = some (.inr (20, [.int m9, .ref e, .int (nI S)])) := z_nx eh_3 (Nat.ne_of_lt (hD_2 _ _ h3)) h3
    have k_8 : h_3 e = some (.inl ((zm_G M).2.1 5, N, .inr (.inr (.inr (.inr f))))) := z_nx eh_3 (Nat.ne_of_lt (hD_2 _ _ h4)) h4
    have k_9 : h_3 lv = some (.inr (20, [.int mv, .ref ev, .int (nI S)])) := z_nx eh_3 (Nat.ne_of_lt (hD_2 _ _ v1)) v1
    have k_10 : h_3 ev = some (.inl ((zm_G M).2.1 5, Nv, .inr (.inr (.inr (.inr fv))))) := z_nx eh_3 (Nat.ne_of_lt (hD_2 _ _ v2)) v2
    have k_11 : h_3 ((zm_G M).2.2.1 14) = some (.inr (23, [.ref e14, .int (nI 0), .int (z_hs (z_lits.getD 14 [])), .int hz14])) := z_nx eh_3 (Nat.ne_of_lt (hD_2 _ _ k141)) k141
    refine z_dup hb dX2_addPair_28 rfl ?_
    refine z_iload_n hb dX2_addPair_29 rfl ?_
    refine z_aload hb dX2_addPair_30 rfl ?_
    refine z_aload_n hb dX2_addPair_32 rfl ?_
    refine z_iload_n hb dX2_addPair_33 rfl ?_
    refine z_call1 (b' := 46) (f' := 334) (rest := [.ref (sa i), .int (nI 43), .ref n_1, .ref n_1, .ref a]) (av := [.ref a, .int (nI j)]) (z_siteV hb ho zc1 k_4 q1505 q1506 q1507 ⟨_, _, _, _, zk_X2_step⟩ zy_X2_step zl_X2_step dX2_addPair_34 : z_Site M _ _ _ _ _ ([.int (nI j)].reverse ++ .ref a :: [.ref (sa i), .int (nI 43), .ref n_1, .ref n_1, .ref a]) [.ref (sa i), .int (nI 43), .ref n_1, .ref n_1, .ref a] _) zk_X2_step q95 hrm (m_X2_step (hL.ex (z_exN z_ex_r hD_2 eh_3)) hS8 hj9) (by omega) (by decide) (Nat.le_of_ble_eq_true rfl) (by omega) (by omega) ?_
    refine z_call0 (b' := 46) (f' := 334) (rest := [.ref n_1, .ref a]) (av := [.ref n_1, .int (nI 43), .ref (sa i), .ref (sa j)]) (z_siteI hb ho q1529 q1530 q1531 rfl zy_X14_init zl_X14_init dX2_addPair_37 : z_Site M _ _ _ _ _ ([.int (nI 43), .ref (sa i), .ref (sa j)].reverse ++ .ref n_1 :: [.ref n_1, .ref a]) [.ref n_1, .ref a] _) zk_X14_init q133 hrm (m_X14_init_p (z_nxs eh_3) (by omega)) (by omega) (by decide) (Nat.le_of_ble_eq_true rfl) (by omega) (by omega) ?_
    refine z_hn (fun h_12 eh_12 => ?_)
    have eh_12 : h_12 = z_up h_3 n_1 (.inr (11, [.int (nI 43), .ref (sa i), .ref (sa j), .int (nI 1)])) := eh_12
    have k_13 : h_12 a = some (.inr (1, [.ref lr, .ref ls, .ref lv, .int (nI D), .int (w 2), .int (w 4), .int (w 5), .int (w 6)])) := z_nx eh_12 (Nat.ne_of_lt (hD_2 _ _ h1)) k_4
    have k_14 : h_12 lr = some (.inr (20, [.int m0, .ref e0, .int (nI R)])) := z_nx eh_12 (Nat.ne_of_lt (hD_2 _ _ r1)) k_5
    have k_15 : h_12 e0 = some (.inl ((zm_G M).2.1 5, N0, .inr (.inr (.inr (.inr f0))))) := z_nx eh_12 (Nat.ne_of_lt (hD_2 _ _ r2)) k_6
    have k_16 : h_12 ls = some (.inr (20, [.int m9, .ref e, .int (nI S)])) := z_nx eh_12 (Nat.ne_of_lt (hD_2 _ _ h3)) k_7
    have k_17 : h_12 e = some (.inl ((zm_G M).2.1 5, N, .inr (.inr (.inr (.inr f))))) := z_nx eh_12 (Nat.ne_of_lt (hD_2 _ _ h4)) k_8
    have k_18 : h_12 lv = some (.inr (20, [.int mv, .ref ev, .int (nI S)])) := z_nx eh_12 (Nat.ne_of_lt (hD_2 _ _ v1)) k_9
    have k_19 : h_12 ev = some (.inl ((zm_G M).2.1 5, Nv, .inr (.inr (.inr (.inr fv))))) := z_nx eh_12 (Nat.ne_of_lt (hD_2 _ _ v2)) k_10
    have k_20 : h_12 ((zm_G M).2.2.1 14) = some (.inr (23, [.ref e14, .int (nI 0), .int (z_hs (z_lits.getD 14 [])), .int hz14])) := z_nx eh_12 (Nat.ne_of_lt (hD_2 _ _ k141)) k_11
    refine z_callTf (b' := 45) (f' := 326) (rest := []) (av := [.ref a, .ref n_1]) (z_siteV hb ho zc1 k_13 q1477 q1479 qs13 ⟨_, _, _, _, zk_X2_add⟩ zy_X2_add zl_X2_add dX2_addPair_40 : z_Site M _ _ _ _ _ ([.ref n_1].reverse ++ .ref a :: []) [] _) zk_X2_add q95 hrm (m_X2_add_no (hL.ex (z_exW hD0 (by omega) eh_12 (z_exN z_ex_r hD_2 eh_3))) hS9) (by omega) (by decide) (Nat.le_of_ble_eq_true rfl) (by omega) (by omega) (fun q_21 n_22 hq_21 hn_22 => ?_)
    refine z_lessX (z_ex_up (z_exW hD0 (by omega) eh_12 (z_exN z_ex_r hD_2 eh_3))) ?_
    exact z_out ho hH zc5 z_up_s (by omega) (fun _ h => nomatch h) (by rw [hQ]; exact ⟨_, rfl, by omega, by omega, rfl⟩)
  · cases c_14

set_option maxHeartbeats 1000000 in
theorem m_X2_addPair_no2_m {l : Launch} {G : zG} {h : zH} {n : Nat} {w : Nat → Int32} {v : Nat → Int64} {R S D a lr ls lv : Nat} {ra sa va : Nat → Nat} {x y : Int32} (hL : z_Ln G h w v R S D a lr ls lv ra sa va) (hS8 : S ≤ 8) (hKS : z_KS G h) (hx : tw_isS S x = false) : z_C l G yX2_addPair 31 50 356 [.ref a, .int (nI 45), .int x, .int y] h n (z_tf 28 [] h n) := by
  refine z_start zk_X2_addPair zpl_RX2 (Nat.le_of_ble_eq_true rfl) ?_
  intro hn0 M hl hG ho hb hN hr hm hH hrm hQ
  subst hl hG
  have ho : zm_o M = RX2 := ho
  obtain ⟨h1, ⟨e0, N0, m0, f0, r1, r2, r3, ⟨r4, r4n⟩, r5⟩, ⟨e, N, m9, f, h3, h4, h5, ⟨h6, h6n⟩, h7⟩, ⟨ev, Nv, mv, fv, v1, v2, v3, ⟨v4, v4n⟩, v5⟩, h9, hs, hv, hi, hrI⟩ := id hL
  obtain ⟨e14, hz14, k141, k142, k143, k144⟩ := hKS 14 (by decide)
  show z_V M h n 50 356 0 [(0, .ref a), (1, .int (nI 45)), (2, .int x), (3, .int y)] []
  refine z_dom (fun hD0 => ?_)
  refine z_ldcS (i := 14) hb ho rfl rfl rfl dX2_addPair_0 ?_
  refine z_iload_n hb dX2_addPair_2 rfl ?_
  refine z_callN1 (b' := 50) (f' := 356) (rest := []) (av := [.ref ((zm_G M).2.2.1 14), .int (nI 45)]) (z_siteV hb ho zc23 k141 q1411 q1412 q1413 ⟨_, _, _, _, zk_J6_indexOf⟩ zy_J6_indexOf zl_J6_indexOf dX2_addPair_3 : z_Site M _ _ _ _ _ ([.int (nI 45)].reverse ++ .ref ((zm_G M).2.2.1 14) :: []) [] _) zk_J6_indexOf q102 hrm (m_J6_indexOf (hKS 14 (by decide)) (show 45 < 65536 by omega)) (by omega) (by decide) (Nat.le_of_ble_eq_true rfl) (by omega) (by omega) (fun n_1 hn_1 => ?_)
  refine z_toI (y := nI 1) (by decide +kernel) ?_
  refine z_if_ltN (tgt := 13) hb dX2_addPair_6 (by decide) (by omega) ?_
  refine z_iconst (x := nI 1) hb dX2_addPair_9 (by decide) ?_
  refine z_toI (y := z_b true) (by decide) ?_
  refine z_goto (tgt := 14) hb dX2_addPair_10 (by decide) ?_
  refine z_callC0 (b' := 49) (f' := 350) (rest := []) (av := [.int (z_b true)]) (z_siteSN hb ho q1457 q1141 q94 ⟨_, _, _, _, zk_X1_requireArgument⟩ zy_X1_requireArgument zl_X1_requireArgument dX2_addPair_14 : z_Site M _ _ _ _ _ ([.int (z_b true)].reverse ++ []) [] _) zk_X1_requireArgument q94 hrm (m_X1_requireArgument true) (by omega) (by decide) (Nat.le_of_ble_eq_true rfl) (by omega) (by omega) (fun c_14 => ?_) (fun c_14 => ?_)
  · refine z_aload_n hb dX2_addPair_17 rfl ?_
    refine z_iload_n hb dX2_addPair_18 rfl ?_
    refine z_callTf (b' := 48) (f' := 344) (rest := []) (av := [.ref a, .int x]) (z_siteV hb ho zc1 h1 q1505 q1506 q1507 ⟨_, _, _, _, zk_X2_step⟩ zy_X2_step zl_X2_step dX2_addPair_19 : z_Site M _ _ _ _ _ ([.int x].reverse ++ .ref a :: []) [] _) zk_X2_step q95 hrm (z_C.tf (m_X2_step_no hL hS8 hx)) (by omega) (by decide) (Nat.le_of_ble_eq_true rfl) (by omega) (by omega) (fun q_2 n_3 hq_2 hn_3 => ?_)
    exact z_out ho hH zc28 z_up_s (by omega) (fun _ h => nomatch h) (by rw [hQ]; exact ⟨_, rfl, by omega, by omega, rfl⟩)
  · cases c_14

set_option maxHeartbeats 1000000 in
theorem m_X2_addPair_no3_m {l : Launch} {G : zG} {h : zH} {n : Nat} {w : Nat → Int32} {v : Nat → Int64} {R S D a lr ls lv : Nat} {ra sa va : Nat → Nat} {k : Nat} {x : Int32} (hL : z_Ln G h w v R S D a lr ls lv ra sa va) (hS8 : S ≤ 8) (hKS : z_KS G h) (hk : k < S) (hx : tw_isS S x = false) : z_C l G yX2_addPair 31 50 356 [.ref a, .int (nI 45), .int (nI k), .int x] h n (z_tf 28 [] h n) := by
  refine z_start zk_X2_addPair zpl_RX2 (Nat.le_of_ble_eq_true rfl) ?_
  intro hn0 M hl hG ho hb hN hr hm hH hrm hQ
  subst hl hG
  have ho : zm_o M = RX2 := ho
  obtain ⟨h1, ⟨e0, N0, m0, f0, r1, r2, r3, ⟨r4, r4n⟩, r5⟩, ⟨e, N, m9, f, h3, h4, h5, ⟨h6, h6n⟩, h7⟩, ⟨ev, Nv, mv, fv, v1, v2, v3, ⟨v4, v4n⟩, v5⟩, h9, hs, hv, hi, hrI⟩ := id hL
  obtain ⟨e14, hz14, k141, k142, k143, k144⟩ := hKS 14 (by decide)
  show z_V M h n 50 356 0 [(0, .ref a), (1, .int (nI 45)), (2, .int (nI k)), (3, .int x)] []
  refine z_dom (fun hD0 => ?_)
  refine z_ldcS (i := 14) hb ho rfl rfl rfl dX2_addPair_0 ?_
  refine z_iload_n hb dX2_addPair_2 rfl ?_
  refine z_callN1 (b' := 50) (f' := 356) (rest := []) (av := [.ref ((zm_G M).2.2.1 14), .int (nI 45)]) (z_siteV hb ho zc23 k141 q1411 q1412 q1413 ⟨_, _, _, _, zk_J6_indexOf⟩ zy_J6_indexOf zl_J6_indexOf dX2_addPair_3 : z_Site M _ _ _ _ _ ([.int (nI 45)].reverse ++ .ref ((zm_G M).2.2.1 14) :: []) [] _) zk_J6_indexOf q102 hrm (m_J6_indexOf (hKS 14 (by decide)) (show 45 < 65536 by omega)) (by omega) (by decide) (Nat.le_of_ble_eq_true rfl) (by omega) (by omega) (fun n_1 hn_1 => ?_)
  refine z_toI (y := nI 1) (by decide +kernel) ?_
  refine z_if_ltN (tgt := 13) hb dX2_addPair_6 (by decide) (by omega) ?_
  refine z_iconst (x := nI 1) hb dX2_addPair_9 (by decide) ?_
  refine z_toI (y := z_b true) (by decide) ?_
  refine z_goto (tgt := 14) hb dX2_addPair_10 (by decide) ?_
  refine z_callC0 (b' := 49) (f' := 350) (rest := []) (av := [.int (z_b true)]) (z_siteSN hb ho q1457 q1141 q94 ⟨_, _, _, _, zk_X1_requireArgument⟩ zy_X1_requireArgument zl_X1_requireArgument dX2_addPair_14 : z_Site M _ _ _ _ _ ([.int (z_b true)].reverse ++ []) [] _) zk_X1_requireArgument q94 hrm (m_X1_requireArgument true) (by omega) (by decide) (Nat.le_of_ble_eq_true rfl) (by omega) (by omega) (fun c_14 => ?_) (fun c_14 => ?_)
  · refine z_aload_n hb dX2_addPair_17 rfl ?_
    refine z_iload_n hb dX2_addPair_18 rfl ?_
    refine z_call1 (b' := 48) (f' := 344) (rest := []) (av := [.ref a, .int (nI k)]) (z_siteV hb ho zc1 h1 q1505 q1506 q1507 ⟨_, _, _, _, zk_X2_step⟩ zy_X2_step zl_X2_step dX2_addPair_19 : z_Site M _ _ _ _ _ ([.int (nI k)].reverse ++ .ref a :: []) [] _) zk_X2_step q95 hrm (m_X2_step hL hS8 hk) (by omega) (by decide) (Nat.le_of_ble_eq_true rfl) (by omega) (by omega) ?_
    refine z_astore (lv' := [(4, .ref (sa k)), (0, .ref a), (1, .int (nI 45)), (2, .int (nI k)), (3, .int x)]) hb dX2_addPair_22 (by rw [hN]; decide) rfl ?_
    refine z_aload_n hb dX2_addPair_24 rfl ?_
    refine z_dom (fun hD_2 => ?_)
    refine z_new (N0 := 4) (b' := 47) (f' := 340) (fs := [.int (nI 0), .null, .null, .int (nI 0)]) (C := RX14) (T := TX14) (N := 4) hb ho zc11 in_X14 tyX14_ok q1527 q1528 q133 dX2_addPair_25 (zdf_X14) (by omega) (by omega) ?_
    refine z_hn (fun h_3 eh_3 => ?_)
    have eh_3 : h_3 = z_up h n_1 (.inr (11, [.int (nI 0), .null, .null, .int (nI 0)])) := eh_3
    have k_4 : h_3 a = some (.inr (1, [.ref lr, .ref ls, .ref lv, .int (nI D), .int (w 2), .int (w 4), .int (w 5), .int (w 6)])) := z_nx eh_3 (Nat.ne_of_lt (hD_2 _ _ h1)) h1
    have k_5 : h_3 lr = some (.inr (20, [.int m0, .ref e0, .int (nI R)])) := z_nx eh_3 (Nat.ne_of_lt (hD_2 _ _ r1)) r1
    have k_6 : h_3 e0 = some (.inl ((zm_G M).2.1 5, N0, .inr (.inr (.inr (.inr f0))))) := z_nx eh_3 (Nat.ne_of_lt (hD_2 _ _ r2)) r2
    have k_7 : h_3 ls = some (.inr (20, [.int m9, .ref e, .int (nI S)])) := z_nx eh_3 (Nat.ne_of_lt (hD_2 _ _ h3)) h3
    have k_8 : h_3 e = some (.inl ((zm_G M).2.1 5, N, .inr (.inr (.inr (.inr f))))) := z_nx eh_3 (Nat.ne_of_lt (hD_2 _ _ h4)) h4
    have k_9 : h_3 lv = some (.inr (20, [.int mv, .ref ev, .int (nI S)])) := z_nx eh_3 (Nat.ne_of_lt (hD_2 _ _ v1)) v1
    have k_10 : h_3 ev = some (.inl ((zm_G M).2.1 5, Nv, .inr (.inr (.inr (.inr fv))))) := z_nx eh_3 (Nat.ne_of_lt (hD_2 _ _ v2)) v2
    have k_11 : h_3 ((zm_G M).2.2.1 14) = some (.inr (23, [.ref e14, .int (nI 0), .int (z_hs (z_lits.getD 14 [])), .int hz14])) := z_nx eh_3 (Nat.ne_of_lt (hD_2 _ _ k141)) k141
    refine z_dup hb dX2_addPair_28 rfl ?_
    refine z_iload_n hb dX2_addPair_29 rfl ?_
    refine z_aload hb dX2_addPair_30 rfl ?_
    refine z_aload_n hb dX2_addPair_32 rfl ?_
    refine z_iload_n hb dX2_addPair_33 rfl ?_
    refine z_callTf (b' := 46) (f' := 334) (rest := [.ref (sa k), .int (nI 45), .ref n_1, .ref n_1, .ref a]) (av := [.ref a, .int x]) (z_siteV hb ho zc1 k_4 q1505 q1506 q1507 ⟨_, _, _, _, zk_X2_step⟩ zy_X2_step zl_X2_step dX2_addPair_34 : z_Site M _ _ _ _ _ ([.int x].reverse ++ .ref a :: [.ref (sa k), .int (nI 45), .ref n_1, .ref n_1, .ref a]) [.ref (sa k), .int (nI 45), .ref n_1, .ref n_1, .ref a] _) zk_X2_step q95 hrm (z_C.tf (m_X2_step_no (hL.ex (z_exN z_ex_r hD_2 eh_3)) hS8 hx)) (by omega) (by decide) (Nat.le_of_ble_eq_true rfl) (by omega) (by omega) (fun q_12 n_13 hq_12 hn_13 => ?_)
    refine z_lessX (z_ex_up (z_exN z_ex_r hD_2 eh_3)) ?_
    exact z_out ho hH zc28 z_up_s (by omega) (fun _ h => nomatch h) (by rw [hQ]; exact ⟨_, rfl, by omega, by omega, rfl⟩)
  · cases c_14

set_option maxHeartbeats 1000000 in
theorem m_X2_addPair_no4_m {l : Launch} {G : zG} {h : zH} {n : Nat} {w : Nat → Int32} {v : Nat → Int64} {R S D a lr ls lv : Nat} {ra sa va : Nat → Nat} {i j : Nat} (hL : z_Ln G h w v R S D a lr ls lv ra sa va) (hS8 : S ≤ 8) (hKS : z_KS G h) (hi9 : i < S) (hj9 : j < S) (hS9 : S = 8) : z_C l G yX2_addPair 31 50 356 [.ref a, .int (nI 45), .int (nI i), .int (nI j)] h n (z_tf 5 [.null, .null, .null, .null, .null, .int (nI 0), .int (nI 1), .int (nI 8)] h n) := by
  refine z_start zk_X2_addPair zpl_RX2 (Nat.le_of_ble_eq_true rfl) ?_
  intro hn0 M hl hG ho hb hN hr hm hH hrm hQ
  subst hl hG
  have ho : zm_o M = RX2 := ho
  obtain ⟨h1, ⟨e0, N0, m0, f0, r1, r2, r3, ⟨r4, r4n⟩, r5⟩, ⟨e, N, m9, f, h3, h4, h5, ⟨h6, h6n⟩, h7⟩, ⟨ev, Nv, mv, fv, v1, v2, v3, ⟨v4, v4n⟩, v5⟩, h9, hs, hv, hi, hrI⟩ := id hL
  obtain ⟨e14, hz14, k141, k142, k143, k144⟩ := hKS 14 (by decide)
  show z_V M h n 50 356 0 [(0, .ref a), (1, .int (nI 45)), (2, .int (nI i)), (3, .int (nI j))] []
  refine z_dom (fun hD0 => ?_)
  refine z_ldcS (i := 14) hb ho rfl rfl rfl dX2_addPair_0 ?_
  refine z_iload_n hb dX2_addPair_2 rfl ?_
  refine z_callN1 (b' := 50) (f' := 356) (rest := []) (av := [.ref ((zm_G M).2.2.1 14), .int (nI 45)]) (z_siteV hb ho zc23 k141 q1411 q1412 q1413 ⟨_, _, _, _, zk_J6_indexOf⟩ zy_J6_indexOf zl_J6_indexOf dX2_addPair_3 : z_Site M _ _ _ _ _ ([.int (nI 45)].reverse ++ .ref ((zm_G M).2.2.1 14) :: []) [] _) zk_J6_indexOf q102 hrm (m_J6_indexOf (hKS 14 (by decide)) (show 45 < 65536 by omega)) (by omega) (by decide) (Nat.le_of_ble_eq_true rfl) (by omega) (by omega) (fun n_1 hn_1 => ?_)
  refine z_toI (y := nI 1) (by decide +kernel) ?_
  refine z_if_ltN (tgt := 13) hb dX2_addPair_6 (by decide) (by omega) ?_
  refine z_iconst (x := nI 1) hb dX2_addPair_9 (by decide) ?_
  refine z_toI (y := z_b true) (by decide) ?_
  refine z_goto (tgt := 14) hb dX2_addPair_10 (by decide) ?_
  refine z_callC0 (b' := 49) (f' := 350) (rest := []) (av := [.int (z_b true)]) (z_siteSN hb ho q1457 q1141 q94 ⟨_, _, _, _, zk_X1_requireArgument⟩ zy_X1_requireArgument zl_X1_requireArgument dX2_addPair_14 : z_Site M _ _ _ _ _ ([.int (z_b true)].reverse ++ []) [] _) zk_X1_requireArgument q94 hrm (m_X1_requireArgument true) (by omega) (by decide) (Nat.le_of_ble_eq_true rfl) (by omega) (by omega) (fun c_14 => ?_) (fun c_14 => ?_)
  · refine z_aload_n hb dX2_addPair_17 rfl ?_
    refine z_iload_n hb dX2_addPair_18 rfl ?_
    refine z_call1 (b' := 48) (f' := 344) (rest := []) (av := [.ref a, .int (nI i)]) (z_siteV hb ho zc1 h1 q1505 q1506 q1507 ⟨_, _, _, _, zk_X2_step⟩ zy_X2_step zl_X2_step dX2_addPair_19 : z_Site M _ _ _ _ _ ([.int (nI i)].reverse ++ .ref a :: []) [] _) zk_X2_step q95 hrm (m_X2_step hL hS8 hi9) (by omega) (by decide) (Nat.le_of_ble_eq_true rfl) (by omega) (by omega) ?_
    refine z_astore (lv' := [(4, .ref (sa i)), (0, .ref a), (1, .int (nI 45)), (2, .int (nI i)), (3, .int (nI j))]) hb dX2_addPair_22 (by rw [hN]; decide) rfl ?_
    refine z_aload_n hb dX2_addPair_24 rfl ?_
    refine z_dom (fun hD_2 => ?_)
    refine z_new (N0 := 4) (b' := 47) (f' := 340) (fs := [.int (nI 0), .null, .null, .int (nI 0)]) (C := RX14) (T := TX14) (N := 4) hb ho zc11 in_X14 tyX14_ok q1527 q1528 q133 dX2_addPair_25 (zdf_X14) (by omega) (by omega) ?_
    refine z_hn (fun h_3 eh_3 => ?_)
    have eh_3 : h_3 = z_up h n_1 (.inr (11, [.int (nI 0), .null, .null, .int (nI 0)])) := eh_3
    have k_4 : h_3 a = some (.inr (1, [.ref lr, .ref ls, .ref lv, .int (nI D), .int (w 2), .int (w 4), .int (w 5), .int (w 6)])) := z_nx eh_3 (Nat.ne_of_lt (hD_2 _ _ h1)) h1
    have k_5 : h_3 lr = some (.inr (20, [.int m0, .ref e0, .int (nI R)])) := z_nx eh_3 (Nat.ne_of_lt (hD_2 _ _ r1)) r1
    have k_6 : h_3 e0 = some (.inl ((zm_G M).2.1 5, N0, .inr (.inr (.inr (.inr f0))))) := z_nx eh_3 (Nat.ne_of_lt (hD_2 _ _ r2)) r2
    have k_7 : h_3 ls = some (.inr (20, [.int m9, .ref e, .int (nI S)])) := z_nx eh_3 (Nat.ne_of_lt (hD_2 _ _ h3)) h3
    have k_8 : h_3 e = some (.inl ((zm_G M).2.1 5, N, .inr (.inr (.inr (.inr f))))) := z_nx eh_3 (Nat.ne_of_lt (hD_2 _ _ h4)) h4
    have k_9 : h_3 lv = some (.inr (20, [.int mv, .ref ev, .int (nI S)])) := z_nx eh_3 (Nat.ne_of_lt (hD_2 _ _ v1)) v1
    have k_10 : h_3 ev = some (.inl ((zm_G M).2.1 5, Nv, .inr (.inr (.inr (.inr fv))))) := z_nx eh_3 (Nat.ne_of_lt (hD_2 _ _ v2)) v2
    have k_11 : h_3 ((zm_G M).2.2.1 14) = some (.inr (23, [.ref e14, .int (nI 0), .int (z_hs (z_lits.getD 14 [])), .int hz14])) := z_nx eh_3 (Nat.ne_of_lt (hD_2 _ _ k141)) k141
    refine z_dup hb dX2_addPair_28 rfl ?_
    refine z_iload_n hb dX2_addPair_29 rfl ?_
    refine z_aload hb dX2_addPair_30 rfl ?_
    refine z_aload_n hb dX2_addPair_32 rfl ?_
    refine z_iload_n hb dX2_addPair_33 rfl ?_
    refine z_call1 (b' := 46) (f' := 334) (rest := [.ref (sa i), .int (nI 45), .ref n_1, .ref n_1, .ref a]) (av := [.ref a, .int (nI j)]) (z_siteV hb ho zc1 k_4 q1505 q1506 q1507 ⟨_, _, _, _, zk_X2_step⟩ zy_X2_step zl_X2_step dX2_addPair_34 : z_Site M _ _ _ _ _ ([.int (nI j)].reverse ++ .ref a :: [.ref (sa i), .int (nI 45), .ref n_1, .ref n_1, .ref a]) [.ref (sa i), .int (nI 45), .ref n_1, .ref n_1, .ref a] _) zk_X2_step q95 hrm (m_X2_step (hL.ex (z_exN z_ex_r hD_2 eh_3)) hS8 hj9) (by omega) (by decide) (Nat.le_of_ble_eq_true rfl) (by omega) (by omega) ?_
    refine z_call0 (b' := 46) (f' := 334) (rest := [.ref n_1, .ref a]) (av := [.ref n_1, .int (nI 45), .ref (sa i), .ref (sa j)]) (z_siteI hb ho q1529 q1530 q1531 rfl zy_X14_init zl_X14_init dX2_addPair_37 : z_Site M _ _ _ _ _ ([.int (nI 45), .ref (sa i), .ref (sa j)].reverse ++ .ref n_1 :: [.ref n_1, .ref a]) [.ref n_1, .ref a] _) zk_X14_init q133 hrm (m_X14_init_m (z_nxs eh_3) (by omega)) (by omega) (by decide) (Nat.le_of_ble_eq_true rfl) (by omega) (by omega) ?_
    refine z_hn (fun h_12 eh_12 => ?_)
    have eh_12 : h_12 = z_up h_3 n_1 (.inr (11, [.int (nI 45), .ref (sa i), .ref (sa j), .int (-1)])) := eh_12
    have k_13 : h_12 a = some (.inr (1, [.ref lr, .ref ls, .ref lv, .int (nI D), .int (w 2), .int (w 4), .int (w 5), .int (w 6)])) := z_nx eh_12 (Nat.ne_of_lt (hD_2 _ _ h1)) k_4
    have k_14 : h_12 lr = some (.inr (20, [.int m0, .ref e0, .int (nI R)])) := z_nx eh_12 (Nat.ne_of_lt (hD_2 _ _ r1)) k_5
    have k_15 : h_12 e0 = some (.inl ((zm_G M).2.1 5, N0, .inr (.inr (.inr (.inr f0))))) := z_nx eh_12 (Nat.ne_of_lt (hD_2 _ _ r2)) k_6
    have k_16 : h_12 ls = some (.inr (20, [.int m9, .ref e, .int (nI S)])) := z_nx eh_12 (Nat.ne_of_lt (hD_2 _ _ h3)) k_7
    have k_17 : h_12 e = some (.inl ((zm_G M).2.1 5, N, .inr (.inr (.inr (.inr f))))) := z_nx eh_12 (Nat.ne_of_lt (hD_2 _ _ h4)) k_8
    have k_18 : h_12 lv = some (.inr (20, [.int mv, .ref ev, .int (nI S)])) := z_nx eh_12 (Nat.ne_of_lt (hD_2 _ _ v1)) k_9
    have k_19 : h_12 ev = some (.inl ((zm_G M).2.1 5, Nv, .inr (.inr (.inr (.inr fv))))) := z_nx eh_12 (Nat.ne_of_lt (hD_2 _ _ v2)) k_10
    have k_20 : h_12 ((zm_G M).2.2.1 14) = some (.inr (23, [.ref e14, .int (nI 0), .int (z_hs (z_lits.getD 14 [])), .int hz14])) := z_nx eh_12 (Nat.ne_of_lt (hD_2 _ _ k141)) k_11
    refine z_callTf (b' := 45) (f' := 326) (rest := []) (av := [.ref a, .ref n_1]) (z_siteV hb ho zc1 k_13 q1477 q1479 qs13 ⟨_, _, _, _, zk_X2_add⟩ zy_X2_add zl_X2_add dX2_addPair_40 : z_Site M _ _ _ _ _ ([.ref n_1].reverse ++ .ref a :: []) [] _) zk_X2_add q95 hrm (m_X2_add_no (hL.ex (z_exW hD0 (by omega) eh_12 (z_exN z_ex_r hD_2 eh_3))) hS9) (by omega) (by decide) (Nat.le_of_ble_eq_true rfl) (by omega) (by omega) (fun q_21 n_22 hq_21 hn_22 => ?_)
    refine z_lessX (z_ex_up (z_exW hD0 (by omega) eh_12 (z_exN z_ex_r hD_2 eh_3))) ?_
    exact z_out ho hH zc5 z_up_s (by omega) (fun _ h => nomatch h) (by rw [hQ]; exact ⟨_, rfl, by omega, by omega, rfl⟩)
  · cases c_14

