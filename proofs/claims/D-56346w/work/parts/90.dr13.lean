theorem z_Dr.sn {G : zG} {h : zH} {b0 : Nat} {w : Nat → Int32} {v : Nat → Int64} {R S D a lr er ls es lv ev : Nat} {ra sa va na ba : Nat → Nat} {n : Nat} (q : z_Dr G h b0 w v R S D a lr er ls es lv ev ra sa va na ba) (d : z_dm h n) : ∀ k, k < S → sa k < n := fun k hk => by
  obtain ⟨-, ci, fs, q1, -⟩ := (q.sp k hk).o
  exact d _ _ q1
theorem z_nst_fs {w : Nat → Int32} {S i j : Nat} {kd bd : Int32} (hS : S < 8) (hi : i < S) (hj : j < S) : tw_f (tw_nst w S kd bd i j) S = i ∧ tw_s (tw_nst w S kd bd i j) S = j := by
  obtain ⟨-, -, e2, e3, -⟩ := z_nst_in (w := w) (kd := kd) (b := bd) (a := i) (c := j) hS
  exact ⟨by unfold tw_f; rw [e2, nI_clamp (by omega)], by unfold tw_s; rw [e3, nI_clamp (by omega)]⟩
theorem z_Sp_run {h : zH} {w : Nat → Int32} {sa : Nat → Nat} {S k x : Nat} {bd : Int32} (hS : S < 8) (hk : k < S) (hx : h x = some (.inr (12, [.ref (sa k), .int (nI 114)]))) : z_Sp h (tw_nst w S (nI 114) bd k k) (va_up sa S x) S := by
  obtain ⟨e0, e1, -⟩ := z_nst_in (w := w) (kd := nI 114) (b := bd) (a := k) (c := k) hS
  obtain ⟨f1, f2⟩ := z_nst_fs (w := w) (kd := nI 114) (bd := bd) hS hk hk
  refine Or.inr (Or.inr (Or.inr (Or.inr (Or.inr (Or.inl ⟨e0, by rw [f1]; exact hk, by rw [f1, f2], ?_⟩)))))
  rw [f1, va_ups, va_upn (by omega)]
  exact hx
theorem z_Sp_keep {h : zH} {w : Nat → Int32} {sa : Nat → Nat} {S k x : Nat} {bd : Int32} (hS : S < 8) (hk : k < S) (hx : h x = some (.inr (13, [.ref (sa k), .int (nI 107), .int bd]))) : z_Sp h (tw_nst w S (nI 107) bd k k) (va_up sa S x) S := by
  obtain ⟨e0, e1, -⟩ := z_nst_in (w := w) (kd := nI 107) (b := bd) (a := k) (c := k) hS
  obtain ⟨f1, f2⟩ := z_nst_fs (w := w) (kd := nI 107) (bd := bd) hS hk hk
  refine Or.inr (Or.inr (Or.inr (Or.inr (Or.inr (Or.inr ⟨e0, by rw [f1]; exact hk, by rw [f1, f2], ?_⟩)))))
  rw [f1, va_ups, va_upn (by omega), e1]
  exact hx
theorem z_Sp_plus {h : zH} {w : Nat → Int32} {sa : Nat → Nat} {S i j x : Nat} {bd : Int32} (hS : S < 8) (hi : i < S) (hj : j < S) (hx : h x = some (.inr (11, [.int (nI 43), .ref (sa i), .ref (sa j), .int (nI 1)]))) : z_Sp h (tw_nst w S (nI 43) bd i j) (va_up sa S x) S := by
  obtain ⟨e0, e1, -⟩ := z_nst_in (w := w) (kd := nI 43) (b := bd) (a := i) (c := j) hS
  obtain ⟨f1, f2⟩ := z_nst_fs (w := w) (kd := nI 43) (bd := bd) hS hi hj
  refine Or.inr (Or.inr (Or.inr (Or.inl ⟨e0, by rw [f1]; exact hi, by rw [f2]; exact hj, ?_⟩)))
  rw [f1, f2, va_ups, va_upn (by omega), va_upn (by omega)]
  exact hx
theorem z_Sp_minus {h : zH} {w : Nat → Int32} {sa : Nat → Nat} {S i j x : Nat} {bd : Int32} (hS : S < 8) (hi : i < S) (hj : j < S) (hx : h x = some (.inr (11, [.int (nI 45), .ref (sa i), .ref (sa j), .int (-1)]))) : z_Sp h (tw_nst w S (nI 45) bd i j) (va_up sa S x) S := by
  obtain ⟨e0, e1, -⟩ := z_nst_in (w := w) (kd := nI 45) (b := bd) (a := i) (c := j) hS
  obtain ⟨f1, f2⟩ := z_nst_fs (w := w) (kd := nI 45) (bd := bd) hS hi hj
  refine Or.inr (Or.inr (Or.inr (Or.inr (Or.inl ⟨e0, by rw [f1]; exact hi, by rw [f2]; exact hj, ?_⟩))))
  rw [f1, f2, va_ups, va_upn (by omega), va_upn (by omega)]
  exact hx
theorem z_Sp_base {h : zH} {w : Nat → Int32} {sa : Nat → Nat} {S x : Nat} {bd : Int32} (hS : S < 8) : (h x = some (.inr (8, [.int bd, .int (nI 115)])) → z_Sp h (tw_nst w S (nI 115) bd 0 0) (va_up sa S x) S) ∧ (h x = some (.inr (9, [.int bd, .int (nI 110)])) → z_Sp h (tw_nst w S (nI 110) bd 0 0) (va_up sa S x) S) ∧ (h x = some (.inr (10, [.int bd, .int (nI 120)])) → z_Sp h (tw_nst w S (nI 120) bd 0 0) (va_up sa S x) S) := by
  refine ⟨fun hx => ?_, fun hx => ?_, fun hx => ?_⟩
  · obtain ⟨e0, e1, -⟩ := z_nst_in (w := w) (kd := nI 115) (b := bd) (a := 0) (c := 0) hS
    exact Or.inl ⟨e0, by rw [e1, va_ups]; exact hx⟩
  · obtain ⟨e0, e1, -⟩ := z_nst_in (w := w) (kd := nI 110) (b := bd) (a := 0) (c := 0) hS
    exact Or.inr (Or.inl ⟨e0, by rw [e1, va_ups]; exact hx⟩)
  · obtain ⟨e0, e1, -⟩ := z_nst_in (w := w) (kd := nI 120) (b := bd) (a := 0) (c := 0) hS
    exact Or.inr (Or.inr (Or.inl ⟨e0, by rw [e1, va_ups]; exact hx⟩))

set_option maxHeartbeats 1000000 in
theorem m_X2_addRunning_ok {l : Launch} {G : zG} {h : zH} {n : Nat} {b0 : Nat} {w : Nat → Int32} {v : Nat → Int64} {R S D a lr er ls es lv ev : Nat} {ra sa va na ba : Nat → Nat} {k : Nat} (hDr : z_Dr G h b0 w v R S D a lr er ls es lv ev ra sa va na ba) (hb0 : z_n0 G ≤ b0) (hR4 : R ≤ 40) (hD6 : D ≤ 6) (hS7 : S < 8) (hbn : b0 ≤ n) (hiW : z_inp w S) (hk : k < S) : z_C l G yX2_addRunning 31 50 356 [.ref a, .int (nI k)] h n (z_q1 (fun r9 h' n' => r9 = .int (nI S) ∧ z_DR G h' b0 (tw_ns0 (tw_nst w S (nI 114) (nI 0) k k) S (D + 1)) (tw_ns5 (tw_nst w S (nI 114) (nI 0) k k) R S v (D + 1)) R (S + 1) D a ∧ z_fb b0 h h')) := by
  refine z_start zk_X2_addRunning zpl_RX2 (Nat.le_of_ble_eq_true rfl) ?_
  intro hn0 M hl hG ho hb hN hr hm hH hrm hQ
  subst hl hG
  have ho : zm_o M = RX2 := ho
  obtain ⟨⟨ha0, h1⟩, ⟨lr0, lr1, N0, m0, f0, r1, r2, r3, r4, r4b, r5⟩, ⟨ls0, ls1, N, m9, f, h3, h4, h5, h6, h6b, h7⟩, ⟨lv0, lv1, Nv, mv, fv, v1, v2, v3, v4, v4b, v5⟩, hne, hse, h9, hs, hvx, hi, hrI, hna, hba⟩ := id hDr
  have r4N := r4.le
  have h6N := h6.le
  have v4N := v4.le
  show z_V M h n 50 356 0 [(0, .ref a), (1, .int (nI k))] []
  refine z_dom (fun hD0 => ?_)
  refine z_aload_n hb dX2_addRunning_0 rfl ?_
  refine z_dom (fun hD_1 => ?_)
  refine z_new (N0 := 2) (b' := 49) (f' := 354) (fs := [.null, .int (nI 0)]) (C := RX16) (T := TX16) (N := 2) hb ho zc12 in_X16 tyX16_ok q1548 q1549 q135 dX2_addRunning_1 (zdf_X16) (by omega) (by omega) ?_
  refine z_hn (fun h_2 eh_2 => ?_)
  have eh_2 : h_2 = z_up h n (.inr (12, [.null, .int (nI 0)])) := eh_2
  have k_3 : h_2 a = some (.inr (1, [.ref lr, .ref ls, .ref lv, .int (nI D), .int (w 2), .int (w 4), .int (w 5), .int (w 6)])) := z_nx eh_2 (Nat.ne_of_lt (hD_1 _ _ h1)) h1
  have k_4 : h_2 lr = some (.inr (20, [.int m0, .ref er, .int (nI R)])) := z_nx eh_2 (Nat.ne_of_lt (hD_1 _ _ r1)) r1
  have k_5 : h_2 er = some (.inl ((zm_G M).2.1 5, N0, .inr (.inr (.inr (.inr f0))))) := z_nx eh_2 (Nat.ne_of_lt (hD_1 _ _ r2)) r2
  have k_6 : h_2 ls = some (.inr (20, [.int m9, .ref es, .int (nI S)])) := z_nx eh_2 (Nat.ne_of_lt (hD_1 _ _ h3)) h3
  have k_7 : h_2 es = some (.inl ((zm_G M).2.1 5, N, .inr (.inr (.inr (.inr f))))) := z_nx eh_2 (Nat.ne_of_lt (hD_1 _ _ h4)) h4
  have k_8 : h_2 lv = some (.inr (20, [.int mv, .ref ev, .int (nI S)])) := z_nx eh_2 (Nat.ne_of_lt (hD_1 _ _ v1)) v1
  have k_9 : h_2 ev = some (.inl ((zm_G M).2.1 5, Nv, .inr (.inr (.inr (.inr fv))))) := z_nx eh_2 (Nat.ne_of_lt (hD_1 _ _ v2)) v2
  refine z_dup hb dX2_addRunning_4 rfl ?_
  refine z_aload_n hb dX2_addRunning_5 rfl ?_
  refine z_iload_n hb dX2_addRunning_6 rfl ?_
  refine z_call1 (b' := 48) (f' := 348) (rest := [.ref n, .ref n, .ref a]) (av := [.ref a, .int (nI k)]) (z_siteV hb ho zc1 k_3 q1505 q1506 q1507 ⟨_, _, _, _, zk_X2_step⟩ zy_X2_step zl_X2_step dX2_addRunning_7 : z_Site M _ _ _ _ _ ([.int (nI k)].reverse ++ .ref a :: [.ref n, .ref n, .ref a]) [.ref n, .ref n, .ref a] _) zk_X2_step q95 hrm (m_X2_step (hDr.kp (z_exN z_ex_r hD_1 eh_2).kp).ln (by omega) hk) (by omega) (by decide) (Nat.le_of_ble_eq_true rfl) (by omega) (by omega) ?_
  refine z_call0 (b' := 48) (f' := 348) (rest := [.ref n, .ref a]) (av := [.ref n, .ref (sa k)]) (z_siteI hb ho q1550 q1551 q1552 rfl zy_X16_init zl_X16_init dX2_addRunning_10 : z_Site M _ _ _ _ _ ([.ref (sa k)].reverse ++ .ref n :: [.ref n, .ref a]) [.ref n, .ref a] _) zk_X16_init q135 hrm (m_X16_init (z_nxs eh_2) (by omega)) (by omega) (by decide) (Nat.le_of_ble_eq_true rfl) (by omega) (by omega) ?_
  refine z_hn (fun h_10 eh_10 => ?_)
  have eh_10 : h_10 = z_up h_2 n (.inr (12, [.ref (sa k), .int (nI 114)])) := eh_10
  have k_11 : h_10 a = some (.inr (1, [.ref lr, .ref ls, .ref lv, .int (nI D), .int (w 2), .int (w 4), .int (w 5), .int (w 6)])) := z_nx eh_10 (Nat.ne_of_lt (hD_1 _ _ h1)) k_3
  have k_12 : h_10 lr = some (.inr (20, [.int m0, .ref er, .int (nI R)])) := z_nx eh_10 (Nat.ne_of_lt (hD_1 _ _ r1)) k_4
  have k_13 : h_10 er = some (.inl ((zm_G M).2.1 5, N0, .inr (.inr (.inr (.inr f0))))) := z_nx eh_10 (Nat.ne_of_lt (hD_1 _ _ r2)) k_5
  have k_14 : h_10 ls = some (.inr (20, [.int m9, .ref es, .int (nI S)])) := z_nx eh_10 (Nat.ne_of_lt (hD_1 _ _ h3)) k_6
  have k_15 : h_10 es = some (.inl ((zm_G M).2.1 5, N, .inr (.inr (.inr (.inr f))))) := z_nx eh_10 (Nat.ne_of_lt (hD_1 _ _ h4)) k_7
  have k_16 : h_10 lv = some (.inr (20, [.int mv, .ref ev, .int (nI S)])) := z_nx eh_10 (Nat.ne_of_lt (hD_1 _ _ v1)) k_8
  have k_17 : h_10 ev = some (.inl ((zm_G M).2.1 5, Nv, .inr (.inr (.inr (.inr fv))))) := z_nx eh_10 (Nat.ne_of_lt (hD_1 _ _ v2)) k_9
  have e_18 := eh_10
  rw [eh_2, z_up_up] at e_18
  refine z_callQ1 (b' := 3) (f' := 52) (rest := []) (av := [.ref a, .ref n]) (z_siteV hb ho zc1 k_11 q1477 q1479 qs13 ⟨_, _, _, _, zk_X2_add⟩ zy_X2_add zl_X2_add dX2_addRunning_13 : z_Site M _ _ _ _ _ ([.ref n].reverse ++ .ref a :: []) [] _) zk_X2_add q95 hrm (m_X2_add (hDr.kp (z_exN z_ex_r hD_1 e_18).kp) hb0 hR4 hD6 hS7 (by omega) (fun k hk => Nat.ne_of_lt (Nat.lt_of_lt_of_le (hDr.sn hD0 k hk) (by omega))) (z_Sp_run (bd := nI 0) hS7 hk (z_nxs eh_10)) hiW (Or.inr (Or.inr ⟨Or.inl rfl, hk, rfl⟩))) (by omega) (by decide) (Nat.le_of_ble_eq_true rfl) (by omega) (by omega) (fun rhq_19 h_20 n_21 hq_19 hn_21 => ?_)
  obtain ⟨rfl, hq_19⟩ := hq_19
  refine z_iret hb hr dX2_addRunning_16 ?_
  rw [hQ]
  exact ⟨_, rfl, rfl, hq_19.1, ((z_exN z_ex_r hD_1 e_18).fb.t hq_19.2)⟩

set_option maxHeartbeats 1000000 in
theorem m_X2_addBounded_ok {l : Launch} {G : zG} {h : zH} {n : Nat} {b0 : Nat} {w : Nat → Int32} {v : Nat → Int64} {R S D a lr er ls es lv ev : Nat} {ra sa va na ba : Nat → Nat} {k c : Nat} (hDr : z_Dr G h b0 w v R S D a lr er ls es lv ev ra sa va na ba) (hb0 : z_n0 G ≤ b0) (hR4 : R ≤ 40) (hD6 : D ≤ 6) (hS7 : S < 8) (hbn : b0 ≤ n) (hiW : z_inp w S) (hk : k < S) (hc9 : c ≤ 99) : z_C l G yX2_addBounded 31 50 356 [.ref a, .int (nI k), .int (nI c)] h n (z_q1 (fun r9 h' n' => r9 = .int (nI S) ∧ z_DR G h' b0 (tw_ns0 (tw_nst w S (nI 107) (nI c) k k) S (D + 1)) (tw_ns5 (tw_nst w S (nI 107) (nI c) k k) R S v (D + 1)) R (S + 1) D a ∧ z_fb b0 h h')) := by
  refine z_start zk_X2_addBounded zpl_RX2 (Nat.le_of_ble_eq_true rfl) ?_
  intro hn0 M hl hG ho hb hN hr hm hH hrm hQ
  subst hl hG
  have ho : zm_o M = RX2 := ho
  obtain ⟨⟨ha0, h1⟩, ⟨lr0, lr1, N0, m0, f0, r1, r2, r3, r4, r4b, r5⟩, ⟨ls0, ls1, N, m9, f, h3, h4, h5, h6, h6b, h7⟩, ⟨lv0, lv1, Nv, mv, fv, v1, v2, v3, v4, v4b, v5⟩, hne, hse, h9, hs, hvx, hi, hrI, hna, hba⟩ := id hDr
  have r4N := r4.le
  have h6N := h6.le
  have v4N := v4.le
  show z_V M h n 50 356 0 [(0, .ref a), (1, .int (nI k)), (2, .int (nI c))] []
  refine z_dom (fun hD0 => ?_)
  refine z_aload_n hb dX2_addBounded_0 rfl ?_
  refine z_iload_n hb dX2_addBounded_1 rfl ?_
  refine z_call1 (b' := 49) (f' := 350) (rest := []) (av := [.ref a, .int (nI k)]) (z_siteV hb ho zc1 h1 q1505 q1506 q1507 ⟨_, _, _, _, zk_X2_step⟩ zy_X2_step zl_X2_step dX2_addBounded_2 : z_Site M _ _ _ _ _ ([.int (nI k)].reverse ++ .ref a :: []) [] _) zk_X2_step q95 hrm (m_X2_step hDr.ln (by omega) hk) (by omega) (by decide) (Nat.le_of_ble_eq_true rfl) (by omega) (by omega) ?_
  refine z_astore_n (lv' := [(3, .ref (sa k)), (0, .ref a), (1, .int (nI k)), (2, .int (nI c))]) hb dX2_addBounded_5 (by rw [hN]; decide) rfl ?_
  refine z_iload_n hb dX2_addBounded_6 rfl ?_
  refine z_iconst (x := nI 0) hb dX2_addBounded_7 (by decide) ?_
  refine z_bipush (x := nI 99) hb dX2_addBounded_8 (by decide) ?_
  refine z_callC0 (b' := 48) (f' := 344) (rest := []) (av := [.int (nI c), .int (nI 0), .int (nI 99)]) (z_siteSN hb ho q1148 q1135 q94 ⟨_, _, _, _, zk_X1_requireRange⟩ zy_X1_requireRange zl_X1_requireRange dX2_addBounded_10 : z_Site M _ _ _ _ _ ([.int (nI c), .int (nI 0), .int (nI 99)].reverse ++ []) [] _) zk_X1_requireRange q94 hrm (m_X1_requireRange (nI c) (nI 0) (nI 99)) (by omega) (by decide) (Nat.le_of_ble_eq_true rfl) (by omega) (by omega) (fun c_10 => ?_) (fun c_10 => ?_)
  · refine z_aload_n hb dX2_addBounded_13 rfl ?_
    refine z_dom (fun hD_1 => ?_)
    refine z_new (N0 := 3) (b' := 47) (f' := 341) (fs := [.null, .int (nI 0), .int (nI 0)]) (C := RX17) (T := TX17) (N := 3) hb ho zc13 in_X17 tyX17_ok q1566 q759 q136 dX2_addBounded_14 (zdf_X17) (by omega) (by omega) ?_
    refine z_hn (fun h_2 eh_2 => ?_)
    have eh_2 : h_2 = z_up h n (.inr (13, [.null, .int (nI 0), .int (nI 0)])) := eh_2
    have k_3 : h_2 a = some (.inr (1, [.ref lr, .ref ls, .ref lv, .int (nI D), .int (w 2), .int (w 4), .int (w 5), .int (w 6)])) := z_nx eh_2 (Nat.ne_of_lt (hD_1 _ _ h1)) h1
    have k_4 : h_2 lr = some (.inr (20, [.int m0, .ref er, .int (nI R)])) := z_nx eh_2 (Nat.ne_of_lt (hD_1 _ _ r1)) r1
    have k_5 : h_2 er = some (.inl ((zm_G M).2.1 5, N0, .inr (.inr (.inr (.inr f0))))) := z_nx eh_2 (Nat.ne_of_lt (hD_1 _ _ r2)) r2
    have k_6 : h_2 ls = some (.inr (20, [.int m9, .ref es, .int (nI S)])) := z_nx eh_2 (Nat.ne_of_lt (hD_1 _ _ h3)) h3
    have k_7 : h_2 es = some (.inl ((zm_G M).2.1 5, N, .inr (.inr (.inr (.inr f))))) := z_nx eh_2 (Nat.ne_of_lt (hD_1 _ _ h4)) h4
    have k_8 : h_2 lv = some (.inr (20, [.int mv, .ref ev, .int (nI S)])) := z_nx eh_2 (Nat.ne_of_lt (hD_1 _ _ v1)) v1
    have k_9 : h_2 ev = some (.inl ((zm_G M).2.1 5, Nv, .inr (.inr (.inr (.inr fv))))) := z_nx eh_2 (Nat.ne_of_lt (hD_1 _ _ v2)) v2
    refine z_dup hb dX2_addBounded_17 rfl ?_
    refine z_aload_n hb dX2_addBounded_18 rfl ?_
    refine z_iload_n hb dX2_addBounded_19 rfl ?_
    refine z_call0 (b' := 47) (f' := 341) (rest := [.ref n, .ref a]) (av := [.ref n, .ref (sa k), .int (nI c)]) (z_siteI hb ho q1567 q1568 q1569 rfl zy_X17_init zl_X17_init dX2_addBounded_20 : z_Site M _ _ _ _ _ ([.ref (sa k), .int (nI c)].reverse ++ .ref n :: [.ref n, .ref a]) [.ref n, .ref a] _) zk_X17_init q136 hrm (m_X17_init (nI c) (z_nxs eh_2) (by omega)) (by omega) (by decide) (Nat.le_of_ble_eq_true rfl) (by omega) (by omega) ?_
    refine z_hn (fun h_10 eh_10 => ?_)
    have eh_10 : h_10 = z_up h_2 n (.inr (13, [.ref (sa k), .int (nI 107), .int (nI c)])) := eh_10
    have k_11 : h_10 a = some (.inr (1, [.ref lr, .ref ls, .ref lv, .int (nI D), .int (w 2), .int (w 4), .int (w 5), .int (w 6)])) := z_nx eh_10 (Nat.ne_of_lt (hD_1 _ _ h1)) k_3
    have k_12 : h_10 lr = some (.inr (20, [.int m0, .ref er, .int (nI R)])) := z_nx eh_10 (Nat.ne_of_lt (hD_1 _ _ r1)) k_4
    have k_13 : h_10 er = some (.inl ((zm_G M).2.1 5, N0, .inr (.inr (.inr (.inr f0))))) := z_nx eh_10 (Nat.ne_of_lt (hD_1 _ _ r2)) k_5
    have k_14 : h_10 ls = some (.inr (20, [.int m9, .ref es, .int (nI S)])) := z_nx eh_10 (Nat.ne_of_lt (hD_1 _ _ h3)) k_6
    have k_15 : h_10 es = some (.inl ((zm_G M).2.1 5, N, .inr (.inr (.inr (.inr f))))) := z_nx eh_10 (Nat.ne_of_lt (hD_1 _ _ h4)) k_7
    have k_16 : h_10 lv = some (.inr (20, [.int mv, .ref ev, .int (nI S)])) := z_nx eh_10 (Nat.ne_of_lt (hD_1 _ _ v1)) k_8
    have k_17 : h_10 ev = some (.inl ((zm_G M).2.1 5, Nv, .inr (.inr (.inr (.inr fv))))) := z_nx eh_10 (Nat.ne_of_lt (hD_1 _ _ v2)) k_9
    have e_18 := eh_10
    rw [eh_2, z_up_up] at e_18
    refine z_callQ1 (b' := 2) (f' := 45) (rest := []) (av := [.ref a, .ref n]) (z_siteV hb ho zc1 k_11 q1477 q1479 qs13 ⟨_, _, _, _, zk_X2_add⟩ zy_X2_add zl_X2_add dX2_addBounded_23 : z_Site M _ _ _ _ _ ([.ref n].reverse ++ .ref a :: []) [] _) zk_X2_add q95 hrm (m_X2_add (hDr.kp (z_exN z_ex_r hD_1 e_18).kp) hb0 hR4 hD6 hS7 (by omega) (fun k hk => Nat.ne_of_lt (Nat.lt_of_lt_of_le (hDr.sn hD0 k hk) (by omega))) (z_Sp_keep hS7 hk (z_nxs eh_10)) hiW (Or.inr (Or.inr ⟨Or.inr rfl, hk, rfl⟩))) (by omega) (by decide) (Nat.le_of_ble_eq_true rfl) (by omega) (by omega) (fun rhq_19 h_20 n_21 hq_19 hn_21 => ?_)
    obtain ⟨rfl, hq_19⟩ := hq_19
    refine z_iret hb hr dX2_addBounded_26 ?_
    rw [hQ]
    exact ⟨_, rfl, rfl, hq_19.1, ((z_exN z_ex_r hD_1 e_18).fb.t hq_19.2)⟩
  · exact absurd c_10 (by rw [show decide (nI 0 ≤ nI c ∧ nI c ≤ nI 99) = true from z_inN (by omega) (by omega) (by omega)]; exact Bool.noConfusion)

set_option maxHeartbeats 1000000 in
theorem m_X2_add_no {l : Launch} {G : zG} {h : zH} {n : Nat} {w : Nat → Int32} {v : Nat → Int64} {R S D a lr ls lv : Nat} {ra sa va : Nat → Nat} {x : Nat} (hL : z_Ln G h w v R S D a lr ls lv ra sa va) (hS9 : S = 8) : z_C l G yX2_add 30 1 8 [.ref a, .ref x] h n (z_tf 5 [.null, .null, .null, .null, .null, .int (nI 0), .int (nI 1), .int (nI 8)] h n) := by
  refine z_start zk_X2_add zpl_RX2 (Nat.le_of_ble_eq_true rfl) ?_
  intro hn0 M hl hG ho hb hN hr hm hH hrm hQ
  subst hl hG
  have ho : zm_o M = RX2 := ho
  obtain ⟨h1, ⟨e0, N0, m0, f0, r1, r2, r3, ⟨r4, r4n⟩, r5⟩, ⟨e, N, m9, f, h3, h4, h5, ⟨h6, h6n⟩, h7⟩, ⟨ev, Nv, mv, fv, v1, v2, v3, ⟨v4, v4n⟩, v5⟩, h9, hs, hv, hi, hrI⟩ := id hL
  show z_V M h n 1 8 0 [(0, .ref a), (1, .ref x)] []
  refine z_dom (fun hD0 => ?_)
  refine z_aload_n hb dX2_add_0 rfl ?_
  refine z_get (k := 1) (C := RX2) (T := TX2) (N := 8) hb ho zc1 in_X2 (zf_RX2_18 _) dX2_add_1 h1 (by decide) rfl ?_
  refine z_call1 (b' := 1) (f' := 8) (rest := []) (av := [.ref ls]) (z_siteF hb ho zc20 h3 q1183 zx0 q322 q324 q325 q323 q321 zxl0 dX2_add_4 : z_Site M _ _ _ _ _ ([].reverse ++ .ref ls :: []) [] _) zk_J2_size q98 hrm (m_J2_size h3) (by omega) (by decide) (Nat.le_of_ble_eq_true rfl) (by omega) (by omega) ?_
  refine z_bipush (x := nI 8) hb dX2_add_9 (by decide) ?_
  refine z_icmp_geN (tgt := 18) hb dX2_add_11 (by decide) (by omega) (by omega) (fun c_11 => ?_) (fun c_11 => ?_)
  · refine z_iconst (x := nI 0) hb dX2_add_18 (by decide) ?_
    refine z_iconst (x := nI 1) hb dX2_add_19 (by decide) ?_
    refine z_bipush (x := nI 8) hb dX2_add_20 (by decide) ?_
    refine z_callTf (b' := 0) (f' := 0) (rest := []) (av := [.int (nI 0), .int (nI 1), .int (nI 8)]) (z_siteSN hb ho q1149 q1150 q94 ⟨_, _, _, _, zk_X1_denyUnless⟩ zy_X1_denyUnless zl_X1_denyUnless dX2_add_22 : z_Site M _ _ _ _ _ ([.int (nI 0), .int (nI 1), .int (nI 8)].reverse ++ []) [] _) zk_X1_denyUnless q94 hrm (z_C.tf (m_X1_denyUnless_f (nI 1) (nI 8))) (by omega) (by decide) (Nat.le_of_ble_eq_true rfl) (by omega) (by omega) (fun q_1 n_2 hq_1 hn_2 => ?_)
    exact z_out ho hH zc5 z_up_s (by omega) (fun _ h => nomatch h) (by rw [hQ]; exact ⟨_, rfl, by omega, by omega, rfl⟩)
  · exact absurd c_11 (by omega)

set_option maxHeartbeats 1000000 in
theorem m_X2_addRunning_no1 {l : Launch} {G : zG} {h : zH} {n : Nat} {w : Nat → Int32} {v : Nat → Int64} {R S D a lr ls lv : Nat} {ra sa va : Nat → Nat} {x : Int32} (hL : z_Ln G h w v R S D a lr ls lv ra sa va) (hS8 : S ≤ 8) (hx : tw_isS S x = false) : z_C l G yX2_addRunning 31 50 356 [.ref a, .int x] h n (z_tf 28 [] h n) := by
  refine z_start zk_X2_addRunning zpl_RX2 (Nat.le_of_ble_eq_true rfl) ?_
  intro hn0 M hl hG ho hb hN hr hm hH hrm hQ
  subst hl hG
  have ho : zm_o M = RX2 := ho
  obtain ⟨h1, ⟨e0, N0, m0, f0, r1, r2, r3, ⟨r4, r4n⟩, r5⟩, ⟨e, N, m9, f, h3, h4, h5, ⟨h6, h6n⟩, h7⟩, ⟨ev, Nv, mv, fv, v1, v2, v3, ⟨v4, v4n⟩, v5⟩, h9, hs, hv, hi, hrI⟩ := id hL
  show z_V M h n 50 356 0 [(0, .ref a), (1, .int x)] []
  refine z_dom (fun hD0 => ?_)
  refine z_aload_n hb dX2_addRunning_0 rfl ?_
  refine z_dom (fun hD_1 => ?_)
  refine z_new (N0 := 2) (b' := 49) (f' := 354) (fs := [.null, .int (nI 0)]) (C := RX16) (T := TX16) (N := 2) hb ho zc12 in_X16 tyX16_ok q1548 q1549 q135 dX2_addRunning_1 (zdf_X16) (by omega) (by omega) ?_
  refine z_hn (fun h_2 eh_2 => ?_)
  have eh_2 : h_2 = z_up h n (.inr (12, [.null, .int (nI 0)])) := eh_2
  have k_3 : h_2 a = some (.inr (1, [.ref lr, .ref ls, .ref lv, .int (nI D), .int (w 2), .int (w 4), .int (w 5), .int (w 6)])) := z_nx eh_2 (Nat.ne_of_lt (hD_1 _ _ h1)) h1
  have k_4 : h_2 lr = some (.inr (20, [.int m0, .ref e0, .int (nI R)])) := z_nx eh_2 (Nat.ne_of_lt (hD_1 _ _ r1)) r1
  have k_5 : h_2 e0 = some (.inl ((zm_G M).2.1 5, N0, .inr (.inr (.inr (.inr f0))))) := z_nx eh_2 (Nat.ne_of_lt (hD_1 _ _ r2)) r2
  have k_6 : h_2 ls = some (.inr (20, [.int m9, .ref e, .int (nI S)])) := z_nx eh_2 (Nat.ne_of_lt (hD_1 _ _ h3)) h3
  have k_7 : h_2 e = some (.inl ((zm_G M).2.1 5, N, .inr (.inr (.inr (.inr f))))) := z_nx eh_2 (Nat.ne_of_lt (hD_1 _ _ h4)) h4
  have k_8 : h_2 lv = some (.inr (20, [.int mv, .ref ev, .int (nI S)])) := z_nx eh_2 (Nat.ne_of_lt (hD_1 _ _ v1)) v1
  have k_9 : h_2 ev = some (.inl ((zm_G M).2.1 5, Nv, .inr (.inr (.inr (.inr fv))))) := z_nx eh_2 (Nat.ne_of_lt (hD_1 _ _ v2)) v2
  refine z_dup hb dX2_addRunning_4 rfl ?_
  refine z_aload_n hb dX2_addRunning_5 rfl ?_
  refine z_iload_n hb dX2_addRunning_6 rfl ?_
  refine z_callTf (b' := 48) (f' := 348) (rest := [.ref n, .ref n, .ref a]) (av := [.ref a, .int x]) (z_siteV hb ho zc1 k_3 q1505 q1506 q1507 ⟨_, _, _, _, zk_X2_step⟩ zy_X2_step zl_X2_step dX2_addRunning_7 : z_Site M _ _ _ _ _ ([.int x].reverse ++ .ref a :: [.ref n, .ref n, .ref a]) [.ref n, .ref n, .ref a] _) zk_X2_step q95 hrm (z_C.tf (m_X2_step_no (hL.ex (z_exN z_ex_r hD_1 eh_2)) hS8 hx)) (by omega) (by decide) (Nat.le_of_ble_eq_true rfl) (by omega) (by omega) (fun q_10 n_11 hq_10 hn_11 => ?_)
  refine z_lessX (z_ex_up (z_exN z_ex_r hD_1 eh_2)) ?_
  exact z_out ho hH zc28 z_up_s (by omega) (fun _ h => nomatch h) (by rw [hQ]; exact ⟨_, rfl, by omega, by omega, rfl⟩)

set_option maxHeartbeats 1000000 in
theorem m_X2_addRunning_no2 {l : Launch} {G : zG} {h : zH} {n : Nat} {w : Nat → Int32} {v : Nat → Int64} {R S D a lr ls lv : Nat} {ra sa va : Nat → Nat} {k : Nat} (hL : z_Ln G h w v R S D a lr ls lv ra sa va) (hS8 : S ≤ 8) (hk : k < S) (hS9 : S = 8) : z_C l G yX2_addRunning 31 50 356 [.ref a, .int (nI k)] h n (z_tf 5 [.null, .null, .null, .null, .null, .int (nI 0), .int (nI 1), .int (nI 8)] h n) := by
  refine z_start zk_X2_addRunning zpl_RX2 (Nat.le_of_ble_eq_true rfl) ?_
  intro hn0 M hl hG ho hb hN hr hm hH hrm hQ
  subst hl hG
  have ho : zm_o M = RX2 := ho
  obtain ⟨h1, ⟨e0, N0, m0, f0, r1, r2, r3, ⟨r4, r4n⟩, r5⟩, ⟨e, N, m9, f, h3, h4, h5, ⟨h6, h6n⟩, h7⟩, ⟨ev, Nv, mv, fv, v1, v2, v3, ⟨v4, v4n⟩, v5⟩, h9, hs, hv, hi, hrI⟩ := id hL
  show z_V M h n 50 356 0 [(0, .ref a), (1, .int (nI k))] []
  refine z_dom (fun hD0 => ?_)
  refine z_aload_n hb dX2_addRunning_0 rfl ?_
  refine z_dom (fun hD_1 => ?_)
  refine z_new (N0 := 2) (b' := 49) (f' := 354) (fs := [.null, .int (nI 0)]) (C := RX16) (T := TX16) (N := 2) hb ho zc12 in_X16 tyX16_ok q1548 q1549 q135 dX2_addRunning_1 (zdf_X16) (by omega) (by omega) ?_
  refine z_hn (fun h_2 eh_2 => ?_)
  have eh_2 : h_2 = z_up h n (.inr (12, [.null, .int (nI 0)])) := eh_2
  have k_3 : h_2 a = some (.inr (1, [.ref lr, .ref ls, .ref lv, .int (nI D), .int (w 2), .int (w 4), .int (w 5), .int (w 6)])) := z_nx eh_2 (Nat.ne_of_lt (hD_1 _ _ h1)) h1
  have k_4 : h_2 lr = some (.inr (20, [.int m0, .ref e0, .int (nI R)])) := z_nx eh_2 (Nat.ne_of_lt (hD_1 _ _ r1)) r1
  have k_5 : h_2 e0 = some (.inl ((zm_G M).2.1 5, N0, .inr (.inr (.inr (.inr f0))))) := z_nx eh_2 (Nat.ne_of_lt (hD_1 _ _ r2)) r2
  have k_6 : h_2 ls = some (.inr (20, [.int m9, .ref e, .int (nI S)])) := z_nx eh_2 (Nat.ne_of_lt (hD_1 _ _ h3)) h3
  have k_7 : h_2 e = some (.inl ((zm_G M).2.1 5, N, .inr (.inr (.inr (.inr f))))) := z_nx eh_2 (Nat.ne_of_lt (hD_1 _ _ h4)) h4
  have k_8 : h_2 lv = some (.inr (20, [.int mv, .ref ev, .int (nI S)])) := z_nx eh_2 (Nat.ne_of_lt (hD_1 _ _ v1)) v1
  have k_9 : h_2 ev = some (.inl ((zm_G M).2.1 5, Nv, .inr (.inr (.inr (.inr fv))))) := z_nx eh_2 (Nat.ne_of_lt (hD_1 _ _ v2)) v2
  refine z_dup hb dX2_addRunning_4 rfl ?_
  refine z_aload_n hb dX2_addRunning_5 rfl ?_
  refine z_iload_n hb dX2_addRunning_6 rfl ?_
  refine z_call1 (b' := 48) (f' := 348) (rest := [.ref n, .ref n, .ref a]) (av := [.ref a, .int (nI k)]) (z_siteV hb ho zc1 k_3 q1505 q1506 q1507 ⟨_, _, _, _, zk_X2_step⟩ zy_X2_step zl_X2_step dX2_addRunning_7 : z_Site M _ _ _ _ _ ([.int (nI k)].reverse ++ .ref a :: [.ref n, .ref n, .ref a]) [.ref n, .ref n, .ref a] _) zk_X2_step q95 hrm (m_X2_step (hL.ex (z_exN z_ex_r hD_1 eh_2)) hS8 hk) (by omega) (by decide) (Nat.le_of_ble_eq_true rfl) (by omega) (by omega) ?_
  refine z_call0 (b' := 48) (f' := 348) (rest := [.ref n, .ref a]) (av := [.ref n, .ref (sa k)]) (z_siteI hb ho q1550 q1551 q1552 rfl zy_X16_init zl_X16_init dX2_addRunning_10 : z_Site M _ _ _ _ _ ([.ref (sa k)].reverse ++ .ref n :: [.ref n, .ref a]) [.ref n, .ref a] _) zk_X16_init q135 hrm (m_X16_init (z_nxs eh_2) (by omega)) (by omega) (by decide) (Nat.le_of_ble_eq_true rfl) (by omega) (by omega) ?_
  refine z_hn (fun h_10 eh_10 => ?_)
  have eh_10 : h_10 = z_up h_2 n (.inr (12, [.ref (sa k), .int (nI 114)])) := eh_10
  have k_11 : h_10 a = some (.inr (1, [.ref lr, .ref ls, .ref lv, .int (nI D), .int (w 2), .int (w 4), .int (w 5), .int (w 6)])) := z_nx eh_10 (Nat.ne_of_lt (hD_1 _ _ h1)) k_3
  have k_12 : h_10 lr = some (.inr (20, [.int m0, .ref e0, .int (nI R)])) := z_nx eh_10 (Nat.ne_of_lt (hD_1 _ _ r1)) k_4
  have k_13 : h_10 e0 = some (.inl ((zm_G M).2.1 5, N0, .inr (.inr (.inr (.inr f0))))) := z_nx eh_10 (Nat.ne_of_lt (hD_1 _ _ r2)) k_5
  have k_14 : h_10 ls = some (.inr (20, [.int m9, .ref e, .int (nI S)])) := z_nx eh_10 (Nat.ne_of_lt (hD_1 _ _ h3)) k_6
  have k_15 : h_10 e = some (.inl ((zm_G M).2.1 5, N, .inr (.inr (.inr (.inr f))))) := z_nx eh_10 (Nat.ne_of_lt (hD_1 _ _ h4)) k_7
  have k_16 : h_10 lv = some (.inr (20, [.int mv, .ref ev, .int (nI S)])) := z_nx eh_10 (Nat.ne_of_lt (hD_1 _ _ v1)) k_8
  have k_17 : h_10 ev = some (.inl ((zm_G M).2.1 5, Nv, .inr (.inr (.inr (.inr fv))))) := z_nx eh_10 (Nat.ne_of_lt (hD_1 _ _ v2)) k_9
  refine z_callTf (b' := 47) (f' := 340) (rest := []) (av := [.ref a, .ref n]) (z_siteV hb ho zc1 k_11 q1477 q1479 qs13 ⟨_, _, _, _, zk_X2_add⟩ zy_X2_add zl_X2_add dX2_addRunning_13 : z_Site M _ _ _ _ _ ([.ref n].reverse ++ .ref a :: []) [] _) zk_X2_add q95 hrm (m_X2_add_no (hL.ex (z_exW hD0 (by omega) eh_10 (z_exN z_ex_r hD_1 eh_2))) hS9) (by omega) (by decide) (Nat.le_of_ble_eq_true rfl) (by omega) (by omega) (fun q_18 n_19 hq_18 hn_19 => ?_)
  refine z_lessX (z_ex_up (z_exW hD0 (by omega) eh_10 (z_exN z_ex_r hD_1 eh_2))) ?_
  exact z_out ho hH zc5 z_up_s (by omega) (fun _ h => nomatch h) (by rw [hQ]; exact ⟨_, rfl, by omega, by omega, rfl⟩)

set_option maxHeartbeats 1000000 in
theorem m_X2_addBounded_no1 {l : Launch} {G : zG} {h : zH} {n : Nat} {w : Nat → Int32} {v : Nat → Int64} {R S D a lr ls lv : Nat} {ra sa va : Nat → Nat} {x y : Int32} (hL : z_Ln G h w v R S D a lr ls lv ra sa va) (hS8 : S ≤ 8) (hx : tw_isS S x = false) : z_C l G yX2_addBounded 31 50 356 [.ref a, .int x, .int y] h n (z_tf 28 [] h n) := by
  refine z_start zk_X2_addBounded zpl_RX2 (Nat.le_of_ble_eq_true rfl) ?_
  intro hn0 M hl hG ho hb hN hr hm hH hrm hQ
  subst hl hG
  have ho : zm_o M = RX2 := ho
  obtain ⟨h1, ⟨e0, N0, m0, f0, r1, r2, r3, ⟨r4, r4n⟩, r5⟩, ⟨e, N, m9, f, h3, h4, h5, ⟨h6, h6n⟩, h7⟩, ⟨ev, Nv, mv, fv, v1, v2, v3, ⟨v4, v4n⟩, v5⟩, h9, hs, hv, hi, hrI⟩ := id hL
  show z_V M h n 50 356 0 [(0, .ref a), (1, .int x), (2, .int y)] []
  refine z_dom (fun hD0 => ?_)
  refine z_aload_n hb dX2_addBounded_0 rfl ?_
  refine z_iload_n hb dX2_addBounded_1 rfl ?_
  refine z_callTf (b' := 49) (f' := 350) (rest := []) (av := [.ref a, .int x]) (z_siteV hb ho zc1 h1 q1505 q1506 q1507 ⟨_, _, _, _, zk_X2_step⟩ zy_X2_step zl_X2_step dX2_addBounded_2 : z_Site M _ _ _ _ _ ([.int x].reverse ++ .ref a :: []) [] _) zk_X2_step q95 hrm (z_C.tf (m_X2_step_no hL hS8 hx)) (by omega) (by decide) (Nat.le_of_ble_eq_true rfl) (by omega) (by omega) (fun q_1 n_2 hq_1 hn_2 => ?_)
  exact z_out ho hH zc28 z_up_s (by omega) (fun _ h => nomatch h) (by rw [hQ]; exact ⟨_, rfl, by omega, by omega, rfl⟩)

set_option maxHeartbeats 1000000 in
theorem m_X2_addBounded_no2 {l : Launch} {G : zG} {h : zH} {n : Nat} {w : Nat → Int32} {v : Nat → Int64} {R S D a lr ls lv : Nat} {ra sa va : Nat → Nat} {k : Nat} {x : Int32} (hL : z_Ln G h w v R S D a lr ls lv ra sa va) (hS8 : S ≤ 8) (hk : k < S) (hx : decide (nI 0 ≤ x ∧ x ≤ nI 99) = false) : z_C l G yX2_addBounded 31 50 356 [.ref a, .int (nI k), .int x] h n (z_tf 27 [] h n) := by
  refine z_start zk_X2_addBounded zpl_RX2 (Nat.le_of_ble_eq_true rfl) ?_
  intro hn0 M hl hG ho hb hN hr hm hH hrm hQ
  subst hl hG
  have ho : zm_o M = RX2 := ho
  obtain ⟨h1, ⟨e0, N0, m0, f0, r1, r2, r3, ⟨r4, r4n⟩, r5⟩, ⟨e, N, m9, f, h3, h4, h5, ⟨h6, h6n⟩, h7⟩, ⟨ev, Nv, mv, fv, v1, v2, v3, ⟨v4, v4n⟩, v5⟩, h9, hs, hv, hi, hrI⟩ := id hL
  show z_V M h n 50 356 0 [(0, .ref a), (1, .int (nI k)), (2, .int x)] []
  refine z_dom (fun hD0 => ?_)
  refine z_aload_n hb dX2_addBounded_0 rfl ?_
  refine z_iload_n hb dX2_addBounded_1 rfl ?_
  refine z_call1 (b' := 49) (f' := 350) (rest := []) (av := [.ref a, .int (nI k)]) (z_siteV hb ho zc1 h1 q1505 q1506 q1507 ⟨_, _, _, _, zk_X2_step⟩ zy_X2_step zl_X2_step dX2_addBounded_2 : z_Site M _ _ _ _ _ ([.int (nI k)].reverse ++ .ref a :: []) [] _) zk_X2_step q95 hrm (m_X2_step hL hS8 hk) (by omega) (by decide) (Nat.le_of_ble_eq_true rfl) (by omega) (by omega) ?_
  refine z_astore_n (lv' := [(3, .ref (sa k)), (0, .ref a), (1, .int (nI k)), (2, .int x)]) hb dX2_addBounded_5 (by rw [hN]; decide) rfl ?_
  refine z_iload_n hb dX2_addBounded_6 rfl ?_
  refine z_iconst (x := nI 0) hb dX2_addBounded_7 (by decide) ?_
  refine z_bipush (x := nI 99) hb dX2_addBounded_8 (by decide) ?_
  refine z_callC0 (b' := 48) (f' := 344) (rest := []) (av := [.int x, .int (nI 0), .int (nI 99)]) (z_siteSN hb ho q1148 q1135 q94 ⟨_, _, _, _, zk_X1_requireRange⟩ zy_X1_requireRange zl_X1_requireRange dX2_addBounded_10 : z_Site M _ _ _ _ _ ([.int x, .int (nI 0), .int (nI 99)].reverse ++ []) [] _) zk_X1_requireRange q94 hrm (m_X1_requireRange x (nI 0) (nI 99)) (by omega) (by decide) (Nat.le_of_ble_eq_true rfl) (by omega) (by omega) (fun c_10 => ?_) (fun c_10 => ?_)
  · rw [hx] at c_10; cases c_10
  · exact z_out ho hH zc27 z_up_s (by omega) (fun _ h => nomatch h) (by rw [hQ]; exact ⟨_, rfl, by omega, Nat.lt_succ_self _, rfl⟩)

set_option maxHeartbeats 1000000 in
theorem m_X2_addBounded_no3 {l : Launch} {G : zG} {h : zH} {n : Nat} {w : Nat → Int32} {v : Nat → Int64} {R S D a lr ls lv : Nat} {ra sa va : Nat → Nat} {k c : Nat} (hL : z_Ln G h w v R S D a lr ls lv ra sa va) (hS8 : S ≤ 8) (hk : k < S) (hc9 : c ≤ 99) (hS9 : S = 8) : z_C l G yX2_addBounded 31 50 356 [.ref a, .int (nI k), .int (nI c)] h n (z_tf 5 [.null, .null, .null, .null, .null, .int (nI 0), .int (nI 1), .int (nI 8)] h n) := by
  refine z_start zk_X2_addBounded zpl_RX2 (Nat.le_of_ble_eq_true rfl) ?_
  intro hn0 M hl hG ho hb hN hr hm hH hrm hQ
  subst hl hG
  have ho : zm_o M = RX2 := ho
  obtain ⟨h1, ⟨e0, N0, m0, f0, r1, r2, r3, ⟨r4, r4n⟩, r5⟩, ⟨e, N, m9, f, h3, h4, h5, ⟨h6, h6n⟩, h7⟩, ⟨ev, Nv, mv, fv, v1, v2, v3, ⟨v4, v4n⟩, v5⟩, h9, hs, hv, hi, hrI⟩ := id hL
  show z_V M h n 50 356 0 [(0, .ref a), (1, .int (nI k)), (2, .int (nI c))] []
  refine z_dom (fun hD0 => ?_)
  refine z_aload_n hb dX2_addBounded_0 rfl ?_
  refine z_iload_n hb dX2_addBounded_1 rfl ?_
  refine z_call1 (b' := 49) (f' := 350) (rest := []) (av := [.ref a, .int (nI k)]) (z_siteV hb ho zc1 h1 q1505 q1506 q1507 ⟨_, _, _, _, zk_X2_step⟩ zy_X2_step zl_X2_step dX2_addBounded_2 : z_Site M _ _ _ _ _ ([.int (nI k)].reverse ++ .ref a :: []) [] _) zk_X2_step q95 hrm (m_X2_step hL hS8 hk) (by omega) (by decide) (Nat.le_of_ble_eq_true rfl) (by omega) (by omega) ?_
  refine z_astore_n (lv' := [(3, .ref (sa k)), (0, .ref a), (1, .int (nI k)), (2, .int (nI c))]) hb dX2_addBounded_5 (by rw [hN]; decide) rfl ?_
  refine z_iload_n hb dX2_addBounded_6 rfl ?_
  refine z_iconst (x := nI 0) hb dX2_addBounded_7 (by decide) ?_
  refine z_bipush (x := nI 99) hb dX2_addBounded_8 (by decide) ?_
  refine z_callC0 (b' := 48) (f' := 344) (rest := []) (av := [.int (nI c), .int (nI 0), .int (nI 99)]) (z_siteSN hb ho q1148 q1135 q94 ⟨_, _, _, _, zk_X1_requireRange⟩ zy_X1_requireRange zl_X1_requireRange dX2_addBounded_10 : z_Site M _ _ _ _ _ ([.int (nI c), .int (nI 0), .int (nI 99)].reverse ++ []) [] _) zk_X1_requireRange q94 hrm (m_X1_requireRange (nI c) (nI 0) (nI 99)) (by omega) (by decide) (Nat.le_of_ble_eq_true rfl) (by omega) (by omega) (fun c_10 => ?_) (fun c_10 => ?_)
  · refine z_aload_n hb dX2_addBounded_13 rfl ?_
    refine z_dom (fun hD_1 => ?_)
    refine z_new (N0 := 3) (b' := 47) (f' := 341) (fs := [.null, .int (nI 0), .int (nI 0)]) (C := RX17) (T := TX17) (N := 3) hb ho zc13 in_X17 tyX17_ok q1566 q759 q136 dX2_addBounded_14 (zdf_X17) (by omega) (by omega) ?_
    refine z_hn (fun h_2 eh_2 => ?_)
    have eh_2 : h_2 = z_up h n (.inr (13, [.null, .int (nI 0), .int (nI 0)])) := eh_2
    have k_3 : h_2 a = some (.inr (1, [.ref lr, .ref ls, .ref lv, .int (nI D), .int (w 2), .int (w 4), .int (w 5), .int (w 6)])) := z_nx eh_2 (Nat.ne_of_lt (hD_1 _ _ h1)) h1
    have k_4 : h_2 lr = some (.inr (20, [.int m0, .ref e0, .int (nI R)])) := z_nx eh_2 (Nat.ne_of_lt (hD_1 _ _ r1)) r1
    have k_5 : h_2 e0 = some (.inl ((zm_G M).2.1 5, N0, .inr (.inr (.inr (.inr f0))))) := z_nx eh_2 (Nat.ne_of_lt (hD_1 _ _ r2)) r2
    have k_6 : h_2 ls = some (.inr (20, [.int m9, .ref e, .int (nI S)])) := z_nx eh_2 (Nat.ne_of_lt (hD_1 _ _ h3)) h3
    have k_7 : h_2 e = some (.inl ((zm_G M).2.1 5, N, .inr (.inr (.inr (.inr f))))) := z_nx eh_2 (Nat.ne_of_lt (hD_1 _ _ h4)) h4
    have k_8 : h_2 lv = some (.inr (20, [.int mv, .ref ev, .int (nI S)])) := z_nx eh_2 (Nat.ne_of_lt (hD_1 _ _ v1)) v1
    have k_9 : h_2 ev = some (.inl ((zm_G M).2.1 5, Nv, .inr (.inr (.inr (.inr fv))))) := z_nx eh_2 (Nat.ne_of_lt (hD_1 _ _ v2)) v2
    refine z_dup hb dX2_addBounded_17 rfl ?_
    refine z_aload_n hb dX2_addBounded_18 rfl ?_
    refine z_iload_n hb dX2_addBounded_19 rfl ?_
    refine z_call0 (b' := 47) (f' := 341) (rest := [.ref n, .ref a]) (av := [.ref n, .ref (sa k), .int (nI c)]) (z_siteI hb ho q1567 q1568 q1569 rfl zy_X17_init zl_X17_init dX2_addBounded_20 : z_Site M _ _ _ _ _ ([.ref (sa k), .int (nI c)].reverse ++ .ref n :: [.ref n, .ref a]) [.ref n, .ref a] _) zk_X17_init q136 hrm (m_X17_init (nI c) (z_nxs eh_2) (by omega)) (by omega) (by decide) (Nat.le_of_ble_eq_true rfl) (by omega) (by omega) ?_
    refine z_hn (fun h_10 eh_10 => ?_)
    have eh_10 : h_10 = z_up h_2 n (.inr (13, [.ref (sa k), .int (nI 107), .int (nI c)])) := eh_10
    have k_11 : h_10 a = some (.inr (1, [.ref lr, .ref ls, .ref lv, .int (nI D), .int (w 2), .int (w 4), .int (w 5), .int (w 6)])) := z_nx eh_10 (Nat.ne_of_lt (hD_1 _ _ h1)) k_3
    have k_12 : h_10 lr = some (.inr (20, [.int m0, .ref e0, .int (nI R)])) := z_nx eh_10 (Nat.ne_of_lt (hD_1 _ _ r1)) k_4
    have k_13 : h_10 e0 = some (.inl ((zm_G M).2.1 5, N0, .inr (.inr (.inr (.inr f0))))) := z_nx eh_10 (Nat.ne_of_lt (hD_1 _ _ r2)) k_5
    have k_14 : h_10 ls = some (.inr (20, [.int m9, .ref e, .int (nI S)])) := z_nx eh_10 (Nat.ne_of_lt (hD_1 _ _ h3)) k_6
    have k_15 : h_10 e = some (.inl ((zm_G M).2.1 5, N, .inr (.inr (.inr (.inr f))))) := z_nx eh_10 (Nat.ne_of_lt (hD_1 _ _ h4)) k_7
    have k_16 : h_10 lv = some (.inr (20, [.int mv, .ref ev, .int (nI S)])) := z_nx eh_10 (Nat.ne_of_lt (hD_1 _ _ v1)) k_8
    have k_17 : h_10 ev = some (.inl ((zm_G M).2.1 5, Nv, .inr (.inr (.inr (.inr fv))))) := z_nx eh_10 (Nat.ne_of_lt (hD_1 _ _ v2)) k_9
    refine z_callTf (b' := 46) (f' := 333) (rest := []) (av := [.ref a, .ref n]) (z_siteV hb ho zc1 k_11 q1477 q1479 qs13 ⟨_, _, _, _, zk_X2_add⟩ zy_X2_add zl_X2_add dX2_addBounded_23 : z_Site M _ _ _ _ _ ([.ref n].reverse ++ .ref a :: []) [] _) zk_X2_add q95 hrm (m_X2_add_no (hL.ex (z_exW hD0 (by omega) eh_10 (z_exN z_ex_r hD_1 eh_2))) hS9) (by omega) (by decide) (Nat.le_of_ble_eq_true rfl) (by omega) (by omega) (fun q_18 n_19 hq_18 hn_19 => ?_)
    refine z_lessX (z_ex_up (z_exW hD0 (by omega) eh_10 (z_exN z_ex_r hD_1 eh_2))) ?_
    exact z_out ho hH zc5 z_up_s (by omega) (fun _ h => nomatch h) (by rw [hQ]; exact ⟨_, rfl, by omega, by omega, rfl⟩)
  · exact absurd c_10 (by rw [show decide (nI 0 ≤ nI c ∧ nI c ≤ nI 99) = true from z_inN (by omega) (by omega) (by omega)]; exact Bool.noConfusion)

