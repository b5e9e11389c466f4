set_option maxHeartbeats 1000000 in
theorem m_X1_today {l : Launch} {G : zG} {h : zH} {n : Nat} {t : Nat} {x1 x2 x3 x4 x5 x6 : Value} {w : Nat → Int32} {v : Nat → Int64} {R S D a lr ls lv : Nat} {ra sa va : Nat → Nat}  (hX : h t = some (.inr (0, [.ref a, x1, x2, x3, x4, x5, x6]))) (hL : z_Ln G h w v R S D a lr ls lv ra sa va) : z_C l G yX1_today 2 0 0 [.ref t] h n (z_rv (.int (nI D)) h n) := by
  refine z_start zk_X1_today zpl_RX1 (Nat.le_of_ble_eq_true rfl) ?_
  intro hn0 M hl hG ho hb hN hr hm hH hrm hQ
  subst hl hG
  have ho : zm_o M = RX1 := ho
  obtain ⟨h1, ⟨e0, N0, m0, f0, r1, r2, r3, ⟨r4, r4n⟩, r5⟩, ⟨e, N, m9, f, h3, h4, h5, ⟨h6, h6n⟩, h7⟩, h8, h9, hs, hv, hi, hrI⟩ := id hL
  show z_V M h n 0 0 0 [(0, .ref t)] []
  refine z_aload_n hb dX1_today_0 rfl ?_
  refine z_get (k := 0) (C := RX1) (T := TX1) (N := 7) hb ho zc0 in_X1 (zf_RX1_41 _) dX1_today_1 hX (by decide) rfl ?_
  refine z_get (k := 3) (C := RX2) (T := TX2) (N := 8) hb ho zc1 in_X2 (zf_RX1_120 _) dX1_today_4 h1 (by decide) rfl ?_
  refine z_iret hb hr dX1_today_7 ?_
  rw [hQ]
  exact ⟨rfl, rfl, rfl⟩

set_option maxHeartbeats 1000000 in
theorem m_X1_rows {l : Launch} {G : zG} {h : zH} {n : Nat} {t : Nat} {x1 x2 x3 x4 x5 x6 : Value} {w : Nat → Int32} {v : Nat → Int64} {R S D a lr ls lv : Nat} {ra sa va : Nat → Nat}  (hX : h t = some (.inr (0, [.ref a, x1, x2, x3, x4, x5, x6]))) (hL : z_Ln G h w v R S D a lr ls lv ra sa va) : z_C l G yX1_rows 2 0 0 [.ref t] h n (z_rv (.int (nI R)) h n) := by
  refine z_start zk_X1_rows zpl_RX1 (Nat.le_of_ble_eq_true rfl) ?_
  intro hn0 M hl hG ho hb hN hr hm hH hrm hQ
  subst hl hG
  have ho : zm_o M = RX1 := ho
  obtain ⟨h1, ⟨e0, N0, m0, f0, r1, r2, r3, ⟨r4, r4n⟩, r5⟩, ⟨e, N, m9, f, h3, h4, h5, ⟨h6, h6n⟩, h7⟩, h8, h9, hs, hv, hi, hrI⟩ := id hL
  show z_V M h n 0 0 0 [(0, .ref t)] []
  refine z_aload_n hb dX1_rows_0 rfl ?_
  refine z_get (k := 0) (C := RX1) (T := TX1) (N := 7) hb ho zc0 in_X1 (zf_RX1_41 _) dX1_rows_1 hX (by decide) rfl ?_
  refine z_get (k := 0) (C := RX2) (T := TX2) (N := 8) hb ho zc1 in_X2 (zf_RX1_123 _) dX1_rows_4 h1 (by decide) rfl ?_
  refine z_call1 (b' := 0) (f' := 0) (rest := []) (av := [.ref lr]) (z_siteF hb ho zc20 r1 q318 zx0 q322 q324 q325 q323 q321 zxl0 dX1_rows_7 : z_Site M _ _ _ _ _ ([].reverse ++ .ref lr :: []) [] _) zk_J2_size q98 hrm (m_J2_size r1) (by omega) (by decide) (Nat.le_of_ble_eq_true rfl) (by omega) (by omega) ?_
  refine z_iret hb hr dX1_rows_12 ?_
  rw [hQ]
  exact ⟨rfl, rfl, rfl⟩

set_option maxHeartbeats 1000000 in
theorem m_X1_steps {l : Launch} {G : zG} {h : zH} {n : Nat} {t : Nat} {x1 x2 x3 x4 x5 x6 : Value} {w : Nat → Int32} {v : Nat → Int64} {R S D a lr ls lv : Nat} {ra sa va : Nat → Nat}  (hX : h t = some (.inr (0, [.ref a, x1, x2, x3, x4, x5, x6]))) (hL : z_Ln G h w v R S D a lr ls lv ra sa va) : z_C l G yX1_steps 2 0 0 [.ref t] h n (z_rv (.int (nI S)) h n) := by
  refine z_start zk_X1_steps zpl_RX1 (Nat.le_of_ble_eq_true rfl) ?_
  intro hn0 M hl hG ho hb hN hr hm hH hrm hQ
  subst hl hG
  have ho : zm_o M = RX1 := ho
  obtain ⟨h1, ⟨e0, N0, m0, f0, r1, r2, r3, ⟨r4, r4n⟩, r5⟩, ⟨e, N, m9, f, h3, h4, h5, ⟨h6, h6n⟩, h7⟩, h8, h9, hs, hv, hi, hrI⟩ := id hL
  show z_V M h n 0 0 0 [(0, .ref t)] []
  refine z_aload_n hb dX1_steps_0 rfl ?_
  refine z_get (k := 0) (C := RX1) (T := TX1) (N := 7) hb ho zc0 in_X1 (zf_RX1_41 _) dX1_steps_1 hX (by decide) rfl ?_
  refine z_get (k := 1) (C := RX2) (T := TX2) (N := 8) hb ho zc1 in_X2 (zf_RX1_183 _) dX1_steps_4 h1 (by decide) rfl ?_
  refine z_call1 (b' := 0) (f' := 0) (rest := []) (av := [.ref ls]) (z_siteF hb ho zc20 h3 q318 zx0 q322 q324 q325 q323 q321 zxl0 dX1_steps_7 : z_Site M _ _ _ _ _ ([].reverse ++ .ref ls :: []) [] _) zk_J2_size q98 hrm (m_J2_size h3) (by omega) (by decide) (Nat.le_of_ble_eq_true rfl) (by omega) (by omega) ?_
  refine z_iret hb hr dX1_steps_12 ?_
  rw [hQ]
  exact ⟨rfl, rfl, rfl⟩

set_option maxHeartbeats 1000000 in
theorem m_X1_added {l : Launch} {G : zG} {h : zH} {n : Nat} {t : Nat} {x1 x2 x3 x4 x5 x6 : Value} {w : Nat → Int32} {v : Nat → Int64} {R S D a lr ls lv : Nat} {ra sa va : Nat → Nat}  (hX : h t = some (.inr (0, [.ref a, x1, x2, x3, x4, x5, x6]))) (hL : z_Ln G h w v R S D a lr ls lv ra sa va) : z_C l G yX1_added 2 0 0 [.ref t] h n (z_rv (.int (w 2)) h n) := by
  refine z_start zk_X1_added zpl_RX1 (Nat.le_of_ble_eq_true rfl) ?_
  intro hn0 M hl hG ho hb hN hr hm hH hrm hQ
  subst hl hG
  have ho : zm_o M = RX1 := ho
  obtain ⟨h1, ⟨e0, N0, m0, f0, r1, r2, r3, ⟨r4, r4n⟩, r5⟩, ⟨e, N, m9, f, h3, h4, h5, ⟨h6, h6n⟩, h7⟩, h8, h9, hs, hv, hi, hrI⟩ := id hL
  show z_V M h n 0 0 0 [(0, .ref t)] []
  refine z_aload_n hb dX1_added_0 rfl ?_
  refine z_get (k := 0) (C := RX1) (T := TX1) (N := 7) hb ho zc0 in_X1 (zf_RX1_41 _) dX1_added_1 hX (by decide) rfl ?_
  refine z_get (k := 4) (C := RX2) (T := TX2) (N := 8) hb ho zc1 in_X2 (zf_RX1_312 _) dX1_added_4 h1 (by decide) rfl ?_
  refine z_iret hb hr dX1_added_7 ?_
  rw [hQ]
  exact ⟨rfl, rfl, rfl⟩

set_option maxHeartbeats 1000000 in
theorem m_X1_removed {l : Launch} {G : zG} {h : zH} {n : Nat} {t : Nat} {x1 x2 x3 x4 x5 x6 : Value} {w : Nat → Int32} {v : Nat → Int64} {R S D a lr ls lv : Nat} {ra sa va : Nat → Nat}  (hX : h t = some (.inr (0, [.ref a, x1, x2, x3, x4, x5, x6]))) (hL : z_Ln G h w v R S D a lr ls lv ra sa va) : z_C l G yX1_removed 2 0 0 [.ref t] h n (z_rv (.int (w 4)) h n) := by
  refine z_start zk_X1_removed zpl_RX1 (Nat.le_of_ble_eq_true rfl) ?_
  intro hn0 M hl hG ho hb hN hr hm hH hrm hQ
  subst hl hG
  have ho : zm_o M = RX1 := ho
  obtain ⟨h1, ⟨e0, N0, m0, f0, r1, r2, r3, ⟨r4, r4n⟩, r5⟩, ⟨e, N, m9, f, h3, h4, h5, ⟨h6, h6n⟩, h7⟩, h8, h9, hs, hv, hi, hrI⟩ := id hL
  show z_V M h n 0 0 0 [(0, .ref t)] []
  refine z_aload_n hb dX1_removed_0 rfl ?_
  refine z_get (k := 0) (C := RX1) (T := TX1) (N := 7) hb ho zc0 in_X1 (zf_RX1_41 _) dX1_removed_1 hX (by decide) rfl ?_
  refine z_get (k := 5) (C := RX2) (T := TX2) (N := 8) hb ho zc1 in_X2 (zf_RX1_315 _) dX1_removed_4 h1 (by decide) rfl ?_
  refine z_iret hb hr dX1_removed_7 ?_
  rw [hQ]
  exact ⟨rfl, rfl, rfl⟩

set_option maxHeartbeats 1000000 in
theorem m_X1_late {l : Launch} {G : zG} {h : zH} {n : Nat} {t : Nat} {x1 x2 x3 x4 x5 x6 : Value} {w : Nat → Int32} {v : Nat → Int64} {R S D a lr ls lv : Nat} {ra sa va : Nat → Nat}  (hX : h t = some (.inr (0, [.ref a, x1, x2, x3, x4, x5, x6]))) (hL : z_Ln G h w v R S D a lr ls lv ra sa va) : z_C l G yX1_late 2 0 0 [.ref t] h n (z_rv (.int (w 5)) h n) := by
  refine z_start zk_X1_late zpl_RX1 (Nat.le_of_ble_eq_true rfl) ?_
  intro hn0 M hl hG ho hb hN hr hm hH hrm hQ
  subst hl hG
  have ho : zm_o M = RX1 := ho
  obtain ⟨h1, ⟨e0, N0, m0, f0, r1, r2, r3, ⟨r4, r4n⟩, r5⟩, ⟨e, N, m9, f, h3, h4, h5, ⟨h6, h6n⟩, h7⟩, h8, h9, hs, hv, hi, hrI⟩ := id hL
  show z_V M h n 0 0 0 [(0, .ref t)] []
  refine z_aload_n hb dX1_late_0 rfl ?_
  refine z_get (k := 0) (C := RX1) (T := TX1) (N := 7) hb ho zc0 in_X1 (zf_RX1_41 _) dX1_late_1 hX (by decide) rfl ?_
  refine z_get (k := 6) (C := RX2) (T := TX2) (N := 8) hb ho zc1 in_X2 (zf_RX1_318 _) dX1_late_4 h1 (by decide) rfl ?_
  refine z_iret hb hr dX1_late_7 ?_
  rw [hQ]
  exact ⟨rfl, rfl, rfl⟩

set_option maxHeartbeats 1000000 in
theorem m_X1_repaired {l : Launch} {G : zG} {h : zH} {n : Nat} {t : Nat} {x1 x2 x3 x4 x5 x6 : Value} {w : Nat → Int32} {v : Nat → Int64} {R S D a lr ls lv : Nat} {ra sa va : Nat → Nat}  (hX : h t = some (.inr (0, [.ref a, x1, x2, x3, x4, x5, x6]))) (hL : z_Ln G h w v R S D a lr ls lv ra sa va) : z_C l G yX1_repaired 2 0 0 [.ref t] h n (z_rv (.int (w 6)) h n) := by
  refine z_start zk_X1_repaired zpl_RX1 (Nat.le_of_ble_eq_true rfl) ?_
  intro hn0 M hl hG ho hb hN hr hm hH hrm hQ
  subst hl hG
  have ho : zm_o M = RX1 := ho
  obtain ⟨h1, ⟨e0, N0, m0, f0, r1, r2, r3, ⟨r4, r4n⟩, r5⟩, ⟨e, N, m9, f, h3, h4, h5, ⟨h6, h6n⟩, h7⟩, h8, h9, hs, hv, hi, hrI⟩ := id hL
  show z_V M h n 0 0 0 [(0, .ref t)] []
  refine z_aload_n hb dX1_repaired_0 rfl ?_
  refine z_get (k := 0) (C := RX1) (T := TX1) (N := 7) hb ho zc0 in_X1 (zf_RX1_41 _) dX1_repaired_1 hX (by decide) rfl ?_
  refine z_get (k := 7) (C := RX2) (T := TX2) (N := 8) hb ho zc1 in_X2 (zf_RX1_321 _) dX1_repaired_4 h1 (by decide) rfl ?_
  refine z_iret hb hr dX1_repaired_7 ?_
  rw [hQ]
  exact ⟨rfl, rfl, rfl⟩

set_option maxHeartbeats 1000000 in
theorem m_X1_rowAt_ok {l : Launch} {G : zG} {h : zH} {n : Nat} {t : Nat} {x1 x2 x3 x4 x5 x6 : Value} {w : Nat → Int32} {v : Nat → Int64} {R S D a lr ls lv : Nat} {ra sa va : Nat → Nat} {p : Nat} (hX : h t = some (.inr (0, [.ref a, x1, x2, x3, x4, x5, x6]))) (hL : z_Ln G h w v R S D a lr ls lv ra sa va) (hp : p < R) (hR4 : R ≤ 40) : z_C l G yX1_rowAt 7 1 6 [.ref t, .int (nI p)] h n (z_rv (.int (w (16 + 4 * p))) h n) := by
  refine z_start zk_X1_rowAt zpl_RX1 (Nat.le_of_ble_eq_true rfl) ?_
  intro hn0 M hl hG ho hb hN hr hm hH hrm hQ
  subst hl hG
  have ho : zm_o M = RX1 := ho
  obtain ⟨h1, ⟨e0, N0, m0, f0, r1, r2, r3, ⟨r4, r4n⟩, r5⟩, ⟨e, N, m9, f, h3, h4, h5, ⟨h6, h6n⟩, h7⟩, h8, h9, hs, hv, hi, hrI⟩ := id hL
  have hrw := h9 p hp
  unfold z_Rw at hrw
  have hx := z_inR hp (by omega)
  show z_V M h n 1 6 0 [(0, .ref t), (1, .int (nI p))] []
  refine z_iload_n hb dX1_rowAt_0 rfl ?_
  refine z_iconst (x := nI 0) hb dX1_rowAt_1 (by decide) ?_
  refine z_aload_n hb dX1_rowAt_2 rfl ?_
  refine z_get (k := 0) (C := RX1) (T := TX1) (N := 7) hb ho zc0 in_X1 (zf_RX1_41 _) dX1_rowAt_3 hX (by decide) rfl ?_
  refine z_get (k := 0) (C := RX2) (T := TX2) (N := 8) hb ho zc1 in_X2 (zf_RX1_123 _) dX1_rowAt_6 h1 (by decide) rfl ?_
  refine z_call1 (b' := 1) (f' := 6) (rest := [.int (nI 0), .int (nI p)]) (av := [.ref lr]) (z_siteF hb ho zc20 r1 q318 zx0 q322 q324 q325 q323 q321 zxl0 dX1_rowAt_9 : z_Site M _ _ _ _ _ ([].reverse ++ .ref lr :: [.int (nI 0), .int (nI p)]) [.int (nI 0), .int (nI p)] _) zk_J2_size q98 hrm (m_J2_size r1) (by omega) (by decide) (Nat.le_of_ble_eq_true rfl) (by omega) (by omega) ?_
  refine z_iconst (x := nI 1) hb dX1_rowAt_14 (by decide) ?_
  refine z_isub hb dX1_rowAt_15 ?_
  refine z_call1 (b' := 1) (f' := 6) (rest := []) (av := [.int (nI p), .int (nI 0), .int ((nI R) - (nI 1))]) (z_siteS hb ho q1137 q1138 q94 ⟨_, _, _, _, zk_X1_inRange⟩ zy_X1_inRange zl_X1_inRange dX1_rowAt_16 : z_Site M _ _ _ _ _ ([.int (nI p), .int (nI 0), .int ((nI R) - (nI 1))].reverse ++ []) [] _) zk_X1_inRange q94 hrm (m_X1_inRange (nI p) (nI 0) ((nI R) - (nI 1))) (by omega) (by decide) (Nat.le_of_ble_eq_true rfl) (by omega) (by omega) ?_
  refine z_callC0 (b' := 0) (f' := 0) (rest := []) (av := [.int (z_b (decide (nI 0 ≤ nI p ∧ nI p ≤ (nI R) - (nI 1))))]) (z_siteS hb ho q1724 q1368 q94 ⟨_, _, _, _, zk_X1_requireElement⟩ zy_X1_requireElement zl_X1_requireElement dX1_rowAt_19 : z_Site M _ _ _ _ _ ([.int (z_b (decide (nI 0 ≤ nI p ∧ nI p ≤ (nI R) - (nI 1))))].reverse ++ []) [] _) zk_X1_requireElement q94 hrm (m_X1_requireElement (decide (nI 0 ≤ nI p ∧ nI p ≤ (nI R) - (nI 1)))) (by omega) (by decide) (Nat.le_of_ble_eq_true rfl) (by omega) (by omega) (fun c_19 => ?_) (fun c_19 => ?_)
  · refine z_aload_n hb dX1_rowAt_22 rfl ?_
    refine z_get (k := 0) (C := RX1) (T := TX1) (N := 7) hb ho zc0 in_X1 (zf_RX1_41 _) dX1_rowAt_23 hX (by decide) rfl ?_
    refine z_get (k := 0) (C := RX2) (T := TX2) (N := 8) hb ho zc1 in_X2 (zf_RX1_123 _) dX1_rowAt_26 h1 (by decide) rfl ?_
    refine z_iload_n hb dX1_rowAt_29 rfl ?_
    refine z_call1 (b' := 0) (f' := 0) (rest := []) (av := [.ref lr, .int (nI p)]) (z_siteF hb ho zc20 r1 q769 zx6 q663 q665 q666 q664 q321 zxl6 dX1_rowAt_30 : z_Site M _ _ _ _ _ ([.int (nI p)].reverse ++ .ref lr :: []) [] _) zk_J2_get q98 hrm (m_J2_get r1 r2 (by omega) (by omega) r5 (by omega)) (by omega) (by decide) (Nat.le_of_ble_eq_true rfl) (by omega) (by omega) ?_
    refine z_cast hb ho zc6 hrw q1725 (Or.inl rfl) dX1_rowAt_35 ?_
    refine z_get (k := 0) (C := RX7) (T := TX7) (N := 4) hb ho zc6 in_X7 (zf_RX1_139 _) dX1_rowAt_38 hrw (by decide) rfl ?_
    refine z_iret hb hr dX1_rowAt_41 ?_
    rw [hQ]
    exact ⟨rfl, rfl, rfl⟩
  · rw [hx] at c_19; cases c_19

set_option maxHeartbeats 1000000 in
theorem m_X1_rowAt_no {l : Launch} {G : zG} {h : zH} {n : Nat} {t : Nat} {x1 x2 x3 x4 x5 x6 : Value} {w : Nat → Int32} {v : Nat → Int64} {R S D a lr ls lv : Nat} {ra sa va : Nat → Nat} {x : Int32} (hX : h t = some (.inr (0, [.ref a, x1, x2, x3, x4, x5, x6]))) (hL : z_Ln G h w v R S D a lr ls lv ra sa va) (hx : decide (nI 0 ≤ x ∧ x ≤ nI R - nI 1) = false) (hR4 : R ≤ 40) : z_C l G yX1_rowAt 7 1 6 [.ref t, .int x] h n (z_thr (z_up h n (.inr (26, []))) (n + 1) n) := by
  refine z_start zk_X1_rowAt zpl_RX1 (Nat.le_of_ble_eq_true rfl) ?_
  intro hn0 M hl hG ho hb hN hr hm hH hrm hQ
  subst hl hG
  have ho : zm_o M = RX1 := ho
  obtain ⟨h1, ⟨e0, N0, m0, f0, r1, r2, r3, ⟨r4, r4n⟩, r5⟩, ⟨e, N, m9, f, h3, h4, h5, ⟨h6, h6n⟩, h7⟩, h8, h9, hs, hv, hi, hrI⟩ := id hL
  show z_V M h n 1 6 0 [(0, .ref t), (1, .int x)] []
  refine z_iload_n hb dX1_rowAt_0 rfl ?_
  refine z_iconst (x := nI 0) hb dX1_rowAt_1 (by decide) ?_
  refine z_aload_n hb dX1_rowAt_2 rfl ?_
  refine z_get (k := 0) (C := RX1) (T := TX1) (N := 7) hb ho zc0 in_X1 (zf_RX1_41 _) dX1_rowAt_3 hX (by decide) rfl ?_
  refine z_get (k := 0) (C := RX2) (T := TX2) (N := 8) hb ho zc1 in_X2 (zf_RX1_123 _) dX1_rowAt_6 h1 (by decide) rfl ?_
  refine z_call1 (b' := 1) (f' := 6) (rest := [.int (nI 0), .int x]) (av := [.ref lr]) (z_siteF hb ho zc20 r1 q318 zx0 q322 q324 q325 q323 q321 zxl0 dX1_rowAt_9 : z_Site M _ _ _ _ _ ([].reverse ++ .ref lr :: [.int (nI 0), .int x]) [.int (nI 0), .int x] _) zk_J2_size q98 hrm (m_J2_size r1) (by omega) (by decide) (Nat.le_of_ble_eq_true rfl) (by omega) (by omega) ?_
  refine z_iconst (x := nI 1) hb dX1_rowAt_14 (by decide) ?_
  refine z_isub hb dX1_rowAt_15 ?_
  refine z_call1 (b' := 1) (f' := 6) (rest := []) (av := [.int x, .int (nI 0), .int ((nI R) - (nI 1))]) (z_siteS hb ho q1137 q1138 q94 ⟨_, _, _, _, zk_X1_inRange⟩ zy_X1_inRange zl_X1_inRange dX1_rowAt_16 : z_Site M _ _ _ _ _ ([.int x, .int (nI 0), .int ((nI R) - (nI 1))].reverse ++ []) [] _) zk_X1_inRange q94 hrm (m_X1_inRange x (nI 0) ((nI R) - (nI 1))) (by omega) (by decide) (Nat.le_of_ble_eq_true rfl) (by omega) (by omega) ?_
  refine z_callC0 (b' := 0) (f' := 0) (rest := []) (av := [.int (z_b (decide (nI 0 ≤ x ∧ x ≤ (nI R) - (nI 1))))]) (z_siteS hb ho q1724 q1368 q94 ⟨_, _, _, _, zk_X1_requireElement⟩ zy_X1_requireElement zl_X1_requireElement dX1_rowAt_19 : z_Site M _ _ _ _ _ ([.int (z_b (decide (nI 0 ≤ x ∧ x ≤ (nI R) - (nI 1))))].reverse ++ []) [] _) zk_X1_requireElement q94 hrm (m_X1_requireElement (decide (nI 0 ≤ x ∧ x ≤ (nI R) - (nI 1)))) (by omega) (by decide) (Nat.le_of_ble_eq_true rfl) (by omega) (by omega) (fun c_19 => ?_) (fun c_19 => ?_)
  · rw [hx] at c_19; cases c_19
  · exact z_out ho hH zc26 z_up_s (by omega) (fun _ h => nomatch h) (by rw [hQ]; exact ⟨rfl, rfl, rfl⟩)

