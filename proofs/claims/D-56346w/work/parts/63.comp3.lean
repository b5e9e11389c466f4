set_option maxHeartbeats 1000000 in
theorem m_X1_value_no1 {l : Launch} {G : zG} {h : zH} {n : Nat} {t : Nat} {x1 x2 x3 x4 x5 x6 : Value} {w : Nat → Int32} {v : Nat → Int64} {R S D a lr ls lv : Nat} {ra sa va : Nat → Nat} {x y z : Int32} (hX : h t = some (.inr (0, [.ref a, x1, x2, x3, x4, x5, x6]))) (hL : z_Ln G h w v R S D a lr ls lv ra sa va) (hx : tw_isS S x = false) (hS8 : S ≤ 8) : z_C l G yX1_value 9 3 18 [.ref t, .int x, .int y, .int z] h n (z_thr (z_up h n (.inr (28, []))) (n + 1) n) := by
  refine z_start zk_X1_value zpl_RX1 (Nat.le_of_ble_eq_true rfl) ?_
  intro hn0 M hl hG ho hb hN hr hm hH hrm hQ
  subst hl hG
  have ho : zm_o M = RX1 := ho
  obtain ⟨h1, ⟨e0, N0, m0, f0, r1, r2, r3, ⟨r4, r4n⟩, r5⟩, ⟨e, N, m9, f, h3, h4, h5, ⟨h6, h6n⟩, h7⟩, h8, h9, hs, hv, hi, hrI⟩ := id hL
  show z_V M h n 3 18 0 [(0, .ref t), (1, .int x), (2, .int y), (3, .int z)] []
  refine z_aload_n hb dX1_value_0 rfl ?_
  refine z_get (k := 0) (C := RX1) (T := TX1) (N := 7) hb ho zc0 in_X1 (zf_RX1_41 _) dX1_value_1 hX (by decide) rfl ?_
  refine z_iload_n hb dX1_value_4 rfl ?_
  refine z_callT (b' := 2) (f' := 12) (rest := []) (av := [.ref a, .int x]) (z_siteV hb ho zc1 h1 q1842 q1506 q1507 ⟨_, _, _, _, zk_X2_step⟩ zy_X2_step zl_X2_step dX1_value_5 : z_Site M _ _ _ _ _ ([.int x].reverse ++ .ref a :: []) [] _) zk_X2_step q95 hrm (m_X2_step_no hL hS8 hx) (by omega) (by decide) (Nat.le_of_ble_eq_true rfl) (by omega) (by omega) ?_
  exact z_out ho hH zc28 z_up_s (by omega) (fun _ h => nomatch h) (by rw [hQ]; exact ⟨rfl, rfl, rfl⟩)

set_option maxHeartbeats 1000000 in
theorem m_X1_isStale_no1 {l : Launch} {G : zG} {h : zH} {n : Nat} {t : Nat} {x1 x2 x3 x4 x5 x6 : Value} {w : Nat → Int32} {v : Nat → Int64} {R S D a lr ls lv : Nat} {ra sa va : Nat → Nat} {x y : Int32} (hX : h t = some (.inr (0, [.ref a, x1, x2, x3, x4, x5, x6]))) (hL : z_Ln G h w v R S D a lr ls lv ra sa va) (hx : tw_isS S x = false) (hS8 : S ≤ 8) : z_C l G yX1_isStale 9 3 18 [.ref t, .int x, .int y] h n (z_thr (z_up h n (.inr (28, []))) (n + 1) n) := by
  refine z_start zk_X1_isStale zpl_RX1 (Nat.le_of_ble_eq_true rfl) ?_
  intro hn0 M hl hG ho hb hN hr hm hH hrm hQ
  subst hl hG
  have ho : zm_o M = RX1 := ho
  obtain ⟨h1, ⟨e0, N0, m0, f0, r1, r2, r3, ⟨r4, r4n⟩, r5⟩, ⟨e, N, m9, f, h3, h4, h5, ⟨h6, h6n⟩, h7⟩, h8, h9, hs, hv, hi, hrI⟩ := id hL
  show z_V M h n 3 18 0 [(0, .ref t), (1, .int x), (2, .int y)] []
  refine z_aload_n hb dX1_isStale_0 rfl ?_
  refine z_get (k := 0) (C := RX1) (T := TX1) (N := 7) hb ho zc0 in_X1 (zf_RX1_41 _) dX1_isStale_1 hX (by decide) rfl ?_
  refine z_iload_n hb dX1_isStale_4 rfl ?_
  refine z_callT (b' := 2) (f' := 12) (rest := []) (av := [.ref a, .int x]) (z_siteV hb ho zc1 h1 q1842 q1506 q1507 ⟨_, _, _, _, zk_X2_step⟩ zy_X2_step zl_X2_step dX1_isStale_5 : z_Site M _ _ _ _ _ ([.int x].reverse ++ .ref a :: []) [] _) zk_X2_step q95 hrm (m_X2_step_no hL hS8 hx) (by omega) (by decide) (Nat.le_of_ble_eq_true rfl) (by omega) (by omega) ?_
  exact z_out ho hH zc28 z_up_s (by omega) (fun _ h => nomatch h) (by rw [hQ]; exact ⟨rfl, rfl, rfl⟩)

set_option maxHeartbeats 1000000 in
theorem m_X1_total_no1 {l : Launch} {G : zG} {h : zH} {n : Nat} {t : Nat} {x1 x2 x3 x4 x5 x6 : Value} {w : Nat → Int32} {v : Nat → Int64} {R S D a lr ls lv : Nat} {ra sa va : Nat → Nat} {x y : Int32} (hX : h t = some (.inr (0, [.ref a, x1, x2, x3, x4, x5, x6]))) (hL : z_Ln G h w v R S D a lr ls lv ra sa va) (hx : tw_isS S x = false) (hS8 : S ≤ 8) : z_C l G yX1_total 9 3 18 [.ref t, .int x, .int y] h n (z_thr (z_up h n (.inr (28, []))) (n + 1) n) := by
  refine z_start zk_X1_total zpl_RX1 (Nat.le_of_ble_eq_true rfl) ?_
  intro hn0 M hl hG ho hb hN hr hm hH hrm hQ
  subst hl hG
  have ho : zm_o M = RX1 := ho
  obtain ⟨h1, ⟨e0, N0, m0, f0, r1, r2, r3, ⟨r4, r4n⟩, r5⟩, ⟨e, N, m9, f, h3, h4, h5, ⟨h6, h6n⟩, h7⟩, h8, h9, hs, hv, hi, hrI⟩ := id hL
  show z_V M h n 3 18 0 [(0, .ref t), (1, .int x), (2, .int y)] []
  refine z_aload_n hb dX1_total_0 rfl ?_
  refine z_get (k := 0) (C := RX1) (T := TX1) (N := 7) hb ho zc0 in_X1 (zf_RX1_41 _) dX1_total_1 hX (by decide) rfl ?_
  refine z_iload_n hb dX1_total_4 rfl ?_
  refine z_callT (b' := 2) (f' := 12) (rest := []) (av := [.ref a, .int x]) (z_siteV hb ho zc1 h1 q1842 q1506 q1507 ⟨_, _, _, _, zk_X2_step⟩ zy_X2_step zl_X2_step dX1_total_5 : z_Site M _ _ _ _ _ ([.int x].reverse ++ .ref a :: []) [] _) zk_X2_step q95 hrm (m_X2_step_no hL hS8 hx) (by omega) (by decide) (Nat.le_of_ble_eq_true rfl) (by omega) (by omega) ?_
  exact z_out ho hH zc28 z_up_s (by omega) (fun _ h => nomatch h) (by rw [hQ]; exact ⟨rfl, rfl, rfl⟩)

set_option maxHeartbeats 1000000 in
theorem m_X1_kind_no1 {l : Launch} {G : zG} {h : zH} {n : Nat} {t : Nat} {x1 x2 x3 x4 x5 x6 : Value} {w : Nat → Int32} {v : Nat → Int64} {R S D a lr ls lv : Nat} {ra sa va : Nat → Nat} {x : Int32} (hX : h t = some (.inr (0, [.ref a, x1, x2, x3, x4, x5, x6]))) (hL : z_Ln G h w v R S D a lr ls lv ra sa va) (hx : tw_isS S x = false) (hS8 : S ≤ 8) : z_C l G yX1_kind 9 3 18 [.ref t, .int x] h n (z_thr (z_up h n (.inr (28, []))) (n + 1) n) := by
  refine z_start zk_X1_kind zpl_RX1 (Nat.le_of_ble_eq_true rfl) ?_
  intro hn0 M hl hG ho hb hN hr hm hH hrm hQ
  subst hl hG
  have ho : zm_o M = RX1 := ho
  obtain ⟨h1, ⟨e0, N0, m0, f0, r1, r2, r3, ⟨r4, r4n⟩, r5⟩, ⟨e, N, m9, f, h3, h4, h5, ⟨h6, h6n⟩, h7⟩, h8, h9, hs, hv, hi, hrI⟩ := id hL
  show z_V M h n 3 18 0 [(0, .ref t), (1, .int x)] []
  refine z_aload_n hb dX1_kind_0 rfl ?_
  refine z_get (k := 0) (C := RX1) (T := TX1) (N := 7) hb ho zc0 in_X1 (zf_RX1_41 _) dX1_kind_1 hX (by decide) rfl ?_
  refine z_iload_n hb dX1_kind_4 rfl ?_
  refine z_callT (b' := 2) (f' := 12) (rest := []) (av := [.ref a, .int x]) (z_siteV hb ho zc1 h1 q1842 q1506 q1507 ⟨_, _, _, _, zk_X2_step⟩ zy_X2_step zl_X2_step dX1_kind_5 : z_Site M _ _ _ _ _ ([.int x].reverse ++ .ref a :: []) [] _) zk_X2_step q95 hrm (m_X2_step_no hL hS8 hx) (by omega) (by decide) (Nat.le_of_ble_eq_true rfl) (by omega) (by omega) ?_
  exact z_out ho hH zc28 z_up_s (by omega) (fun _ h => nomatch h) (by rw [hQ]; exact ⟨rfl, rfl, rfl⟩)

set_option maxHeartbeats 1000000 in
theorem m_X1_value_no2 {l : Launch} {G : zG} {h : zH} {n : Nat} {t : Nat} {x1 x2 x3 x4 x5 x6 : Value} {w : Nat → Int32} {v : Nat → Int64} {R S D a lr ls lv : Nat} {ra sa va : Nat → Nat} {k : Nat} {x z : Int32} (hX : h t = some (.inr (0, [.ref a, x1, x2, x3, x4, x5, x6]))) (hL : z_Ln G h w v R S D a lr ls lv ra sa va) (hk : k < S) (hS8 : S ≤ 8) (hD6 : D ≤ 6) (hx : decide (nI 0 ≤ x ∧ x ≤ nI D) = false) : z_C l G yX1_value 9 3 18 [.ref t, .int (nI k), .int x, .int z] h n (z_thr (z_up h n (.inr (27, []))) (n + 1) n) := by
  refine z_start zk_X1_value zpl_RX1 (Nat.le_of_ble_eq_true rfl) ?_
  intro hn0 M hl hG ho hb hN hr hm hH hrm hQ
  subst hl hG
  have ho : zm_o M = RX1 := ho
  obtain ⟨h1, ⟨e0, N0, m0, f0, r1, r2, r3, ⟨r4, r4n⟩, r5⟩, ⟨e, N, m9, f, h3, h4, h5, ⟨h6, h6n⟩, h7⟩, h8, h9, hs, hv, hi, hrI⟩ := id hL
  show z_V M h n 3 18 0 [(0, .ref t), (1, .int (nI k)), (2, .int x), (3, .int z)] []
  refine z_aload_n hb dX1_value_0 rfl ?_
  refine z_get (k := 0) (C := RX1) (T := TX1) (N := 7) hb ho zc0 in_X1 (zf_RX1_41 _) dX1_value_1 hX (by decide) rfl ?_
  refine z_iload_n hb dX1_value_4 rfl ?_
  refine z_call1 (b' := 2) (f' := 12) (rest := []) (av := [.ref a, .int (nI k)]) (z_siteV hb ho zc1 h1 q1842 q1506 q1507 ⟨_, _, _, _, zk_X2_step⟩ zy_X2_step zl_X2_step dX1_value_5 : z_Site M _ _ _ _ _ ([.int (nI k)].reverse ++ .ref a :: []) [] _) zk_X2_step q95 hrm (m_X2_step hL hS8 hk) (by omega) (by decide) (Nat.le_of_ble_eq_true rfl) (by omega) (by omega) ?_
  refine z_astore (lv' := [(4, .ref (sa k)), (0, .ref t), (1, .int (nI k)), (2, .int x), (3, .int z)]) hb dX1_value_8 (by rw [hN]; decide) rfl ?_
  refine z_aload_n hb dX1_value_10 rfl ?_
  refine z_get (k := 0) (C := RX1) (T := TX1) (N := 7) hb ho zc0 in_X1 (zf_RX1_41 _) dX1_value_11 hX (by decide) rfl ?_
  refine z_iload_n hb dX1_value_14 rfl ?_
  refine z_callT (b' := 1) (f' := 6) (rest := []) (av := [.ref a, .int x]) (z_siteV hb ho zc1 h1 q1894 q1610 q1611 ⟨_, _, _, _, zk_X2_requireDay⟩ zy_X2_requireDay zl_X2_requireDay dX1_value_15 : z_Site M _ _ _ _ _ ([.int x].reverse ++ .ref a :: []) [] _) zk_X2_requireDay q95 hrm (m_X2_requireDay_no h1 hD6 hx) (by omega) (by decide) (Nat.le_of_ble_eq_true rfl) (by omega) (by omega) ?_
  exact z_out ho hH zc27 z_up_s (by omega) (fun _ h => nomatch h) (by rw [hQ]; exact ⟨rfl, rfl, rfl⟩)

set_option maxHeartbeats 1000000 in
theorem m_X1_isStale_no2 {l : Launch} {G : zG} {h : zH} {n : Nat} {t : Nat} {x1 x2 x3 x4 x5 x6 : Value} {w : Nat → Int32} {v : Nat → Int64} {R S D a lr ls lv : Nat} {ra sa va : Nat → Nat} {k : Nat} {x : Int32} (hX : h t = some (.inr (0, [.ref a, x1, x2, x3, x4, x5, x6]))) (hL : z_Ln G h w v R S D a lr ls lv ra sa va) (hk : k < S) (hS8 : S ≤ 8) (hD6 : D ≤ 6) (hx : decide (nI 0 ≤ x ∧ x ≤ nI D) = false) : z_C l G yX1_isStale 9 3 18 [.ref t, .int (nI k), .int x] h n (z_thr (z_up h n (.inr (27, []))) (n + 1) n) := by
  refine z_start zk_X1_isStale zpl_RX1 (Nat.le_of_ble_eq_true rfl) ?_
  intro hn0 M hl hG ho hb hN hr hm hH hrm hQ
  subst hl hG
  have ho : zm_o M = RX1 := ho
  obtain ⟨h1, ⟨e0, N0, m0, f0, r1, r2, r3, ⟨r4, r4n⟩, r5⟩, ⟨e, N, m9, f, h3, h4, h5, ⟨h6, h6n⟩, h7⟩, h8, h9, hs, hv, hi, hrI⟩ := id hL
  show z_V M h n 3 18 0 [(0, .ref t), (1, .int (nI k)), (2, .int x)] []
  refine z_aload_n hb dX1_isStale_0 rfl ?_
  refine z_get (k := 0) (C := RX1) (T := TX1) (N := 7) hb ho zc0 in_X1 (zf_RX1_41 _) dX1_isStale_1 hX (by decide) rfl ?_
  refine z_iload_n hb dX1_isStale_4 rfl ?_
  refine z_call1 (b' := 2) (f' := 12) (rest := []) (av := [.ref a, .int (nI k)]) (z_siteV hb ho zc1 h1 q1842 q1506 q1507 ⟨_, _, _, _, zk_X2_step⟩ zy_X2_step zl_X2_step dX1_isStale_5 : z_Site M _ _ _ _ _ ([.int (nI k)].reverse ++ .ref a :: []) [] _) zk_X2_step q95 hrm (m_X2_step hL hS8 hk) (by omega) (by decide) (Nat.le_of_ble_eq_true rfl) (by omega) (by omega) ?_
  refine z_astore_n (lv' := [(3, .ref (sa k)), (0, .ref t), (1, .int (nI k)), (2, .int x)]) hb dX1_isStale_8 (by rw [hN]; decide) rfl ?_
  refine z_aload_n hb dX1_isStale_9 rfl ?_
  refine z_get (k := 0) (C := RX1) (T := TX1) (N := 7) hb ho zc0 in_X1 (zf_RX1_41 _) dX1_isStale_10 hX (by decide) rfl ?_
  refine z_iload_n hb dX1_isStale_13 rfl ?_
  refine z_callT (b' := 1) (f' := 6) (rest := []) (av := [.ref a, .int x]) (z_siteV hb ho zc1 h1 q1894 q1610 q1611 ⟨_, _, _, _, zk_X2_requireDay⟩ zy_X2_requireDay zl_X2_requireDay dX1_isStale_14 : z_Site M _ _ _ _ _ ([.int x].reverse ++ .ref a :: []) [] _) zk_X2_requireDay q95 hrm (m_X2_requireDay_no h1 hD6 hx) (by omega) (by decide) (Nat.le_of_ble_eq_true rfl) (by omega) (by omega) ?_
  exact z_out ho hH zc27 z_up_s (by omega) (fun _ h => nomatch h) (by rw [hQ]; exact ⟨rfl, rfl, rfl⟩)

set_option maxHeartbeats 1000000 in
theorem m_X1_total_no2 {l : Launch} {G : zG} {h : zH} {n : Nat} {t : Nat} {x1 x2 x3 x4 x5 x6 : Value} {w : Nat → Int32} {v : Nat → Int64} {R S D a lr ls lv : Nat} {ra sa va : Nat → Nat} {k : Nat} {x : Int32} (hX : h t = some (.inr (0, [.ref a, x1, x2, x3, x4, x5, x6]))) (hL : z_Ln G h w v R S D a lr ls lv ra sa va) (hk : k < S) (hS8 : S ≤ 8) (hD6 : D ≤ 6) (hx : decide (nI 0 ≤ x ∧ x ≤ nI D) = false) : z_C l G yX1_total 9 3 18 [.ref t, .int (nI k), .int x] h n (z_thr (z_up h n (.inr (27, []))) (n + 1) n) := by
  refine z_start zk_X1_total zpl_RX1 (Nat.le_of_ble_eq_true rfl) ?_
  intro hn0 M hl hG ho hb hN hr hm hH hrm hQ
  subst hl hG
  have ho : zm_o M = RX1 := ho
  obtain ⟨h1, ⟨e0, N0, m0, f0, r1, r2, r3, ⟨r4, r4n⟩, r5⟩, ⟨e, N, m9, f, h3, h4, h5, ⟨h6, h6n⟩, h7⟩, h8, h9, hs, hv, hi, hrI⟩ := id hL
  show z_V M h n 3 18 0 [(0, .ref t), (1, .int (nI k)), (2, .int x)] []
  refine z_aload_n hb dX1_total_0 rfl ?_
  refine z_get (k := 0) (C := RX1) (T := TX1) (N := 7) hb ho zc0 in_X1 (zf_RX1_41 _) dX1_total_1 hX (by decide) rfl ?_
  refine z_iload_n hb dX1_total_4 rfl ?_
  refine z_call1 (b' := 2) (f' := 12) (rest := []) (av := [.ref a, .int (nI k)]) (z_siteV hb ho zc1 h1 q1842 q1506 q1507 ⟨_, _, _, _, zk_X2_step⟩ zy_X2_step zl_X2_step dX1_total_5 : z_Site M _ _ _ _ _ ([.int (nI k)].reverse ++ .ref a :: []) [] _) zk_X2_step q95 hrm (m_X2_step hL hS8 hk) (by omega) (by decide) (Nat.le_of_ble_eq_true rfl) (by omega) (by omega) ?_
  refine z_astore_n (lv' := [(3, .ref (sa k)), (0, .ref t), (1, .int (nI k)), (2, .int x)]) hb dX1_total_8 (by rw [hN]; decide) rfl ?_
  refine z_aload_n hb dX1_total_9 rfl ?_
  refine z_get (k := 0) (C := RX1) (T := TX1) (N := 7) hb ho zc0 in_X1 (zf_RX1_41 _) dX1_total_10 hX (by decide) rfl ?_
  refine z_iload_n hb dX1_total_13 rfl ?_
  refine z_callT (b' := 1) (f' := 6) (rest := []) (av := [.ref a, .int x]) (z_siteV hb ho zc1 h1 q1894 q1610 q1611 ⟨_, _, _, _, zk_X2_requireDay⟩ zy_X2_requireDay zl_X2_requireDay dX1_total_14 : z_Site M _ _ _ _ _ ([.int x].reverse ++ .ref a :: []) [] _) zk_X2_requireDay q95 hrm (m_X2_requireDay_no h1 hD6 hx) (by omega) (by decide) (Nat.le_of_ble_eq_true rfl) (by omega) (by omega) ?_
  exact z_out ho hH zc27 z_up_s (by omega) (fun _ h => nomatch h) (by rw [hQ]; exact ⟨rfl, rfl, rfl⟩)

set_option maxHeartbeats 1000000 in
theorem m_X1_value_no3 {l : Launch} {G : zG} {h : zH} {n : Nat} {t : Nat} {x1 x2 x3 x4 x5 x6 : Value} {w : Nat → Int32} {v : Nat → Int64} {R S D a lr ls lv : Nat} {ra sa va : Nat → Nat} {k d : Nat} {x : Int32} (hX : h t = some (.inr (0, [.ref a, x1, x2, x3, x4, x5, x6]))) (hL : z_Ln G h w v R S D a lr ls lv ra sa va) (hk : k < S) (hS8 : S ≤ 8) (hD6 : D ≤ 6) (hd : d ≤ D) (hx : decide (nI 97 ≤ x ∧ x ≤ nI 101) = false) : z_C l G yX1_value 9 3 18 [.ref t, .int (nI k), .int (nI d), .int x] h n (z_thr (z_up h n (.inr (27, []))) (n + 1) n) := by
  refine z_start zk_X1_value zpl_RX1 (Nat.le_of_ble_eq_true rfl) ?_
  intro hn0 M hl hG ho hb hN hr hm hH hrm hQ
  subst hl hG
  have ho : zm_o M = RX1 := ho
  obtain ⟨h1, ⟨e0, N0, m0, f0, r1, r2, r3, ⟨r4, r4n⟩, r5⟩, ⟨e, N, m9, f, h3, h4, h5, ⟨h6, h6n⟩, h7⟩, h8, h9, hs, hv, hi, hrI⟩ := id hL
  show z_V M h n 3 18 0 [(0, .ref t), (1, .int (nI k)), (2, .int (nI d)), (3, .int x)] []
  refine z_aload_n hb dX1_value_0 rfl ?_
  refine z_get (k := 0) (C := RX1) (T := TX1) (N := 7) hb ho zc0 in_X1 (zf_RX1_41 _) dX1_value_1 hX (by decide) rfl ?_
  refine z_iload_n hb dX1_value_4 rfl ?_
  refine z_call1 (b' := 2) (f' := 12) (rest := []) (av := [.ref a, .int (nI k)]) (z_siteV hb ho zc1 h1 q1842 q1506 q1507 ⟨_, _, _, _, zk_X2_step⟩ zy_X2_step zl_X2_step dX1_value_5 : z_Site M _ _ _ _ _ ([.int (nI k)].reverse ++ .ref a :: []) [] _) zk_X2_step q95 hrm (m_X2_step hL hS8 hk) (by omega) (by decide) (Nat.le_of_ble_eq_true rfl) (by omega) (by omega) ?_
  refine z_astore (lv' := [(4, .ref (sa k)), (0, .ref t), (1, .int (nI k)), (2, .int (nI d)), (3, .int x)]) hb dX1_value_8 (by rw [hN]; decide) rfl ?_
  refine z_aload_n hb dX1_value_10 rfl ?_
  refine z_get (k := 0) (C := RX1) (T := TX1) (N := 7) hb ho zc0 in_X1 (zf_RX1_41 _) dX1_value_11 hX (by decide) rfl ?_
  refine z_iload_n hb dX1_value_14 rfl ?_
  refine z_call0 (b' := 1) (f' := 6) (rest := []) (av := [.ref a, .int (nI d)]) (z_siteV hb ho zc1 h1 q1894 q1610 q1611 ⟨_, _, _, _, zk_X2_requireDay⟩ zy_X2_requireDay zl_X2_requireDay dX1_value_15 : z_Site M _ _ _ _ _ ([.int (nI d)].reverse ++ .ref a :: []) [] _) zk_X2_requireDay q95 hrm (m_X2_requireDay_ok h1 hD6 hd) (by omega) (by decide) (Nat.le_of_ble_eq_true rfl) (by omega) (by omega) ?_
  refine z_aload_n hb dX1_value_18 rfl ?_
  refine z_get (k := 0) (C := RX1) (T := TX1) (N := 7) hb ho zc0 in_X1 (zf_RX1_41 _) dX1_value_19 hX (by decide) rfl ?_
  refine z_aload hb dX1_value_22 rfl ?_
  refine z_iload_n hb dX1_value_24 rfl ?_
  refine z_iload_n hb dX1_value_25 rfl ?_
  refine z_callT (b' := 0) (f' := 0) (rest := [.int (nI d), .ref (sa k), .ref a]) (av := [.int x]) (z_siteS hb ho q1895 q1132 q94 ⟨_, _, _, _, zk_X1_groupNumber⟩ zy_X1_groupNumber zl_X1_groupNumber dX1_value_26 : z_Site M _ _ _ _ _ ([.int x].reverse ++ [.int (nI d), .ref (sa k), .ref a]) [.int (nI d), .ref (sa k), .ref a] _) zk_X1_groupNumber q94 hrm (m_X1_groupNumber_no hx) (by omega) (by decide) (Nat.le_of_ble_eq_true rfl) (by omega) (by omega) ?_
  exact z_out ho hH zc27 z_up_s (by omega) (fun _ h => nomatch h) (by rw [hQ]; exact ⟨rfl, rfl, rfl⟩)

