set_option maxHeartbeats 1000000 in
theorem m_X2_viewOf {l : Launch} {G : zG} {h : zH} {n : Nat} {w : Nat → Int32} {v : Nat → Int64} {R S D a lr ls lv : Nat} {ra sa va : Nat → Nat} {k : Nat} (hL : z_Ln G h w v R S D a lr ls lv ra sa va) (hk : k < S) (hS8 : S ≤ 8) : z_C l G yX2_viewOf 5 0 0 [.ref a, .ref (sa k)] h n (z_rv (.ref (va k)) h n) := by
  refine z_start zk_X2_viewOf zpl_RX2 (Nat.le_of_ble_eq_true rfl) ?_
  intro hn0 M hl hG ho hb hN hr hm hH hrm hQ
  subst hl hG
  have ho : zm_o M = RX2 := ho
  obtain ⟨h1, h2, h3, ⟨e, N, m9, f, h4, h5, h6, ⟨h7, h7n⟩, h8⟩, h9, hs, hv, hi, hrI⟩ := id hL
  obtain ⟨e1, e2, F, Z, hv1, hv2, hv3, hv4, hv5, hv6⟩ := hv k hk
  show z_V M h n 0 0 0 [(0, .ref a), (1, .ref (sa k))] []
  refine z_aload_n hb dX2_viewOf_0 rfl ?_
  refine z_get (k := 2) (C := RX2) (T := TX2) (N := 8) hb ho zc1 in_X2 (zf_RX2_21 _) dX2_viewOf_1 h1 (by decide) rfl ?_
  refine z_aload_n hb dX2_viewOf_4 rfl ?_
  refine z_aload_n hb dX2_viewOf_5 rfl ?_
  refine z_call1 (b' := 0) (f' := 0) (rest := [.ref lv]) (av := [.ref a, .ref (sa k)]) (z_siteV hb ho zc1 h1 q600 q601 q602 ⟨_, _, _, _, zk_X2_indexOf⟩ zy_X2_indexOf zl_X2_indexOf dX2_viewOf_6 : z_Site M _ _ _ _ _ ([.ref (sa k)].reverse ++ .ref a :: [.ref lv]) [.ref lv] _) zk_X2_indexOf q95 hrm (m_X2_indexOf hL hk) (by omega) (by decide) (Nat.le_of_ble_eq_true rfl) (by omega) (by omega) ?_
  refine z_call1 (b' := 0) (f' := 0) (rest := []) (av := [.ref lv, .int (nI k)]) (z_siteF hb ho zc20 h4 q660 zx6 q663 q665 q666 q664 q321 zxl6 dX2_viewOf_9 : z_Site M _ _ _ _ _ ([.int (nI k)].reverse ++ .ref lv :: []) [] _) zk_J2_get q98 hrm (m_J2_get h4 h5 (by omega) (by omega) h8 (by omega)) (by omega) (by decide) (Nat.le_of_ble_eq_true rfl) (by omega) (by omega) ?_
  refine z_cast hb ho zc3 hv1 q461 (Or.inl rfl) dX2_viewOf_14 ?_
  refine z_aret hb hr (Or.inl ⟨_, rfl⟩) (Or.inr ⟨_, rfl⟩) dX2_viewOf_17 ?_
  rw [hQ]
  exact ⟨rfl, rfl, rfl⟩

set_option maxHeartbeats 1000000 in
theorem m_X2_number {l : Launch} {G : zG} {h : zH} {n : Nat} {w : Nat → Int32} {v : Nat → Int64} {R S D a lr ls lv : Nat} {ra sa va : Nat → Nat} {k d g : Nat} (hL : z_Ln G h w v R S D a lr ls lv ra sa va) (hk : k < S) (hS8 : S ≤ 8) (hD6 : D ≤ 6) (hd : d ≤ D) (hg : g < 5) : z_C l G yX2_number 6 0 0 [.ref a, .ref (sa k), .int (nI d), .int (nI g)] h n (z_rv (.long (v (5 * (7 * k + d) + g))) h n) := by
  refine z_start zk_X2_number zpl_RX2 (Nat.le_of_ble_eq_true rfl) ?_
  intro hn0 M hl hG ho hb hN hr hm hH hrm hQ
  subst hl hG
  have ho : zm_o M = RX2 := ho
  obtain ⟨h1, h2, h3, ⟨e, N, m9, f, h4, h5, h6, ⟨h7, h7n⟩, h8⟩, h9, hs, hv, hi, hrI⟩ := id hL
  obtain ⟨e1, e2, F, Z, hv1, hv2, hv3, hv4, hv5, hv6⟩ := hv k hk
  show z_V M h n 0 0 0 [(0, .ref a), (1, .ref (sa k)), (2, .int (nI d)), (3, .int (nI g))] []
  refine z_aload_n hb dX2_number_0 rfl ?_
  refine z_aload_n hb dX2_number_1 rfl ?_
  refine z_call1 (b' := 0) (f' := 0) (rest := []) (av := [.ref a, .ref (sa k)]) (z_siteV hb ho zc1 h1 q596 q597 q598 ⟨_, _, _, _, zk_X2_viewOf⟩ zy_X2_viewOf zl_X2_viewOf dX2_number_2 : z_Site M _ _ _ _ _ ([.ref (sa k)].reverse ++ .ref a :: []) [] _) zk_X2_viewOf q95 hrm (m_X2_viewOf hL hk hS8) (by omega) (by decide) (Nat.le_of_ble_eq_true rfl) (by omega) (by omega) ?_
  refine z_get (k := 0) (C := RX4) (T := TX4) (N := 2) hb ho zc3 in_X4 (zf_RX2_93 _) dX2_number_5 hv1 (by decide) rfl ?_
  refine z_iload_n hb dX2_number_8 rfl ?_
  refine z_iload_n hb dX2_number_9 rfl ?_
  refine z_call1 (b' := 0) (f' := 0) (rest := [.ref e1]) (av := [.int (nI d), .int (nI g)]) (z_siteSN hb ho q678 q679 q94 ⟨_, _, _, _, zk_X1_place⟩ zy_X1_place zl_X1_place dX2_number_10 : z_Site M _ _ _ _ _ ([.int (nI d), .int (nI g)].reverse ++ [.ref e1]) [.ref e1] _) zk_X1_place q94 hrm (m_X1_place d g) (by omega) (by decide) (Nat.le_of_ble_eq_true rfl) (by omega) (by omega) ?_
  refine z_lald (j := 5 * d + g) hb dX2_number_13 hv2 rfl (by omega) (by omega) ?_
  refine z_lret hb hr dX2_number_14 ?_
  rw [hQ]
  exact z_rve (by rw [hv4 d hd g hg])

set_option maxHeartbeats 1000000 in
theorem m_X2_isStale {l : Launch} {G : zG} {h : zH} {n : Nat} {w : Nat → Int32} {v : Nat → Int64} {R S D a lr ls lv : Nat} {ra sa va : Nat → Nat} {k d : Nat} (hL : z_Ln G h w v R S D a lr ls lv ra sa va) (hk : k < S) (hS8 : S ≤ 8) (hD6 : D ≤ 6) (hd : d ≤ D) : z_C l G yX2_isStale 6 0 0 [.ref a, .ref (sa k), .int (nI d)] h n (z_rv (.int (z_b (tw_st w k d))) h n) := by
  refine z_start zk_X2_isStale zpl_RX2 (Nat.le_of_ble_eq_true rfl) ?_
  intro hn0 M hl hG ho hb hN hr hm hH hrm hQ
  subst hl hG
  have ho : zm_o M = RX2 := ho
  obtain ⟨h1, h2, h3, ⟨e, N, m9, f, h4, h5, h6, ⟨h7, h7n⟩, h8⟩, h9, hs, hv, hi, hrI⟩ := id hL
  obtain ⟨e1, e2, F, Z, hv1, hv2, hv3, hv4, hv5, hv6⟩ := hv k hk
  show z_V M h n 0 0 0 [(0, .ref a), (1, .ref (sa k)), (2, .int (nI d))] []
  refine z_aload_n hb dX2_isStale_0 rfl ?_
  refine z_aload_n hb dX2_isStale_1 rfl ?_
  refine z_call1 (b' := 0) (f' := 0) (rest := []) (av := [.ref a, .ref (sa k)]) (z_siteV hb ho zc1 h1 q596 q597 q598 ⟨_, _, _, _, zk_X2_viewOf⟩ zy_X2_viewOf zl_X2_viewOf dX2_isStale_2 : z_Site M _ _ _ _ _ ([.ref (sa k)].reverse ++ .ref a :: []) [] _) zk_X2_viewOf q95 hrm (m_X2_viewOf hL hk hS8) (by omega) (by decide) (Nat.le_of_ble_eq_true rfl) (by omega) (by omega) ?_
  refine z_get (k := 1) (C := RX4) (T := TX4) (N := 2) hb ho zc3 in_X4 (zf_RX2_101 _) dX2_isStale_5 hv1 (by decide) rfl ?_
  refine z_iload_n hb dX2_isStale_8 rfl ?_
  refine z_zald (j := d) hb dX2_isStale_9 hv3 rfl (by omega) (by omega) ?_
  refine z_toI (y := z_b (tw_st w k d)) (hv5 d hd) ?_
  refine z_zret hb hr (z_bnar _) dX2_isStale_10 ?_
  rw [hQ]
  exact ⟨rfl, rfl, rfl⟩

