set_option maxHeartbeats 1000000 in
theorem m_X1_value_ok {l : Launch} {G : zG} {h : zH} {n : Nat} {t : Nat} {x1 x2 x3 x4 x5 x6 : Value} {w : Nat → Int32} {v : Nat → Int64} {R S D a lr ls lv : Nat} {ra sa va : Nat → Nat} {k d g : Nat} (hX : h t = some (.inr (0, [.ref a, x1, x2, x3, x4, x5, x6]))) (hL : z_Ln G h w v R S D a lr ls lv ra sa va) (hk : k < S) (hS8 : S ≤ 8) (hD6 : D ≤ 6) (hd : d ≤ D) (hg : g < 5) : z_C l G yX1_value 9 3 18 [.ref t, .int (nI k), .int (nI d), .int (nI (97 + g))] h n (z_rv (.long (v (5 * (7 * k + d) + g))) h n) := by
  refine z_start zk_X1_value zpl_RX1 (Nat.le_of_ble_eq_true rfl) ?_
  intro hn0 M hl hG ho hb hN hr hm hH hrm hQ
  subst hl hG
  have ho : zm_o M = RX1 := ho
  obtain ⟨h1, ⟨e0, N0, m0, f0, r1, r2, r3, ⟨r4, r4n⟩, r5⟩, ⟨e, N, m9, f, h3, h4, h5, ⟨h6, h6n⟩, h7⟩, h8, h9, hs, hv, hi, hrI⟩ := id hL
  show z_V M h n 3 18 0 [(0, .ref t), (1, .int (nI k)), (2, .int (nI d)), (3, .int (nI (97 + g)))] []
  refine z_aload_n hb dX1_value_0 rfl ?_
  refine z_get (k := 0) (C := RX1) (T := TX1) (N := 7) hb ho zc0 in_X1 (zf_RX1_41 _) dX1_value_1 hX (by decide) rfl ?_
  refine z_iload_n hb dX1_value_4 rfl ?_
  refine z_call1 (b' := 2) (f' := 12) (rest := []) (av := [.ref a, .int (nI k)]) (z_siteV hb ho zc1 h1 q1842 q1506 q1507 ⟨_, _, _, _, zk_X2_step⟩ zy_X2_step zl_X2_step dX1_value_5 : z_Site M _ _ _ _ _ ([.int (nI k)].reverse ++ .ref a :: []) [] _) zk_X2_step q95 hrm (m_X2_step hL hS8 hk) (by omega) (by decide) (Nat.le_of_ble_eq_true rfl) (by omega) (by omega) ?_
  refine z_astore (lv' := [(4, .ref (sa k)), (0, .ref t), (1, .int (nI k)), (2, .int (nI d)), (3, .int (nI (97 + g)))]) hb dX1_value_8 (by rw [hN]; decide) rfl ?_
  refine z_aload_n hb dX1_value_10 rfl ?_
  refine z_get (k := 0) (C := RX1) (T := TX1) (N := 7) hb ho zc0 in_X1 (zf_RX1_41 _) dX1_value_11 hX (by decide) rfl ?_
  refine z_iload_n hb dX1_value_14 rfl ?_
  refine z_call0 (b' := 1) (f' := 6) (rest := []) (av := [.ref a, .int (nI d)]) (z_siteV hb ho zc1 h1 q1894 q1610 q1611 ⟨_, _, _, _, zk_X2_requireDay⟩ zy_X2_requireDay zl_X2_requireDay dX1_value_15 : z_Site M _ _ _ _ _ ([.int (nI d)].reverse ++ .ref a :: []) [] _) zk_X2_requireDay q95 hrm (m_X2_requireDay_ok h1 hD6 hd) (by omega) (by decide) (Nat.le_of_ble_eq_true rfl) (by omega) (by omega) ?_
  refine z_aload_n hb dX1_value_18 rfl ?_
  refine z_get (k := 0) (C := RX1) (T := TX1) (N := 7) hb ho zc0 in_X1 (zf_RX1_41 _) dX1_value_19 hX (by decide) rfl ?_
  refine z_aload hb dX1_value_22 rfl ?_
  refine z_iload_n hb dX1_value_24 rfl ?_
  refine z_iload_n hb dX1_value_25 rfl ?_
  refine z_call1 (b' := 0) (f' := 0) (rest := [.int (nI d), .ref (sa k), .ref a]) (av := [.int (nI (97 + g))]) (z_siteS hb ho q1895 q1132 q94 ⟨_, _, _, _, zk_X1_groupNumber⟩ zy_X1_groupNumber zl_X1_groupNumber dX1_value_26 : z_Site M _ _ _ _ _ ([.int (nI (97 + g))].reverse ++ [.int (nI d), .ref (sa k), .ref a]) [.int (nI d), .ref (sa k), .ref a] _) zk_X1_groupNumber q94 hrm (m_X1_groupNumber_ok hg) (by omega) (by decide) (Nat.le_of_ble_eq_true rfl) (by omega) (by omega) ?_
  refine z_call1 (b' := 0) (f' := 0) (rest := []) (av := [.ref a, .ref (sa k), .int (nI d), .int (nI g)]) (z_siteV hb ho zc1 h1 q1896 q746 q3285 ⟨_, _, _, _, zk_X2_number⟩ zy_X2_number zl_X2_number dX1_value_29 : z_Site M _ _ _ _ _ ([.ref (sa k), .int (nI d), .int (nI g)].reverse ++ .ref a :: []) [] _) zk_X2_number q95 hrm (m_X2_number hL hk hS8 hD6 hd (by omega)) (by omega) (by decide) (Nat.le_of_ble_eq_true rfl) (by omega) (by omega) ?_
  refine z_lret hb hr dX1_value_32 ?_
  rw [hQ]
  exact ⟨rfl, rfl, rfl⟩

set_option maxHeartbeats 1000000 in
theorem m_X1_isStale_ok {l : Launch} {G : zG} {h : zH} {n : Nat} {t : Nat} {x1 x2 x3 x4 x5 x6 : Value} {w : Nat → Int32} {v : Nat → Int64} {R S D a lr ls lv : Nat} {ra sa va : Nat → Nat} {k d : Nat} (hX : h t = some (.inr (0, [.ref a, x1, x2, x3, x4, x5, x6]))) (hL : z_Ln G h w v R S D a lr ls lv ra sa va) (hk : k < S) (hS8 : S ≤ 8) (hD6 : D ≤ 6) (hd : d ≤ D) : z_C l G yX1_isStale 9 2 12 [.ref t, .int (nI k), .int (nI d)] h n (z_rv (.int (z_b (tw_st w k d))) h n) := by
  refine z_start zk_X1_isStale zpl_RX1 (Nat.le_of_ble_eq_true rfl) ?_
  intro hn0 M hl hG ho hb hN hr hm hH hrm hQ
  subst hl hG
  have ho : zm_o M = RX1 := ho
  obtain ⟨h1, ⟨e0, N0, m0, f0, r1, r2, r3, ⟨r4, r4n⟩, r5⟩, ⟨e, N, m9, f, h3, h4, h5, ⟨h6, h6n⟩, h7⟩, h8, h9, hs, hv, hi, hrI⟩ := id hL
  show z_V M h n 2 12 0 [(0, .ref t), (1, .int (nI k)), (2, .int (nI d))] []
  refine z_aload_n hb dX1_isStale_0 rfl ?_
  refine z_get (k := 0) (C := RX1) (T := TX1) (N := 7) hb ho zc0 in_X1 (zf_RX1_41 _) dX1_isStale_1 hX (by decide) rfl ?_
  refine z_iload_n hb dX1_isStale_4 rfl ?_
  refine z_call1 (b' := 1) (f' := 6) (rest := []) (av := [.ref a, .int (nI k)]) (z_siteV hb ho zc1 h1 q1842 q1506 q1507 ⟨_, _, _, _, zk_X2_step⟩ zy_X2_step zl_X2_step dX1_isStale_5 : z_Site M _ _ _ _ _ ([.int (nI k)].reverse ++ .ref a :: []) [] _) zk_X2_step q95 hrm (m_X2_step hL hS8 hk) (by omega) (by decide) (Nat.le_of_ble_eq_true rfl) (by omega) (by omega) ?_
  refine z_astore_n (lv' := [(3, .ref (sa k)), (0, .ref t), (1, .int (nI k)), (2, .int (nI d))]) hb dX1_isStale_8 (by rw [hN]; decide) rfl ?_
  refine z_aload_n hb dX1_isStale_9 rfl ?_
  refine z_get (k := 0) (C := RX1) (T := TX1) (N := 7) hb ho zc0 in_X1 (zf_RX1_41 _) dX1_isStale_10 hX (by decide) rfl ?_
  refine z_iload_n hb dX1_isStale_13 rfl ?_
  refine z_call0 (b' := 0) (f' := 0) (rest := []) (av := [.ref a, .int (nI d)]) (z_siteV hb ho zc1 h1 q1894 q1610 q1611 ⟨_, _, _, _, zk_X2_requireDay⟩ zy_X2_requireDay zl_X2_requireDay dX1_isStale_14 : z_Site M _ _ _ _ _ ([.int (nI d)].reverse ++ .ref a :: []) [] _) zk_X2_requireDay q95 hrm (m_X2_requireDay_ok h1 hD6 hd) (by omega) (by decide) (Nat.le_of_ble_eq_true rfl) (by omega) (by omega) ?_
  refine z_aload_n hb dX1_isStale_17 rfl ?_
  refine z_get (k := 0) (C := RX1) (T := TX1) (N := 7) hb ho zc0 in_X1 (zf_RX1_41 _) dX1_isStale_18 hX (by decide) rfl ?_
  refine z_aload_n hb dX1_isStale_21 rfl ?_
  refine z_iload_n hb dX1_isStale_22 rfl ?_
  refine z_call1 (b' := 0) (f' := 0) (rest := []) (av := [.ref a, .ref (sa k), .int (nI d)]) (z_siteV hb ho zc1 h1 q1929 q1318 q1319 ⟨_, _, _, _, zk_X2_isStale⟩ zy_X2_isStale zl_X2_isStale dX1_isStale_23 : z_Site M _ _ _ _ _ ([.ref (sa k), .int (nI d)].reverse ++ .ref a :: []) [] _) zk_X2_isStale q95 hrm (m_X2_isStale hL hk hS8 hD6 hd) (by omega) (by decide) (Nat.le_of_ble_eq_true rfl) (by omega) (by omega) ?_
  refine z_zret hb hr (z_bnar _) dX1_isStale_26 ?_
  rw [hQ]
  exact ⟨rfl, rfl, rfl⟩

set_option maxHeartbeats 1000000 in
theorem m_X1_total_ok {l : Launch} {G : zG} {h : zH} {n : Nat} {t : Nat} {x1 x2 x3 x4 x5 x6 : Value} {w : Nat → Int32} {v : Nat → Int64} {R S D a lr ls lv : Nat} {ra sa va : Nat → Nat} {k d : Nat} (hX : h t = some (.inr (0, [.ref a, x1, x2, x3, x4, x5, x6]))) (hL : z_Ln G h w v R S D a lr ls lv ra sa va) (hk : k < S) (hS8 : S ≤ 8) (hD6 : D ≤ 6) (hd : d ≤ D) : z_C l G yX1_total 9 2 12 [.ref t, .int (nI k), .int (nI d)] h n (z_rv (.long (tw_tot v k d 5)) h n) := by
  refine z_start zk_X1_total zpl_RX1 (Nat.le_of_ble_eq_true rfl) ?_
  intro hn0 M hl hG ho hb hN hr hm hH hrm hQ
  subst hl hG
  have ho : zm_o M = RX1 := ho
  obtain ⟨h1, ⟨e0, N0, m0, f0, r1, r2, r3, ⟨r4, r4n⟩, r5⟩, ⟨e, N, m9, f, h3, h4, h5, ⟨h6, h6n⟩, h7⟩, h8, h9, hs, hv, hi, hrI⟩ := id hL
  show z_V M h n 2 12 0 [(0, .ref t), (1, .int (nI k)), (2, .int (nI d))] []
  refine z_aload_n hb dX1_total_0 rfl ?_
  refine z_get (k := 0) (C := RX1) (T := TX1) (N := 7) hb ho zc0 in_X1 (zf_RX1_41 _) dX1_total_1 hX (by decide) rfl ?_
  refine z_iload_n hb dX1_total_4 rfl ?_
  refine z_call1 (b' := 1) (f' := 6) (rest := []) (av := [.ref a, .int (nI k)]) (z_siteV hb ho zc1 h1 q1842 q1506 q1507 ⟨_, _, _, _, zk_X2_step⟩ zy_X2_step zl_X2_step dX1_total_5 : z_Site M _ _ _ _ _ ([.int (nI k)].reverse ++ .ref a :: []) [] _) zk_X2_step q95 hrm (m_X2_step hL hS8 hk) (by omega) (by decide) (Nat.le_of_ble_eq_true rfl) (by omega) (by omega) ?_
  refine z_astore_n (lv' := [(3, .ref (sa k)), (0, .ref t), (1, .int (nI k)), (2, .int (nI d))]) hb dX1_total_8 (by rw [hN]; decide) rfl ?_
  refine z_aload_n hb dX1_total_9 rfl ?_
  refine z_get (k := 0) (C := RX1) (T := TX1) (N := 7) hb ho zc0 in_X1 (zf_RX1_41 _) dX1_total_10 hX (by decide) rfl ?_
  refine z_iload_n hb dX1_total_13 rfl ?_
  refine z_call0 (b' := 0) (f' := 0) (rest := []) (av := [.ref a, .int (nI d)]) (z_siteV hb ho zc1 h1 q1894 q1610 q1611 ⟨_, _, _, _, zk_X2_requireDay⟩ zy_X2_requireDay zl_X2_requireDay dX1_total_14 : z_Site M _ _ _ _ _ ([.int (nI d)].reverse ++ .ref a :: []) [] _) zk_X2_requireDay q95 hrm (m_X2_requireDay_ok h1 hD6 hd) (by omega) (by decide) (Nat.le_of_ble_eq_true rfl) (by omega) (by omega) ?_
  refine z_lconst (x := 0) hb dX1_total_17 rfl ?_
  refine z_lstore (lv' := [(4, .long 0), (3, .ref (sa k)), (0, .ref t), (1, .int (nI k)), (2, .int (nI d))]) hb dX1_total_18 (by rw [hN]; decide) rfl ?_
  refine z_iconst (x := nI 0) hb dX1_total_20 (by decide) ?_
  refine z_istore (lv' := [(6, .int (nI 0)), (4, .long 0), (3, .ref (sa k)), (0, .ref t), (1, .int (nI k)), (2, .int (nI d))]) hb dX1_total_21 (by rw [hN]; decide) rfl ?_
  have lp_23 : ∀ (k9_23 : Nat) (g : Nat) (z : Int64), 5 - g < k9_23 → (g ≤ 5) → (z = tw_tot v k d g) → z_V M h n 0 0 23 [(6, .int (nI g)), (4, .long z), (3, .ref (sa k)), (0, .ref t), (1, .int (nI k)), (2, .int (nI d))] [] := by
    intro k9_23
    induction k9_23 with
    | zero => intro g z hk9_23; exact absurd hk9_23 (Nat.not_lt_zero _)
    | succ k9_23 ih_23 =>
      intro g z hk9_23 hg hz
      refine z_iload hb dX1_total_23 rfl ?_
      refine z_iconst (x := nI 5) hb dX1_total_25 (by decide) ?_
      refine z_icmp_geN (tgt := 51) hb dX1_total_26 (by decide) (by omega) (by omega) (fun c_26 => ?_) (fun c_26 => ?_)
      · refine z_lload hb dX1_total_51 rfl ?_
        refine z_lret hb hr dX1_total_53 ?_
        rw [hQ]
        rw [hz, show g = 5 by omega]; exact ⟨rfl, rfl, rfl⟩
      · refine z_lload hb dX1_total_29 rfl ?_
        refine z_aload_n hb dX1_total_31 rfl ?_
        refine z_get (k := 0) (C := RX1) (T := TX1) (N := 7) hb ho zc0 in_X1 (zf_RX1_41 _) dX1_total_32 hX (by decide) rfl ?_
        refine z_aload_n hb dX1_total_35 rfl ?_
        refine z_iload_n hb dX1_total_36 rfl ?_
        refine z_iload hb dX1_total_37 rfl ?_
        refine z_call1 (b' := 0) (f' := 0) (rest := [.long z]) (av := [.ref a, .ref (sa k), .int (nI d), .int (nI g)]) (z_siteV hb ho zc1 h1 q1896 q746 q3285 ⟨_, _, _, _, zk_X2_number⟩ zy_X2_number zl_X2_number dX1_total_39 : z_Site M _ _ _ _ _ ([.ref (sa k), .int (nI d), .int (nI g)].reverse ++ .ref a :: [.long z]) [.long z] _) zk_X2_number q95 hrm (m_X2_number hL hk hS8 hD6 hd (by omega)) (by omega) (by decide) (Nat.le_of_ble_eq_true rfl) (by omega) (by omega) ?_
        refine z_ladd hb dX1_total_42 ?_
        refine z_lstore (lv' := [(4, .long (z + (v (5 * (7 * k + d) + g)))), (6, .int (nI g)), (3, .ref (sa k)), (0, .ref t), (1, .int (nI k)), (2, .int (nI d))]) hb dX1_total_43 (by rw [hN]; decide) rfl ?_
        refine z_iinc (k0 := 1) (lv' := [(6, .int (nI (g + 1))), (4, .long (z + (v (5 * (7 * k + d) + g)))), (3, .ref (sa k)), (0, .ref t), (1, .int (nI k)), (2, .int (nI d))]) hb dX1_total_45 rfl (nI_1 g) (by rw [hN]; decide) rfl ?_
        refine z_goto (tgt := 23) hb dX1_total_48 (by decide) ?_
        refine z_lv [0, 1, 2, 3, 4, 5] (lv' := [(6, .int (nI (g + 1))), (4, .long (z + (v (5 * (7 * k + d) + g)))), (3, .ref (sa k)), (0, .ref t), (1, .int (nI k)), (2, .int (nI d))]) rfl ?_
        exact ih_23 (g + 1) _ (by omega) (by omega) (by rw [hz]; rfl)
  refine z_lv [0, 1, 2, 3, 4, 5] (lv' := [(6, .int (nI 0)), (4, .long 0), (3, .ref (sa k)), (0, .ref t), (1, .int (nI k)), (2, .int (nI d))]) rfl ?_
  exact lp_23 _ 0 _ (Nat.lt_succ_self _) (Nat.zero_le _) rfl

