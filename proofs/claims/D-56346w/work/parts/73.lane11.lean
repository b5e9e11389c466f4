set_option maxHeartbeats 1000000 in
theorem m_X1_level_ok {l : Launch} {G : zG} {h : zH} {n : Nat} {t : Nat} {x1 x2 x3 x4 x5 x6 : Value} {w : Nat → Int32} {v : Nat → Int64} {R S D a lr ls lv : Nat} {ra sa va : Nat → Nat} {k : Nat} (hX : h t = some (.inr (0, [.ref a, x1, x2, x3, x4, x5, x6]))) (hL : z_Ln G h w v R S D a lr ls lv ra sa va) (hk : k < S) (hS8 : S ≤ 8) : z_C l G yX1_level (2 * k + 10) 1 6 [.ref t, .int (nI k)] h n (z_rn (.int (nI (z_lev w (k + 1) k))) h) := by
  refine z_start zk_X1_level zpl_RX1 (Nat.le_of_ble_eq_true rfl) ?_
  intro hn0 M hl hG ho hb hN hr hm hH hrm hQ
  subst hl hG
  have ho : zm_o M = RX1 := ho
  obtain ⟨h1, ⟨e0, N0, m0, f0, r1, r2, r3, ⟨r4, r4n⟩, r5⟩, ⟨e, N, m9, f, h3, h4, h5, ⟨h6, h6n⟩, h7⟩, ⟨ev, Nv, mv, fv, v1, v2, v3, ⟨v4, v4n⟩, v5⟩, h9, hs, hv, hi, hrI⟩ := id hL
  show z_V M h n 1 6 0 [(0, .ref t), (1, .int (nI k))] []
  refine z_dom (fun hD0 => ?_)
  refine z_aload_n hb dX1_level_0 rfl ?_
  refine z_get (k := 0) (C := RX1) (T := TX1) (N := 7) hb ho zc0 in_X1 (zf_RX1_41 _) dX1_level_1 hX (by decide) rfl ?_
  refine z_iload_n hb dX1_level_4 rfl ?_
  refine z_call1 (b' := 0) (f' := 0) (rest := []) (av := [.ref a, .int (nI k)]) (z_siteV hb ho zc1 h1 q1842 q1506 q1507 ⟨_, _, _, _, zk_X2_step⟩ zy_X2_step zl_X2_step dX1_level_5 : z_Site M _ _ _ _ _ ([.int (nI k)].reverse ++ .ref a :: []) [] _) zk_X2_step q95 hrm (m_X2_step hL hS8 hk) (by omega) (by decide) (Nat.le_of_ble_eq_true rfl) (by omega) (by omega) ?_
  have J_11 : ∀ n_1 : Nat, n ≤ n_1 → z_V M h n_1 0 0 11 [(0, .ref t), (1, .int (nI k))] [.int (nI (z_lev w (k + 1) k))] := by
    intro n_1 hn_1
    refine z_iret hb hr dX1_level_11 ?_
    rw [hQ]
    exact ⟨rfl, rfl⟩
  rcases hs k hk with ⟨q1, q9⟩ | ⟨q1, q9⟩ | ⟨q1, q9⟩ | ⟨q1, q2, q3, q9⟩ | ⟨q1, q2, q3, q9⟩ | ⟨q1, q2, q3, q9⟩ | ⟨q1, q2, q3, q9⟩
  · refine z_callN1 (b' := 0) (f' := 0) (rest := []) (av := [.ref (sa k)]) (z_siteU hb ho zc8 q9 q1886 q1295 (Or.inl q1294) q1300 q1310 ⟨by decide +kernel, by decide +kernel⟩ (by show _ = some 0; decide +kernel) dX1_level_8 : z_Site M _ _ _ _ _ ([].reverse ++ .ref (sa k) :: []) [] _) zk_X10_level q128 hrm (m_level hs hS8 _ _ (Nat.lt_succ_self _) hk _ _ q9 _) (by omega) (by decide) (Nat.le_of_ble_eq_true rfl) (by omega) (by omega) (fun n_2 hn_2 => ?_)
    exact J_11 _ (by omega)
  · refine z_callN1 (b' := 0) (f' := 0) (rest := []) (av := [.ref (sa k)]) (z_siteU hb ho zc9 q9 q1886 q1295 (Or.inl q1294) q1300 q1306 ⟨by decide +kernel, by decide +kernel⟩ (by show _ = some 0; decide +kernel) dX1_level_8 : z_Site M _ _ _ _ _ ([].reverse ++ .ref (sa k) :: []) [] _) zk_X10_level q128 hrm (m_level hs hS8 _ _ (Nat.lt_succ_self _) hk _ _ q9 _) (by omega) (by decide) (Nat.le_of_ble_eq_true rfl) (by omega) (by omega) (fun n_3 hn_3 => ?_)
    exact J_11 _ (by omega)
  · refine z_callN1 (b' := 0) (f' := 0) (rest := []) (av := [.ref (sa k)]) (z_siteU hb ho zc10 q9 q1886 q1295 (Or.inl q1294) q1300 q1307 ⟨by decide +kernel, by decide +kernel⟩ (by show _ = some 0; decide +kernel) dX1_level_8 : z_Site M _ _ _ _ _ ([].reverse ++ .ref (sa k) :: []) [] _) zk_X10_level q128 hrm (m_level hs hS8 _ _ (Nat.lt_succ_self _) hk _ _ q9 _) (by omega) (by decide) (Nat.le_of_ble_eq_true rfl) (by omega) (by omega) (fun n_4 hn_4 => ?_)
    exact J_11 _ (by omega)
  · refine z_callN1 (b' := 0) (f' := 0) (rest := []) (av := [.ref (sa k)]) (z_siteU hb ho zc11 q9 q1886 q1295 (Or.inl q1294) q1302 q1308 ⟨by decide +kernel, by decide +kernel⟩ (by show _ = some 0; decide +kernel) dX1_level_8 : z_Site M _ _ _ _ _ ([].reverse ++ .ref (sa k) :: []) [] _) zk_X14_level q133 hrm (m_level hs hS8 _ _ (Nat.lt_succ_self _) hk _ _ q9 _) (by omega) (by decide) (Nat.le_of_ble_eq_true rfl) (by omega) (by omega) (fun n_5 hn_5 => ?_)
    exact J_11 _ (by omega)
  · refine z_callN1 (b' := 0) (f' := 0) (rest := []) (av := [.ref (sa k)]) (z_siteU hb ho zc11 q9 q1886 q1295 (Or.inl q1294) q1302 q1308 ⟨by decide +kernel, by decide +kernel⟩ (by show _ = some 0; decide +kernel) dX1_level_8 : z_Site M _ _ _ _ _ ([].reverse ++ .ref (sa k) :: []) [] _) zk_X14_level q133 hrm (m_level hs hS8 _ _ (Nat.lt_succ_self _) hk _ _ q9 _) (by omega) (by decide) (Nat.le_of_ble_eq_true rfl) (by omega) (by omega) (fun n_6 hn_6 => ?_)
    exact J_11 _ (by omega)
  · refine z_callN1 (b' := 0) (f' := 0) (rest := []) (av := [.ref (sa k)]) (z_siteU hb ho zc12 q9 q1886 q1295 (Or.inl q1294) q1297 q1309 ⟨by decide +kernel, by decide +kernel⟩ (by show _ = some 0; decide +kernel) dX1_level_8 : z_Site M _ _ _ _ _ ([].reverse ++ .ref (sa k) :: []) [] _) zk_X15_level q134 hrm (m_level hs hS8 _ _ (Nat.lt_succ_self _) hk _ _ q9 _) (by omega) (by decide) (Nat.le_of_ble_eq_true rfl) (by omega) (by omega) (fun n_7 hn_7 => ?_)
    exact J_11 _ (by omega)
  · refine z_callN1 (b' := 0) (f' := 0) (rest := []) (av := [.ref (sa k)]) (z_siteU hb ho zc13 q9 q1886 q1295 (Or.inl q1294) q1297 q1296 ⟨by decide +kernel, by decide +kernel⟩ (by show _ = some 0; decide +kernel) dX1_level_8 : z_Site M _ _ _ _ _ ([].reverse ++ .ref (sa k) :: []) [] _) zk_X15_level q134 hrm (m_level hs hS8 _ _ (Nat.lt_succ_self _) hk _ _ q9 _) (by omega) (by decide) (Nat.le_of_ble_eq_true rfl) (by omega) (by omega) (fun n_8 hn_8 => ?_)
    exact J_11 _ (by omega)

set_option maxHeartbeats 1000000 in
theorem m_X1_level_no {l : Launch} {G : zG} {h : zH} {n : Nat} {t : Nat} {x1 x2 x3 x4 x5 x6 : Value} {w : Nat → Int32} {v : Nat → Int64} {R S D a lr ls lv : Nat} {ra sa va : Nat → Nat} {x : Int32} (hX : h t = some (.inr (0, [.ref a, x1, x2, x3, x4, x5, x6]))) (hL : z_Ln G h w v R S D a lr ls lv ra sa va) (hx : tw_isS S x = false) (hS8 : S ≤ 8) : z_C l G yX1_level 10 4 24 [.ref t, .int x] h n (z_tf 28 [] h n) := by
  refine z_start zk_X1_level zpl_RX1 (Nat.le_of_ble_eq_true rfl) ?_
  intro hn0 M hl hG ho hb hN hr hm hH hrm hQ
  subst hl hG
  have ho : zm_o M = RX1 := ho
  obtain ⟨h1, ⟨e0, N0, m0, f0, r1, r2, r3, ⟨r4, r4n⟩, r5⟩, ⟨e, N, m9, f, h3, h4, h5, ⟨h6, h6n⟩, h7⟩, ⟨ev, Nv, mv, fv, v1, v2, v3, ⟨v4, v4n⟩, v5⟩, h9, hs, hv, hi, hrI⟩ := id hL
  show z_V M h n 4 24 0 [(0, .ref t), (1, .int x)] []
  refine z_dom (fun hD0 => ?_)
  refine z_aload_n hb dX1_level_0 rfl ?_
  refine z_get (k := 0) (C := RX1) (T := TX1) (N := 7) hb ho zc0 in_X1 (zf_RX1_41 _) dX1_level_1 hX (by decide) rfl ?_
  refine z_iload_n hb dX1_level_4 rfl ?_
  refine z_callTf (b' := 3) (f' := 18) (rest := []) (av := [.ref a, .int x]) (z_siteV hb ho zc1 h1 q1842 q1506 q1507 ⟨_, _, _, _, zk_X2_step⟩ zy_X2_step zl_X2_step dX1_level_5 : z_Site M _ _ _ _ _ ([.int x].reverse ++ .ref a :: []) [] _) zk_X2_step q95 hrm (z_C.tf (m_X2_step_no hL hS8 hx)) (by omega) (by decide) (Nat.le_of_ble_eq_true rfl) (by omega) (by omega) (fun q_1 n_2 hq_1 hn_2 => ?_)
  exact z_out ho hH zc28 z_up_s (by omega) (fun _ h => nomatch h) (by rw [hQ]; exact ⟨_, rfl, by omega, by omega, rfl⟩)

set_option maxHeartbeats 1000000 in
theorem m_X18_init {l : Launch} {G : zG} {h : zH} {n : Nat} {t a : Nat} (ht9 : h t = some (.inr (14, [.null]))) (hnt : z_n0 G ≤ t) : z_C l G yX18_init 2 0 0 [.ref t, .ref a] h n (z_r0 (z_up h t (.inr (14, [.ref a]))) n) := by
  refine z_start zk_X18_init zpl_RX18 (Nat.le_of_ble_eq_true rfl) ?_
  intro hn0 M hl hG ho hb hN hr hm hH hrm hQ
  subst hl hG
  have ho : zm_o M = RX18 := ho
  show z_V M h n 0 0 0 [(0, .ref t), (1, .ref a)] []
  refine z_aload_n hb dX18_init_0 rfl ?_
  refine z_oinit hb ho hrm (by omega) q1909 q155 q156 (by decide) dX18_init_1 ?_
  refine z_aload_n hb dX18_init_4 rfl ?_
  refine z_aload_n hb dX18_init_5 rfl ?_
  refine z_put (k := 0) (C := RX18) (T := TX18) (N := 1) hb ho zc14 in_X18 tyX18_ok nmX18 (zf_RX18_7 _) dX18_init_6 ht9 hnt (by decide) (Or.inr ⟨hm, rfl⟩) rfl rfl rfl (Nat.le_of_ble_eq_true rfl) ?_
  refine z_hn (fun h_1 eh_1 => ?_)
  have eh_1 : h_1 = z_up h t (.inr (14, [.ref a])) := eh_1
  refine z_vret hb hr dX18_init_9 ?_
  rw [hQ]
  exact ⟨rfl, (by rw [eh_1] <;> simp only [z_up_up]), rfl⟩

set_option maxHeartbeats 1000000 in
theorem m_X1_valueAnew_ok {l : Launch} {G : zG} {h : zH} {n : Nat} {t : Nat} {x1 x2 x3 x4 x5 x6 : Value} {w : Nat → Int32} {v : Nat → Int64} {R S D a lr ls lv : Nat} {ra sa va : Nat → Nat} {k d g : Nat} {u : Nat → Int64} (hX : h t = some (.inr (0, [.ref a, x1, x2, x3, x4, x5, x6]))) (hL : z_Ln G h w v R S D a lr ls lv ra sa va) (hk : k < S) (hS8 : S ≤ 8) (hR4 : R ≤ 40) (hD6 : D ≤ 6) (hd : d ≤ D) (hg : g < 5) (hu : ∀ k, k < S → ∀ d, d ≤ D → ∀ g, g < 5 → u (5 * (7 * k + d) + g) = tw_made w u R k d g) : z_C l G yX1_valueAnew (2 * k + 12) (z_F k d + 4) (4 * z_F k d + 19) [.ref t, .int (nI k), .int (nI d), .int (nI (97 + g))] h n (z_rn (.long (u (5 * (7 * k + d) + g))) h) := by
  refine z_start zk_X1_valueAnew zpl_RX1 (Nat.le_of_ble_eq_true rfl) ?_
  intro hn0 M hl hG ho hb hN hr hm hH hrm hQ
  subst hl hG
  have ho : zm_o M = RX1 := ho
  obtain ⟨h1, ⟨e0, N0, m0, f0, r1, r2, r3, ⟨r4, r4n⟩, r5⟩, ⟨e, N, m9, f, h3, h4, h5, ⟨h6, h6n⟩, h7⟩, ⟨ev, Nv, mv, fv, v1, v2, v3, ⟨v4, v4n⟩, v5⟩, h9, hs, hv, hi, hrI⟩ := id hL
  show z_V M h n (z_F k d + 4) (4 * z_F k d + 19) 0 [(0, .ref t), (1, .int (nI k)), (2, .int (nI d)), (3, .int (nI (97 + g)))] []
  refine z_dom (fun hD0 => ?_)
  refine z_aload_n hb dX1_valueAnew_0 rfl ?_
  refine z_get (k := 0) (C := RX1) (T := TX1) (N := 7) hb ho zc0 in_X1 (zf_RX1_41 _) dX1_valueAnew_1 hX (by decide) rfl ?_
  refine z_iload_n hb dX1_valueAnew_4 rfl ?_
  refine z_call1 (b' := (z_F k d + 4) - 1) (f' := (4 * z_F k d + 19) - 6) (rest := []) (av := [.ref a, .int (nI k)]) (z_siteV hb ho zc1 h1 q1842 q1506 q1507 ⟨_, _, _, _, zk_X2_step⟩ zy_X2_step zl_X2_step dX1_valueAnew_5 : z_Site M _ _ _ _ _ ([.int (nI k)].reverse ++ .ref a :: []) [] _) zk_X2_step q95 hrm (m_X2_step hL hS8 hk) (by omega) (by decide) (Nat.le_of_ble_eq_true rfl) (by omega) (by omega) ?_
  refine z_astore (lv' := [(4, .ref (sa k)), (0, .ref t), (1, .int (nI k)), (2, .int (nI d)), (3, .int (nI (97 + g)))]) hb dX1_valueAnew_8 (by rw [hN]; decide) rfl ?_
  refine z_aload_n hb dX1_valueAnew_10 rfl ?_
  refine z_get (k := 0) (C := RX1) (T := TX1) (N := 7) hb ho zc0 in_X1 (zf_RX1_41 _) dX1_valueAnew_11 hX (by decide) rfl ?_
  refine z_iload_n hb dX1_valueAnew_14 rfl ?_
  refine z_call0 (b' := ((z_F k d + 4) - 1) - 1) (f' := ((4 * z_F k d + 19) - 6) - 6) (rest := []) (av := [.ref a, .int (nI d)]) (z_siteV hb ho zc1 h1 q1894 q1610 q1611 ⟨_, _, _, _, zk_X2_requireDay⟩ zy_X2_requireDay zl_X2_requireDay dX1_valueAnew_15 : z_Site M _ _ _ _ _ ([.int (nI d)].reverse ++ .ref a :: []) [] _) zk_X2_requireDay q95 hrm (m_X2_requireDay_ok h1 hD6 hd) (by omega) (by decide) (Nat.le_of_ble_eq_true rfl) (by omega) (by omega) ?_
  refine z_dom (fun hD_1 => ?_)
  refine z_new (N0 := 1) (b' := (((z_F k d + 4) - 1) - 1) - 1) (f' := (((4 * z_F k d + 19) - 6) - 6) - 1) (fs := [.null]) (C := RX18) (T := TX18) (N := 1) hb ho zc14 in_X18 tyX18_ok q1904 q1905 q140 dX1_valueAnew_18 (zdf_X18) (by omega) (by omega) ?_
  refine z_hn (fun h_2 eh_2 => ?_)
  have eh_2 : h_2 = z_up h n (.inr (14, [.null])) := eh_2
  have k_3 : h_2 t = some (.inr (0, [.ref a, x1, x2, x3, x4, x5, x6])) := z_nx eh_2 (Nat.ne_of_lt (hD_1 _ _ hX)) hX
  have k_4 : h_2 a = some (.inr (1, [.ref lr, .ref ls, .ref lv, .int (nI D), .int (w 2), .int (w 4), .int (w 5), .int (w 6)])) := z_nx eh_2 (Nat.ne_of_lt (hD_1 _ _ h1)) h1
  have k_5 : h_2 lr = some (.inr (20, [.int m0, .ref e0, .int (nI R)])) := z_nx eh_2 (Nat.ne_of_lt (hD_1 _ _ r1)) r1
  have k_6 : h_2 e0 = some (.inl ((zm_G M).2.1 5, N0, .inr (.inr (.inr (.inr f0))))) := z_nx eh_2 (Nat.ne_of_lt (hD_1 _ _ r2)) r2
  have k_7 : h_2 ls = some (.inr (20, [.int m9, .ref e, .int (nI S)])) := z_nx eh_2 (Nat.ne_of_lt (hD_1 _ _ h3)) h3
  have k_8 : h_2 e = some (.inl ((zm_G M).2.1 5, N, .inr (.inr (.inr (.inr f))))) := z_nx eh_2 (Nat.ne_of_lt (hD_1 _ _ h4)) h4
  have k_9 : h_2 lv = some (.inr (20, [.int mv, .ref ev, .int (nI S)])) := z_nx eh_2 (Nat.ne_of_lt (hD_1 _ _ v1)) v1
  have k_10 : h_2 ev = some (.inl ((zm_G M).2.1 5, Nv, .inr (.inr (.inr (.inr fv))))) := z_nx eh_2 (Nat.ne_of_lt (hD_1 _ _ v2)) v2
  refine z_dup hb dX1_valueAnew_21 rfl ?_
  refine z_aload_n hb dX1_valueAnew_22 rfl ?_
  refine z_get (k := 0) (C := RX1) (T := TX1) (N := 7) hb ho zc0 in_X1 (zf_RX1_41 _) dX1_valueAnew_23 k_3 (by decide) rfl ?_
  refine z_call0 (b' := (((z_F k d + 4) - 1) - 1) - 1) (f' := (((4 * z_F k d + 19) - 6) - 6) - 1) (rest := [.ref n]) (av := [.ref n, .ref a]) (z_siteI hb ho q1906 q1907 q1908 rfl zy_X18_init zl_X18_init dX1_valueAnew_26 : z_Site M _ _ _ _ _ ([.ref a].reverse ++ .ref n :: [.ref n]) [.ref n] _) zk_X18_init q140 hrm (m_X18_init (z_nxs eh_2) (by omega)) (by omega) (by decide) (Nat.le_of_ble_eq_true rfl) (by omega) (by omega) ?_
  refine z_hn (fun h_11 eh_11 => ?_)
  have eh_11 : h_11 = z_up h_2 n (.inr (14, [.ref a])) := eh_11
  have k_12 : h_11 t = some (.inr (0, [.ref a, x1, x2, x3, x4, x5, x6])) := z_nx eh_11 (Nat.ne_of_lt (hD_1 _ _ hX)) k_3
  have k_13 : h_11 a = some (.inr (1, [.ref lr, .ref ls, .ref lv, .int (nI D), .int (w 2), .int (w 4), .int (w 5), .int (w 6)])) := z_nx eh_11 (Nat.ne_of_lt (hD_1 _ _ h1)) k_4
  have k_14 : h_11 lr = some (.inr (20, [.int m0, .ref e0, .int (nI R)])) := z_nx eh_11 (Nat.ne_of_lt (hD_1 _ _ r1)) k_5
  have k_15 : h_11 e0 = some (.inl ((zm_G M).2.1 5, N0, .inr (.inr (.inr (.inr f0))))) := z_nx eh_11 (Nat.ne_of_lt (hD_1 _ _ r2)) k_6
  have k_16 : h_11 ls = some (.inr (20, [.int m9, .ref e, .int (nI S)])) := z_nx eh_11 (Nat.ne_of_lt (hD_1 _ _ h3)) k_7
  have k_17 : h_11 e = some (.inl ((zm_G M).2.1 5, N, .inr (.inr (.inr (.inr f))))) := z_nx eh_11 (Nat.ne_of_lt (hD_1 _ _ h4)) k_8
  have k_18 : h_11 lv = some (.inr (20, [.int mv, .ref ev, .int (nI S)])) := z_nx eh_11 (Nat.ne_of_lt (hD_1 _ _ v1)) k_9
  have k_19 : h_11 ev = some (.inl ((zm_G M).2.1 5, Nv, .inr (.inr (.inr (.inr fv))))) := z_nx eh_11 (Nat.ne_of_lt (hD_1 _ _ v2)) k_10
  refine z_aload hb dX1_valueAnew_29 rfl ?_
  refine z_iload_n hb dX1_valueAnew_31 rfl ?_
  refine z_iload_n hb dX1_valueAnew_32 rfl ?_
  refine z_call1 (b' := ((((z_F k d + 4) - 1) - 1) - 1) - 1) (f' := ((((4 * z_F k d + 19) - 6) - 6) - 1) - 6) (rest := [.int (nI d), .ref (sa k), .ref n]) (av := [.int (nI (97 + g))]) (z_siteS hb ho q1895 q1132 q94 ⟨_, _, _, _, zk_X1_groupNumber⟩ zy_X1_groupNumber zl_X1_groupNumber dX1_valueAnew_33 : z_Site M _ _ _ _ _ ([.int (nI (97 + g))].reverse ++ [.int (nI d), .ref (sa k), .ref n]) [.int (nI d), .ref (sa k), .ref n] _) zk_X1_groupNumber q94 hrm (m_X1_groupNumber_ok hg) (by omega) (by decide) (Nat.le_of_ble_eq_true rfl) (by omega) (by omega) ?_
  refine z_callN1 (b' := 0) (f' := 0) (rest := []) (av := [.ref n, .ref (sa k), .int (nI d), .int (nI g)]) (z_siteV hb ho zc14 (z_nxs eh_11) q1914 q700 q3286 ⟨_, _, _, _, zk_X18_number⟩ zy_X18_number zl_X18_number dX1_valueAnew_36 : z_Site M _ _ _ _ _ ([.ref (sa k), .int (nI d), .int (nI g)].reverse ++ .ref n :: []) [] _) zk_X18_number q140 hrm (m_anew (hL.ex (z_exW hD0 (by omega) eh_11 (z_exN z_ex_r hD_1 eh_2))) hS8 hR4 hD6 (z_nxs eh_11) hu _ _ (Nat.lt_succ_self _) hk _ _ hd hg _) (by omega) (by decide) (Nat.le_of_ble_eq_true rfl) (by omega) (by omega) (fun n_20 hn_20 => ?_)
  refine z_less (z_exW hD0 (by omega) eh_11 (z_exN z_ex_r hD_1 eh_2)) ?_
  refine z_lret hb hr dX1_valueAnew_39 ?_
  rw [hQ]
  exact ⟨rfl, rfl⟩

set_option maxHeartbeats 1000000 in
theorem m_X1_valueAnew_no1 {l : Launch} {G : zG} {h : zH} {n : Nat} {t : Nat} {x1 x2 x3 x4 x5 x6 : Value} {w : Nat → Int32} {v : Nat → Int64} {R S D a lr ls lv : Nat} {ra sa va : Nat → Nat} {x y z : Int32} (hX : h t = some (.inr (0, [.ref a, x1, x2, x3, x4, x5, x6]))) (hL : z_Ln G h w v R S D a lr ls lv ra sa va) (hx : tw_isS S x = false) (hS8 : S ≤ 8) : z_C l G yX1_valueAnew 10 4 24 [.ref t, .int x, .int y, .int z] h n (z_tf 28 [] h n) := by
  refine z_start zk_X1_valueAnew zpl_RX1 (Nat.le_of_ble_eq_true rfl) ?_
  intro hn0 M hl hG ho hb hN hr hm hH hrm hQ
  subst hl hG
  have ho : zm_o M = RX1 := ho
  obtain ⟨h1, ⟨e0, N0, m0, f0, r1, r2, r3, ⟨r4, r4n⟩, r5⟩, ⟨e, N, m9, f, h3, h4, h5, ⟨h6, h6n⟩, h7⟩, ⟨ev, Nv, mv, fv, v1, v2, v3, ⟨v4, v4n⟩, v5⟩, h9, hs, hv, hi, hrI⟩ := id hL
  show z_V M h n 4 24 0 [(0, .ref t), (1, .int x), (2, .int y), (3, .int z)] []
  refine z_dom (fun hD0 => ?_)
  refine z_aload_n hb dX1_valueAnew_0 rfl ?_
  refine z_get (k := 0) (C := RX1) (T := TX1) (N := 7) hb ho zc0 in_X1 (zf_RX1_41 _) dX1_valueAnew_1 hX (by decide) rfl ?_
  refine z_iload_n hb dX1_valueAnew_4 rfl ?_
  refine z_callTf (b' := 3) (f' := 18) (rest := []) (av := [.ref a, .int x]) (z_siteV hb ho zc1 h1 q1842 q1506 q1507 ⟨_, _, _, _, zk_X2_step⟩ zy_X2_step zl_X2_step dX1_valueAnew_5 : z_Site M _ _ _ _ _ ([.int x].reverse ++ .ref a :: []) [] _) zk_X2_step q95 hrm (z_C.tf (m_X2_step_no hL hS8 hx)) (by omega) (by decide) (Nat.le_of_ble_eq_true rfl) (by omega) (by omega) (fun q_1 n_2 hq_1 hn_2 => ?_)
  exact z_out ho hH zc28 z_up_s (by omega) (fun _ h => nomatch h) (by rw [hQ]; exact ⟨_, rfl, by omega, by omega, rfl⟩)

set_option maxHeartbeats 1000000 in
theorem m_X1_valueAnew_no2 {l : Launch} {G : zG} {h : zH} {n : Nat} {t : Nat} {x1 x2 x3 x4 x5 x6 : Value} {w : Nat → Int32} {v : Nat → Int64} {R S D a lr ls lv : Nat} {ra sa va : Nat → Nat} {k : Nat} {x z : Int32} (hX : h t = some (.inr (0, [.ref a, x1, x2, x3, x4, x5, x6]))) (hL : z_Ln G h w v R S D a lr ls lv ra sa va) (hk : k < S) (hS8 : S ≤ 8) (hD6 : D ≤ 6) (hx : decide (nI 0 ≤ x ∧ x ≤ nI D) = false) : z_C l G yX1_valueAnew 10 4 24 [.ref t, .int (nI k), .int x, .int z] h n (z_tf 27 [] h n) := by
  refine z_start zk_X1_valueAnew zpl_RX1 (Nat.le_of_ble_eq_true rfl) ?_
  intro hn0 M hl hG ho hb hN hr hm hH hrm hQ
  subst hl hG
  have ho : zm_o M = RX1 := ho
  obtain ⟨h1, ⟨e0, N0, m0, f0, r1, r2, r3, ⟨r4, r4n⟩, r5⟩, ⟨e, N, m9, f, h3, h4, h5, ⟨h6, h6n⟩, h7⟩, ⟨ev, Nv, mv, fv, v1, v2, v3, ⟨v4, v4n⟩, v5⟩, h9, hs, hv, hi, hrI⟩ := id hL
  show z_V M h n 4 24 0 [(0, .ref t), (1, .int (nI k)), (2, .int x), (3, .int z)] []
  refine z_dom (fun hD0 => ?_)
  refine z_aload_n hb dX1_valueAnew_0 rfl ?_
  refine z_get (k := 0) (C := RX1) (T := TX1) (N := 7) hb ho zc0 in_X1 (zf_RX1_41 _) dX1_valueAnew_1 hX (by decide) rfl ?_
  refine z_iload_n hb dX1_valueAnew_4 rfl ?_
  refine z_call1 (b' := 3) (f' := 18) (rest := []) (av := [.ref a, .int (nI k)]) (z_siteV hb ho zc1 h1 q1842 q1506 q1507 ⟨_, _, _, _, zk_X2_step⟩ zy_X2_step zl_X2_step dX1_valueAnew_5 : z_Site M _ _ _ _ _ ([.int (nI k)].reverse ++ .ref a :: []) [] _) zk_X2_step q95 hrm (m_X2_step hL hS8 hk) (by omega) (by decide) (Nat.le_of_ble_eq_true rfl) (by omega) (by omega) ?_
  refine z_astore (lv' := [(4, .ref (sa k)), (0, .ref t), (1, .int (nI k)), (2, .int x), (3, .int z)]) hb dX1_valueAnew_8 (by rw [hN]; decide) rfl ?_
  refine z_aload_n hb dX1_valueAnew_10 rfl ?_
  refine z_get (k := 0) (C := RX1) (T := TX1) (N := 7) hb ho zc0 in_X1 (zf_RX1_41 _) dX1_valueAnew_11 hX (by decide) rfl ?_
  refine z_iload_n hb dX1_valueAnew_14 rfl ?_
  refine z_callTf (b' := 2) (f' := 12) (rest := []) (av := [.ref a, .int x]) (z_siteV hb ho zc1 h1 q1894 q1610 q1611 ⟨_, _, _, _, zk_X2_requireDay⟩ zy_X2_requireDay zl_X2_requireDay dX1_valueAnew_15 : z_Site M _ _ _ _ _ ([.int x].reverse ++ .ref a :: []) [] _) zk_X2_requireDay q95 hrm (z_C.tf (m_X2_requireDay_no h1 hD6 hx)) (by omega) (by decide) (Nat.le_of_ble_eq_true rfl) (by omega) (by omega) (fun q_1 n_2 hq_1 hn_2 => ?_)
  exact z_out ho hH zc27 z_up_s (by omega) (fun _ h => nomatch h) (by rw [hQ]; exact ⟨_, rfl, by omega, by omega, rfl⟩)

set_option maxHeartbeats 1000000 in
theorem m_X1_valueAnew_no3 {l : Launch} {G : zG} {h : zH} {n : Nat} {t : Nat} {x1 x2 x3 x4 x5 x6 : Value} {w : Nat → Int32} {v : Nat → Int64} {R S D a lr ls lv : Nat} {ra sa va : Nat → Nat} {k d : Nat} {x : Int32} (hX : h t = some (.inr (0, [.ref a, x1, x2, x3, x4, x5, x6]))) (hL : z_Ln G h w v R S D a lr ls lv ra sa va) (hk : k < S) (hS8 : S ≤ 8) (hD6 : D ≤ 6) (hd : d ≤ D) (hx : decide (nI 97 ≤ x ∧ x ≤ nI 101) = false) : z_C l G yX1_valueAnew 10 4 19 [.ref t, .int (nI k), .int (nI d), .int x] h n (z_tf 27 [] h n) := by
  refine z_start zk_X1_valueAnew zpl_RX1 (Nat.le_of_ble_eq_true rfl) ?_
  intro hn0 M hl hG ho hb hN hr hm hH hrm hQ
  subst hl hG
  have ho : zm_o M = RX1 := ho
  obtain ⟨h1, ⟨e0, N0, m0, f0, r1, r2, r3, ⟨r4, r4n⟩, r5⟩, ⟨e, N, m9, f, h3, h4, h5, ⟨h6, h6n⟩, h7⟩, ⟨ev, Nv, mv, fv, v1, v2, v3, ⟨v4, v4n⟩, v5⟩, h9, hs, hv, hi, hrI⟩ := id hL
  show z_V M h n 4 19 0 [(0, .ref t), (1, .int (nI k)), (2, .int (nI d)), (3, .int x)] []
  refine z_dom (fun hD0 => ?_)
  refine z_aload_n hb dX1_valueAnew_0 rfl ?_
  refine z_get (k := 0) (C := RX1) (T := TX1) (N := 7) hb ho zc0 in_X1 (zf_RX1_41 _) dX1_valueAnew_1 hX (by decide) rfl ?_
  refine z_iload_n hb dX1_valueAnew_4 rfl ?_
  refine z_call1 (b' := 3) (f' := 13) (rest := []) (av := [.ref a, .int (nI k)]) (z_siteV hb ho zc1 h1 q1842 q1506 q1507 ⟨_, _, _, _, zk_X2_step⟩ zy_X2_step zl_X2_step dX1_valueAnew_5 : z_Site M _ _ _ _ _ ([.int (nI k)].reverse ++ .ref a :: []) [] _) zk_X2_step q95 hrm (m_X2_step hL hS8 hk) (by omega) (by decide) (Nat.le_of_ble_eq_true rfl) (by omega) (by omega) ?_
  refine z_astore (lv' := [(4, .ref (sa k)), (0, .ref t), (1, .int (nI k)), (2, .int (nI d)), (3, .int x)]) hb dX1_valueAnew_8 (by rw [hN]; decide) rfl ?_
  refine z_aload_n hb dX1_valueAnew_10 rfl ?_
  refine z_get (k := 0) (C := RX1) (T := TX1) (N := 7) hb ho zc0 in_X1 (zf_RX1_41 _) dX1_valueAnew_11 hX (by decide) rfl ?_
  refine z_iload_n hb dX1_valueAnew_14 rfl ?_
  refine z_call0 (b' := 2) (f' := 7) (rest := []) (av := [.ref a, .int (nI d)]) (z_siteV hb ho zc1 h1 q1894 q1610 q1611 ⟨_, _, _, _, zk_X2_requireDay⟩ zy_X2_requireDay zl_X2_requireDay dX1_valueAnew_15 : z_Site M _ _ _ _ _ ([.int (nI d)].reverse ++ .ref a :: []) [] _) zk_X2_requireDay q95 hrm (m_X2_requireDay_ok h1 hD6 hd) (by omega) (by decide) (Nat.le_of_ble_eq_true rfl) (by omega) (by omega) ?_
  refine z_dom (fun hD_1 => ?_)
  refine z_new (N0 := 1) (b' := 1) (f' := 6) (fs := [.null]) (C := RX18) (T := TX18) (N := 1) hb ho zc14 in_X18 tyX18_ok q1904 q1905 q140 dX1_valueAnew_18 (zdf_X18) (by omega) (by omega) ?_
  refine z_hn (fun h_2 eh_2 => ?_)
  have eh_2 : h_2 = z_up h n (.inr (14, [.null])) := eh_2
  have k_3 : h_2 t = some (.inr (0, [.ref a, x1, x2, x3, x4, x5, x6])) := z_nx eh_2 (Nat.ne_of_lt (hD_1 _ _ hX)) hX
  have k_4 : h_2 a = some (.inr (1, [.ref lr, .ref ls, .ref lv, .int (nI D), .int (w 2), .int (w 4), .int (w 5), .int (w 6)])) := z_nx eh_2 (Nat.ne_of_lt (hD_1 _ _ h1)) h1
  have k_5 : h_2 lr = some (.inr (20, [.int m0, .ref e0, .int (nI R)])) := z_nx eh_2 (Nat.ne_of_lt (hD_1 _ _ r1)) r1
  have k_6 : h_2 e0 = some (.inl ((zm_G M).2.1 5, N0, .inr (.inr (.inr (.inr f0))))) := z_nx eh_2 (Nat.ne_of_lt (hD_1 _ _ r2)) r2
  have k_7 : h_2 ls = some (.inr (20, [.int m9, .ref e, .int (nI S)])) := z_nx eh_2 (Nat.ne_of_lt (hD_1 _ _ h3)) h3
  have k_8 : h_2 e = some (.inl ((zm_G M).2.1 5, N, .inr (.inr (.inr (.inr f))))) := z_nx eh_2 (Nat.ne_of_lt (hD_1 _ _ h4)) h4
  have k_9 : h_2 lv = some (.inr (20, [.int mv, .ref ev, .int (nI S)])) := z_nx eh_2 (Nat.ne_of_lt (hD_1 _ _ v1)) v1
  have k_10 : h_2 ev = some (.inl ((zm_G M).2.1 5, Nv, .inr (.inr (.inr (.inr fv))))) := z_nx eh_2 (Nat.ne_of_lt (hD_1 _ _ v2)) v2
  refine z_dup hb dX1_valueAnew_21 rfl ?_
  refine z_aload_n hb dX1_valueAnew_22 rfl ?_
  refine z_get (k := 0) (C := RX1) (T := TX1) (N := 7) hb ho zc0 in_X1 (zf_RX1_41 _) dX1_valueAnew_23 k_3 (by decide) rfl ?_
  refine z_call0 (b' := 1) (f' := 6) (rest := [.ref n]) (av := [.ref n, .ref a]) (z_siteI hb ho q1906 q1907 q1908 rfl zy_X18_init zl_X18_init dX1_valueAnew_26 : z_Site M _ _ _ _ _ ([.ref a].reverse ++ .ref n :: [.ref n]) [.ref n] _) zk_X18_init q140 hrm (m_X18_init (z_nxs eh_2) (by omega)) (by omega) (by decide) (Nat.le_of_ble_eq_true rfl) (by omega) (by omega) ?_
  refine z_hn (fun h_11 eh_11 => ?_)
  have eh_11 : h_11 = z_up h_2 n (.inr (14, [.ref a])) := eh_11
  have k_12 : h_11 t = some (.inr (0, [.ref a, x1, x2, x3, x4, x5, x6])) := z_nx eh_11 (Nat.ne_of_lt (hD_1 _ _ hX)) k_3
  have k_13 : h_11 a = some (.inr (1, [.ref lr, .ref ls, .ref lv, .int (nI D), .int (w 2), .int (w 4), .int (w 5), .int (w 6)])) := z_nx eh_11 (Nat.ne_of_lt (hD_1 _ _ h1)) k_4
  have k_14 : h_11 lr = some (.inr (20, [.int m0, .ref e0, .int (nI R)])) := z_nx eh_11 (Nat.ne_of_lt (hD_1 _ _ r1)) k_5
  have k_15 : h_11 e0 = some (.inl ((zm_G M).2.1 5, N0, .inr (.inr (.inr (.inr f0))))) := z_nx eh_11 (Nat.ne_of_lt (hD_1 _ _ r2)) k_6
  have k_16 : h_11 ls = some (.inr (20, [.int m9, .ref e, .int (nI S)])) := z_nx eh_11 (Nat.ne_of_lt (hD_1 _ _ h3)) k_7
  have k_17 : h_11 e = some (.inl ((zm_G M).2.1 5, N, .inr (.inr (.inr (.inr f))))) := z_nx eh_11 (Nat.ne_of_lt (hD_1 _ _ h4)) k_8
  have k_18 : h_11 lv = some (.inr (20, [.int mv, .ref ev, .int (nI S)])) := z_nx eh_11 (Nat.ne_of_lt (hD_1 _ _ v1)) k_9
  have k_19 : h_11 ev = some (.inl ((zm_G M).2.1 5, Nv, .inr (.inr (.inr (.inr fv))))) := z_nx eh_11 (Nat.ne_of_lt (hD_1 _ _ v2)) k_10
  refine z_aload hb dX1_valueAnew_29 rfl ?_
  refine z_iload_n hb dX1_valueAnew_31 rfl ?_
  refine z_iload_n hb dX1_valueAnew_32 rfl ?_
  refine z_callTf (b' := 0) (f' := 0) (rest := [.int (nI d), .ref (sa k), .ref n]) (av := [.int x]) (z_siteS hb ho q1895 q1132 q94 ⟨_, _, _, _, zk_X1_groupNumber⟩ zy_X1_groupNumber zl_X1_groupNumber dX1_valueAnew_33 : z_Site M _ _ _ _ _ ([.int x].reverse ++ [.int (nI d), .ref (sa k), .ref n]) [.int (nI d), .ref (sa k), .ref n] _) zk_X1_groupNumber q94 hrm (z_C.tf (m_X1_groupNumber_no hx)) (by omega) (by decide) (Nat.le_of_ble_eq_true rfl) (by omega) (by omega) (fun q_20 n_21 hq_20 hn_21 => ?_)
  refine z_lessX (z_ex_up (z_exW hD0 (by omega) eh_11 (z_exN z_ex_r hD_1 eh_2))) ?_
  exact z_out ho hH zc27 z_up_s (by omega) (fun _ h => nomatch h) (by rw [hQ]; exact ⟨_, rfl, by omega, by omega, rfl⟩)


def z_yi : Nat → MethodName
  | 11 => yX14_isFromStale
  | 12 => yX16_isFromStale
  | 13 => yX17_isFromStale
  | _ => yX10_isFromStale
theorem z_any_s {w : Nat → Int32} {a : Nat} : ∀ d, tw_any w a (d + 1) = (tw_st w a d || tw_any w a d) := fun d => by rw [tw_any, Bool.or_comm]

set_option maxHeartbeats 1000000 in
theorem m_X10_isFromStale {l : Launch} {G : zG} {h : zH} {n : Nat} {t a : Nat} {d : Int32}  : z_C l G yX10_isFromStale 8 0 0 [.ref t, .ref a, .int d] h n (z_rn (.int (z_b false)) h) := by
  refine z_start zk_X10_isFromStale zpl_RX10 (Nat.le_of_ble_eq_true rfl) ?_
  intro hn0 M hl hG ho hb hN hr hm hH hrm hQ
  subst hl hG
  have ho : zm_o M = RX10 := ho
  show z_V M h n 0 0 0 [(0, .ref t), (1, .ref a), (2, .int d)] []
  refine z_dom (fun hD0 => ?_)
  refine z_iconst (x := nI 0) hb dX10_isFromStale_0 (by decide) ?_
  refine z_zret hb hr rfl dX10_isFromStale_1 ?_
  rw [hQ]
  exact ⟨rfl, rfl⟩

set_option maxHeartbeats 1000000 in
theorem m_X14_isFromStale {l : Launch} {G : zG} {h : zH} {n : Nat} {w : Nat → Int32} {v : Nat → Int64} {R S D a lr ls lv : Nat} {ra sa va : Nat → Nat} {k d : Nat} {kd : Nat} {s9 : Int32} (hL : z_Ln G h w v R S D a lr ls lv ra sa va) (hS8 : S ≤ 8) (hD6 : D ≤ 6) (hk : k < S) (hd : d ≤ D) (hf : tw_f w k < k) (hs2 : tw_s w k < k) (hx : h (sa k) = some (.inr (11, [.int (nI kd), .ref (sa (tw_f w k)), .ref (sa (tw_s w k)), .int s9]))) (hkd : w (176 + 4 * k) = nI kd) (hkc : kd = 43 ∨ kd = 45) : z_C l G yX14_isFromStale 8 0 0 [.ref (sa k), .ref a, .int (nI d)] h n (z_rn (.int (z_b (tw_from w k d))) h) := by
  refine z_start zk_X14_isFromStale zpl_RX14 (Nat.le_of_ble_eq_true rfl) ?_
  intro hn0 M hl hG ho hb hN hr hm hH hrm hQ
  subst hl hG
  have ho : zm_o M = RX14 := ho
  obtain ⟨h1, ⟨e0, N0, m0, f0, r1, r2, r3, ⟨r4, r4n⟩, r5⟩, ⟨e, N, m9, f, h3, h4, h5, ⟨h6, h6n⟩, h7⟩, ⟨ev, Nv, mv, fv, v1, v2, v3, ⟨v4, v4n⟩, v5⟩, h9, hs, hv, hi, hrI⟩ := id hL
  show z_V M h n 0 0 0 [(0, .ref (sa k)), (1, .ref a), (2, .int (nI d))] []
  refine z_dom (fun hD0 => ?_)
  refine z_aload_n hb dX14_isFromStale_0 rfl ?_
  refine z_aload_n hb dX14_isFromStale_1 rfl ?_
  refine z_get (k := 1) (C := RX14) (T := TX14) (N := 4) hb ho zc11 in_X14 (zf_RX14_7 _) dX14_isFromStale_2 hx (by decide) rfl ?_
  refine z_iload_n hb dX14_isFromStale_5 rfl ?_
  refine z_call1 (b' := 0) (f' := 0) (rest := []) (av := [.ref a, .ref (sa (tw_f w k)), .int (nI d)]) (z_siteV hb ho zc1 h1 q1328 q1318 q1319 ⟨_, _, _, _, zk_X2_isStale⟩ zy_X2_isStale zl_X2_isStale dX14_isFromStale_6 : z_Site M _ _ _ _ _ ([.ref (sa (tw_f w k)), .int (nI d)].reverse ++ .ref a :: []) [] _) zk_X2_isStale q95 hrm (m_X2_isStale hL (show tw_f w k < S by omega) hS8 hD6 (show d ≤ D by omega)) (by omega) (by decide) (Nat.le_of_ble_eq_true rfl) (by omega) (by omega) ?_
  refine z_ifb_ne (tgt := 24) hb dX14_isFromStale_9 (by decide) (fun c_9 => ?_) (fun c_9 => ?_)
  · refine z_iconst (x := nI 1) hb dX14_isFromStale_24 (by decide) ?_
    refine z_goto (tgt := 29) hb dX14_isFromStale_25 (by decide) ?_
    refine z_zret hb hr rfl dX14_isFromStale_29 ?_
    rw [hQ]
    have hkn : tw_base w k = false := z_kn hkd (by omega)
    have hk3 : w (176 + 4 * k) ≠ nI 114 := by rcases hkc with z | z <;> rw [hkd, z] <;> decide
    exact z_rn_e (by unfold tw_from; rw [hkn]; simp [c_9, hk3, z_b]; try rfl)
  · refine z_aload_n hb dX14_isFromStale_12 rfl ?_
    refine z_aload_n hb dX14_isFromStale_13 rfl ?_
    refine z_get (k := 2) (C := RX14) (T := TX14) (N := 4) hb ho zc11 in_X14 (zf_RX14_13 _) dX14_isFromStale_14 hx (by decide) rfl ?_
    refine z_iload_n hb dX14_isFromStale_17 rfl ?_
    refine z_call1 (b' := 0) (f' := 0) (rest := []) (av := [.ref a, .ref (sa (tw_s w k)), .int (nI d)]) (z_siteV hb ho zc1 h1 q1328 q1318 q1319 ⟨_, _, _, _, zk_X2_isStale⟩ zy_X2_isStale zl_X2_isStale dX14_isFromStale_18 : z_Site M _ _ _ _ _ ([.ref (sa (tw_s w k)), .int (nI d)].reverse ++ .ref a :: []) [] _) zk_X2_isStale q95 hrm (m_X2_isStale hL (show tw_s w k < S by omega) hS8 hD6 (show d ≤ D by omega)) (by omega) (by decide) (Nat.le_of_ble_eq_true rfl) (by omega) (by omega) ?_
    refine z_ifb_eq (tgt := 28) hb dX14_isFromStale_21 (by decide) (fun c_21 => ?_) (fun c_21 => ?_)
    · refine z_iconst (x := nI 0) hb dX14_isFromStale_28 (by decide) ?_
      refine z_zret hb hr rfl dX14_isFromStale_29 ?_
      rw [hQ]
      have hkn : tw_base w k = false := z_kn hkd (by omega)
      have hk3 : w (176 + 4 * k) ≠ nI 114 := by rcases hkc with z | z <;> rw [hkd, z] <;> decide
      exact z_rn_e (by unfold tw_from; rw [hkn]; simp [c_9, c_21, hk3, z_b]; try rfl)
    · refine z_iconst (x := nI 1) hb dX14_isFromStale_24 (by decide) ?_
      refine z_goto (tgt := 29) hb dX14_isFromStale_25 (by decide) ?_
      refine z_zret hb hr rfl dX14_isFromStale_29 ?_
      rw [hQ]
      have hkn : tw_base w k = false := z_kn hkd (by omega)
      have hk3 : w (176 + 4 * k) ≠ nI 114 := by rcases hkc with z | z <;> rw [hkd, z] <;> decide
      exact z_rn_e (by unfold tw_from; rw [hkn]; simp [c_9, c_21, hk3, z_b]; try rfl)

set_option maxHeartbeats 1000000 in
theorem m_X17_isFromStale {l : Launch} {G : zG} {h : zH} {n : Nat} {w : Nat → Int32} {v : Nat → Int64} {R S D a lr ls lv : Nat} {ra sa va : Nat → Nat} {k d : Nat} (hL : z_Ln G h w v R S D a lr ls lv ra sa va) (hS8 : S ≤ 8) (hD6 : D ≤ 6) (hk : k < S) (hd : d ≤ D) (hf : tw_f w k < k) (hs2 : tw_s w k = tw_f w k) (hx : h (sa k) = some (.inr (13, [.ref (sa (tw_f w k)), .int (nI 107), .int (w (176 + 4 * k + 1))]))) (hkd : w (176 + 4 * k) = nI 107) : z_C l G yX17_isFromStale 8 0 0 [.ref (sa k), .ref a, .int (nI d)] h n (z_rn (.int (z_b (tw_from w k d))) h) := by
  refine z_start zk_X17_isFromStale zpl_RX17 (Nat.le_of_ble_eq_true rfl) ?_
  intro hn0 M hl hG ho hb hN hr hm hH hrm hQ
  subst hl hG
  have ho : zm_o M = RX17 := ho
  obtain ⟨h1, ⟨e0, N0, m0, f0, r1, r2, r3, ⟨r4, r4n⟩, r5⟩, ⟨e, N, m9, f, h3, h4, h5, ⟨h6, h6n⟩, h7⟩, ⟨ev, Nv, mv, fv, v1, v2, v3, ⟨v4, v4n⟩, v5⟩, h9, hs, hv, hi, hrI⟩ := id hL
  show z_V M h n 0 0 0 [(0, .ref (sa k)), (1, .ref a), (2, .int (nI d))] []
  refine z_dom (fun hD0 => ?_)
  refine z_aload_n hb dX17_isFromStale_0 rfl ?_
  refine z_aload_n hb dX17_isFromStale_1 rfl ?_
  refine z_call1 (b' := 0) (f' := 0) (rest := [.ref a]) (av := [.ref (sa k)]) (z_siteU hb ho zc13 hx q687 q688 (Or.inl q689) q691 q690 ⟨by decide +kernel, by decide +kernel⟩ (by show _ = some 0; decide +kernel) dX17_isFromStale_2 : z_Site M _ _ _ _ _ ([].reverse ++ .ref (sa k) :: [.ref a]) [.ref a] _) zk_X15_input q134 hrm (m_X15_input_13 hx) (by omega) (by decide) (Nat.le_of_ble_eq_true rfl) (by omega) (by omega) ?_
  refine z_iload_n hb dX17_isFromStale_5 rfl ?_
  refine z_call1 (b' := 0) (f' := 0) (rest := []) (av := [.ref a, .ref (sa (tw_f w k)), .int (nI d)]) (z_siteV hb ho zc1 h1 q1317 q1318 q1319 ⟨_, _, _, _, zk_X2_isStale⟩ zy_X2_isStale zl_X2_isStale dX17_isFromStale_6 : z_Site M _ _ _ _ _ ([.ref (sa (tw_f w k)), .int (nI d)].reverse ++ .ref a :: []) [] _) zk_X2_isStale q95 hrm (m_X2_isStale hL (show tw_f w k < S by omega) hS8 hD6 (show d ≤ D by omega)) (by omega) (by decide) (Nat.le_of_ble_eq_true rfl) (by omega) (by omega) ?_
  refine z_zret hb hr (z_bnar _) dX17_isFromStale_9 ?_
  rw [hQ]
  have hkn : tw_base w k = false := z_kn hkd (by simp)
  exact z_rn_e (by unfold tw_from; rw [hkn, hs2, hkd, show decide (nI 107 = nI 114) = false from by decide]; simp)

set_option maxHeartbeats 1000000 in
theorem m_X16_isFromStale {l : Launch} {G : zG} {h : zH} {n : Nat} {w : Nat → Int32} {v : Nat → Int64} {R S D a lr ls lv : Nat} {ra sa va : Nat → Nat} {k d : Nat} (hL : z_Ln G h w v R S D a lr ls lv ra sa va) (hS8 : S ≤ 8) (hD6 : D ≤ 6) (hk : k < S) (hd : d ≤ D) (hf : tw_f w k < k) (hs2 : tw_s w k = tw_f w k) (hx : h (sa k) = some (.inr (12, [.ref (sa (tw_f w k)), .int (nI 114)]))) (hkd : w (176 + 4 * k) = nI 114) : z_C l G yX16_isFromStale 8 0 0 [.ref (sa k), .ref a, .int (nI d)] h n (z_rn (.int (z_b (tw_from w k d))) h) := by
  refine z_start zk_X16_isFromStale zpl_RX16 (Nat.le_of_ble_eq_true rfl) ?_
  intro hn0 M hl hG ho hb hN hr hm hH hrm hQ
  subst hl hG
  have ho : zm_o M = RX16 := ho
  obtain ⟨h1, ⟨e0, N0, m0, f0, r1, r2, r3, ⟨r4, r4n⟩, r5⟩, ⟨e, N, m9, f, h3, h4, h5, ⟨h6, h6n⟩, h7⟩, ⟨ev, Nv, mv, fv, v1, v2, v3, ⟨v4, v4n⟩, v5⟩, h9, hs, hv, hi, hrI⟩ := id hL
  show z_V M h n 0 0 0 [(0, .ref (sa k)), (1, .ref a), (2, .int (nI d))] []
  refine z_dom (fun hD0 => ?_)
  refine z_iconst (x := nI 0) hb dX16_isFromStale_0 (by decide) ?_
  refine z_istore_n (lv' := [(3, .int (nI 0)), (0, .ref (sa k)), (1, .ref a), (2, .int (nI d))]) hb dX16_isFromStale_1 (by rw [hN]; decide) rfl ?_
  refine z_iconst (x := nI 0) hb dX16_isFromStale_2 (by decide) ?_
  refine z_istore (lv' := [(4, .int (nI 0)), (3, .int (nI 0)), (0, .ref (sa k)), (1, .ref a), (2, .int (nI d))]) hb dX16_isFromStale_3 (by rw [hN]; decide) rfl ?_
  have lp_5 : ∀ (k9_5 : Nat) (nno : Nat) (e : Nat), d + 2 - e < k9_5 → (n ≤ nno) → (e ≤ d + 1) → z_V M h nno 0 0 5 [(4, .int (nI e)), (3, .int (z_b (tw_any w (tw_f w k) e))), (0, .ref (sa k)), (1, .ref a), (2, .int (nI d))] [] := by
    intro k9_5
    induction k9_5 with
    | zero => intro nno e hk9_5; exact absurd hk9_5 (Nat.not_lt_zero _)
    | succ k9_5 ih_5 =>
      intro nno e hk9_5 hnno he
      refine z_iload hb dX16_isFromStale_5 rfl ?_
      refine z_iload_n hb dX16_isFromStale_7 rfl ?_
      refine z_icmp_gtN (tgt := 30) hb dX16_isFromStale_8 (by decide) (by omega) (by omega) (fun c_8 => ?_) (fun c_8 => ?_)
      · refine z_iload_n hb dX16_isFromStale_30 rfl ?_
        refine z_zret hb hr (z_bnar _) dX16_isFromStale_31 ?_
        rw [hQ]
        have hkn : tw_base w k = false := z_kn hkd (by simp)
        obtain rfl : e = d + 1 := by omega
        exact z_rn_e (by unfold tw_from; rw [hkn, hs2, hkd, z_any_s]; simp)
      · refine z_iload_n hb dX16_isFromStale_11 rfl ?_
        refine z_aload_n hb dX16_isFromStale_12 rfl ?_
        refine z_aload_n hb dX16_isFromStale_13 rfl ?_
        refine z_call1 (b' := 0) (f' := 0) (rest := [.ref a, .int (z_b (tw_any w (tw_f w k) e))]) (av := [.ref (sa k)]) (z_siteU hb ho zc12 hx q751 q752 (Or.inl q689) q691 q753 ⟨by decide +kernel, by decide +kernel⟩ (by show _ = some 0; decide +kernel) dX16_isFromStale_14 : z_Site M _ _ _ _ _ ([].reverse ++ .ref (sa k) :: [.ref a, .int (z_b (tw_any w (tw_f w k) e))]) [.ref a, .int (z_b (tw_any w (tw_f w k) e))] _) zk_X15_input q134 hrm (m_X15_input_12 hx) (by omega) (by decide) (Nat.le_of_ble_eq_true rfl) (by omega) (by omega) ?_
        refine z_iload hb dX16_isFromStale_17 rfl ?_
        refine z_call1 (b' := 0) (f' := 0) (rest := [.int (z_b (tw_any w (tw_f w k) e))]) (av := [.ref a, .ref (sa (tw_f w k)), .int (nI e)]) (z_siteV hb ho zc1 h1 q1332 q1318 q1319 ⟨_, _, _, _, zk_X2_isStale⟩ zy_X2_isStale zl_X2_isStale dX16_isFromStale_19 : z_Site M _ _ _ _ _ ([.ref (sa (tw_f w k)), .int (nI e)].reverse ++ .ref a :: [.int (z_b (tw_any w (tw_f w k) e))]) [.int (z_b (tw_any w (tw_f w k) e))] _) zk_X2_isStale q95 hrm (m_X2_isStale hL (show tw_f w k < S by omega) hS8 hD6 (show e ≤ D by omega)) (by omega) (by decide) (Nat.le_of_ble_eq_true rfl) (by omega) (by omega) ?_
        refine z_ior hb dX16_isFromStale_22 ?_
        refine z_toI (y := z_b (tw_any w (tw_f w k) (e + 1))) (z_b_or _ _) ?_
        refine z_istore_n (lv' := [(3, .int (z_b (tw_any w (tw_f w k) (e + 1)))), (4, .int (nI e)), (0, .ref (sa k)), (1, .ref a), (2, .int (nI d))]) hb dX16_isFromStale_23 (by rw [hN]; decide) rfl ?_
        refine z_iinc (k0 := 1) (lv' := [(4, .int (nI (e + 1))), (3, .int (z_b (tw_any w (tw_f w k) (e + 1)))), (0, .ref (sa k)), (1, .ref a), (2, .int (nI d))]) hb dX16_isFromStale_24 rfl (nI_1 e) (by rw [hN]; decide) rfl ?_
        refine z_goto (tgt := 5) hb dX16_isFromStale_27 (by decide) ?_
        refine z_lv [0, 1, 2, 3, 4] (lv' := [(4, .int (nI (e + 1))), (3, .int (z_b (tw_any w (tw_f w k) (e + 1)))), (0, .ref (sa k)), (1, .ref a), (2, .int (nI d))]) rfl ?_
        exact ih_5 nno (e + 1) (by omega) (by omega) (by omega)
  refine z_lv [0, 1, 2, 3, 4] (lv' := [(4, .int (nI 0)), (3, .int (nI 0)), (0, .ref (sa k)), (1, .ref a), (2, .int (nI d))]) rfl ?_
  exact lp_5 _ n 0 (Nat.lt_succ_self _) (by omega) (Nat.zero_le _)

