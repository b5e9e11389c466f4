set_option maxHeartbeats 1000000 in
theorem m_X1_latestDenial_ok {l : Launch} {G : zG} {h : zH} {n : Nat} {x la pa bu li d : Nat} {fa : Int32} {sn : Option Nat} (hO : h x = some (z_Ob la pa bu li fa (some d) sn)) : z_C l G yX1_latestDenial 7 1 6 [.ref x] h n (z_rv (.ref d) h n) := by
  refine z_start zk_X1_latestDenial zpl_RX1 (Nat.le_of_ble_eq_true rfl) ?_
  intro hn0 M hl hG ho hb hN hr hm hH hrm hQ
  subst hl hG
  have ho : zm_o M = RX1 := ho
  show z_V M h n 1 6 0 [(0, .ref x)] []
  refine z_aload_n hb dX1_latestDenial_0 rfl ?_
  refine z_get (k := 5) (C := RX1) (T := TX1) (N := 7) hb ho zc0 in_X1 (zf_RX1_81 _) dX1_latestDenial_1 hO (by decide) rfl ?_
  refine z_ifnull hb dX1_latestDenial_4 ?_
  refine z_iconst (x := nI 1) hb dX1_latestDenial_7 (by decide) ?_
  refine z_toI (y := z_b true) (by decide) ?_
  refine z_goto (tgt := 12) hb dX1_latestDenial_8 (by decide) ?_
  refine z_callC0 (b' := 0) (f' := 0) (rest := []) (av := [.int (z_b true)]) (z_siteS hb ho q1724 q1368 q94 ⟨_, _, _, _, zk_X1_requireElement⟩ zy_X1_requireElement zl_X1_requireElement dX1_latestDenial_12 : z_Site M _ _ _ _ _ ([.int (z_b true)].reverse ++ []) [] _) zk_X1_requireElement q94 hrm (m_X1_requireElement true) (by omega) (by decide) (Nat.le_of_ble_eq_true rfl) (by omega) (by omega) (fun c_12 => ?_) (fun c_12 => ?_)
  · refine z_aload_n hb dX1_latestDenial_15 rfl ?_
    refine z_get (k := 5) (C := RX1) (T := TX1) (N := 7) hb ho zc0 in_X1 (zf_RX1_81 _) dX1_latestDenial_16 hO (by decide) rfl ?_
    refine z_aret hb hr (Or.inl ⟨_, rfl⟩) (Or.inr ⟨_, rfl⟩) dX1_latestDenial_19 ?_
    rw [hQ]
    exact ⟨rfl, rfl, rfl⟩
  · cases c_12

set_option maxHeartbeats 1000000 in
theorem m_X1_latestDenial_no {l : Launch} {G : zG} {h : zH} {n : Nat} {x la pa bu li : Nat} {fa : Int32} {sn : Option Nat} (hO : h x = some (z_Ob la pa bu li fa none sn)) : z_C l G yX1_latestDenial 7 1 6 [.ref x] h n (z_thr (z_up h n (.inr (26, []))) (n + 1) n) := by
  refine z_start zk_X1_latestDenial zpl_RX1 (Nat.le_of_ble_eq_true rfl) ?_
  intro hn0 M hl hG ho hb hN hr hm hH hrm hQ
  subst hl hG
  have ho : zm_o M = RX1 := ho
  show z_V M h n 1 6 0 [(0, .ref x)] []
  refine z_aload_n hb dX1_latestDenial_0 rfl ?_
  refine z_get (k := 5) (C := RX1) (T := TX1) (N := 7) hb ho zc0 in_X1 (zf_RX1_81 _) dX1_latestDenial_1 hO (by decide) rfl ?_
  refine z_ifnullN (tgt := 11) hb dX1_latestDenial_4 (by decide) ?_
  refine z_iconst (x := nI 0) hb dX1_latestDenial_11 (by decide) ?_
  refine z_toI (y := z_b false) (by decide) ?_
  refine z_callC0 (b' := 0) (f' := 0) (rest := []) (av := [.int (z_b false)]) (z_siteS hb ho q1724 q1368 q94 ⟨_, _, _, _, zk_X1_requireElement⟩ zy_X1_requireElement zl_X1_requireElement dX1_latestDenial_12 : z_Site M _ _ _ _ _ ([.int (z_b false)].reverse ++ []) [] _) zk_X1_requireElement q94 hrm (m_X1_requireElement false) (by omega) (by decide) (Nat.le_of_ble_eq_true rfl) (by omega) (by omega) (fun c_12 => ?_) (fun c_12 => ?_)
  · cases c_12
  · exact z_out ho hH zc26 z_up_s (by omega) (fun _ h => nomatch h) (by rw [hQ]; exact ⟨rfl, rfl, rfl⟩)

set_option maxHeartbeats 1000000 in
theorem m_X1_denial_ok {l : Launch} {G : zG} {h : zH} {n : Nat} {x la pa bu li d : Nat} {fa : Int32} {sn : Option Nat} {nu dt : Int32} {cz : Option Nat} (hO : h x = some (z_Ob la pa bu li fa (some d) sn)) (hd : h d = some (.inr (5, [va_rf cz, .null, .null, .null, .null, .int (nI 0), .int nu, .int dt]))) : z_C l G yX1_denial 8 1 6 [.ref x] h n (z_rv (.int nu) h n) := by
  refine z_start zk_X1_denial zpl_RX1 (Nat.le_of_ble_eq_true rfl) ?_
  intro hn0 M hl hG ho hb hN hr hm hH hrm hQ
  subst hl hG
  have ho : zm_o M = RX1 := ho
  show z_V M h n 1 6 0 [(0, .ref x)] []
  refine z_aload_n hb dX1_denial_0 rfl ?_
  refine z_call1 (b' := 0) (f' := 0) (rest := []) (av := [.ref x]) (z_siteV hb ho zc0 hO q2618 q2620 qs29 ⟨_, _, _, _, zk_X1_latestDenial⟩ zy_X1_latestDenial zl_X1_latestDenial dX1_denial_1 : z_Site M _ _ _ _ _ ([].reverse ++ .ref x :: []) [] _) zk_X1_latestDenial q94 hrm (m_X1_latestDenial_ok hO) (by omega) (by decide) (Nat.le_of_ble_eq_true rfl) (by omega) (by omega) ?_
  refine z_get (k := 6) (C := RX6) (T := TX6) (N := 8) hb ho zc5 in_X6 (zf_RX1_426 _) dX1_denial_4 hd (by decide) rfl ?_
  refine z_iret hb hr dX1_denial_7 ?_
  rw [hQ]
  exact ⟨rfl, rfl, rfl⟩

set_option maxHeartbeats 1000000 in
theorem m_X1_denialDetail_ok {l : Launch} {G : zG} {h : zH} {n : Nat} {x la pa bu li d : Nat} {fa : Int32} {sn : Option Nat} {nu dt : Int32} {cz : Option Nat} (hO : h x = some (z_Ob la pa bu li fa (some d) sn)) (hd : h d = some (.inr (5, [va_rf cz, .null, .null, .null, .null, .int (nI 0), .int nu, .int dt]))) : z_C l G yX1_denialDetail 8 1 6 [.ref x] h n (z_rv (.int dt) h n) := by
  refine z_start zk_X1_denialDetail zpl_RX1 (Nat.le_of_ble_eq_true rfl) ?_
  intro hn0 M hl hG ho hb hN hr hm hH hrm hQ
  subst hl hG
  have ho : zm_o M = RX1 := ho
  show z_V M h n 1 6 0 [(0, .ref x)] []
  refine z_aload_n hb dX1_denialDetail_0 rfl ?_
  refine z_call1 (b' := 0) (f' := 0) (rest := []) (av := [.ref x]) (z_siteV hb ho zc0 hO q2618 q2620 qs29 ⟨_, _, _, _, zk_X1_latestDenial⟩ zy_X1_latestDenial zl_X1_latestDenial dX1_denialDetail_1 : z_Site M _ _ _ _ _ ([].reverse ++ .ref x :: []) [] _) zk_X1_latestDenial q94 hrm (m_X1_latestDenial_ok hO) (by omega) (by decide) (Nat.le_of_ble_eq_true rfl) (by omega) (by omega) ?_
  refine z_get (k := 7) (C := RX6) (T := TX6) (N := 8) hb ho zc5 in_X6 (zf_RX1_427 _) dX1_denialDetail_4 hd (by decide) rfl ?_
  refine z_iret hb hr dX1_denialDetail_7 ?_
  rw [hQ]
  exact ⟨rfl, rfl, rfl⟩

set_option maxHeartbeats 1000000 in
theorem m_X1_denial_no {l : Launch} {G : zG} {h : zH} {n : Nat} {x la pa bu li : Nat} {fa : Int32} {sn : Option Nat} (hO : h x = some (z_Ob la pa bu li fa none sn)) : z_C l G yX1_denial 8 1 6 [.ref x] h n (z_thr (z_up h n (.inr (26, []))) (n + 1) n) := by
  refine z_start zk_X1_denial zpl_RX1 (Nat.le_of_ble_eq_true rfl) ?_
  intro hn0 M hl hG ho hb hN hr hm hH hrm hQ
  subst hl hG
  have ho : zm_o M = RX1 := ho
  show z_V M h n 1 6 0 [(0, .ref x)] []
  refine z_aload_n hb dX1_denial_0 rfl ?_
  refine z_callT (b' := 0) (f' := 0) (rest := []) (av := [.ref x]) (z_siteV hb ho zc0 hO q2618 q2620 qs29 ⟨_, _, _, _, zk_X1_latestDenial⟩ zy_X1_latestDenial zl_X1_latestDenial dX1_denial_1 : z_Site M _ _ _ _ _ ([].reverse ++ .ref x :: []) [] _) zk_X1_latestDenial q94 hrm (m_X1_latestDenial_no hO) (by omega) (by decide) (Nat.le_of_ble_eq_true rfl) (by omega) (by omega) ?_
  exact z_out ho hH zc26 z_up_s (by omega) (fun _ h => nomatch h) (by rw [hQ]; exact ⟨rfl, rfl, rfl⟩)

set_option maxHeartbeats 1000000 in
theorem m_X1_denialDetail_no {l : Launch} {G : zG} {h : zH} {n : Nat} {x la pa bu li : Nat} {fa : Int32} {sn : Option Nat} (hO : h x = some (z_Ob la pa bu li fa none sn)) : z_C l G yX1_denialDetail 8 1 6 [.ref x] h n (z_thr (z_up h n (.inr (26, []))) (n + 1) n) := by
  refine z_start zk_X1_denialDetail zpl_RX1 (Nat.le_of_ble_eq_true rfl) ?_
  intro hn0 M hl hG ho hb hN hr hm hH hrm hQ
  subst hl hG
  have ho : zm_o M = RX1 := ho
  show z_V M h n 1 6 0 [(0, .ref x)] []
  refine z_aload_n hb dX1_denialDetail_0 rfl ?_
  refine z_callT (b' := 0) (f' := 0) (rest := []) (av := [.ref x]) (z_siteV hb ho zc0 hO q2618 q2620 qs29 ⟨_, _, _, _, zk_X1_latestDenial⟩ zy_X1_latestDenial zl_X1_latestDenial dX1_denialDetail_1 : z_Site M _ _ _ _ _ ([].reverse ++ .ref x :: []) [] _) zk_X1_latestDenial q94 hrm (m_X1_latestDenial_no hO) (by omega) (by decide) (Nat.le_of_ble_eq_true rfl) (by omega) (by omega) ?_
  exact z_out ho hH zc26 z_up_s (by omega) (fun _ h => nomatch h) (by rw [hQ]; exact ⟨rfl, rfl, rfl⟩)

set_option maxHeartbeats 1000000 in
theorem m_X1_denialCause_no {l : Launch} {G : zG} {h : zH} {n : Nat} {x la pa bu li : Nat} {fa : Int32} {sn : Option Nat} (hO : h x = some (z_Ob la pa bu li fa none sn)) : z_C l G yX1_denialCause 8 1 6 [.ref x] h n (z_thr (z_up h n (.inr (26, []))) (n + 1) n) := by
  refine z_start zk_X1_denialCause zpl_RX1 (Nat.le_of_ble_eq_true rfl) ?_
  intro hn0 M hl hG ho hb hN hr hm hH hrm hQ
  subst hl hG
  have ho : zm_o M = RX1 := ho
  show z_V M h n 1 6 0 [(0, .ref x)] []
  refine z_aload_n hb dX1_denialCause_0 rfl ?_
  refine z_callT (b' := 0) (f' := 0) (rest := []) (av := [.ref x]) (z_siteV hb ho zc0 hO q2618 q2620 qs29 ⟨_, _, _, _, zk_X1_latestDenial⟩ zy_X1_latestDenial zl_X1_latestDenial dX1_denialCause_1 : z_Site M _ _ _ _ _ ([].reverse ++ .ref x :: []) [] _) zk_X1_latestDenial q94 hrm (m_X1_latestDenial_no hO) (by omega) (by decide) (Nat.le_of_ble_eq_true rfl) (by omega) (by omega) ?_
  exact z_out ho hH zc26 z_up_s (by omega) (fun _ h => nomatch h) (by rw [hQ]; exact ⟨rfl, rfl, rfl⟩)

set_option maxHeartbeats 1000000 in
theorem m_X1_faultPosition_ok {l : Launch} {G : zG} {h : zH} {n : Nat} {x la pa bu li : Nat} {fa : Int32} {de sn : Option Nat} (hO : h x = some (z_Ob la pa bu li fa de sn)) (hfa : fa ≠ -1) : z_C l G yX1_faultPosition 7 1 6 [.ref x] h n (z_rv (.int fa) h n) := by
  refine z_start zk_X1_faultPosition zpl_RX1 (Nat.le_of_ble_eq_true rfl) ?_
  intro hn0 M hl hG ho hb hN hr hm hH hrm hQ
  subst hl hG
  have ho : zm_o M = RX1 := ho
  show z_V M h n 1 6 0 [(0, .ref x)] []
  refine z_aload_n hb dX1_faultPosition_0 rfl ?_
  refine z_get (k := 4) (C := RX1) (T := TX1) (N := 7) hb ho zc0 in_X1 (zf_RX1_65 _) dX1_faultPosition_1 hO (by decide) rfl ?_
  refine z_iconst (x := (-1)) hb dX1_faultPosition_4 (by decide) ?_
  refine z_icmp_eq (tgt := 12) hb dX1_faultPosition_5 (by decide) (fun c_5 => ?_) (fun c_5 => ?_)
  · exact absurd (by simpa using c_5) hfa
  · refine z_iconst (x := nI 1) hb dX1_faultPosition_8 (by decide) ?_
    refine z_toI (y := z_b true) (by decide) ?_
    refine z_goto (tgt := 13) hb dX1_faultPosition_9 (by decide) ?_
    refine z_callC0 (b' := 0) (f' := 0) (rest := []) (av := [.int (z_b true)]) (z_siteS hb ho q1724 q1368 q94 ⟨_, _, _, _, zk_X1_requireElement⟩ zy_X1_requireElement zl_X1_requireElement dX1_faultPosition_13 : z_Site M _ _ _ _ _ ([.int (z_b true)].reverse ++ []) [] _) zk_X1_requireElement q94 hrm (m_X1_requireElement true) (by omega) (by decide) (Nat.le_of_ble_eq_true rfl) (by omega) (by omega) (fun c_13 => ?_) (fun c_13 => ?_)
    · refine z_aload_n hb dX1_faultPosition_16 rfl ?_
      refine z_get (k := 4) (C := RX1) (T := TX1) (N := 7) hb ho zc0 in_X1 (zf_RX1_65 _) dX1_faultPosition_17 hO (by decide) rfl ?_
      refine z_iret hb hr dX1_faultPosition_20 ?_
      rw [hQ]
      exact ⟨rfl, rfl, rfl⟩
    · cases c_13

set_option maxHeartbeats 1000000 in
theorem m_X1_faultPosition_no {l : Launch} {G : zG} {h : zH} {n : Nat} {x la pa bu li : Nat} {fa : Int32} {de sn : Option Nat} (hO : h x = some (z_Ob la pa bu li fa de sn)) (hfa : fa = -1) : z_C l G yX1_faultPosition 7 1 6 [.ref x] h n (z_thr (z_up h n (.inr (26, []))) (n + 1) n) := by
  refine z_start zk_X1_faultPosition zpl_RX1 (Nat.le_of_ble_eq_true rfl) ?_
  intro hn0 M hl hG ho hb hN hr hm hH hrm hQ
  subst hl hG
  have ho : zm_o M = RX1 := ho
  show z_V M h n 1 6 0 [(0, .ref x)] []
  refine z_aload_n hb dX1_faultPosition_0 rfl ?_
  refine z_get (k := 4) (C := RX1) (T := TX1) (N := 7) hb ho zc0 in_X1 (zf_RX1_65 _) dX1_faultPosition_1 hO (by decide) rfl ?_
  refine z_iconst (x := (-1)) hb dX1_faultPosition_4 (by decide) ?_
  refine z_icmp_eq (tgt := 12) hb dX1_faultPosition_5 (by decide) (fun c_5 => ?_) (fun c_5 => ?_)
  · refine z_iconst (x := nI 0) hb dX1_faultPosition_12 (by decide) ?_
    refine z_toI (y := z_b false) (by decide) ?_
    refine z_callC0 (b' := 0) (f' := 0) (rest := []) (av := [.int (z_b false)]) (z_siteS hb ho q1724 q1368 q94 ⟨_, _, _, _, zk_X1_requireElement⟩ zy_X1_requireElement zl_X1_requireElement dX1_faultPosition_13 : z_Site M _ _ _ _ _ ([.int (z_b false)].reverse ++ []) [] _) zk_X1_requireElement q94 hrm (m_X1_requireElement false) (by omega) (by decide) (Nat.le_of_ble_eq_true rfl) (by omega) (by omega) (fun c_13 => ?_) (fun c_13 => ?_)
    · cases c_13
    · exact z_out ho hH zc26 z_up_s (by omega) (fun _ h => nomatch h) (by rw [hQ]; exact ⟨rfl, rfl, rfl⟩)
  · exact absurd hfa (by simpa using c_5)

set_option maxHeartbeats 1000000 in
theorem m_X1_kind_ok {l : Launch} {G : zG} {h : zH} {n : Nat} {t : Nat} {x1 x2 x3 x4 x5 x6 : Value} {w : Nat → Int32} {v : Nat → Int64} {R S D a lr ls lv : Nat} {ra sa va : Nat → Nat} {k : Nat} (hX : h t = some (.inr (0, [.ref a, x1, x2, x3, x4, x5, x6]))) (hL : z_Ln G h w v R S D a lr ls lv ra sa va) (hk : k < S) (hS8 : S ≤ 8) : z_C l G yX1_kind 8 1 6 [.ref t, .int (nI k)] h n (z_rn (.int (w (176 + 4 * k))) h) := by
  refine z_start zk_X1_kind zpl_RX1 (Nat.le_of_ble_eq_true rfl) ?_
  intro hn0 M hl hG ho hb hN hr hm hH hrm hQ
  subst hl hG
  have ho : zm_o M = RX1 := ho
  obtain ⟨h1, ⟨e0, N0, m0, f0, r1, r2, r3, ⟨r4, r4n⟩, r5⟩, ⟨e, N, m9, f, h3, h4, h5, ⟨h6, h6n⟩, h7⟩, ⟨ev, Nv, mv, fv, v1, v2, v3, ⟨v4, v4n⟩, v5⟩, h9, hs, hv, hi, hrI⟩ := id hL
  show z_V M h n 1 6 0 [(0, .ref t), (1, .int (nI k))] []
  refine z_dom (fun hD0 => ?_)
  refine z_aload_n hb dX1_kind_0 rfl ?_
  refine z_get (k := 0) (C := RX1) (T := TX1) (N := 7) hb ho zc0 in_X1 (zf_RX1_41 _) dX1_kind_1 hX (by decide) rfl ?_
  refine z_iload_n hb dX1_kind_4 rfl ?_
  refine z_call1 (b' := 0) (f' := 0) (rest := []) (av := [.ref a, .int (nI k)]) (z_siteV hb ho zc1 h1 q1842 q1506 q1507 ⟨_, _, _, _, zk_X2_step⟩ zy_X2_step zl_X2_step dX1_kind_5 : z_Site M _ _ _ _ _ ([.int (nI k)].reverse ++ .ref a :: []) [] _) zk_X2_step q95 hrm (m_X2_step hL hS8 hk) (by omega) (by decide) (Nat.le_of_ble_eq_true rfl) (by omega) (by omega) ?_
  rcases hs k hk with ⟨q1, q9⟩ | ⟨q1, q9⟩ | ⟨q1, q9⟩ | ⟨q1, q2, q3, q9⟩ | ⟨q1, q2, q3, q9⟩ | ⟨q1, q2, q3, q9⟩ | ⟨q1, q2, q3, q9⟩
  · refine z_call1 (b' := 0) (f' := 0) (rest := []) (av := [.ref (sa k)]) (z_siteV hb ho zc8 (z_ex_r _ _ q9) q1843 q1844 q1851 ⟨_, _, _, _, zk_X9_kind⟩ zy_X9_kind zl_X9_kind dX1_kind_8 : z_Site M _ _ _ _ _ ([].reverse ++ .ref (sa k) :: []) [] _) zk_X9_kind q127 hrm (m_X9_kind_8 (z_ex_r _ _ q9) rfl) (by omega) (by decide) (Nat.le_of_ble_eq_true rfl) (by omega) (by omega) ?_
    refine z_zret hb hr rfl dX1_kind_11 ?_
    rw [hQ]
    rw [q1]
    exact ⟨rfl, rfl⟩
  · refine z_call1 (b' := 0) (f' := 0) (rest := []) (av := [.ref (sa k)]) (z_siteV hb ho zc9 (z_ex_r _ _ q9) q1843 q1844 q1847 ⟨_, _, _, _, zk_X9_kind⟩ zy_X9_kind zl_X9_kind dX1_kind_8 : z_Site M _ _ _ _ _ ([].reverse ++ .ref (sa k) :: []) [] _) zk_X9_kind q127 hrm (m_X9_kind_9 (z_ex_r _ _ q9) rfl) (by omega) (by decide) (Nat.le_of_ble_eq_true rfl) (by omega) (by omega) ?_
    refine z_zret hb hr rfl dX1_kind_11 ?_
    rw [hQ]
    rw [q1]
    exact ⟨rfl, rfl⟩
  · refine z_call1 (b' := 0) (f' := 0) (rest := []) (av := [.ref (sa k)]) (z_siteV hb ho zc10 (z_ex_r _ _ q9) q1843 q1844 q1848 ⟨_, _, _, _, zk_X9_kind⟩ zy_X9_kind zl_X9_kind dX1_kind_8 : z_Site M _ _ _ _ _ ([].reverse ++ .ref (sa k) :: []) [] _) zk_X9_kind q127 hrm (m_X9_kind_10 (z_ex_r _ _ q9) rfl) (by omega) (by decide) (Nat.le_of_ble_eq_true rfl) (by omega) (by omega) ?_
    refine z_zret hb hr rfl dX1_kind_11 ?_
    rw [hQ]
    rw [q1]
    exact ⟨rfl, rfl⟩
  · refine z_call1 (b' := 0) (f' := 0) (rest := []) (av := [.ref (sa k)]) (z_siteV hb ho zc11 (z_ex_r _ _ q9) q1843 q1844 q1849 ⟨_, _, _, _, zk_X9_kind⟩ zy_X9_kind zl_X9_kind dX1_kind_8 : z_Site M _ _ _ _ _ ([].reverse ++ .ref (sa k) :: []) [] _) zk_X9_kind q127 hrm (m_X9_kind_11 (z_ex_r _ _ q9) rfl) (by omega) (by decide) (Nat.le_of_ble_eq_true rfl) (by omega) (by omega) ?_
    refine z_zret hb hr rfl dX1_kind_11 ?_
    rw [hQ]
    rw [q1]
    exact ⟨rfl, rfl⟩
  · refine z_call1 (b' := 0) (f' := 0) (rest := []) (av := [.ref (sa k)]) (z_siteV hb ho zc11 (z_ex_r _ _ q9) q1843 q1844 q1849 ⟨_, _, _, _, zk_X9_kind⟩ zy_X9_kind zl_X9_kind dX1_kind_8 : z_Site M _ _ _ _ _ ([].reverse ++ .ref (sa k) :: []) [] _) zk_X9_kind q127 hrm (m_X9_kind_11 (z_ex_r _ _ q9) rfl) (by omega) (by decide) (Nat.le_of_ble_eq_true rfl) (by omega) (by omega) ?_
    refine z_zret hb hr rfl dX1_kind_11 ?_
    rw [hQ]
    rw [q1]
    exact ⟨rfl, rfl⟩
  · refine z_call1 (b' := 0) (f' := 0) (rest := []) (av := [.ref (sa k)]) (z_siteV hb ho zc12 (z_ex_r _ _ q9) q1843 q1844 q1850 ⟨_, _, _, _, zk_X9_kind⟩ zy_X9_kind zl_X9_kind dX1_kind_8 : z_Site M _ _ _ _ _ ([].reverse ++ .ref (sa k) :: []) [] _) zk_X9_kind q127 hrm (m_X9_kind_12 (z_ex_r _ _ q9) rfl) (by omega) (by decide) (Nat.le_of_ble_eq_true rfl) (by omega) (by omega) ?_
    refine z_zret hb hr rfl dX1_kind_11 ?_
    rw [hQ]
    rw [q1]
    exact ⟨rfl, rfl⟩
  · refine z_call1 (b' := 0) (f' := 0) (rest := []) (av := [.ref (sa k)]) (z_siteV hb ho zc13 (z_ex_r _ _ q9) q1843 q1844 q1846 ⟨_, _, _, _, zk_X9_kind⟩ zy_X9_kind zl_X9_kind dX1_kind_8 : z_Site M _ _ _ _ _ ([].reverse ++ .ref (sa k) :: []) [] _) zk_X9_kind q127 hrm (m_X9_kind_13 (z_ex_r _ _ q9) rfl) (by omega) (by decide) (Nat.le_of_ble_eq_true rfl) (by omega) (by omega) ?_
    refine z_zret hb hr rfl dX1_kind_11 ?_
    rw [hQ]
    rw [q1]
    exact ⟨rfl, rfl⟩

theorem z_ne_xc {h : zH} {x y la pa bu li ci : Nat} {fs : List Value} {fa : Int32} {de sn : Option Nat} (hO : h x = some (z_Ob la pa bu li fa de sn)) (q : h y = some (.inr (ci, fs))) (hc : ci ≠ 0) : x ≠ y := fun z => by rw [z, q] at hO; cases hO; exact hc rfl
theorem z_ne_xb {G : zG} {h : zH} {x la pa bu li b e cd : Nat} {cs : List Nat} {fa : Int32} {de sn : Option Nat} (hO : h x = some (z_Ob la pa bu li fa de sn)) (q : z_BF G h b e cd cs) : ¬ (x = b ∨ x = e) := by
  obtain ⟨N, f, ml, q1, q2, -⟩ := q
  rintro (z | z)
  · rw [z, q1] at hO; cases hO
  · rw [z, q2] at hO; cases hO

set_option maxHeartbeats 1000000 in
theorem m_X1_feed_ok {l : Launch} {G : zG} {h : zH} {n : Nat} {x la pa bu li : Nat} {fa : Int32} {de sn : Option Nat} {e cd c : Nat} {cs : List Nat} (hO : h x = some (z_Ob la pa bu li fa de sn)) (hBF : z_BF G h bu e cd cs) (hc16 : c < 65536) (hlt : cs.length < 60) : z_C l G yX1_feed 9 3 906 [.ref x, .int (nI c)] h n (z_q1 (fun r9 h9 n9 => r9 = .int (nI (cs.length + 1)) ∧ ∃ e9 cd9, z_BF G h9 bu e9 cd9 (cs ++ [c]) ∧ (cd9 = 0 ∨ cd9 = 1) ∧ (e9 = e ∨ n ≤ e9) ∧ z_fr (fun y => y = bu ∨ y = e) h h9)) := by
  refine z_start zk_X1_feed zpl_RX1 (Nat.le_of_ble_eq_true rfl) ?_
  intro hn0 M hl hG ho hb hN hr hm hH hrm hQ
  subst hl hG
  have ho : zm_o M = RX1 := ho
  obtain ⟨fsb, hob⟩ := z_BF.o hBF
  show z_V M h n 3 906 0 [(0, .ref x), (1, .int (nI c))] []
  refine z_aload_n hb dX1_feed_0 rfl ?_
  refine z_get (k := 2) (C := RX1) (T := TX1) (N := 7) hb ho zc0 in_X1 (zf_RX1_55 _) dX1_feed_1 hO (by decide) rfl ?_
  refine z_call1 (b' := 3) (f' := 906) (rest := []) (av := [.ref bu]) (z_siteV hb ho zc22 hob q2216 q1054 q3287 ⟨_, _, _, _, zk_J5_length⟩ zy_J5_length zl_J5_length dX1_feed_4 : z_Site M _ _ _ _ _ ([].reverse ++ .ref bu :: []) [] _) zk_J5_length q101 hrm (m_J5_length hBF) (by omega) (by decide) (Nat.le_of_ble_eq_true rfl) (by omega) (by omega) ?_
  refine z_bipush (x := nI 60) hb dX1_feed_7 (by decide) ?_
  refine z_icmp_geN (tgt := 16) hb dX1_feed_9 (by decide) (by omega) (by omega) (fun c_9 => ?_) (fun c_9 => ?_)
  · exact absurd c_9 (by omega)
  · refine z_iconst (x := nI 1) hb dX1_feed_12 (by decide) ?_
    refine z_toI (y := z_b true) (by decide) ?_
    refine z_goto (tgt := 17) hb dX1_feed_13 (by decide) ?_
    refine z_callC0 (b' := 2) (f' := 900) (rest := []) (av := [.int (z_b true)]) (z_siteS hb ho q2217 q2218 q94 ⟨_, _, _, _, zk_X1_requireState⟩ zy_X1_requireState zl_X1_requireState dX1_feed_17 : z_Site M _ _ _ _ _ ([.int (z_b true)].reverse ++ []) [] _) zk_X1_requireState q94 hrm (m_X1_requireState true) (by omega) (by decide) (Nat.le_of_ble_eq_true rfl) (by omega) (by omega) (fun c_17 => ?_) (fun c_17 => ?_)
    · refine z_aload_n hb dX1_feed_20 rfl ?_
      refine z_get (k := 2) (C := RX1) (T := TX1) (N := 7) hb ho zc0 in_X1 (zf_RX1_55 _) dX1_feed_21 hO (by decide) rfl ?_
      refine z_iload_n hb dX1_feed_24 rfl ?_
      refine z_callQ1 (b' := 0) (f' := 0) (rest := []) (av := [.ref bu, .int (nI c)]) (z_siteV hb ho zc22 hob q2225 q2226 q2227 ⟨_, _, _, _, zk_J5_append_3⟩ zy_J5_append_3 zl_J5_append_3 dX1_feed_25 : z_Site M _ _ _ _ _ ([.int (nI c)].reverse ++ .ref bu :: []) [] _) zk_J5_append_3 q101 hrm (m_J5_append_c hBF hc16 (by omega)) (by omega) (by decide) (Nat.le_of_ble_eq_true rfl) (by omega) (by omega) (fun rhq9 h9 n9 hq9 hn9 => ?_)
      obtain ⟨rfl, hq9⟩ := hq9
      obtain ⟨e9, cd9, hB9, hc9, he9, hcc, hf9⟩ := hq9
      have hx9 := hf9 _ _ hO (z_ne_xb hO hBF)
      obtain ⟨fsb9, hob9⟩ := z_BF.o hB9
      refine z_pop hb dX1_feed_28 rfl ?_
      refine z_aload_n hb dX1_feed_29 rfl ?_
      refine z_get (k := 2) (C := RX1) (T := TX1) (N := 7) hb ho zc0 in_X1 (zf_RX1_55 _) dX1_feed_30 hx9 (by decide) rfl ?_
      refine z_call1 (b' := 0) (f' := 0) (rest := []) (av := [.ref bu]) (z_siteV hb ho zc22 hob9 q2216 q1054 q3287 ⟨_, _, _, _, zk_J5_length⟩ zy_J5_length zl_J5_length dX1_feed_33 : z_Site M _ _ _ _ _ ([].reverse ++ .ref bu :: []) [] _) zk_J5_length q101 hrm (m_J5_length hB9) (by omega) (by decide) (Nat.le_of_ble_eq_true rfl) (by omega) (by omega) ?_
      refine z_iret hb hr dX1_feed_36 ?_
      rw [hQ]
      exact ⟨_, rfl, by rw [List.length_append]; rfl, e9, cd9, hB9, hc9, he9, hf9⟩
    · cases c_17

set_option maxHeartbeats 1000000 in
theorem m_X1_feed_no {l : Launch} {G : zG} {h : zH} {n : Nat} {x la pa bu li : Nat} {fa : Int32} {de sn : Option Nat} {e cd c : Nat} {cs : List Nat} (hO : h x = some (z_Ob la pa bu li fa de sn)) (hBF : z_BF G h bu e cd cs) (hc16 : c < 65536) (hlt : cs.length = 60) : z_C l G yX1_feed 9 3 906 [.ref x, .int (nI c)] h n (z_thr (z_up h n (.inr (29, []))) (n + 1) n) := by
  refine z_start zk_X1_feed zpl_RX1 (Nat.le_of_ble_eq_true rfl) ?_
  intro hn0 M hl hG ho hb hN hr hm hH hrm hQ
  subst hl hG
  have ho : zm_o M = RX1 := ho
  obtain ⟨fsb, hob⟩ := z_BF.o hBF
  show z_V M h n 3 906 0 [(0, .ref x), (1, .int (nI c))] []
  refine z_aload_n hb dX1_feed_0 rfl ?_
  refine z_get (k := 2) (C := RX1) (T := TX1) (N := 7) hb ho zc0 in_X1 (zf_RX1_55 _) dX1_feed_1 hO (by decide) rfl ?_
  refine z_call1 (b' := 3) (f' := 906) (rest := []) (av := [.ref bu]) (z_siteV hb ho zc22 hob q2216 q1054 q3287 ⟨_, _, _, _, zk_J5_length⟩ zy_J5_length zl_J5_length dX1_feed_4 : z_Site M _ _ _ _ _ ([].reverse ++ .ref bu :: []) [] _) zk_J5_length q101 hrm (m_J5_length hBF) (by omega) (by decide) (Nat.le_of_ble_eq_true rfl) (by omega) (by omega) ?_
  refine z_bipush (x := nI 60) hb dX1_feed_7 (by decide) ?_
  refine z_icmp_geN (tgt := 16) hb dX1_feed_9 (by decide) (by omega) (by omega) (fun c_9 => ?_) (fun c_9 => ?_)
  · refine z_iconst (x := nI 0) hb dX1_feed_16 (by decide) ?_
    refine z_toI (y := z_b false) (by decide) ?_
    refine z_callC0 (b' := 2) (f' := 900) (rest := []) (av := [.int (z_b false)]) (z_siteS hb ho q2217 q2218 q94 ⟨_, _, _, _, zk_X1_requireState⟩ zy_X1_requireState zl_X1_requireState dX1_feed_17 : z_Site M _ _ _ _ _ ([.int (z_b false)].reverse ++ []) [] _) zk_X1_requireState q94 hrm (m_X1_requireState false) (by omega) (by decide) (Nat.le_of_ble_eq_true rfl) (by omega) (by omega) (fun c_17 => ?_) (fun c_17 => ?_)
    · cases c_17
    · exact z_out ho hH zc29 z_up_s (by omega) (fun _ h => nomatch h) (by rw [hQ]; exact ⟨rfl, rfl, rfl⟩)
  · exact absurd c_9 (by omega)

def z_unp (P : Nat → Nat) : Nat → Nat := fun i => P (i + 1)
theorem z_Pd_pop {G : zG} {h2 : zH} {pa e hd tl dep : Nat} {f : Nat → Option Nat} {P : Nat → Nat} (q1 : h2 pa = some (.inr (21, [.ref e, .int (nI ((hd + 1) % 17)), .int (nI tl)]))) (q2 : h2 e = some (z_ao G 17 (va_up f hd none))) (n1 : z_n0 G ≤ pa) (n2 : z_n0 G ≤ e) (hh : hd < 17) (ht : tl < 17) (hd9 : (tl + 17 - hd) % 17 = dep) (h0 : dep ≠ 0) (h8 : dep ≤ 8) (hf : ∀ i, i < dep → f ((hd + i) % 17) = some (P i)) : z_Pd G h2 pa e (dep - 1) (z_unp P) := by
  refine ⟨(hd + 1) % 17, tl, va_up f hd none, q1, q2, n1, n2, Nat.mod_lt _ (by decide), ht, by omega, by omega, fun i hi => ?_⟩
  have h1 := hf (i + 1) (by omega)
  show va_up f hd none _ = some (P (i + 1))
  unfold va_up
  rw [if_neg (by omega), ← h1]
  congr 1
  omega
theorem z_Pd_clr {G : zG} {h2 : zH} {pa e : Nat} {f : Nat → Option Nat} {P : Nat → Nat} (q1 : h2 pa = some (.inr (21, [.ref e, .int (nI 0), .int (nI 0)]))) (q2 : h2 e = some (z_ao G 17 f)) (n1 : z_n0 G ≤ pa) (n2 : z_n0 G ≤ e) : z_Pd G h2 pa e 0 P := ⟨0, 0, f, q1, q2, n1, n2, by decide, by decide, rfl, by decide, fun i hi => absurd hi (Nat.not_lt_zero _)⟩
theorem z_Pd.nl {G : zG} {h : zH} {pa e dep : Nat} {P : Nat → Nat} (q : z_Pd G h pa e dep P) : ∃ c1 c2, h pa = some c1 ∧ h e = some c2 ∧ ¬ z_lnj c1 ∧ ¬ z_lnj c2 := by
  obtain ⟨hd, tl, f, q1, q2, -⟩ := q
  exact ⟨_, _, q1, q2, by simp [z_lnj], by simp [z_lnj]⟩

set_option maxHeartbeats 1000000 in
theorem m_X1_undo_ok {l : Launch} {G : zG} {h : zH} {n : Nat} {x la pa bu li : Nat} {fa : Int32} {de sn : Option Nat} {e dep : Nat} {P : Nat → Nat} (hO : h x = some (z_Ob la pa bu li fa de sn)) (hx0 : z_n0 G ≤ x) (hP : z_Pd G h pa e dep P) (h0 : dep ≠ 0) (hla : z_isL h (P 0)) : z_C l G yX1_undo 8 1 6 [.ref x] h n (z_q1 (fun r9 h9 n9 => r9 = .int (nI (dep - 1)) ∧ h9 x = some (z_Ob (P 0) pa bu li fa de sn) ∧ z_Pd G h9 pa e (dep - 1) (z_unp P) ∧ z_fr (fun y => y = x ∨ y = pa ∨ y = e) h h9)) := by
  refine z_start zk_X1_undo zpl_RX1 (Nat.le_of_ble_eq_true rfl) ?_
  intro hn0 M hl hG ho hb hN hr hm hH hrm hQ
  subst hl hG
  have ho : zm_o M = RX1 := ho
  obtain ⟨hd, tl, f9, hP1, hP2, n1, n2, hh, ht, hd9, h8, hf⟩ := id hP
  have hf0 : f9 hd = some (P 0) := by
    have h9 := hf 0 (by omega)
    rw [show (hd + 0) % 17 = hd by omega] at h9; exact h9
  obtain ⟨z0, z1, z2, z3, z4, z5, z6, z7, hz⟩ := id hla
  show z_V M h n 1 6 0 [(0, .ref x)] []
  refine z_aload_n hb dX1_undo_0 rfl ?_
  refine z_get (k := 1) (C := RX1) (T := TX1) (N := 7) hb ho zc0 in_X1 (zf_RX1_48 _) dX1_undo_1 hO (by decide) rfl ?_
  refine z_call1 (b' := 1) (f' := 6) (rest := []) (av := [.ref pa]) (z_siteV hb ho zc21 hP1 q2656 q2657 q2658 ⟨_, _, _, _, zk_J3_isEmpty⟩ zy_J3_isEmpty zl_J3_isEmpty dX1_undo_4 : z_Site M _ _ _ _ _ ([].reverse ++ .ref pa :: []) [] _) zk_J3_isEmpty q99 hrm (m_J3_isEmpty hP1 hP2 n1 n2 hh ht) (by omega) (by decide) (Nat.le_of_ble_eq_true rfl) (by omega) (by omega) ?_
  refine z_ifb_ne (tgt := 14) hb dX1_undo_7 (by decide) (fun c_7 => ?_) (fun c_7 => ?_)
  · exact absurd (show hd = tl by simpa using c_7) (by omega)
  · refine z_iconst (x := nI 1) hb dX1_undo_10 (by decide) ?_
    refine z_toI (y := z_b true) (by decide) ?_
    refine z_goto (tgt := 15) hb dX1_undo_11 (by decide) ?_
    refine z_callC0 (b' := 0) (f' := 0) (rest := []) (av := [.int (z_b true)]) (z_siteS hb ho q2217 q2218 q94 ⟨_, _, _, _, zk_X1_requireState⟩ zy_X1_requireState zl_X1_requireState dX1_undo_15 : z_Site M _ _ _ _ _ ([.int (z_b true)].reverse ++ []) [] _) zk_X1_requireState q94 hrm (m_X1_requireState true) (by omega) (by decide) (Nat.le_of_ble_eq_true rfl) (by omega) (by omega) (fun c_15 => ?_) (fun c_15 => ?_)
    · refine z_aload_n hb dX1_undo_18 rfl ?_
      refine z_aload_n hb dX1_undo_19 rfl ?_
      refine z_get (k := 1) (C := RX1) (T := TX1) (N := 7) hb ho zc0 in_X1 (zf_RX1_48 _) dX1_undo_20 hO (by decide) rfl ?_
      refine z_call1 (b' := 0) (f' := 0) (rest := [.ref x]) (av := [.ref pa]) (z_siteV hb ho zc21 hP1 q2660 q2661 q2662 ⟨_, _, _, _, zk_J3_pop⟩ zy_J3_pop zl_J3_pop dX1_undo_23 : z_Site M _ _ _ _ _ ([].reverse ++ .ref pa :: [.ref x]) [.ref x] _) zk_J3_pop q99 hrm (m_J3_pop hP1 hP2 n1 n2 hh ht hf0) (by omega) (by decide) (Nat.le_of_ble_eq_true rfl) (by omega) (by omega) ?_
      obtain ⟨h_1, eh_1⟩ : ∃ h_1, h_1 = z_up h e (.inl ((zm_G M).2.1 5, 17, .inr (.inr (.inr (.inr (va_up f9 hd none)))))) := ⟨_, rfl⟩
      have k_2 : h_1 x = some (.inr (0, [.ref la, .ref pa, .ref bu, .ref li, .int fa, va_rf de, va_rf sn])) := z_nx eh_1 (z_neA hO hP2) hO
      have k_3 : h_1 pa = some (.inr (21, [.ref e, .int (nI hd), .int (nI tl)])) := z_nx eh_1 (z_neA hP1 hP2) hP1
      have k_4 : h_1 (P 0) = some (.inr (1, [z0, z1, z2, z3, z4, z5, z6, z7])) := z_nx eh_1 (z_neA hz hP2) hz
      refine z_hh (h2 := z_up h_1 pa (.inr (21, [.ref e, .int (nI ((hd + 1) % 17)), .int (nI tl)]))) (by rw [eh_1]) ?_
      refine z_hn (fun h_5 eh_5 => ?_)
      have eh_5 : h_5 = z_up h_1 pa (.inr (21, [.ref e, .int (nI ((hd + 1) % 17)), .int (nI tl)])) := eh_5
      have k_6 : h_5 x = some (.inr (0, [.ref la, .ref pa, .ref bu, .ref li, .int fa, va_rf de, va_rf sn])) := z_nx eh_5 (z_neO k_2 k_3 rfl) k_2
      have k_7 : h_5 (P 0) = some (.inr (1, [z0, z1, z2, z3, z4, z5, z6, z7])) := z_nx eh_5 (z_neO k_4 k_3 rfl) k_4
      have k_8 : h_5 e = some (.inl ((zm_G M).2.1 5, 17, .inr (.inr (.inr (.inr (va_up f9 hd none)))))) := z_nx eh_5 (z_neA' (z_nxs eh_1) k_3) (z_nxs eh_1)
      refine z_cast hb ho zc1 k_7 q157 (Or.inl rfl) dX1_undo_26 ?_
      refine z_put (k := 0) (C := RX1) (T := TX1) (N := 7) hb ho zc0 in_X1 tyX1_ok nmX1 (zf_RX1_41 _) dX1_undo_29 k_6 hx0 (by decide) (Or.inl rfl) rfl rfl rfl (Nat.le_of_ble_eq_true rfl) ?_
      refine z_hn (fun h_9 eh_9 => ?_)
      have eh_9 : h_9 = z_up h_5 x (.inr (0, [.ref (P 0), .ref pa, .ref bu, .ref li, .int fa, va_rf de, va_rf sn])) := eh_9
      have k_10 : h_9 (P 0) = some (.inr (1, [z0, z1, z2, z3, z4, z5, z6, z7])) := z_nx eh_9 (z_neO k_7 k_6 rfl) k_7
      have k_11 : h_9 e = some (.inl ((zm_G M).2.1 5, 17, .inr (.inr (.inr (.inr (va_up f9 hd none)))))) := z_nx eh_9 (z_neA' k_8 k_6) k_8
      have k_12 : h_9 pa = some (.inr (21, [.ref e, .int (nI ((hd + 1) % 17)), .int (nI tl)])) := z_nx eh_9 (z_neO (z_nxs eh_5) k_6 rfl) (z_nxs eh_5)
      refine z_aload_n hb dX1_undo_32 rfl ?_
      refine z_get (k := 1) (C := RX1) (T := TX1) (N := 7) hb ho zc0 in_X1 (zf_RX1_48 _) dX1_undo_33 (z_nxs eh_9) (by decide) rfl ?_
      refine z_call1 (b' := 0) (f' := 0) (rest := []) (av := [.ref pa]) (z_siteV hb ho zc21 k_12 q791 q792 q793 ⟨_, _, _, _, zk_J3_size⟩ zy_J3_size zl_J3_size dX1_undo_36 : z_Site M _ _ _ _ _ ([].reverse ++ .ref pa :: []) [] _) zk_J3_size q99 hrm (m_J3_size k_12 k_11 n1 n2 (Nat.mod_lt _ (by decide)) ht) (by omega) (by decide) (Nat.le_of_ble_eq_true rfl) (by omega) (by omega) ?_
      refine z_iret hb hr dX1_undo_39 ?_
      rw [hQ]
      exact ⟨_, rfl, by rw [show (tl + 17 - (hd + 1) % 17) % 17 = dep - 1 by omega], (z_nxs eh_9), z_Pd_pop k_12 k_11 n1 n2 hh ht hd9 h0 h8 hf, ((z_fr_up (Or.inr (Or.inr rfl)) eh_1).t (z_fr_up (Or.inr (Or.inl rfl)) eh_5)).t (z_fr_up (Or.inl rfl) eh_9)⟩
    · cases c_15

set_option maxHeartbeats 1000000 in
theorem m_X1_undo_no {l : Launch} {G : zG} {h : zH} {n : Nat} {x la pa bu li : Nat} {fa : Int32} {de sn : Option Nat} {e : Nat} {P : Nat → Nat} (hO : h x = some (z_Ob la pa bu li fa de sn)) (hx0 : z_n0 G ≤ x) (hP : z_Pd G h pa e 0 P) : z_C l G yX1_undo 8 1 6 [.ref x] h n (z_thr (z_up h n (.inr (29, []))) (n + 1) n) := by
  refine z_start zk_X1_undo zpl_RX1 (Nat.le_of_ble_eq_true rfl) ?_
  intro hn0 M hl hG ho hb hN hr hm hH hrm hQ
  subst hl hG
  have ho : zm_o M = RX1 := ho
  obtain ⟨hd, tl, f9, hP1, hP2, n1, n2, hh, ht, hd9, h8, hf⟩ := id hP
  show z_V M h n 1 6 0 [(0, .ref x)] []
  refine z_aload_n hb dX1_undo_0 rfl ?_
  refine z_get (k := 1) (C := RX1) (T := TX1) (N := 7) hb ho zc0 in_X1 (zf_RX1_48 _) dX1_undo_1 hO (by decide) rfl ?_
  refine z_call1 (b' := 1) (f' := 6) (rest := []) (av := [.ref pa]) (z_siteV hb ho zc21 hP1 q2656 q2657 q2658 ⟨_, _, _, _, zk_J3_isEmpty⟩ zy_J3_isEmpty zl_J3_isEmpty dX1_undo_4 : z_Site M _ _ _ _ _ ([].reverse ++ .ref pa :: []) [] _) zk_J3_isEmpty q99 hrm (m_J3_isEmpty hP1 hP2 n1 n2 hh ht) (by omega) (by decide) (Nat.le_of_ble_eq_true rfl) (by omega) (by omega) ?_
  refine z_ifb_ne (tgt := 14) hb dX1_undo_7 (by decide) (fun c_7 => ?_) (fun c_7 => ?_)
  · refine z_iconst (x := nI 0) hb dX1_undo_14 (by decide) ?_
    refine z_toI (y := z_b false) (by decide) ?_
    refine z_callC0 (b' := 0) (f' := 0) (rest := []) (av := [.int (z_b false)]) (z_siteS hb ho q2217 q2218 q94 ⟨_, _, _, _, zk_X1_requireState⟩ zy_X1_requireState zl_X1_requireState dX1_undo_15 : z_Site M _ _ _ _ _ ([.int (z_b false)].reverse ++ []) [] _) zk_X1_requireState q94 hrm (m_X1_requireState false) (by omega) (by decide) (Nat.le_of_ble_eq_true rfl) (by omega) (by omega) (fun c_15 => ?_) (fun c_15 => ?_)
    · cases c_15
    · exact z_out ho hH zc29 z_up_s (by omega) (fun _ h => nomatch h) (by rw [hQ]; exact ⟨rfl, rfl, rfl⟩)
  · exact absurd (show ¬ hd = tl by simpa using c_7) (by omega)

set_option maxHeartbeats 1000000 in
theorem m_X1_saveSnapshot {l : Launch} {G : zG} {h : zH} {n : Nat} {x la pa bu li : Nat} {fa : Int32} {de sn : Option Nat} {w : Nat → Int32} {v : Nat → Int64} {R S D c9 : Nat} (hO : h x = some (z_Ob la pa bu li fa de sn)) (hx0 : z_n0 G ≤ x) (hL : z_LN G h w v R S D la) (hI : z_inv w v R S D c9) (hK : z_KC G h) : z_C l G yX1_saveSnapshot 8 93 3412 [.ref x] h n (z_q1 (fun r9 h9 n9 => r9 = .int (nI R) ∧ h9 x = some (z_Ob la pa bu li fa de (some n)) ∧ z_LN G h9 w v R S D n ∧ z_fr (fun y => y = x) h h9)) := by
  refine z_start zk_X1_saveSnapshot zpl_RX1 (Nat.le_of_ble_eq_true rfl) ?_
  intro hn0 M hl hG ho hb hN hr hm hH hrm hQ
  subst hl hG
  have ho : zm_o M = RX1 := ho
  refine z_dom (fun hdm => ?_)
  have hxn := hdm _ _ hO
  obtain ⟨fE, hEM⟩ := hK.em
  obtain ⟨lr, ls, lv, ra, sa, va, hLn⟩ := id hL
  obtain ⟨hw, -⟩ := id hI
  obtain ⟨-, hR4, -, hS8, -, hD6, -⟩ := id hw
  show z_V M h n 93 3412 0 [(0, .ref x)] []
  refine z_aload_n hb dX1_saveSnapshot_0 rfl ?_
  refine z_new (N0 := 8) (b' := 92) (f' := 3404) (fs := [.null, .null, .null, .int (nI 0), .int (nI 0), .int (nI 0), .int (nI 0), .int (nI 0)]) (C := RX2) (T := TX2) (N := 8) hb ho zc1 in_X2 tyX2_ok q157 q158 q95 dX1_saveSnapshot_1 (zdf_X2) (by omega) (by omega) ?_
  refine z_hn (fun h_1 eh_1 => ?_)
  have eh_1 : h_1 = z_up h n (.inr (1, [.null, .null, .null, .int (nI 0), .int (nI 0), .int (nI 0), .int (nI 0), .int (nI 0)])) := eh_1
  have k_2 : h_1 x = some (.inr (0, [.ref la, .ref pa, .ref bu, .ref li, .int fa, va_rf de, va_rf sn])) := z_nx eh_1 (Nat.ne_of_lt hxn) hO
  refine z_dup hb dX1_saveSnapshot_4 rfl ?_
  refine z_aload_n hb dX1_saveSnapshot_5 rfl ?_
  refine z_get (k := 0) (C := RX1) (T := TX1) (N := 7) hb ho zc0 in_X1 (zf_RX1_41 _) dX1_saveSnapshot_6 k_2 (by decide) rfl ?_
  refine z_callQ0 (b' := 0) (f' := 4) (rest := [.ref n, .ref x]) (av := [.ref n, .ref la]) (z_siteI hb ho q470 q471 q472 rfl zy_X2_init_2 zl_X2_init_2 dX1_saveSnapshot_9 : z_Site M _ _ _ _ _ ([.ref la].reverse ++ .ref n :: [.ref n, .ref x]) [.ref n, .ref x] _) zk_X2_init_2 q95 hrm (m_X2_init_2 (b0 := n) (hLn.ex (z_exN z_ex_r hdm eh_1)) hR4 hS8 hD6 (z_nxs eh_1) ((z_exN z_ex_r hdm eh_1) _ _ hEM) hK.e0 hn0 (Nat.le_refl n) (Nat.le_succ n)) (by omega) (by decide) (Nat.le_of_ble_eq_true rfl) (by omega) (by omega) (fun h8 n8 hq8 hn8 => ?_)
  obtain ⟨hDR, hf1⟩ := hq8
  obtain ⟨lr2, ls2, lv2, ra2, sa2, va2, hL2⟩ := id hDR.lN
  obtain ⟨k1, ⟨e02, N02, m02, f02, k2, k3, -⟩, -⟩ := id hL2
  have he2 : z_ex h h8 := fun y c q => hf1 y c ((z_exN z_ex_r hdm eh_1) y c q) (fun z => by have := hdm y c q; omega)
  have hx8 := he2 _ _ hO
  refine z_put (k := 6) (C := RX1) (T := TX1) (N := 7) hb ho zc0 in_X1 tyX1_ok nmX1 (zf_RX1_439 _) dX1_saveSnapshot_12 hx8 hx0 (by decide) (Or.inl rfl) rfl rfl rfl (Nat.le_of_ble_eq_true rfl) ?_
  refine z_hn (fun h_3 eh_3 => ?_)
  have eh_3 : h_3 = z_up h8 x (.inr (0, [.ref la, .ref pa, .ref bu, .ref li, .int fa, va_rf de, .ref n])) := eh_3
  have k_4 : h_3 n = some (.inr (1, [.ref lr2, .ref ls2, .ref lv2, .int (nI D), .int (w 2), .int (w 4), .int (w 5), .int (w 6)])) := z_nx eh_3 (z_neO k1 hx8 rfl) k1
  have k_5 : h_3 lr2 = some (.inr (20, [.int m02, .ref e02, .int (nI R)])) := z_nx eh_3 (z_neO k2 hx8 rfl) k2
  refine z_aload_n hb dX1_saveSnapshot_15 rfl ?_
  refine z_get (k := 6) (C := RX1) (T := TX1) (N := 7) hb ho zc0 in_X1 (zf_RX1_439 _) dX1_saveSnapshot_16 (z_nxs eh_3) (by decide) rfl ?_
  refine z_get (k := 0) (C := RX2) (T := TX2) (N := 8) hb ho zc1 in_X2 (zf_RX1_123 _) dX1_saveSnapshot_19 k_4 (by decide) rfl ?_
  refine z_call1 (b' := 0) (f' := 4) (rest := []) (av := [.ref lr2]) (z_siteF hb ho zc20 k_5 q318 zx0 q322 q324 q325 q323 q321 zxl0 dX1_saveSnapshot_22 : z_Site M _ _ _ _ _ ([].reverse ++ .ref lr2 :: []) [] _) zk_J2_size q98 hrm (m_J2_size k_5) (by omega) (by decide) (Nat.le_of_ble_eq_true rfl) (by omega) (by omega) ?_
  refine z_iret hb hr dX1_saveSnapshot_27 ?_
  rw [hQ]
  exact ⟨_, rfl, rfl, (z_nxs eh_3), hDR.lN.kq ((z_fr_up (P := fun y => y = x) rfl eh_3).kq (fun y c q r => by rw [q] at r; rw [hx8] at r; cases r; simp [z_lnj])), (z_fr_up (P := fun y => y = x) rfl eh_3).t0 he2⟩

