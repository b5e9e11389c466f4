set_option maxHeartbeats 1000000 in
theorem m_X6_behind_n {l : Launch} {G : zG} {h : zH} {n : Nat} {d : Nat} {nu dt : Int32} (hd : h d = some (.inr (5, [.null, .null, .null, .null, .null, .int (nI 0), .int nu, .int dt]))) (hd0 : z_n0 G ≤ d) (hOE : h (G.2.2.1 1003) = some (.inr (25, [.null]))) : z_C l G yX6_behind 5 1 1 [.ref d] h n (z_rv (.ref (G.2.2.1 1003)) h n) := by
  refine z_start zk_X6_behind zpl_RX6 (Nat.le_of_ble_eq_true rfl) ?_
  intro hn0 M hl hG ho hb hN hr hm hH hrm hQ
  subst hl hG
  have ho : zm_o M = RX6 := ho
  show z_V M h n 1 1 0 [(0, .ref d)] []
  refine z_aload_n hb dX6_behind_0 rfl ?_
  refine z_getCause (z_siteU hb ho zc5 hd q2640 q2641 (Or.inl q2642) q2644 q2643 ⟨by decide +kernel, by decide +kernel⟩ (by show _ = some 0; decide +kernel) dX6_behind_1) hrm (by omega) hd hd0 rfl (Or.inl rfl) (by decide) ?_
  refine z_astore_nN (lv' := [(2, .null), (0, .ref d)]) hb dX6_behind_4 (by rw [hN]; decide) rfl ?_
  refine z_aload_nN hb dX6_behind_5 rfl ?_
  refine z_instN hb dX6_behind_6 ?_
  refine z_toI (y := nI 0) rfl ?_
  refine z_if_eqN (tgt := 24) hb dX6_behind_9 (by decide) (by omega) (fun c_9 => ?_) (fun c_9 => ?_)
  · refine z_call1 (b' := 1) (f' := 1) (rest := []) (av := []) (z_siteS hb ho q2648 q1343 q125 ⟨_, _, _, _, zk_J21_empty⟩ zy_J21_empty zl_J21_empty dX6_behind_24 : z_Site M _ _ _ _ _ ([].reverse ++ []) [] _) zk_J21_empty q125 hrm (m_J21_empty) (by omega) (by decide) (Nat.le_of_ble_eq_true rfl) (by omega) (by omega) ?_
    refine z_aret hb hr (Or.inl ⟨_, rfl⟩) (Or.inr ⟨_, rfl⟩) dX6_behind_27 ?_
    rw [hQ]
    exact ⟨rfl, rfl, rfl⟩
  · exact absurd c_9 (by omega)

set_option maxHeartbeats 1000000 in
theorem m_X6_behind_s {l : Launch} {G : zG} {h : zH} {n : Nat} {d c : Nat} {nu dt : Int32} {fs9 : List Value} (hd : h d = some (.inr (5, [.ref c, .null, .null, .null, .null, .int (nI 0), .int nu, .int dt]))) (hd0 : z_n0 G ≤ d) (hc : h c = some (.inr (5, fs9))) (hcd : c ≠ d) : z_C l G yX6_behind 5 1 1 [.ref d] h n (z_rv (.ref n) (z_up h n (.inr (25, [.ref c]))) (n + 1)) := by
  refine z_start zk_X6_behind zpl_RX6 (Nat.le_of_ble_eq_true rfl) ?_
  intro hn0 M hl hG ho hb hN hr hm hH hrm hQ
  subst hl hG
  have ho : zm_o M = RX6 := ho
  refine z_dom (fun hdm => ?_)
  show z_V M h n 1 1 0 [(0, .ref d)] []
  refine z_aload_n hb dX6_behind_0 rfl ?_
  refine z_getCause (z_siteU hb ho zc5 hd q2640 q2641 (Or.inl q2642) q2644 q2643 ⟨by decide +kernel, by decide +kernel⟩ (by show _ = some 0; decide +kernel) dX6_behind_1) hrm (by omega) hd hd0 rfl (Or.inr ⟨_, rfl, hcd⟩) (by decide) ?_
  refine z_astore_n (lv' := [(2, .ref c), (0, .ref d)]) hb dX6_behind_4 (by rw [hN]; decide) rfl ?_
  refine z_aload_n hb dX6_behind_5 rfl ?_
  refine z_instE hb ho zc5 hc q2646 dX6_behind_6 ?_
  refine z_toI (y := nI 1) rfl ?_
  refine z_if_eqN (tgt := 24) hb dX6_behind_9 (by decide) (by omega) (fun c_9 => ?_) (fun c_9 => ?_)
  · exact absurd c_9 (by omega)
  · refine z_aload_n hb dX6_behind_12 rfl ?_
    refine z_cast hb ho zc5 hc q2646 (Or.inl rfl) dX6_behind_13 ?_
    refine z_astore_n (lv' := [(1, .ref c), (2, .ref c), (0, .ref d)]) hb dX6_behind_16 (by rw [hN]; decide) rfl ?_
    refine z_aload_n hb dX6_behind_17 rfl ?_
    refine z_call1 (b' := 0) (f' := 0) (rest := []) (av := [.ref c]) (z_siteS hb ho q2647 q1348 q125 ⟨_, _, _, _, zk_J21_of⟩ zy_J21_of zl_J21_of dX6_behind_18 : z_Site M _ _ _ _ _ ([.ref c].reverse ++ []) [] _) zk_J21_of q125 hrm (m_J21_of) (by omega) (by decide) (Nat.le_of_ble_eq_true rfl) (by omega) (by omega) ?_
    refine z_hn (fun h_1 eh_1 => ?_)
    have eh_1 : h_1 = z_up h n (.inr (25, [.ref c])) := eh_1
    have k_2 : h_1 d = some (.inr (5, [.ref c, .null, .null, .null, .null, .int (nI 0), .int nu, .int dt])) := z_nx eh_1 (Nat.ne_of_lt (hdm _ _ hd)) hd
    have k_3 : h_1 c = some (.inr (5, fs9)) := z_nx eh_1 (Nat.ne_of_lt (hdm _ _ hc)) hc
    refine z_goto (tgt := 27) hb dX6_behind_21 (by decide) ?_
    refine z_aret hb hr (Or.inl ⟨_, rfl⟩) (Or.inr ⟨_, rfl⟩) dX6_behind_27 ?_
    rw [hQ]
    exact ⟨rfl, eh_1, rfl⟩

set_option maxHeartbeats 1000000 in
theorem m_X1_denialCause_ok {l : Launch} {G : zG} {h : zH} {n : Nat} {x la pa bu li d c : Nat} {fa : Int32} {sn : Option Nat} {nu dt nu2 dt2 : Int32} {c2 : Option Nat} (hO : h x = some (z_Ob la pa bu li fa (some d) sn)) (hd : h d = some (.inr (5, [.ref c, .null, .null, .null, .null, .int (nI 0), .int nu, .int dt]))) (hd0 : z_n0 G ≤ d) (hc : h c = some (.inr (5, [va_rf c2, .null, .null, .null, .null, .int (nI 0), .int nu2, .int dt2]))) (hcd : c ≠ d) : z_C l G yX1_denialCause 9 4 20 [.ref x] h n (z_rn (.int nu2) h) := by
  refine z_start zk_X1_denialCause zpl_RX1 (Nat.le_of_ble_eq_true rfl) ?_
  intro hn0 M hl hG ho hb hN hr hm hH hrm hQ
  subst hl hG
  have ho : zm_o M = RX1 := ho
  show z_V M h n 4 20 0 [(0, .ref x)] []
  refine z_dom (fun hD0 => ?_)
  refine z_aload_n hb dX1_denialCause_0 rfl ?_
  refine z_call1 (b' := 3) (f' := 14) (rest := []) (av := [.ref x]) (z_siteV hb ho zc0 hO q2618 q2620 qs29 ⟨_, _, _, _, zk_X1_latestDenial⟩ zy_X1_latestDenial zl_X1_latestDenial dX1_denialCause_1 : z_Site M _ _ _ _ _ ([].reverse ++ .ref x :: []) [] _) zk_X1_latestDenial q94 hrm (m_X1_latestDenial_ok hO) (by omega) (by decide) (Nat.le_of_ble_eq_true rfl) (by omega) (by omega) ?_
  refine z_dom (fun hD_1 => ?_)
  refine z_call1 (b' := 2) (f' := 13) (rest := []) (av := [.ref d]) (z_siteV hb ho zc5 hd q2636 q2637 q2638 ⟨_, _, _, _, zk_X6_behind⟩ zy_X6_behind zl_X6_behind dX1_denialCause_4 : z_Site M _ _ _ _ _ ([].reverse ++ .ref d :: []) [] _) zk_X6_behind q121 hrm (m_X6_behind_s hd hd0 hc hcd) (by omega) (by decide) (Nat.le_of_ble_eq_true rfl) (by omega) (by omega) ?_
  refine z_hn (fun h_2 eh_2 => ?_)
  have eh_2 : h_2 = z_up h n (.inr (25, [.ref c])) := eh_2
  have k_3 : h_2 x = some (.inr (0, [.ref la, .ref pa, .ref bu, .ref li, .int fa, .ref d, va_rf sn])) := z_nx eh_2 (Nat.ne_of_lt (hD_1 _ _ hO)) hO
  have k_4 : h_2 d = some (.inr (5, [.ref c, .null, .null, .null, .null, .int (nI 0), .int nu, .int dt])) := z_nx eh_2 (Nat.ne_of_lt (hD_1 _ _ hd)) hd
  have k_5 : h_2 c = some (.inr (5, [va_rf c2, .null, .null, .null, .null, .int (nI 0), .int nu2, .int dt2])) := z_nx eh_2 (Nat.ne_of_lt (hD_1 _ _ hc)) hc
  refine z_astore_n (lv' := [(1, .ref n), (0, .ref x)]) hb dX1_denialCause_7 (by rw [hN]; decide) rfl ?_
  refine z_aload_n hb dX1_denialCause_8 rfl ?_
  refine z_call1 (b' := 2) (f' := 13) (rest := []) (av := [.ref n]) (z_siteV hb ho zc25 (z_nxs eh_2) q2463 q1364 q1365 ⟨_, _, _, _, zk_J21_isPresent⟩ zy_J21_isPresent zl_J21_isPresent dX1_denialCause_9 : z_Site M _ _ _ _ _ ([].reverse ++ .ref n :: []) [] _) zk_J21_isPresent q125 hrm (m_J21_isPresent_t (z_nxs eh_2)) (by omega) (by decide) (Nat.le_of_ble_eq_true rfl) (by omega) (by omega) ?_
  refine z_callC0 (b' := 1) (f' := 7) (rest := []) (av := [.int (z_b true)]) (z_siteS hb ho q1724 q1368 q94 ⟨_, _, _, _, zk_X1_requireElement⟩ zy_X1_requireElement zl_X1_requireElement dX1_denialCause_12 : z_Site M _ _ _ _ _ ([.int (z_b true)].reverse ++ []) [] _) zk_X1_requireElement q94 hrm (m_X1_requireElement true) (by omega) (by decide) (Nat.le_of_ble_eq_true rfl) (by omega) (by omega) (fun c_12 => ?_) (fun c_12 => ?_)
  · refine z_aload_n hb dX1_denialCause_15 rfl ?_
    refine z_call1 (b' := 1) (f' := 7) (rest := []) (av := [.ref n]) (z_siteV hb ho zc25 (z_nxs eh_2) q2464 q1373 q1374 ⟨_, _, _, _, zk_J21_get⟩ zy_J21_get zl_J21_get dX1_denialCause_16 : z_Site M _ _ _ _ _ ([].reverse ++ .ref n :: []) [] _) zk_J21_get q125 hrm (m_J21_get (z_nxs eh_2)) (by omega) (by decide) (Nat.le_of_ble_eq_true rfl) (by omega) (by omega) ?_
    refine z_cast hb ho zc5 k_5 q816 (Or.inl rfl) dX1_denialCause_19 ?_
    refine z_get (k := 6) (C := RX6) (T := TX6) (N := 8) hb ho zc5 in_X6 (zf_RX1_426 _) dX1_denialCause_22 k_5 (by decide) rfl ?_
    refine z_less (z_exN z_ex_r hD_1 eh_2) ?_
    refine z_iret hb hr dX1_denialCause_25 ?_
    rw [hQ]
    exact ⟨rfl, rfl⟩
  · cases c_12

set_option maxHeartbeats 1000000 in
theorem m_X1_denialCause_null {l : Launch} {G : zG} {h : zH} {n : Nat} {x la pa bu li d : Nat} {fa : Int32} {sn : Option Nat} {nu dt : Int32} (hO : h x = some (z_Ob la pa bu li fa (some d) sn)) (hd : h d = some (.inr (5, [.null, .null, .null, .null, .null, .int (nI 0), .int nu, .int dt]))) (hd0 : z_n0 G ≤ d) (hOE : h (G.2.2.1 1003) = some (.inr (25, [.null]))) : z_C l G yX1_denialCause 9 4 20 [.ref x] h n (z_tf 26 [] h n) := by
  refine z_start zk_X1_denialCause zpl_RX1 (Nat.le_of_ble_eq_true rfl) ?_
  intro hn0 M hl hG ho hb hN hr hm hH hrm hQ
  subst hl hG
  have ho : zm_o M = RX1 := ho
  show z_V M h n 4 20 0 [(0, .ref x)] []
  refine z_dom (fun hD0 => ?_)
  refine z_aload_n hb dX1_denialCause_0 rfl ?_
  refine z_call1 (b' := 3) (f' := 14) (rest := []) (av := [.ref x]) (z_siteV hb ho zc0 hO q2618 q2620 qs29 ⟨_, _, _, _, zk_X1_latestDenial⟩ zy_X1_latestDenial zl_X1_latestDenial dX1_denialCause_1 : z_Site M _ _ _ _ _ ([].reverse ++ .ref x :: []) [] _) zk_X1_latestDenial q94 hrm (m_X1_latestDenial_ok hO) (by omega) (by decide) (Nat.le_of_ble_eq_true rfl) (by omega) (by omega) ?_
  refine z_call1 (b' := 2) (f' := 13) (rest := []) (av := [.ref d]) (z_siteV hb ho zc5 hd q2636 q2637 q2638 ⟨_, _, _, _, zk_X6_behind⟩ zy_X6_behind zl_X6_behind dX1_denialCause_4 : z_Site M _ _ _ _ _ ([].reverse ++ .ref d :: []) [] _) zk_X6_behind q121 hrm (m_X6_behind_n hd hd0 hOE) (by omega) (by decide) (Nat.le_of_ble_eq_true rfl) (by omega) (by omega) ?_
  refine z_astore_n (lv' := [(1, .ref ((zm_G M).2.2.1 1003)), (0, .ref x)]) hb dX1_denialCause_7 (by rw [hN]; decide) rfl ?_
  refine z_aload_n hb dX1_denialCause_8 rfl ?_
  refine z_call1 (b' := 2) (f' := 13) (rest := []) (av := [.ref ((zm_G M).2.2.1 1003)]) (z_siteV hb ho zc25 hOE q2463 q1364 q1365 ⟨_, _, _, _, zk_J21_isPresent⟩ zy_J21_isPresent zl_J21_isPresent dX1_denialCause_9 : z_Site M _ _ _ _ _ ([].reverse ++ .ref ((zm_G M).2.2.1 1003) :: []) [] _) zk_J21_isPresent q125 hrm (m_J21_isPresent_f (x := 0) hOE) (by omega) (by decide) (Nat.le_of_ble_eq_true rfl) (by omega) (by omega) ?_
  refine z_callC0 (b' := 1) (f' := 7) (rest := []) (av := [.int (z_b false)]) (z_siteS hb ho q1724 q1368 q94 ⟨_, _, _, _, zk_X1_requireElement⟩ zy_X1_requireElement zl_X1_requireElement dX1_denialCause_12 : z_Site M _ _ _ _ _ ([.int (z_b false)].reverse ++ []) [] _) zk_X1_requireElement q94 hrm (m_X1_requireElement false) (by omega) (by decide) (Nat.le_of_ble_eq_true rfl) (by omega) (by omega) (fun c_12 => ?_) (fun c_12 => ?_)
  · cases c_12
  · exact z_out ho hH zc26 z_up_s (by omega) (fun _ h => nomatch h) (by rw [hQ]; exact ⟨_, rfl, by omega, Nat.lt_succ_self _, rfl⟩)

