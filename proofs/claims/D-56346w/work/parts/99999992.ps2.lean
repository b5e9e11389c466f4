set_option maxHeartbeats 1000000 in
theorem m_X1_parse {l : Launch} {G : zG} {h : zH} {n : Nat} {x la pa bu li : Nat} {fa : Int32} {de sn : Option Nat} {eb cd : Nat} {cs : List Nat} (hO : h x = some (z_Ob la pa bu li fa de sn)) (hx0 : z_n0 G ≤ x) (hBF : z_BF G h bu eb cd cs) (hT : cs.length ≤ 60) (hKS : z_KS G h) (hK : z_KC G h) : z_C l G yX1_parse 15 (40 * cs.length + 315) (6700 * cs.length + 33310) [.ref x] h n (z_pq9 G x la pa bu li fa de sn eb cd n h cs) := by
  refine z_start zk_X1_parse zpl_RX1 (Nat.le_of_ble_eq_true rfl) ?_
  intro hn0 M hl hG ho hb hN hr hm hH hrm hQ
  subst hl hG
  have ho : zm_o M = RX1 := ho
  obtain ⟨fsb, hob⟩ := z_BF.o hBF
  show z_V M h n (40 * cs.length + 315) (6700 * cs.length + 33310) 0 [(0, .ref x)] []
  refine z_dom (fun hD0 => ?_)
  refine z_dom (fun hD_1 => ?_)
  refine z_new (N0 := 2) (b' := (40 * cs.length + 315) - 1) (f' := (6700 * cs.length + 33310) - 2) (fs := [.int (nI 0), .null]) (C := RX22) (T := TX22) (N := 2) hb ho zc18 in_X22 tyX22_ok q2257 q2258 q146 dX1_parse_0 (zdf_X22) (by omega) (by omega) ?_
  refine z_hn (fun h_2 eh_2 => ?_)
  have eh_2 : h_2 = z_up h n (.inr (18, [.int (nI 0), .null])) := eh_2
  have k_3 : h_2 x = some (.inr (0, [.ref la, .ref pa, .ref bu, .ref li, .int fa, va_rf de, va_rf sn])) := z_nx eh_2 (Nat.ne_of_lt (hD_1 _ _ hO)) hO
  have k_4 : h_2 bu = some (.inr (22, fsb)) := z_nx eh_2 (Nat.ne_of_lt (hD_1 _ _ hob)) hob
  refine z_dup hb dX1_parse_3 rfl ?_
  refine z_aload_n hb dX1_parse_4 rfl ?_
  refine z_call0 (b' := (40 * cs.length + 315) - 1) (f' := (6700 * cs.length + 33310) - 2) (rest := [.ref n]) (av := [.ref n, .ref x]) (z_siteIN hb ho q2259 q2260 q2261 rfl zy_X22_init zl_X22_init dX1_parse_5 : z_Site M _ _ _ _ _ ([.ref x].reverse ++ .ref n :: [.ref n]) [.ref n] _) zk_X22_init q146 hrm (m_X22_init (z_nxs eh_2) (by omega)) (by omega) (by decide) (Nat.le_of_ble_eq_true rfl) (by omega) (by omega) ?_
  refine z_hn (fun h_5 eh_5 => ?_)
  have eh_5 : h_5 = z_up h_2 n (.inr (18, [.int (nI 0), .ref x])) := eh_5
  have k_6 : h_5 x = some (.inr (0, [.ref la, .ref pa, .ref bu, .ref li, .int fa, va_rf de, va_rf sn])) := z_nx eh_5 (Nat.ne_of_lt (hD_1 _ _ hO)) k_3
  have k_7 : h_5 bu = some (.inr (22, fsb)) := z_nx eh_5 (Nat.ne_of_lt (hD_1 _ _ hob)) k_4
  refine z_call (b' := ((40 * cs.length + 315) - 1) - (40 * cs.length + 310)) (f' := ((6700 * cs.length + 33310) - 2) - (6700 * cs.length + 33000)) (rest := []) (av := [.ref n]) (z_siteV hb ho zc18 (z_nxs eh_5) q2270 q2271 q2272 ⟨_, _, _, _, zk_X22_text⟩ zy_X22_text zl_X22_text dX1_parse_8 : z_Site M _ _ _ _ _ ([].reverse ++ .ref n :: []) [] _) zk_X22_text q146 hrm (m_X22_text (z_nxs eh_5) k_6 (hBF.exx (z_exW hD0 (by omega) eh_5 (z_exN z_ex_r hD_1 eh_2))) hT (hKS.ex (z_exW hD0 (by omega) eh_5 (z_exN z_ex_r hD_1 eh_2))) (by omega) (hK.ex (z_exW hD0 (by omega) eh_5 (z_exN z_ex_r hD_1 eh_2)))) (by omega) (by decide) (Nat.le_of_ble_eq_true rfl) (by omega) (by omega) (fun v9 h9 n9 hq9 hn9 => ?_) (fun q9 h9 n9 hq9 hn9 => ?_)
  · obtain ⟨l9, e9, c9, g9, P9, K9, hv9, hc1, hc3, hch, hce, hLx, hck, hfr9⟩ := z_tq9_r hq9
    subst hv9
    refine z_dom (fun hdd9 => ?_)
    have hx9 := z_exT hD0 (Nat.le_refl n) (z_exW hD0 (by omega) eh_5 (z_exN z_ex_r hD_1 eh_2)) hfr9
    have hX9 := hx9 _ _ hO
    obtain ⟨fsb9, hob9⟩ := z_BF.o (hBF.exx hx9)
    obtain ⟨-, -, N9, m9, f9, li9, -⟩ := id hLx
    refine z_dom (fun hD_8 => ?_)
    refine z_call1 (b' := (((40 * cs.length + 315) - 1) - (40 * cs.length + 310)) - 1) (f' := (((6700 * cs.length + 33310) - 2) - (6700 * cs.length + 33000)) - 1) (rest := []) (av := [.ref l9]) (z_siteS hb ho q2409 q1348 q125 ⟨_, _, _, _, zk_J21_of⟩ zy_J21_of zl_J21_of dX1_parse_11 : z_Site M _ _ _ _ _ ([.ref l9].reverse ++ []) [] _) zk_J21_of q125 hrm (m_J21_of) (by omega) (by decide) (Nat.le_of_ble_eq_true rfl) (by omega) (by omega) ?_
    refine z_hn (fun h_9 eh_9 => ?_)
    have eh_9 : h_9 = z_up h9 n9 (.inr (25, [.ref l9])) := eh_9
    have k_10 : h_9 x = some (.inr (0, [.ref la, .ref pa, .ref bu, .ref li, .int fa, va_rf de, va_rf sn])) := z_nx eh_9 (Nat.ne_of_lt (hD_8 _ _ hX9)) hX9
    have k_11 : h_9 bu = some (.inr (22, fsb9)) := z_nx eh_9 (Nat.ne_of_lt (hD_8 _ _ hob9)) hob9
    have k_12 : h_9 l9 = some (.inr (20, [.int m9, .ref e9, .int (nI c9)])) := z_nx eh_9 (Nat.ne_of_lt (hD_8 _ _ li9)) li9
    refine z_astore_n (lv' := [(1, .ref n9), (0, .ref x)]) hb dX1_parse_14 (by rw [hN]; decide) rfl ?_
    refine z_aload_n hb dX1_parse_15 rfl ?_
    refine z_get (k := 2) (C := RX1) (T := TX1) (N := 7) hb ho zc0 in_X1 (zf_RX1_55 _) dX1_parse_16 k_10 (by decide) rfl ?_
    refine z_iconst (x := nI 0) hb dX1_parse_19 (by decide) ?_
    refine z_callQ0 (b' := ((((40 * cs.length + 315) - 1) - (40 * cs.length + 310)) - 1) - 1) (f' := ((((6700 * cs.length + 33310) - 2) - (6700 * cs.length + 33000)) - 1) - 300) (rest := []) (av := [.ref bu, .int (nI 0)]) (z_siteV hb ho zc22 k_11 q2410 q2411 q2412 ⟨_, _, _, _, zk_J5_setLength⟩ zy_J5_setLength zl_J5_setLength dX1_parse_20 : z_Site M _ _ _ _ _ ([.int (nI 0)].reverse ++ .ref bu :: []) [] _) zk_J5_setLength q101 hrm (m_J5_setLength (hBF.exx (z_exN hx9 hD_8 eh_9)) (by omega)) (by omega) (by decide) (Nat.le_of_ble_eq_true rfl) (by omega) (by omega) (fun h5 n5 hq5 hn5 => ?_)
    obtain ⟨eb5, hB5, he5, hfr5⟩ := hq5
    refine z_aload_n hb dX1_parse_23 rfl ?_
    have hop5 := hfr5 _ _ (z_nxs eh_9) (z_ne_bf (hBF.exx (z_exN hx9 hD_8 eh_9)) (z_nxs eh_9) (by decide))
    refine z_aret hb hr (Or.inl ⟨_, rfl⟩) (Or.inr ⟨_, rfl⟩) dX1_parse_24 ?_
    rw [hQ]
    exact ⟨_, hB5, he5.imp id (fun z => by omega), Or.inl ⟨n9, l9, e9, n + 1, c9, g9, P9, K9, hc1, hc3, hch, hce, rfl, by omega, hop5, by omega, (hLx.exq (z_exN z_ex_r hD_8 eh_9)).fb (hBF.exx (z_exN hx9 hD_8 eh_9)) hfr5, fun i hi => ((hck i hi).ex (z_exN z_ex_r hD_8 eh_9)).fb (hch.2.1 i hi).1 (hBF.exx (z_exN hx9 hD_8 eh_9)) hfr5, hfr5.t0 (z_exN hx9 hD_8 eh_9)⟩⟩
  · obtain ⟨r9, b19, b29, b39, b49⟩ := z_tq9_t hq9
    have hx9 := z_exT hD0 (Nat.le_refl n) (z_exW hD0 (by omega) eh_5 (z_exN z_ex_r hD_1 eh_2)) b49
    have hX9 := hx9 _ _ hO
    obtain ⟨fsb9, hob9⟩ := z_BF.o (hBF.exx hx9)
    refine z_catch ho hH (pre := []) (suf := [((0 : Nat), (15 : Nat), (48 : Nat), (0 : Nat)), ((25 : Nat), (38 : Nat), (48 : Nat), (0 : Nat))]) (x := ((0 : Nat), (15 : Nat), (25 : Nat), (362 : Nat))) rfl zc19 b39 (by omega) (fun _ h => nomatch h) ⟨by decide, by decide⟩ (by decide) q2256 q2332 ?_
    refine z_astore_n (lv' := [(1, .ref q9), (0, .ref x)]) hb dX1_parse_25 (by rw [hN]; decide) rfl ?_
    refine z_aload_n hb dX1_parse_26 rfl ?_
    refine z_aload_n hb dX1_parse_27 rfl ?_
    refine z_get (k := 6) (C := RX23) (T := TX23) (N := 7) hb ho zc19 in_X23 (zf_RX1_364 _) dX1_parse_28 b39 (by decide) rfl ?_
    refine z_put (k := 4) (C := RX1) (T := TX1) (N := 7) hb ho zc0 in_X1 tyX1_ok nmX1 (zf_RX1_65 _) dX1_parse_31 hX9 hx0 (by decide) (Or.inl rfl) rfl rfl rfl (Nat.le_of_ble_eq_true rfl) ?_
    refine z_hn (fun h_13 eh_13 => ?_)
    have eh_13 : h_13 = z_up h9 x (.inr (0, [.ref la, .ref pa, .ref bu, .ref li, .int (nI r9), va_rf de, va_rf sn])) := eh_13
    have k_14 : h_13 bu = some (.inr (22, fsb9)) := z_nx eh_13 (z_neO hob9 hX9 rfl) hob9
    have k_15 : h_13 q9 = some (.inr (19, [.null, .null, .null, .null, .null, .int (nI 0), .int (nI r9)])) := z_nx eh_13 (z_neO b39 hX9 rfl) b39
    refine z_call1 (b' := ((40 * cs.length + 315) - 1) - (40 * cs.length + 310)) (f' := ((6700 * cs.length + 33310) - 2) - (6700 * cs.length + 33000)) (rest := []) (av := []) (z_siteS hb ho q2462 q1343 q125 ⟨_, _, _, _, zk_J21_empty⟩ zy_J21_empty zl_J21_empty dX1_parse_34 : z_Site M _ _ _ _ _ ([].reverse ++ []) [] _) zk_J21_empty q125 hrm (m_J21_empty) (by omega) (by decide) (Nat.le_of_ble_eq_true rfl) (by omega) (by omega) ?_
    refine z_astore_n (lv' := [(2, .ref ((zm_G M).2.2.1 1003)), (1, .ref q9), (0, .ref x)]) hb dX1_parse_37 (by rw [hN]; decide) rfl ?_
    refine z_aload_n hb dX1_parse_38 rfl ?_
    refine z_get (k := 2) (C := RX1) (T := TX1) (N := 7) hb ho zc0 in_X1 (zf_RX1_55 _) dX1_parse_39 (z_nxs eh_13) (by decide) rfl ?_
    refine z_iconst (x := nI 0) hb dX1_parse_42 (by decide) ?_
    refine z_callQ0 (b' := (((40 * cs.length + 315) - 1) - (40 * cs.length + 310)) - 1) (f' := (((6700 * cs.length + 33310) - 2) - (6700 * cs.length + 33000)) - 300) (rest := []) (av := [.ref bu, .int (nI 0)]) (z_siteV hb ho zc22 k_14 q2410 q2411 q2412 ⟨_, _, _, _, zk_J5_setLength⟩ zy_J5_setLength zl_J5_setLength dX1_parse_43 : z_Site M _ _ _ _ _ ([.int (nI 0)].reverse ++ .ref bu :: []) [] _) zk_J5_setLength q101 hrm (m_J5_setLength ((hBF.exx hx9).frn hX9 (z_fr_up (P := fun y => y = x) rfl eh_13)) (by omega)) (by omega) (by decide) (Nat.le_of_ble_eq_true rfl) (by omega) (by omega) (fun h5 n5 hq5 hn5 => ?_)
    obtain ⟨eb5, hB5, he5, hfr5⟩ := hq5
    refine z_aload_n hb dX1_parse_46 rfl ?_
    refine z_aret hb hr (Or.inl ⟨_, rfl⟩) (Or.inr ⟨_, rfl⟩) dX1_parse_47 ?_
    rw [hQ]
    exact ⟨_, hB5, he5.imp id (fun z => by omega), Or.inr ⟨r9, b29, rfl, hfr5 _ _ (z_nxs eh_13) (z_ne_xb (z_nxs eh_13) ((hBF.exx hx9).frn hX9 (z_fr_up (P := fun y => y = x) rfl eh_13))), (z_fr.t (z_fr_up (P := fun y => y = x ∨ y = bu ∨ y = eb) (Or.inl rfl) eh_13) (hfr5.w (fun y z => Or.inr z))).t0 hx9⟩⟩

