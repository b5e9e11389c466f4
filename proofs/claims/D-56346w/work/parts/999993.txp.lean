set_option maxHeartbeats 1000000 in
theorem m_X1_restoreSnapshot_ok {l : Launch} {G : zG} {h : zH} {n : Nat} {x la pa bu li : Nat} {fa : Int32} {d : Nat} {de : Option Nat} {e dep : Nat} {P : Nat → Nat} {w : Nat → Int32} {v : Nat → Int64} {R S D c9 : Nat} (hO : h x = some (z_Ob la pa bu li fa de (some d))) (hx0 : z_n0 G ≤ x) (hP : z_Pd G h pa e dep P) (hL : z_LN G h w v R S D d) (hI : z_inv w v R S D c9) (hK : z_KC G h) : z_C l G yX1_restoreSnapshot 8 94 3424 [.ref x] h n (z_q1 (fun r9 h9 n9 => r9 = .int (nI R) ∧ h9 x = some (z_Ob n pa bu li fa de (some d)) ∧ z_Pd G h9 pa e 0 P ∧ z_LN G h9 w v R S D n ∧ z_fr (fun y => y = x ∨ y = pa ∨ y = e) h h9)) := by
  refine z_start zk_X1_restoreSnapshot zpl_RX1 (Nat.le_of_ble_eq_true rfl) ?_
  intro hn0 M hl hG ho hb hN hr hm hH hrm hQ
  subst hl hG
  have ho : zm_o M = RX1 := ho
  refine z_dom (fun hdm => ?_)
  have hxn := hdm _ _ hO
  obtain ⟨fE, hEM⟩ := hK.em
  obtain ⟨lr, ls, lv, ra, sa, va, hLn⟩ := id hL
  obtain ⟨hw, -⟩ := id hI
  obtain ⟨-, hR4, -, hS8, -, hD6, -⟩ := id hw
  obtain ⟨hd, tl, f9, hP1, hP2, n1, n2, hh, ht, hd9, h8, hf⟩ := id hP
  show z_V M h n 94 3424 0 [(0, .ref x)] []
  refine z_aload_n hb dX1_restoreSnapshot_0 rfl ?_
  refine z_get (k := 6) (C := RX1) (T := TX1) (N := 7) hb ho zc0 in_X1 (zf_RX1_439 _) dX1_restoreSnapshot_1 hO (by decide) rfl ?_
  refine z_ifnull hb dX1_restoreSnapshot_4 ?_
  refine z_iconst (x := nI 1) hb dX1_restoreSnapshot_7 (by decide) ?_
  refine z_toI (y := z_b true) (by decide) ?_
  refine z_goto (tgt := 12) hb dX1_restoreSnapshot_8 (by decide) ?_
  refine z_callC0 (b' := 93) (f' := 3418) (rest := []) (av := [.int (z_b true)]) (z_siteS hb ho q2217 q2218 q94 ⟨_, _, _, _, zk_X1_requireState⟩ zy_X1_requireState zl_X1_requireState dX1_restoreSnapshot_12 : z_Site M _ _ _ _ _ ([.int (z_b true)].reverse ++ []) [] _) zk_X1_requireState q94 hrm (m_X1_requireState true) (by omega) (by decide) (Nat.le_of_ble_eq_true rfl) (by omega) (by omega) (fun c_12 => ?_) (fun c_12 => ?_)
  · refine z_aload_n hb dX1_restoreSnapshot_15 rfl ?_
    refine z_new (N0 := 8) (b' := 92) (f' := 3410) (fs := [.null, .null, .null, .int (nI 0), .int (nI 0), .int (nI 0), .int (nI 0), .int (nI 0)]) (C := RX2) (T := TX2) (N := 8) hb ho zc1 in_X2 tyX2_ok q157 q158 q95 dX1_restoreSnapshot_16 (zdf_X2) (by omega) (by omega) ?_
    refine z_hn (fun h_1 eh_1 => ?_)
    have eh_1 : h_1 = z_up h n (.inr (1, [.null, .null, .null, .int (nI 0), .int (nI 0), .int (nI 0), .int (nI 0), .int (nI 0)])) := eh_1
    have k_2 : h_1 x = some (.inr (0, [.ref la, .ref pa, .ref bu, .ref li, .int fa, va_rf de, .ref d])) := z_nx eh_1 (Nat.ne_of_lt hxn) hO
    have k_3 : h_1 pa = some (.inr (21, [.ref e, .int (nI hd), .int (nI tl)])) := z_nx eh_1 (Nat.ne_of_lt (hdm _ _ hP1)) hP1
    have k_4 : h_1 e = some (.inl ((zm_G M).2.1 5, 17, .inr (.inr (.inr (.inr f9))))) := z_nx eh_1 (Nat.ne_of_lt (hdm _ _ hP2)) hP2
    refine z_dup hb dX1_restoreSnapshot_19 rfl ?_
    refine z_aload_n hb dX1_restoreSnapshot_20 rfl ?_
    refine z_get (k := 6) (C := RX1) (T := TX1) (N := 7) hb ho zc0 in_X1 (zf_RX1_439 _) dX1_restoreSnapshot_21 k_2 (by decide) rfl ?_
    refine z_callQ0 (b' := 0) (f' := 10) (rest := [.ref n, .ref x]) (av := [.ref n, .ref d]) (z_siteI hb ho q470 q471 q472 rfl zy_X2_init_2 zl_X2_init_2 dX1_restoreSnapshot_24 : z_Site M _ _ _ _ _ ([.ref d].reverse ++ .ref n :: [.ref n, .ref x]) [.ref n, .ref x] _) zk_X2_init_2 q95 hrm (m_X2_init_2 (b0 := n) (hLn.ex (z_exN z_ex_r hdm eh_1)) hR4 hS8 hD6 (z_nxs eh_1) ((z_exN z_ex_r hdm eh_1) _ _ hEM) hK.e0 hn0 (Nat.le_refl n) (Nat.le_succ n)) (by omega) (by decide) (Nat.le_of_ble_eq_true rfl) (by omega) (by omega) (fun h8 n8 hq8 hn8 => ?_)
    obtain ⟨hDR, hf1⟩ := hq8
    obtain ⟨lr2, ls2, lv2, ra2, sa2, va2, hL2⟩ := id hDR.lN
    obtain ⟨k1, ⟨e02, N02, m02, f02, k2, k3, -⟩, -⟩ := id hL2
    have he2 : z_ex h h8 := fun y c q => hf1 y c ((z_exN z_ex_r hdm eh_1) y c q) (fun z => by have := hdm y c q; omega)
    have hx8 := he2 _ _ hO
    have hp18 := he2 _ _ hP1
    have hp28 := he2 _ _ hP2
    refine z_put (k := 0) (C := RX1) (T := TX1) (N := 7) hb ho zc0 in_X1 tyX1_ok nmX1 (zf_RX1_41 _) dX1_restoreSnapshot_27 hx8 hx0 (by decide) (Or.inl rfl) rfl rfl rfl (Nat.le_of_ble_eq_true rfl) ?_
    refine z_hn (fun h_5 eh_5 => ?_)
    have eh_5 : h_5 = z_up h8 x (.inr (0, [.ref n, .ref pa, .ref bu, .ref li, .int fa, va_rf de, .ref d])) := eh_5
    have k_6 : h_5 n = some (.inr (1, [.ref lr2, .ref ls2, .ref lv2, .int (nI D), .int (w 2), .int (w 4), .int (w 5), .int (w 6)])) := z_nx eh_5 (z_neO k1 hx8 rfl) k1
    have k_7 : h_5 lr2 = some (.inr (20, [.int m02, .ref e02, .int (nI R)])) := z_nx eh_5 (z_neO k2 hx8 rfl) k2
    have k_8 : h_5 pa = some (.inr (21, [.ref e, .int (nI hd), .int (nI tl)])) := z_nx eh_5 (z_neO hp18 hx8 rfl) hp18
    have k_9 : h_5 e = some (.inl ((zm_G M).2.1 5, 17, .inr (.inr (.inr (.inr f9))))) := z_nx eh_5 (z_neA' hp28 hx8) hp28
    refine z_aload_n hb dX1_restoreSnapshot_30 rfl ?_
    refine z_get (k := 1) (C := RX1) (T := TX1) (N := 7) hb ho zc0 in_X1 (zf_RX1_48 _) dX1_restoreSnapshot_31 (z_nxs eh_5) (by decide) rfl ?_
    refine z_call0 (b' := 0) (f' := 10) (rest := []) (av := [.ref pa]) (z_siteV hb ho zc21 k_8 q2682 q2683 q2684 ⟨_, _, _, _, zk_J3_clear⟩ zy_J3_clear zl_J3_clear dX1_restoreSnapshot_34 : z_Site M _ _ _ _ _ ([].reverse ++ .ref pa :: []) [] _) zk_J3_clear q99 hrm (m_J3_clear k_8 k_9 n1 n2 hh ht) (by omega) (by decide) (Nat.le_of_ble_eq_true rfl) (by omega) (by omega) ?_
    obtain ⟨h_10, eh_10⟩ : ∃ h_10, h_10 = z_up h_5 e (.inl ((zm_G M).2.1 5, 17, .inr (.inr (.inr (.inr (z_dqc f9 hd tl 1 tl)))))) := ⟨_, rfl⟩
    have k_11 : h_10 n = some (.inr (1, [.ref lr2, .ref ls2, .ref lv2, .int (nI D), .int (w 2), .int (w 4), .int (w 5), .int (w 6)])) := z_nx eh_10 (z_neA k_6 k_9) k_6
    have k_12 : h_10 lr2 = some (.inr (20, [.int m02, .ref e02, .int (nI R)])) := z_nx eh_10 (z_neA k_7 k_9) k_7
    have k_13 : h_10 pa = some (.inr (21, [.ref e, .int (nI hd), .int (nI tl)])) := z_nx eh_10 (z_neA k_8 k_9) k_8
    have k_14 : h_10 x = some (.inr (0, [.ref n, .ref pa, .ref bu, .ref li, .int fa, va_rf de, .ref d])) := z_nx eh_10 (z_neA (z_nxs eh_5) k_9) (z_nxs eh_5)
    refine z_hh (h2 := z_up h_10 pa (.inr (21, [.ref e, .int (nI 0), .int (nI 0)]))) (by rw [eh_10]) ?_
    refine z_hn (fun h_15 eh_15 => ?_)
    have eh_15 : h_15 = z_up h_10 pa (.inr (21, [.ref e, .int (nI 0), .int (nI 0)])) := eh_15
    have k_16 : h_15 n = some (.inr (1, [.ref lr2, .ref ls2, .ref lv2, .int (nI D), .int (w 2), .int (w 4), .int (w 5), .int (w 6)])) := z_nx eh_15 (z_neO k_11 k_13 rfl) k_11
    have k_17 : h_15 lr2 = some (.inr (20, [.int m02, .ref e02, .int (nI R)])) := z_nx eh_15 (z_neO k_12 k_13 rfl) k_12
    have k_18 : h_15 x = some (.inr (0, [.ref n, .ref pa, .ref bu, .ref li, .int fa, va_rf de, .ref d])) := z_nx eh_15 (z_neO k_14 k_13 rfl) k_14
    have k_19 : h_15 e = some (.inl ((zm_G M).2.1 5, 17, .inr (.inr (.inr (.inr (z_dqc f9 hd tl 1 tl)))))) := z_nx eh_15 (z_neA' (z_nxs eh_10) k_13) (z_nxs eh_10)
    refine z_aload_n hb dX1_restoreSnapshot_37 rfl ?_
    refine z_get (k := 0) (C := RX1) (T := TX1) (N := 7) hb ho zc0 in_X1 (zf_RX1_41 _) dX1_restoreSnapshot_38 k_18 (by decide) rfl ?_
    refine z_get (k := 0) (C := RX2) (T := TX2) (N := 8) hb ho zc1 in_X2 (zf_RX1_123 _) dX1_restoreSnapshot_41 k_16 (by decide) rfl ?_
    refine z_call1 (b' := 0) (f' := 10) (rest := []) (av := [.ref lr2]) (z_siteF hb ho zc20 k_17 q318 zx0 q322 q324 q325 q323 q321 zxl0 dX1_restoreSnapshot_44 : z_Site M _ _ _ _ _ ([].reverse ++ .ref lr2 :: []) [] _) zk_J2_size q98 hrm (m_J2_size k_17) (by omega) (by decide) (Nat.le_of_ble_eq_true rfl) (by omega) (by omega) ?_
    have hfr9 := ((z_fr_up (P := fun y => y = x ∨ y = pa ∨ y = e) (Or.inl rfl) eh_5).t (z_fr_up (Or.inr (Or.inr rfl)) eh_10)).t (z_fr_up (Or.inr (Or.inl rfl)) eh_15)
    refine z_iret hb hr dX1_restoreSnapshot_49 ?_
    rw [hQ]
    exact ⟨_, rfl, rfl, k_18, z_Pd_clr (z_nxs eh_15) k_19 n1 n2, hDR.lN.kq (hfr9.kq (z_nlj hx8 (hP.ex he2))), hfr9.t0 he2⟩
  · cases c_12

set_option maxHeartbeats 1000000 in
theorem m_X1_restoreSnapshot_no {l : Launch} {G : zG} {h : zH} {n : Nat} {x la pa bu li : Nat} {fa : Int32} {de : Option Nat} (hO : h x = some (z_Ob la pa bu li fa de none)) : z_C l G yX1_restoreSnapshot 8 94 3424 [.ref x] h n (z_thr (z_up h n (.inr (29, []))) (n + 1) n) := by
  refine z_start zk_X1_restoreSnapshot zpl_RX1 (Nat.le_of_ble_eq_true rfl) ?_
  intro hn0 M hl hG ho hb hN hr hm hH hrm hQ
  subst hl hG
  have ho : zm_o M = RX1 := ho
  show z_V M h n 94 3424 0 [(0, .ref x)] []
  refine z_aload_n hb dX1_restoreSnapshot_0 rfl ?_
  refine z_get (k := 6) (C := RX1) (T := TX1) (N := 7) hb ho zc0 in_X1 (zf_RX1_439 _) dX1_restoreSnapshot_1 hO (by decide) rfl ?_
  refine z_ifnullN (tgt := 11) hb dX1_restoreSnapshot_4 (by decide) ?_
  refine z_iconst (x := nI 0) hb dX1_restoreSnapshot_11 (by decide) ?_
  refine z_toI (y := z_b false) (by decide) ?_
  refine z_callC0 (b' := 93) (f' := 3418) (rest := []) (av := [.int (z_b false)]) (z_siteS hb ho q2217 q2218 q94 ⟨_, _, _, _, zk_X1_requireState⟩ zy_X1_requireState zl_X1_requireState dX1_restoreSnapshot_12 : z_Site M _ _ _ _ _ ([.int (z_b false)].reverse ++ []) [] _) zk_X1_requireState q94 hrm (m_X1_requireState false) (by omega) (by decide) (Nat.le_of_ble_eq_true rfl) (by omega) (by omega) (fun c_12 => ?_) (fun c_12 => ?_)
  · cases c_12
  · exact z_out ho hH zc29 z_up_s (by omega) (fun _ h => nomatch h) (by rw [hQ]; exact ⟨rfl, rfl, rfl⟩)

