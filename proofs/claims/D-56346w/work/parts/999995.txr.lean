set_option maxHeartbeats 1000000 in
theorem m_X1_requireDivisor_ok {l : Launch} {G : zG} {h : zH} {n : Nat} {x : Int32} (hx : x ≠ 0) : z_C l G yX1_requireDivisor 6 1 6 [.int x] h n (z_r0 h n) := by
  refine z_start zk_X1_requireDivisor zpl_RX1 (Nat.le_of_ble_eq_true rfl) ?_
  intro hn0 M hl hG ho hb hN hr hm hH hrm hQ
  subst hl hG
  have ho : zm_o M = RX1 := ho
  show z_V M h n 1 6 0 [(0, .int x)] []
  refine z_iload_n hb dX1_requireDivisor_0 rfl ?_
  refine z_if_ne (tgt := 12) hb dX1_requireDivisor_1 (by decide) (fun c_1 => ?_) (fun c_1 => ?_)
  · refine z_vret hb hr dX1_requireDivisor_12 ?_
    rw [hQ]
    exact ⟨rfl, rfl, rfl⟩
  · exact absurd (by simpa using c_1) hx

set_option maxHeartbeats 1000000 in
theorem m_X1_requireDivisor_no {l : Launch} {G : zG} {h : zH} {n : Nat} {x : Int32} (hx : x = 0) : z_C l G yX1_requireDivisor 6 1 6 [.int x] h n (z_thr (z_up h n (.inr (31, []))) (n + 1) n) := by
  refine z_start zk_X1_requireDivisor zpl_RX1 (Nat.le_of_ble_eq_true rfl) ?_
  intro hn0 M hl hG ho hb hN hr hm hH hrm hQ
  subst hl hG
  have ho : zm_o M = RX1 := ho
  show z_V M h n 1 6 0 [(0, .int x)] []
  refine z_iload_n hb dX1_requireDivisor_0 rfl ?_
  refine z_if_ne (tgt := 12) hb dX1_requireDivisor_1 (by decide) (fun c_1 => ?_) (fun c_1 => ?_)
  · exact absurd hx (by simpa using c_1)
  · refine z_throw0 (b' := 0) (f' := 0) (names := ["java/lang/RuntimeException", "java/lang/Exception"]) hb ho hH hrm zc31 (by decide +kernel) (by decide +kernel) q2195 q145 (fun args hW => zat_X1_requireDivisor args hW) dX1_requireDivisor_4 dX1_requireDivisor_7 dX1_requireDivisor_8 dX1_requireDivisor_11 (by decide) (by decide) (by decide) (by omega) (by omega) ?_
    rw [hQ]
    exact ⟨rfl, rfl, rfl⟩

set_option maxHeartbeats 1000000 in
theorem m_X1_meanAmount_ok {l : Launch} {G : zG} {h : zH} {n : Nat} {t : Nat} {x1 x2 x3 x4 x5 x6 : Value} {w : Nat → Int32} {v : Nat → Int64} {R S D a lr ls lv : Nat} {ra sa va : Nat → Nat}  (hX : h t = some (.inr (0, [.ref a, x1, x2, x3, x4, x5, x6]))) (hL : z_Ln G h w v R S D a lr ls lv ra sa va) (hR4 : R ≤ 40) (h0 : 0 < R) (hn9 : vf_n64 (FP.ddiv (FP.i2d (tw_am w R)) (FP.i2d (nI R)))) : z_C l G yX1_meanAmount 7 2 14 [.ref t] h n (z_rn (.double (FP.ddiv (FP.i2d (tw_am w R)) (FP.i2d (nI R)))) h) := by
  refine z_start zk_X1_meanAmount zpl_RX1 (Nat.le_of_ble_eq_true rfl) ?_
  intro hn0 M hl hG ho hb hN hr hm hH hrm hQ
  subst hl hG
  have ho : zm_o M = RX1 := ho
  obtain ⟨h1, ⟨e0, N0, m0, f0, r1, r2, r3, ⟨r4, r4n⟩, r5⟩, ⟨e, N, m9, f, h3, h4, h5, ⟨h6, h6n⟩, h7⟩, ⟨ev, Nv, mv, fv, v1, v2, v3, ⟨v4, v4n⟩, v5⟩, h9, hs, hv, hi, hrI⟩ := id hL
  show z_V M h n 2 14 0 [(0, .ref t)] []
  refine z_dom (fun hD0 => ?_)
  refine z_aload_n hb dX1_meanAmount_0 rfl ?_
  refine z_call1 (b' := 2) (f' := 14) (rest := []) (av := [.ref t]) (z_siteV hb ho zc0 hX q2191 q314 q315 ⟨_, _, _, _, zk_X1_rows⟩ zy_X1_rows zl_X1_rows dX1_meanAmount_1 : z_Site M _ _ _ _ _ ([].reverse ++ .ref t :: []) [] _) zk_X1_rows q94 hrm (m_X1_rows hX hL) (by omega) (by decide) (Nat.le_of_ble_eq_true rfl) (by omega) (by omega) ?_
  refine z_call0 (b' := 1) (f' := 8) (rest := []) (av := [.int (nI R)]) (z_siteS hb ho q2192 q2193 q94 ⟨_, _, _, _, zk_X1_requireDivisor⟩ zy_X1_requireDivisor zl_X1_requireDivisor dX1_meanAmount_4 : z_Site M _ _ _ _ _ ([.int (nI R)].reverse ++ []) [] _) zk_X1_requireDivisor q94 hrm (m_X1_requireDivisor_ok (fun z => absurd ((nI_eq (b := 0) (by omega) (by omega)).mp z) (by omega))) (by omega) (by decide) (Nat.le_of_ble_eq_true rfl) (by omega) (by omega) ?_
  refine z_iconst (x := nI 0) hb dX1_meanAmount_7 (by decide) ?_
  refine z_istore_n (lv' := [(1, .int (nI 0)), (0, .ref t)]) hb dX1_meanAmount_8 (by rw [hN]; decide) rfl ?_
  refine z_aload_n hb dX1_meanAmount_9 rfl ?_
  refine z_get (k := 0) (C := RX1) (T := TX1) (N := 7) hb ho zc0 in_X1 (zf_RX1_41 _) dX1_meanAmount_10 hX (by decide) rfl ?_
  refine z_get (k := 0) (C := RX2) (T := TX2) (N := 8) hb ho zc1 in_X2 (zf_RX1_123 _) dX1_meanAmount_13 h1 (by decide) rfl ?_
  refine z_dom (fun hD_1 => ?_)
  refine z_call1 (b' := 0) (f' := 4) (rest := []) (av := [.ref lr]) (z_siteF hb ho zc20 r1 q586 zx1 q343 q345 q346 q344 q321 zxl1 dX1_meanAmount_16 : z_Site M _ _ _ _ _ ([].reverse ++ .ref lr :: []) [] _) zk_J2_iterator q98 hrm (m_J2_iterator r1 (hD_1 _ _ r1)) (by omega) (by decide) (Nat.le_of_ble_eq_true rfl) (by omega) (by omega) ?_
  refine z_hn (fun h_2 eh_2 => ?_)
  have eh_2 : h_2 = z_up h n (.inr (24, [.int (nI 0), .int (-1), .int m0, .ref lr])) := eh_2
  have k_3 : h_2 t = some (.inr (0, [.ref a, x1, x2, x3, x4, x5, x6])) := z_nx eh_2 (Nat.ne_of_lt (hD_1 _ _ hX)) hX
  have k_4 : h_2 a = some (.inr (1, [.ref lr, .ref ls, .ref lv, .int (nI D), .int (w 2), .int (w 4), .int (w 5), .int (w 6)])) := z_nx eh_2 (Nat.ne_of_lt (hD_1 _ _ h1)) h1
  have k_5 : h_2 lr = some (.inr (20, [.int m0, .ref e0, .int (nI R)])) := z_nx eh_2 (Nat.ne_of_lt (hD_1 _ _ r1)) r1
  have k_6 : h_2 e0 = some (.inl ((zm_G M).2.1 5, N0, .inr (.inr (.inr (.inr f0))))) := z_nx eh_2 (Nat.ne_of_lt (hD_1 _ _ r2)) r2
  have k_7 : h_2 ls = some (.inr (20, [.int m9, .ref e, .int (nI S)])) := z_nx eh_2 (Nat.ne_of_lt (hD_1 _ _ h3)) h3
  have k_8 : h_2 e = some (.inl ((zm_G M).2.1 5, N, .inr (.inr (.inr (.inr f))))) := z_nx eh_2 (Nat.ne_of_lt (hD_1 _ _ h4)) h4
  have k_9 : h_2 lv = some (.inr (20, [.int mv, .ref ev, .int (nI S)])) := z_nx eh_2 (Nat.ne_of_lt (hD_1 _ _ v1)) v1
  have k_10 : h_2 ev = some (.inl ((zm_G M).2.1 5, Nv, .inr (.inr (.inr (.inr fv))))) := z_nx eh_2 (Nat.ne_of_lt (hD_1 _ _ v2)) v2
  refine z_astore_n (lv' := [(2, .ref n), (1, .int (nI 0)), (0, .ref t)]) hb dX1_meanAmount_21 (by rw [hN]; decide) rfl ?_
  have lp_22 : ∀ (k9_22 : Nat) (j : Nat) (lr9j : Int32) (nnj : Nat) (hhj : zH), R + 1 - j < k9_22 → (j ≤ R) → (n < nnj) → (z_ex h hhj) → (hhj n = some (.inr (24, [.int (nI j), .int lr9j, .int m0, .ref lr]))) → z_V M hhj nnj 0 4 22 [(2, .ref n), (1, .int (tw_am w j)), (0, .ref t)] [] := by
    intro k9_22
    induction k9_22 with
    | zero => intro j lr9j nnj hhj hk9_22; exact absurd hk9_22 (Nat.not_lt_zero _)
    | succ k9_22 ih_22 =>
      intro j lr9j nnj hhj hk9_22 hj hnnj hEj hTj
      refine z_aload_n hb dX1_meanAmount_22 rfl ?_
      refine z_call1 (b' := 0) (f' := 4) (rest := []) (av := [.ref n]) (z_siteF hb ho zc24 hTj q588 zx2 q372 q374 q375 q373 q371 zxl2 dX1_meanAmount_23 : z_Site M _ _ _ _ _ ([].reverse ++ .ref n :: []) [] _) zk_J8_hasNext q105 hrm (m_J8_hasNext hTj (hEj _ _ r1) (by omega) (by omega)) (by omega) (by decide) (Nat.le_of_ble_eq_true rfl) (by omega) (by omega) ?_
      refine z_ifb_eq (tgt := 51) hb dX1_meanAmount_28 (by decide) (fun c_28 => ?_) (fun c_28 => ?_)
      · have hx_j : j = R := by simpa using c_28
        refine z_iload_n hb dX1_meanAmount_51 rfl ?_
        refine z_i2d hb dX1_meanAmount_52 ?_
        refine z_aload_n hb dX1_meanAmount_53 rfl ?_
        refine z_call1 (b' := 0) (f' := 4) (rest := [.double (FP.i2d (tw_am w j))]) (av := [.ref t]) (z_siteV hb ho zc0 (hEj _ _ hX) q2191 q314 q315 ⟨_, _, _, _, zk_X1_rows⟩ zy_X1_rows zl_X1_rows dX1_meanAmount_54 : z_Site M _ _ _ _ _ ([].reverse ++ .ref t :: [.double (FP.i2d (tw_am w j))]) [.double (FP.i2d (tw_am w j))] _) zk_X1_rows q94 hrm (m_X1_rows (hEj _ _ hX) (hL.ex hEj)) (by omega) (by decide) (Nat.le_of_ble_eq_true rfl) (by omega) (by omega) ?_
        refine z_i2d hb dX1_meanAmount_57 ?_
        refine z_ddiv hb dX1_meanAmount_58 (by rw [hx_j]; exact hn9) ?_
        refine z_less hEj ?_
        refine z_dret hb hr dX1_meanAmount_59 ?_
        rw [hQ]
        rw [hx_j]
        exact ⟨rfl, rfl⟩
      · have hl_j : j < R := Nat.lt_of_le_of_ne hj (by simpa using c_28)
        refine z_aload_n hb dX1_meanAmount_31 rfl ?_
        refine z_call1 (b' := 0) (f' := 4) (rest := []) (av := [.ref n]) (z_siteF hb ho zc24 hTj q590 zx3 q381 q383 q384 q382 q371 zxl3 dX1_meanAmount_32 : z_Site M _ _ _ _ _ ([].reverse ++ .ref n :: []) [] _) zk_J8_next q105 hrm (m_J8_next hTj (hEj _ _ r1) (hEj _ _ r2) (by omega) (by omega) r5 (by omega) (by omega)) (by omega) (by decide) (Nat.le_of_ble_eq_true rfl) (by omega) (by omega) ?_
        refine z_hn (fun h_11 eh_11 => ?_)
        have eh_11 : h_11 = z_up hhj n (.inr (24, [.int (nI (j + 1)), .int (nI j), .int m0, .ref lr])) := eh_11
        have k_12 : h_11 t = some (.inr (0, [.ref a, x1, x2, x3, x4, x5, x6])) := z_nx eh_11 (Nat.ne_of_lt (hD_1 _ _ hX)) (hEj _ _ hX)
        have k_13 : h_11 a = some (.inr (1, [.ref lr, .ref ls, .ref lv, .int (nI D), .int (w 2), .int (w 4), .int (w 5), .int (w 6)])) := z_nx eh_11 (Nat.ne_of_lt (hD_1 _ _ h1)) (hEj _ _ h1)
        have k_14 : h_11 lr = some (.inr (20, [.int m0, .ref e0, .int (nI R)])) := z_nx eh_11 (Nat.ne_of_lt (hD_1 _ _ r1)) (hEj _ _ r1)
        have k_15 : h_11 e0 = some (.inl ((zm_G M).2.1 5, N0, .inr (.inr (.inr (.inr f0))))) := z_nx eh_11 (Nat.ne_of_lt (hD_1 _ _ r2)) (hEj _ _ r2)
        have k_16 : h_11 ls = some (.inr (20, [.int m9, .ref e, .int (nI S)])) := z_nx eh_11 (Nat.ne_of_lt (hD_1 _ _ h3)) (hEj _ _ h3)
        have k_17 : h_11 e = some (.inl ((zm_G M).2.1 5, N, .inr (.inr (.inr (.inr f))))) := z_nx eh_11 (Nat.ne_of_lt (hD_1 _ _ h4)) (hEj _ _ h4)
        have k_18 : h_11 lv = some (.inr (20, [.int mv, .ref ev, .int (nI S)])) := z_nx eh_11 (Nat.ne_of_lt (hD_1 _ _ v1)) (hEj _ _ v1)
        have k_19 : h_11 ev = some (.inl ((zm_G M).2.1 5, Nv, .inr (.inr (.inr (.inr fv))))) := z_nx eh_11 (Nat.ne_of_lt (hD_1 _ _ v2)) (hEj _ _ v2)
        have hrw_20 := h9 j (by omega)
        unfold z_Rw at hrw_20
        have k_21 : h_11 (ra j) = some (.inr (6, [.int (w (16 + 4 * j)), .int (w (16 + 4 * j + 1)), .int (w (16 + 4 * j + 2)), .int (w (16 + 4 * j + 3))])) := (z_exW hD0 (by omega) eh_11 hEj) _ _ hrw_20
        refine z_cast hb ho zc6 k_21 q1725 (Or.inl rfl) dX1_meanAmount_37 ?_
        refine z_astore_n (lv' := [(3, .ref (ra j)), (2, .ref n), (1, .int (tw_am w j)), (0, .ref t)]) hb dX1_meanAmount_40 (by rw [hN]; decide) rfl ?_
        refine z_iload_n hb dX1_meanAmount_41 rfl ?_
        refine z_aload_n hb dX1_meanAmount_42 rfl ?_
        refine z_get (k := 3) (C := RX7) (T := TX7) (N := 4) hb ho zc6 in_X7 (zf_RX1_166 _) dX1_meanAmount_43 k_21 (by decide) rfl ?_
        refine z_iadd hb dX1_meanAmount_46 ?_
        refine z_istore_n (lv' := [(1, .int ((tw_am w j) + (w (16 + 4 * j + 3)))), (3, .ref (ra j)), (2, .ref n), (0, .ref t)]) hb dX1_meanAmount_47 (by rw [hN]; decide) rfl ?_
        refine z_goto (tgt := 22) hb dX1_meanAmount_48 (by decide) ?_
        refine z_lv [2, 0, 3] (lv' := [(2, .ref n), (1, .int ((tw_am w j) + (w (16 + 4 * j + 3)))), (0, .ref t)]) rfl ?_
        exact ih_22 (j + 1) _ nnj h_11  (by omega) (by omega) (by omega) (z_exW hD_1 (by omega) eh_11 hEj) (z_nxs eh_11) 
  refine z_lv [0, 1, 2] (lv' := [(2, .ref n), (1, .int (nI 0)), (0, .ref t)]) rfl ?_
  exact lp_22 _ 0 (-1) (n + 1) h_2  (Nat.lt_succ_self _) (Nat.zero_le _) (by omega) (z_exN z_ex_r hD_1 eh_2) (z_nxs eh_2) 

set_option maxHeartbeats 1000000 in
theorem m_X1_meanAmount_no {l : Launch} {G : zG} {h : zH} {n : Nat} {t : Nat} {x1 x2 x3 x4 x5 x6 : Value} {w : Nat → Int32} {v : Nat → Int64} {R S D a lr ls lv : Nat} {ra sa va : Nat → Nat}  (hX : h t = some (.inr (0, [.ref a, x1, x2, x3, x4, x5, x6]))) (hL : z_Ln G h w v R S D a lr ls lv ra sa va) (h0 : R = 0) : z_C l G yX1_meanAmount 7 2 14 [.ref t] h n (z_tf 31 [] h n) := by
  refine z_start zk_X1_meanAmount zpl_RX1 (Nat.le_of_ble_eq_true rfl) ?_
  intro hn0 M hl hG ho hb hN hr hm hH hrm hQ
  subst hl hG
  have ho : zm_o M = RX1 := ho
  obtain ⟨h1, ⟨e0, N0, m0, f0, r1, r2, r3, ⟨r4, r4n⟩, r5⟩, ⟨e, N, m9, f, h3, h4, h5, ⟨h6, h6n⟩, h7⟩, ⟨ev, Nv, mv, fv, v1, v2, v3, ⟨v4, v4n⟩, v5⟩, h9, hs, hv, hi, hrI⟩ := id hL
  show z_V M h n 2 14 0 [(0, .ref t)] []
  refine z_dom (fun hD0 => ?_)
  refine z_aload_n hb dX1_meanAmount_0 rfl ?_
  refine z_call1 (b' := 2) (f' := 14) (rest := []) (av := [.ref t]) (z_siteV hb ho zc0 hX q2191 q314 q315 ⟨_, _, _, _, zk_X1_rows⟩ zy_X1_rows zl_X1_rows dX1_meanAmount_1 : z_Site M _ _ _ _ _ ([].reverse ++ .ref t :: []) [] _) zk_X1_rows q94 hrm (m_X1_rows hX hL) (by omega) (by decide) (Nat.le_of_ble_eq_true rfl) (by omega) (by omega) ?_
  refine z_callTf (b' := 1) (f' := 8) (rest := []) (av := [.int (nI R)]) (z_siteS hb ho q2192 q2193 q94 ⟨_, _, _, _, zk_X1_requireDivisor⟩ zy_X1_requireDivisor zl_X1_requireDivisor dX1_meanAmount_4 : z_Site M _ _ _ _ _ ([.int (nI R)].reverse ++ []) [] _) zk_X1_requireDivisor q94 hrm (z_C.tf (m_X1_requireDivisor_no (by rw [h0]; rfl))) (by omega) (by decide) (Nat.le_of_ble_eq_true rfl) (by omega) (by omega) (fun q_1 n_2 hq_1 hn_2 => ?_)
  exact z_out ho hH zc31 z_up_s (by omega) (fun _ h => nomatch h) (by rw [hQ]; exact ⟨_, rfl, by omega, by omega, rfl⟩)

set_option maxHeartbeats 1000000 in
theorem m_X1_staleShare_ok {l : Launch} {G : zG} {h : zH} {n : Nat} {t : Nat} {x1 x2 x3 x4 x5 x6 : Value} {w : Nat → Int32} {v : Nat → Int64} {R S D a lr ls lv : Nat} {ra sa va : Nat → Nat}  (hX : h t = some (.inr (0, [.ref a, x1, x2, x3, x4, x5, x6]))) (hL : z_Ln G h w v R S D a lr ls lv ra sa va) (hS8 : S ≤ 8) (hD6 : D ≤ 6) (h0 : 0 < S) (hn9 : vf_n32 (FP.fdiv (FP.i2f (nI (z_sd w S (D + 1)))) (FP.i2f (nI (S * (D + 1)))))) : z_C l G yX1_staleShare 7 8 38 [.ref t] h n (z_rn (.float (FP.fdiv (FP.i2f (nI (z_sd w S (D + 1)))) (FP.i2f (nI (S * (D + 1)))))) h) := by
  refine z_start zk_X1_staleShare zpl_RX1 (Nat.le_of_ble_eq_true rfl) ?_
  intro hn0 M hl hG ho hb hN hr hm hH hrm hQ
  subst hl hG
  have ho : zm_o M = RX1 := ho
  obtain ⟨h1, ⟨e0, N0, m0, f0, r1, r2, r3, ⟨r4, r4n⟩, r5⟩, ⟨e, N, m9, f, h3, h4, h5, ⟨h6, h6n⟩, h7⟩, ⟨ev, Nv, mv, fv, v1, v2, v3, ⟨v4, v4n⟩, v5⟩, h9, hs, hv, hi, hrI⟩ := id hL
  show z_V M h n 8 38 0 [(0, .ref t)] []
  refine z_dom (fun hD0 => ?_)
  refine z_aload_n hb dX1_staleShare_0 rfl ?_
  refine z_call1 (b' := 8) (f' := 38) (rest := []) (av := [.ref t]) (z_siteV hb ho zc0 hX q766 q328 q329 ⟨_, _, _, _, zk_X1_steps⟩ zy_X1_steps zl_X1_steps dX1_staleShare_1 : z_Site M _ _ _ _ _ ([].reverse ++ .ref t :: []) [] _) zk_X1_steps q94 hrm (m_X1_steps hX hL) (by omega) (by decide) (Nat.le_of_ble_eq_true rfl) (by omega) (by omega) ?_
  refine z_aload_n hb dX1_staleShare_4 rfl ?_
  refine z_get (k := 0) (C := RX1) (T := TX1) (N := 7) hb ho zc0 in_X1 (zf_RX1_41 _) dX1_staleShare_5 hX (by decide) rfl ?_
  refine z_get (k := 3) (C := RX2) (T := TX2) (N := 8) hb ho zc1 in_X2 (zf_RX1_120 _) dX1_staleShare_8 h1 (by decide) rfl ?_
  refine z_iconst (x := nI 1) hb dX1_staleShare_11 (by decide) ?_
  refine z_iadd hb dX1_staleShare_12 ?_
  refine z_toI (y := nI (D + 1)) (nI_add D 1) ?_
  have hsz9 : S * (D + 1) ≤ 8 * 7 := Nat.mul_le_mul hS8 (by omega)
  have hsz8 : 0 < S * (D + 1) := Nat.mul_pos h0 (by omega)
  refine z_imul hb dX1_staleShare_13 ?_
  refine z_toI (y := nI (S * (D + 1))) (pk_mul S (D + 1)) ?_
  refine z_istore_n (lv' := [(1, .int (nI (S * (D + 1)))), (0, .ref t)]) hb dX1_staleShare_14 (by rw [hN]; decide) rfl ?_
  refine z_iload_n hb dX1_staleShare_15 rfl ?_
  refine z_call0 (b' := 7) (f' := 32) (rest := []) (av := [.int (nI (S * (D + 1)))]) (z_siteS hb ho q2192 q2193 q94 ⟨_, _, _, _, zk_X1_requireDivisor⟩ zy_X1_requireDivisor zl_X1_requireDivisor dX1_staleShare_16 : z_Site M _ _ _ _ _ ([.int (nI (S * (D + 1)))].reverse ++ []) [] _) zk_X1_requireDivisor q94 hrm (m_X1_requireDivisor_ok (fun z => absurd ((nI_eq (b := 0) (by omega) (by omega)).mp z) (by omega))) (by omega) (by decide) (Nat.le_of_ble_eq_true rfl) (by omega) (by omega) ?_
  refine z_aload_n hb dX1_staleShare_19 rfl ?_
  refine z_callN1 (b' := 0) (f' := 4) (rest := []) (av := [.ref t]) (z_siteV hb ho zc0 hX q2207 q332 q333 ⟨_, _, _, _, zk_X1_stale⟩ zy_X1_stale zl_X1_stale dX1_staleShare_20 : z_Site M _ _ _ _ _ ([].reverse ++ .ref t :: []) [] _) zk_X1_stale q94 hrm (m_X1_stale hX hL hS8 hD6) (by omega) (by decide) (Nat.le_of_ble_eq_true rfl) (by omega) (by omega) (fun n_1 hn_1 => ?_)
  refine z_i2f hb dX1_staleShare_23 ?_
  refine z_iload_n hb dX1_staleShare_24 rfl ?_
  refine z_i2f hb dX1_staleShare_25 ?_
  refine z_fdiv hb dX1_staleShare_26 hn9 ?_
  refine z_fret hb hr dX1_staleShare_27 ?_
  rw [hQ]
  exact ⟨rfl, rfl⟩

set_option maxHeartbeats 1000000 in
theorem m_X1_staleShare_no {l : Launch} {G : zG} {h : zH} {n : Nat} {t : Nat} {x1 x2 x3 x4 x5 x6 : Value} {w : Nat → Int32} {v : Nat → Int64} {R S D a lr ls lv : Nat} {ra sa va : Nat → Nat}  (hX : h t = some (.inr (0, [.ref a, x1, x2, x3, x4, x5, x6]))) (hL : z_Ln G h w v R S D a lr ls lv ra sa va) (hS8 : S ≤ 8) (hD6 : D ≤ 6) (h0 : S = 0) : z_C l G yX1_staleShare 7 8 38 [.ref t] h n (z_tf 31 [] h n) := by
  refine z_start zk_X1_staleShare zpl_RX1 (Nat.le_of_ble_eq_true rfl) ?_
  intro hn0 M hl hG ho hb hN hr hm hH hrm hQ
  subst hl hG
  have ho : zm_o M = RX1 := ho
  obtain ⟨h1, ⟨e0, N0, m0, f0, r1, r2, r3, ⟨r4, r4n⟩, r5⟩, ⟨e, N, m9, f, h3, h4, h5, ⟨h6, h6n⟩, h7⟩, ⟨ev, Nv, mv, fv, v1, v2, v3, ⟨v4, v4n⟩, v5⟩, h9, hs, hv, hi, hrI⟩ := id hL
  show z_V M h n 8 38 0 [(0, .ref t)] []
  refine z_dom (fun hD0 => ?_)
  refine z_aload_n hb dX1_staleShare_0 rfl ?_
  refine z_call1 (b' := 8) (f' := 38) (rest := []) (av := [.ref t]) (z_siteV hb ho zc0 hX q766 q328 q329 ⟨_, _, _, _, zk_X1_steps⟩ zy_X1_steps zl_X1_steps dX1_staleShare_1 : z_Site M _ _ _ _ _ ([].reverse ++ .ref t :: []) [] _) zk_X1_steps q94 hrm (m_X1_steps hX hL) (by omega) (by decide) (Nat.le_of_ble_eq_true rfl) (by omega) (by omega) ?_
  refine z_aload_n hb dX1_staleShare_4 rfl ?_
  refine z_get (k := 0) (C := RX1) (T := TX1) (N := 7) hb ho zc0 in_X1 (zf_RX1_41 _) dX1_staleShare_5 hX (by decide) rfl ?_
  refine z_get (k := 3) (C := RX2) (T := TX2) (N := 8) hb ho zc1 in_X2 (zf_RX1_120 _) dX1_staleShare_8 h1 (by decide) rfl ?_
  refine z_iconst (x := nI 1) hb dX1_staleShare_11 (by decide) ?_
  refine z_iadd hb dX1_staleShare_12 ?_
  refine z_toI (y := nI (D + 1)) (nI_add D 1) ?_
  refine z_imul hb dX1_staleShare_13 ?_
  refine z_istore_n (lv' := [(1, .int ((nI S) * (nI (D + 1)))), (0, .ref t)]) hb dX1_staleShare_14 (by rw [hN]; decide) rfl ?_
  refine z_iload_n hb dX1_staleShare_15 rfl ?_
  refine z_callTf (b' := 7) (f' := 32) (rest := []) (av := [.int ((nI S) * (nI (D + 1)))]) (z_siteS hb ho q2192 q2193 q94 ⟨_, _, _, _, zk_X1_requireDivisor⟩ zy_X1_requireDivisor zl_X1_requireDivisor dX1_staleShare_16 : z_Site M _ _ _ _ _ ([.int ((nI S) * (nI (D + 1)))].reverse ++ []) [] _) zk_X1_requireDivisor q94 hrm (z_C.tf (m_X1_requireDivisor_no (by rw [h0]; exact Int32.zero_mul))) (by omega) (by decide) (Nat.le_of_ble_eq_true rfl) (by omega) (by omega) (fun q_1 n_2 hq_1 hn_2 => ?_)
  exact z_out ho hH zc31 z_up_s (by omega) (fun _ h => nomatch h) (by rw [hQ]; exact ⟨_, rfl, by omega, by omega, rfl⟩)

