set_option maxHeartbeats 1000000 in
theorem m_X2_row_no {l : Launch} {G : zG} {h : zH} {n : Nat} {w : Nat → Int32} {v : Nat → Int64} {R S D a lr ls lv : Nat} {ra sa va : Nat → Nat} {x : Int32} (hL : z_Ln G h w v R S D a lr ls lv ra sa va) (hOE : h (G.2.2.1 1003) = some (.inr (25, [.null]))) (hR4 : R ≤ 40) (hno : ∀ p, p < R → w (16 + 4 * p) ≠ x) : z_C l G yX2_row 9 43 50 [.ref a, .int x] h n (z_tf 26 [] h n) := by
  refine z_start zk_X2_row zpl_RX2 (Nat.le_of_ble_eq_true rfl) ?_
  intro hn0 M hl hG ho hb hN hr hm hH hrm hQ
  subst hl hG
  have ho : zm_o M = RX2 := ho
  obtain ⟨h1, ⟨e0, N0, m0, f0, r1, r2, r3, ⟨r4, r4n⟩, r5⟩, ⟨e, N, m9, f, h3, h4, h5, ⟨h6, h6n⟩, h7⟩, ⟨ev, Nv, mv, fv, v1, v2, v3, ⟨v4, v4n⟩, v5⟩, h9, hs, hv, hi, hrI⟩ := id hL
  show z_V M h n 43 50 0 [(0, .ref a), (1, .int x)] []
  refine z_dom (fun hD0 => ?_)
  refine z_call1 (b' := 43) (f' := 50) (rest := []) (av := []) (z_siteS hb ho q1342 q1343 q125 ⟨_, _, _, _, zk_J21_empty⟩ zy_J21_empty zl_J21_empty dX2_row_0 : z_Site M _ _ _ _ _ ([].reverse ++ []) [] _) zk_J21_empty q125 hrm (m_J21_empty) (by omega) (by decide) (Nat.le_of_ble_eq_true rfl) (by omega) (by omega) ?_
  refine z_astore_n (lv' := [(2, .ref ((zm_G M).2.2.1 1003)), (0, .ref a), (1, .int x)]) hb dX2_row_3 (by rw [hN]; decide) rfl ?_
  refine z_aload_n hb dX2_row_4 rfl ?_
  refine z_get (k := 0) (C := RX2) (T := TX2) (N := 8) hb ho zc1 in_X2 (zf_RX2_12 _) dX2_row_5 h1 (by decide) rfl ?_
  refine z_dom (fun hD_1 => ?_)
  refine z_call1 (b' := 42) (f' := 46) (rest := []) (av := [.ref lr]) (z_siteF hb ho zc20 r1 q340 zx1 q343 q345 q346 q344 q321 zxl1 dX2_row_8 : z_Site M _ _ _ _ _ ([].reverse ++ .ref lr :: []) [] _) zk_J2_iterator q98 hrm (m_J2_iterator r1 (hD_1 _ _ r1)) (by omega) (by decide) (Nat.le_of_ble_eq_true rfl) (by omega) (by omega) ?_
  refine z_hn (fun h_2 eh_2 => ?_)
  have eh_2 : h_2 = z_up h n (.inr (24, [.int (nI 0), .int (-1), .int m0, .ref lr])) := eh_2
  have k_3 : h_2 a = some (.inr (1, [.ref lr, .ref ls, .ref lv, .int (nI D), .int (w 2), .int (w 4), .int (w 5), .int (w 6)])) := z_nx eh_2 (Nat.ne_of_lt (hD_1 _ _ h1)) h1
  have k_4 : h_2 lr = some (.inr (20, [.int m0, .ref e0, .int (nI R)])) := z_nx eh_2 (Nat.ne_of_lt (hD_1 _ _ r1)) r1
  have k_5 : h_2 e0 = some (.inl ((zm_G M).2.1 5, N0, .inr (.inr (.inr (.inr f0))))) := z_nx eh_2 (Nat.ne_of_lt (hD_1 _ _ r2)) r2
  have k_6 : h_2 ls = some (.inr (20, [.int m9, .ref e, .int (nI S)])) := z_nx eh_2 (Nat.ne_of_lt (hD_1 _ _ h3)) h3
  have k_7 : h_2 e = some (.inl ((zm_G M).2.1 5, N, .inr (.inr (.inr (.inr f))))) := z_nx eh_2 (Nat.ne_of_lt (hD_1 _ _ h4)) h4
  have k_8 : h_2 lv = some (.inr (20, [.int mv, .ref ev, .int (nI S)])) := z_nx eh_2 (Nat.ne_of_lt (hD_1 _ _ v1)) v1
  have k_9 : h_2 ev = some (.inl ((zm_G M).2.1 5, Nv, .inr (.inr (.inr (.inr fv))))) := z_nx eh_2 (Nat.ne_of_lt (hD_1 _ _ v2)) v2
  have k_10 : h_2 ((zm_G M).2.2.1 1003) = some (.inr (25, [.null])) := z_nx eh_2 (Nat.ne_of_lt (hD_1 _ _ hOE)) hOE
  refine z_astore_n (lv' := [(3, .ref n), (2, .ref ((zm_G M).2.2.1 1003)), (0, .ref a), (1, .int x)]) hb dX2_row_13 (by rw [hN]; decide) rfl ?_
  have lp_14 : ∀ (k9_14 : Nat) (j : Nat) (lr9j : Int32) (nnj : Nat) (hhj : zH), R + 1 - j < k9_14 → (j ≤ R) → (n < nnj) → (z_ex h hhj) → (hhj n = some (.inr (24, [.int (nI j), .int lr9j, .int m0, .ref lr]))) → z_V M hhj nnj 42 46 14 [(3, .ref n), (2, .ref ((zm_G M).2.2.1 1003)), (0, .ref a), (1, .int x)] [] := by
    intro k9_14
    induction k9_14 with
    | zero => intro j lr9j nnj hhj hk9_14; exact absurd hk9_14 (Nat.not_lt_zero _)
    | succ k9_14 ih_14 =>
      intro j lr9j nnj hhj hk9_14 hj hnnj hEj hTj
      refine z_aload_n hb dX2_row_14 rfl ?_
      refine z_call1 (b' := 42) (f' := 46) (rest := []) (av := [.ref n]) (z_siteF hb ho zc24 hTj q368 zx2 q372 q374 q375 q373 q371 zxl2 dX2_row_15 : z_Site M _ _ _ _ _ ([].reverse ++ .ref n :: []) [] _) zk_J8_hasNext q105 hrm (m_J8_hasNext hTj (hEj _ _ r1) (by omega) (by omega)) (by omega) (by decide) (Nat.le_of_ble_eq_true rfl) (by omega) (by omega) ?_
      refine z_ifb_eq (tgt := 56) hb dX2_row_20 (by decide) (fun c_20 => ?_) (fun c_20 => ?_)
      · have hx_j : j = R := by simpa using c_20
        refine z_aload_n hb dX2_row_56 rfl ?_
        refine z_call1 (b' := 42) (f' := 46) (rest := []) (av := [.ref ((zm_G M).2.2.1 1003)]) (z_siteV hb ho zc25 (hEj _ _ hOE) q1363 q1364 q1365 ⟨_, _, _, _, zk_J21_isPresent⟩ zy_J21_isPresent zl_J21_isPresent dX2_row_57 : z_Site M _ _ _ _ _ ([].reverse ++ .ref ((zm_G M).2.2.1 1003) :: []) [] _) zk_J21_isPresent q125 hrm (m_J21_isPresent_f (x := 0) (hEj _ _ hOE)) (by omega) (by decide) (Nat.le_of_ble_eq_true rfl) (by omega) (by omega) ?_
        refine z_callC0 (b' := 41) (f' := 40) (rest := []) (av := [.int (z_b false)]) (z_siteSN hb ho q1367 q1368 q94 ⟨_, _, _, _, zk_X1_requireElement⟩ zy_X1_requireElement zl_X1_requireElement dX2_row_60 : z_Site M _ _ _ _ _ ([.int (z_b false)].reverse ++ []) [] _) zk_X1_requireElement q94 hrm (m_X1_requireElement false) (by omega) (by decide) (Nat.le_of_ble_eq_true rfl) (by omega) (by omega) (fun c_60 => ?_) (fun c_60 => ?_)
        · cases c_60
        · refine z_lessX (z_ex_up hEj) ?_
          exact z_out ho hH zc26 z_up_s (by omega) (fun _ h => nomatch h) (by rw [hQ]; exact ⟨_, rfl, by omega, Nat.lt_succ_self _, rfl⟩)
      · have hl_j : j < R := Nat.lt_of_le_of_ne hj (by simpa using c_20)
        refine z_aload_n hb dX2_row_23 rfl ?_
        refine z_call1 (b' := 42) (f' := 46) (rest := []) (av := [.ref n]) (z_siteF hb ho zc24 hTj q378 zx3 q381 q383 q384 q382 q371 zxl3 dX2_row_24 : z_Site M _ _ _ _ _ ([].reverse ++ .ref n :: []) [] _) zk_J8_next q105 hrm (m_J8_next hTj (hEj _ _ r1) (hEj _ _ r2) (by omega) (by omega) r5 (by omega) (by omega)) (by omega) (by decide) (Nat.le_of_ble_eq_true rfl) (by omega) (by omega) ?_
        refine z_hn (fun h_11 eh_11 => ?_)
        have eh_11 : h_11 = z_up hhj n (.inr (24, [.int (nI (j + 1)), .int (nI j), .int m0, .ref lr])) := eh_11
        have k_12 : h_11 a = some (.inr (1, [.ref lr, .ref ls, .ref lv, .int (nI D), .int (w 2), .int (w 4), .int (w 5), .int (w 6)])) := z_nx eh_11 (Nat.ne_of_lt (hD_1 _ _ h1)) (hEj _ _ h1)
        have k_13 : h_11 lr = some (.inr (20, [.int m0, .ref e0, .int (nI R)])) := z_nx eh_11 (Nat.ne_of_lt (hD_1 _ _ r1)) (hEj _ _ r1)
        have k_14 : h_11 e0 = some (.inl ((zm_G M).2.1 5, N0, .inr (.inr (.inr (.inr f0))))) := z_nx eh_11 (Nat.ne_of_lt (hD_1 _ _ r2)) (hEj _ _ r2)
        have k_15 : h_11 ls = some (.inr (20, [.int m9, .ref e, .int (nI S)])) := z_nx eh_11 (Nat.ne_of_lt (hD_1 _ _ h3)) (hEj _ _ h3)
        have k_16 : h_11 e = some (.inl ((zm_G M).2.1 5, N, .inr (.inr (.inr (.inr f))))) := z_nx eh_11 (Nat.ne_of_lt (hD_1 _ _ h4)) (hEj _ _ h4)
        have k_17 : h_11 lv = some (.inr (20, [.int mv, .ref ev, .int (nI S)])) := z_nx eh_11 (Nat.ne_of_lt (hD_1 _ _ v1)) (hEj _ _ v1)
        have k_18 : h_11 ev = some (.inl ((zm_G M).2.1 5, Nv, .inr (.inr (.inr (.inr fv))))) := z_nx eh_11 (Nat.ne_of_lt (hD_1 _ _ v2)) (hEj _ _ v2)
        have k_19 : h_11 ((zm_G M).2.2.1 1003) = some (.inr (25, [.null])) := z_nx eh_11 (Nat.ne_of_lt (hD_1 _ _ hOE)) (hEj _ _ hOE)
        have hrw_20 := h9 j (by omega)
        unfold z_Rw at hrw_20
        have k_21 : h_11 (ra j) = some (.inr (6, [.int (w (16 + 4 * j)), .int (w (16 + 4 * j + 1)), .int (w (16 + 4 * j + 2)), .int (w (16 + 4 * j + 3))])) := (z_exW hD0 (by omega) eh_11 hEj) _ _ hrw_20
        refine z_cast hb ho zc6 k_21 q473 (Or.inl rfl) dX2_row_29 ?_
        refine z_astore (lv' := [(4, .ref (ra j)), (3, .ref n), (2, .ref ((zm_G M).2.2.1 1003)), (0, .ref a), (1, .int x)]) hb dX2_row_32 (by rw [hN]; decide) rfl ?_
        refine z_aload hb dX2_row_34 rfl ?_
        refine z_get (k := 0) (C := RX7) (T := TX7) (N := 4) hb ho zc6 in_X7 (zf_RX2_111 _) dX2_row_36 k_21 (by decide) rfl ?_
        refine z_iload_n hb dX2_row_39 rfl ?_
        refine z_icmp_ne (tgt := 51) hb dX2_row_40 (by decide) (fun c_40 => ?_) (fun c_40 => ?_)
        · refine z_aload_n hb dX2_row_51 rfl ?_
          refine z_astore_n (lv' := [(2, .ref ((zm_G M).2.2.1 1003)), (4, .ref (ra j)), (3, .ref n), (0, .ref a), (1, .int x)]) hb dX2_row_52 (by rw [hN]; decide) rfl ?_
          refine z_goto (tgt := 14) hb dX2_row_53 (by decide) ?_
          refine z_lv [2, 0, 3, 4] (lv' := [(3, .ref n), (2, .ref ((zm_G M).2.2.1 1003)), (0, .ref a), (1, .int x)]) rfl ?_
          exact ih_14 (j + 1) _ nnj h_11  (by omega) (by omega) (by omega) (z_exW hD_1 (by omega) eh_11 hEj) (z_nxs eh_11) 
        · exact absurd c_40 (hno j hl_j)
  refine z_lv [0, 1, 2, 3] (lv' := [(3, .ref n), (2, .ref ((zm_G M).2.2.1 1003)), (0, .ref a), (1, .int x)]) rfl ?_
  exact lp_14 _ 0 (-1) (n + 1) h_2  (Nat.lt_succ_self _) (Nat.zero_le _) (by omega) (z_exN z_ex_r hD_1 eh_2) (z_nxs eh_2) 

set_option maxHeartbeats 1000000 in
theorem m_X1_dayOf_ok {l : Launch} {G : zG} {h : zH} {n : Nat} {t : Nat} {x1 x2 x3 x4 x5 x6 : Value} {w : Nat → Int32} {v : Nat → Int64} {R S D a lr ls lv : Nat} {ra sa va : Nat → Nat} {x : Int32} {p0 : Nat} (hX : h t = some (.inr (0, [.ref a, x1, x2, x3, x4, x5, x6]))) (hL : z_Ln G h w v R S D a lr ls lv ra sa va) (hOE : h (G.2.2.1 1003) = some (.inr (25, [.null]))) (hR4 : R ≤ 40) (hp0 : p0 < R) (hx : w (16 + 4 * p0) = x) (hnd : ∀ p q, p < R → q < R → w (16 + 4 * p) = w (16 + 4 * q) → p = q) : z_C l G yX1_dayOf 10 43 50 [.ref t, .int x] h n (z_rn (.int (w (16 + 4 * p0 + 1))) h) := by
  refine z_start zk_X1_dayOf zpl_RX1 (Nat.le_of_ble_eq_true rfl) ?_
  intro hn0 M hl hG ho hb hN hr hm hH hrm hQ
  subst hl hG
  have ho : zm_o M = RX1 := ho
  obtain ⟨h1, ⟨e0, N0, m0, f0, r1, r2, r3, ⟨r4, r4n⟩, r5⟩, ⟨e, N, m9, f, h3, h4, h5, ⟨h6, h6n⟩, h7⟩, ⟨ev, Nv, mv, fv, v1, v2, v3, ⟨v4, v4n⟩, v5⟩, h9, hs, hv, hi, hrI⟩ := id hL
  show z_V M h n 43 50 0 [(0, .ref t), (1, .int x)] []
  refine z_dom (fun hD0 => ?_)
  refine z_aload_n hb dX1_dayOf_0 rfl ?_
  refine z_get (k := 0) (C := RX1) (T := TX1) (N := 7) hb ho zc0 in_X1 (zf_RX1_41 _) dX1_dayOf_1 hX (by decide) rfl ?_
  refine z_iload_n hb dX1_dayOf_4 rfl ?_
  refine z_callN1 (b' := 0) (f' := 0) (rest := []) (av := [.ref a, .int x]) (z_siteV hb ho zc1 h1 q1733 q1339 q1340 ⟨_, _, _, _, zk_X2_row⟩ zy_X2_row zl_X2_row dX1_dayOf_5 : z_Site M _ _ _ _ _ ([.int x].reverse ++ .ref a :: []) [] _) zk_X2_row q95 hrm (m_X2_row_ok hL hOE hR4 hp0 hx hnd) (by omega) (by decide) (Nat.le_of_ble_eq_true rfl) (by omega) (by omega) (fun n_1 hn_1 => ?_)
  have hrw_2 := h9 p0 hp0
  unfold z_Rw at hrw_2
  have k_3 : h (ra p0) = some (.inr (6, [.int (w (16 + 4 * p0)), .int (w (16 + 4 * p0 + 1)), .int (w (16 + 4 * p0 + 2)), .int (w (16 + 4 * p0 + 3))])) := z_ex_r _ _ hrw_2
  refine z_get (k := 1) (C := RX7) (T := TX7) (N := 4) hb ho zc6 in_X7 (zf_RX1_145 _) dX1_dayOf_8 k_3 (by decide) rfl ?_
  refine z_iret hb hr dX1_dayOf_11 ?_
  rw [hQ]
  exact ⟨rfl, rfl⟩

set_option maxHeartbeats 1000000 in
theorem m_X1_groupOf_ok {l : Launch} {G : zG} {h : zH} {n : Nat} {t : Nat} {x1 x2 x3 x4 x5 x6 : Value} {w : Nat → Int32} {v : Nat → Int64} {R S D a lr ls lv : Nat} {ra sa va : Nat → Nat} {x : Int32} {p0 g : Nat} (hX : h t = some (.inr (0, [.ref a, x1, x2, x3, x4, x5, x6]))) (hL : z_Ln G h w v R S D a lr ls lv ra sa va) (hOE : h (G.2.2.1 1003) = some (.inr (25, [.null]))) (hR4 : R ≤ 40) (hp0 : p0 < R) (hx : w (16 + 4 * p0) = x) (hnd : ∀ p q, p < R → q < R → w (16 + 4 * p) = w (16 + 4 * q) → p = q) (hgr : w (16 + 4 * p0 + 2) = nI g) (hg5 : g < 5) : z_C l G yX1_groupOf 10 43 50 [.ref t, .int x] h n (z_rn (.int (nI (97 + g))) h) := by
  refine z_start zk_X1_groupOf zpl_RX1 (Nat.le_of_ble_eq_true rfl) ?_
  intro hn0 M hl hG ho hb hN hr hm hH hrm hQ
  subst hl hG
  have ho : zm_o M = RX1 := ho
  obtain ⟨h1, ⟨e0, N0, m0, f0, r1, r2, r3, ⟨r4, r4n⟩, r5⟩, ⟨e, N, m9, f, h3, h4, h5, ⟨h6, h6n⟩, h7⟩, ⟨ev, Nv, mv, fv, v1, v2, v3, ⟨v4, v4n⟩, v5⟩, h9, hs, hv, hi, hrI⟩ := id hL
  show z_V M h n 43 50 0 [(0, .ref t), (1, .int x)] []
  refine z_dom (fun hD0 => ?_)
  refine z_bipush (x := nI 97) hb dX1_groupOf_0 (by decide) ?_
  refine z_aload_n hb dX1_groupOf_2 rfl ?_
  refine z_get (k := 0) (C := RX1) (T := TX1) (N := 7) hb ho zc0 in_X1 (zf_RX1_41 _) dX1_groupOf_3 hX (by decide) rfl ?_
  refine z_iload_n hb dX1_groupOf_6 rfl ?_
  refine z_callN1 (b' := 0) (f' := 0) (rest := [.int (nI 97)]) (av := [.ref a, .int x]) (z_siteV hb ho zc1 h1 q1733 q1339 q1340 ⟨_, _, _, _, zk_X2_row⟩ zy_X2_row zl_X2_row dX1_groupOf_7 : z_Site M _ _ _ _ _ ([.int x].reverse ++ .ref a :: [.int (nI 97)]) [.int (nI 97)] _) zk_X2_row q95 hrm (m_X2_row_ok hL hOE hR4 hp0 hx hnd) (by omega) (by decide) (Nat.le_of_ble_eq_true rfl) (by omega) (by omega) (fun n_1 hn_1 => ?_)
  have hrw_2 := h9 p0 hp0
  unfold z_Rw at hrw_2
  have k_3 : h (ra p0) = some (.inr (6, [.int (w (16 + 4 * p0)), .int (w (16 + 4 * p0 + 1)), .int (w (16 + 4 * p0 + 2)), .int (w (16 + 4 * p0 + 3))])) := z_ex_r _ _ hrw_2
  refine z_get (k := 2) (C := RX7) (T := TX7) (N := 4) hb ho zc6 in_X7 (zf_RX1_148 _) dX1_groupOf_10 k_3 (by decide) rfl ?_
  refine z_toI (y := nI g) hgr ?_
  refine z_iadd hb dX1_groupOf_13 ?_
  refine z_toI (y := nI (97 + g)) (nI_add 97 g) ?_
  refine z_i2c hb dX1_groupOf_14 (z_i2cN (by omega)) ?_
  refine z_zret hb hr (pk_charN (by omega)).1 dX1_groupOf_15 ?_
  rw [hQ]
  exact ⟨rfl, rfl⟩

set_option maxHeartbeats 1000000 in
theorem m_X1_dayOf_no {l : Launch} {G : zG} {h : zH} {n : Nat} {t : Nat} {x1 x2 x3 x4 x5 x6 : Value} {w : Nat → Int32} {v : Nat → Int64} {R S D a lr ls lv : Nat} {ra sa va : Nat → Nat} {x : Int32} (hX : h t = some (.inr (0, [.ref a, x1, x2, x3, x4, x5, x6]))) (hL : z_Ln G h w v R S D a lr ls lv ra sa va) (hOE : h (G.2.2.1 1003) = some (.inr (25, [.null]))) (hR4 : R ≤ 40) (hno : ∀ p, p < R → w (16 + 4 * p) ≠ x) : z_C l G yX1_dayOf 10 43 50 [.ref t, .int x] h n (z_tf 26 [] h n) := by
  refine z_start zk_X1_dayOf zpl_RX1 (Nat.le_of_ble_eq_true rfl) ?_
  intro hn0 M hl hG ho hb hN hr hm hH hrm hQ
  subst hl hG
  have ho : zm_o M = RX1 := ho
  obtain ⟨h1, ⟨e0, N0, m0, f0, r1, r2, r3, ⟨r4, r4n⟩, r5⟩, ⟨e, N, m9, f, h3, h4, h5, ⟨h6, h6n⟩, h7⟩, ⟨ev, Nv, mv, fv, v1, v2, v3, ⟨v4, v4n⟩, v5⟩, h9, hs, hv, hi, hrI⟩ := id hL
  show z_V M h n 43 50 0 [(0, .ref t), (1, .int x)] []
  refine z_dom (fun hD0 => ?_)
  refine z_aload_n hb dX1_dayOf_0 rfl ?_
  refine z_get (k := 0) (C := RX1) (T := TX1) (N := 7) hb ho zc0 in_X1 (zf_RX1_41 _) dX1_dayOf_1 hX (by decide) rfl ?_
  refine z_iload_n hb dX1_dayOf_4 rfl ?_
  refine z_callTf (b' := 0) (f' := 0) (rest := []) (av := [.ref a, .int x]) (z_siteV hb ho zc1 h1 q1733 q1339 q1340 ⟨_, _, _, _, zk_X2_row⟩ zy_X2_row zl_X2_row dX1_dayOf_5 : z_Site M _ _ _ _ _ ([.int x].reverse ++ .ref a :: []) [] _) zk_X2_row q95 hrm (m_X2_row_no hL hOE hR4 hno) (by omega) (by decide) (Nat.le_of_ble_eq_true rfl) (by omega) (by omega) (fun q_1 n_2 hq_1 hn_2 => ?_)
  exact z_out ho hH zc26 z_up_s (by omega) (fun _ h => nomatch h) (by rw [hQ]; exact ⟨_, rfl, by omega, by omega, rfl⟩)

set_option maxHeartbeats 1000000 in
theorem m_X1_groupOf_no {l : Launch} {G : zG} {h : zH} {n : Nat} {t : Nat} {x1 x2 x3 x4 x5 x6 : Value} {w : Nat → Int32} {v : Nat → Int64} {R S D a lr ls lv : Nat} {ra sa va : Nat → Nat} {x : Int32} (hX : h t = some (.inr (0, [.ref a, x1, x2, x3, x4, x5, x6]))) (hL : z_Ln G h w v R S D a lr ls lv ra sa va) (hOE : h (G.2.2.1 1003) = some (.inr (25, [.null]))) (hR4 : R ≤ 40) (hno : ∀ p, p < R → w (16 + 4 * p) ≠ x) : z_C l G yX1_groupOf 10 43 50 [.ref t, .int x] h n (z_tf 26 [] h n) := by
  refine z_start zk_X1_groupOf zpl_RX1 (Nat.le_of_ble_eq_true rfl) ?_
  intro hn0 M hl hG ho hb hN hr hm hH hrm hQ
  subst hl hG
  have ho : zm_o M = RX1 := ho
  obtain ⟨h1, ⟨e0, N0, m0, f0, r1, r2, r3, ⟨r4, r4n⟩, r5⟩, ⟨e, N, m9, f, h3, h4, h5, ⟨h6, h6n⟩, h7⟩, ⟨ev, Nv, mv, fv, v1, v2, v3, ⟨v4, v4n⟩, v5⟩, h9, hs, hv, hi, hrI⟩ := id hL
  show z_V M h n 43 50 0 [(0, .ref t), (1, .int x)] []
  refine z_dom (fun hD0 => ?_)
  refine z_bipush (x := nI 97) hb dX1_groupOf_0 (by decide) ?_
  refine z_aload_n hb dX1_groupOf_2 rfl ?_
  refine z_get (k := 0) (C := RX1) (T := TX1) (N := 7) hb ho zc0 in_X1 (zf_RX1_41 _) dX1_groupOf_3 hX (by decide) rfl ?_
  refine z_iload_n hb dX1_groupOf_6 rfl ?_
  refine z_callTf (b' := 0) (f' := 0) (rest := [.int (nI 97)]) (av := [.ref a, .int x]) (z_siteV hb ho zc1 h1 q1733 q1339 q1340 ⟨_, _, _, _, zk_X2_row⟩ zy_X2_row zl_X2_row dX1_groupOf_7 : z_Site M _ _ _ _ _ ([.int x].reverse ++ .ref a :: [.int (nI 97)]) [.int (nI 97)] _) zk_X2_row q95 hrm (m_X2_row_no hL hOE hR4 hno) (by omega) (by decide) (Nat.le_of_ble_eq_true rfl) (by omega) (by omega) (fun q_1 n_2 hq_1 hn_2 => ?_)
  exact z_out ho hH zc26 z_up_s (by omega) (fun _ h => nomatch h) (by rw [hQ]; exact ⟨_, rfl, by omega, by omega, rfl⟩)

/-- levels of the steps, as a table -/
def z_lev (w : Nat → Int32) : Nat → Nat → Nat
  | 0 => fun _ => 0
  | k + 1 => fun j => if j = k then (if tw_base w k then 0 else 1 + max (z_lev w k (tw_f w k)) (z_lev w k (tw_s w k))) else z_lev w k j
theorem z_lev_st {w : Nat → Int32} {j : Nat} : ∀ {K : Nat}, j < K → z_lev w K j = z_lev w (j + 1) j
  | K + 1, h => by
    by_cases q : j = K
    · rw [q]
    · rw [z_lev]
      show (if j = K then _ else z_lev w K j) = _
      rw [if_neg q, z_lev_st (by omega)]
theorem z_lev_le {w : Nat → Int32} : ∀ K j, z_lev w K j ≤ K
  | 0, _ => Nat.le_refl _
  | K + 1, j => by
    have h1 := z_lev_le (w := w) K (tw_f w K)
    have h2 := z_lev_le (w := w) K (tw_s w K)
    have h3 := z_lev_le (w := w) K j
    rw [z_lev]
    show (if j = K then (if tw_base w K then 0 else 1 + max (z_lev w K (tw_f w K)) (z_lev w K (tw_s w K))) else z_lev w K j) ≤ K + 1
    split
    · split <;> omega
    · omega
theorem z_lev_b {w : Nat → Int32} {k : Nat} (h : tw_base w k = true) : z_lev w (k + 1) k = 0 := by
  show (if k = k then (if tw_base w k then 0 else 1 + max (z_lev w k (tw_f w k)) (z_lev w k (tw_s w k))) else z_lev w k k) = 0
  rw [if_pos rfl, if_pos h]
theorem z_lev_n {w : Nat → Int32} {k : Nat} (h : tw_base w k = false) (hf : tw_f w k < k) (hs : tw_s w k < k) : z_lev w (k + 1) k = 1 + max (z_lev w (tw_f w k + 1) (tw_f w k)) (z_lev w (tw_s w k + 1) (tw_s w k)) := by
  show (if k = k then (if tw_base w k then 0 else 1 + max (z_lev w k (tw_f w k)) (z_lev w k (tw_s w k))) else z_lev w k k) = _
  rw [if_pos rfl, h, z_lev_st hf, z_lev_st hs]
  rfl
theorem z_maxN {a b : Nat} (ha : a < 2 ^ 31) (hb : b < 2 ^ 31) : (if nI a < nI b then nI b else nI a) = nI (max a b) := by
  by_cases h : a < b
  · rw [if_pos ((nI_ltI ha hb).mpr h), Nat.max_eq_right (Nat.le_of_lt h)]
  · rw [if_neg (fun q => h ((nI_ltI ha hb).mp q)), Nat.max_eq_left (Nat.not_lt.mp h)]
/-- bases by kind, and the others -/
theorem z_kb {w : Nat → Int32} {k c : Nat} (h : w (176 + 4 * k) = nI c) (hc : c = 115 ∨ c = 110 ∨ c = 120) : tw_base w k = true := by
  unfold tw_base
  rw [h]
  rcases hc with rfl | rfl | rfl <;> decide
theorem z_kn {w : Nat → Int32} {k c : Nat} (h : w (176 + 4 * k) = nI c) (hc : c = 43 ∨ c = 45 ∨ c = 114 ∨ c = 107) : tw_base w k = false := by
  unfold tw_base
  rw [h]
  rcases hc with rfl | rfl | rfl | rfl <;> decide
def z_yl : Nat → MethodName
  | 11 => yX14_level
  | 12 => yX15_level
  | 13 => yX15_level
  | _ => yX10_level

set_option maxHeartbeats 1000000 in
theorem m_X10_levelR {l : Launch} {G : zG} {h : zH} {n : Nat} {t k m : Nat}  : z_C l G yX10_level (2 * k + 2) 0 0 [.ref t] h n (z_rn (.int (nI 0)) h) := by
  refine z_start zk_X10_level zpl_RX10 (Nat.le_of_ble_eq_true rfl) ?_
  intro hn0 M hl hG ho hb hN hr hm hH hrm hQ
  subst hl hG
  have ho : zm_o M = RX10 := ho
  show z_V M h n 0 0 0 [(0, .ref t)] []
  refine z_dom (fun hD0 => ?_)
  refine z_iconst (x := nI 0) hb dX10_level_0 (by decide) ?_
  refine z_iret hb hr dX10_level_1 ?_
  rw [hQ]
  exact ⟨rfl, rfl⟩

set_option maxHeartbeats 1000000 in
theorem m_X14_level {l : Launch} {G : zG} {h : zH} {n : Nat} {w : Nat → Int32} {S : Nat} {sa : Nat → Nat} {k : Nat} {c9 s9 : Int32} (hs : ∀ j, j < S → z_Sp h w sa j) (hk : k < S) (hS8 : S ≤ 8) (IH : ∀ j, j < k → ∀ ci fs, h (sa j) = some (.inr (ci, fs)) → ∀ n : Nat, z_C l G (z_yl ci) (2 * j + 2) 0 0 [.ref (sa j)] h n (z_rn (.int (nI (z_lev w (j + 1) j))) h)) (hx : h (sa k) = some (.inr (11, [.int c9, .ref (sa (tw_f w k)), .ref (sa (tw_s w k)), .int s9]))) (hf : tw_f w k < k) (hs2 : tw_s w k < k) (hnb : tw_base w k = false) : z_C l G yX14_level (2 * k + 2) 0 0 [.ref (sa k)] h n (z_rn (.int (nI (z_lev w (k + 1) k))) h) := by
  refine z_start zk_X14_level zpl_RX14 (Nat.le_of_ble_eq_true rfl) ?_
  intro hn0 M hl hG ho hb hN hr hm hH hrm hQ
  subst hl hG
  have ho : zm_o M = RX14 := ho
  have e1 := z_lev_le (w := w) (tw_f w k + 1) (tw_f w k)
  have e2 := z_lev_le (w := w) (tw_s w k + 1) (tw_s w k)
  show z_V M h n 0 0 0 [(0, .ref (sa k))] []
  refine z_dom (fun hD0 => ?_)
  refine z_iconst (x := nI 1) hb dX14_level_0 (by decide) ?_
  refine z_aload_n hb dX14_level_1 rfl ?_
  refine z_get (k := 1) (C := RX14) (T := TX14) (N := 4) hb ho zc11 in_X14 (zf_RX14_7 _) dX14_level_2 hx (by decide) rfl ?_
  have J_8 : ∀ n_1 : Nat, n ≤ n_1 → z_V M h n_1 0 0 8 [(0, .ref (sa k))] [.int (nI (z_lev w (tw_f w k + 1) (tw_f w k))), .int (nI 1)] := by
    intro n_1 hn_1
    refine z_aload_n hb dX14_level_8 rfl ?_
    refine z_get (k := 2) (C := RX14) (T := TX14) (N := 4) hb ho zc11 in_X14 (zf_RX14_13 _) dX14_level_9 hx (by decide) rfl ?_
    have J_15 : ∀ n_2 : Nat, n_1 ≤ n_2 → z_V M h n_2 0 0 15 [(0, .ref (sa k))] [.int (nI (z_lev w (tw_s w k + 1) (tw_s w k))), .int (nI (z_lev w (tw_f w k + 1) (tw_f w k))), .int (nI 1)] := by
      intro n_2 hn_2
      refine z_mmax hb ho hrm (by omega) q1305 q499 q111 q500 dX14_level_15 (Nat.le_of_ble_eq_true rfl) ?_
      refine z_toI (y := nI (max (z_lev w (tw_f w k + 1) (tw_f w k)) (z_lev w (tw_s w k + 1) (tw_s w k)))) (z_maxN (by omega) (by omega)) ?_
      refine z_iadd hb dX14_level_18 ?_
      refine z_toI (y := nI (1 + (max (z_lev w (tw_f w k + 1) (tw_f w k)) (z_lev w (tw_s w k + 1) (tw_s w k))))) (nI_add 1 (max (z_lev w (tw_f w k + 1) (tw_f w k)) (z_lev w (tw_s w k + 1) (tw_s w k)))) ?_
      refine z_iret hb hr dX14_level_19 ?_
      rw [hQ]
      exact z_rn_e (by rw [z_lev_n hnb hf hs2])
    rcases hs (tw_s w k) (by omega) with ⟨q1, q9⟩ | ⟨q1, q9⟩ | ⟨q1, q9⟩ | ⟨q1, q2, q3, q9⟩ | ⟨q1, q2, q3, q9⟩ | ⟨q1, q2, q3, q9⟩ | ⟨q1, q2, q3, q9⟩
    · refine z_callN1 (b' := 0) (f' := 0) (rest := [.int (nI (z_lev w (tw_f w k + 1) (tw_f w k))), .int (nI 1)]) (av := [.ref (sa (tw_s w k))]) (z_siteU hb ho zc8 q9 q1304 q1295 (Or.inl q1294) q1300 q1310 ⟨by decide +kernel, by decide +kernel⟩ (by show _ = some 0; decide +kernel) dX14_level_12 : z_Site M _ _ _ _ _ ([].reverse ++ .ref (sa (tw_s w k)) :: [.int (nI (z_lev w (tw_f w k + 1) (tw_f w k))), .int (nI 1)]) [.int (nI (z_lev w (tw_f w k + 1) (tw_f w k))), .int (nI 1)] _) zk_X10_level q128 hrm (IH _ (by omega) _ _ q9 _) (by omega) (by decide) (Nat.le_of_ble_eq_true rfl) (by omega) (by omega) (fun n_3 hn_3 => ?_)
      exact J_15 _ (by omega)
    · refine z_callN1 (b' := 0) (f' := 0) (rest := [.int (nI (z_lev w (tw_f w k + 1) (tw_f w k))), .int (nI 1)]) (av := [.ref (sa (tw_s w k))]) (z_siteU hb ho zc9 q9 q1304 q1295 (Or.inl q1294) q1300 q1306 ⟨by decide +kernel, by decide +kernel⟩ (by show _ = some 0; decide +kernel) dX14_level_12 : z_Site M _ _ _ _ _ ([].reverse ++ .ref (sa (tw_s w k)) :: [.int (nI (z_lev w (tw_f w k + 1) (tw_f w k))), .int (nI 1)]) [.int (nI (z_lev w (tw_f w k + 1) (tw_f w k))), .int (nI 1)] _) zk_X10_level q128 hrm (IH _ (by omega) _ _ q9 _) (by omega) (by decide) (Nat.le_of_ble_eq_true rfl) (by omega) (by omega) (fun n_4 hn_4 => ?_)
      exact J_15 _ (by omega)
    · refine z_callN1 (b' := 0) (f' := 0) (rest := [.int (nI (z_lev w (tw_f w k + 1) (tw_f w k))), .int (nI 1)]) (av := [.ref (sa (tw_s w k))]) (z_siteU hb ho zc10 q9 q1304 q1295 (Or.inl q1294) q1300 q1307 ⟨by decide +kernel, by decide +kernel⟩ (by show _ = some 0; decide +kernel) dX14_level_12 : z_Site M _ _ _ _ _ ([].reverse ++ .ref (sa (tw_s w k)) :: [.int (nI (z_lev w (tw_f w k + 1) (tw_f w k))), .int (nI 1)]) [.int (nI (z_lev w (tw_f w k + 1) (tw_f w k))), .int (nI 1)] _) zk_X10_level q128 hrm (IH _ (by omega) _ _ q9 _) (by omega) (by decide) (Nat.le_of_ble_eq_true rfl) (by omega) (by omega) (fun n_5 hn_5 => ?_)
      exact J_15 _ (by omega)
    · refine z_callN1 (b' := 0) (f' := 0) (rest := [.int (nI (z_lev w (tw_f w k + 1) (tw_f w k))), .int (nI 1)]) (av := [.ref (sa (tw_s w k))]) (z_siteU hb ho zc11 q9 q1304 q1295 (Or.inl q1294) q1302 q1308 ⟨by decide +kernel, by decide +kernel⟩ (by show _ = some 0; decide +kernel) dX14_level_12 : z_Site M _ _ _ _ _ ([].reverse ++ .ref (sa (tw_s w k)) :: [.int (nI (z_lev w (tw_f w k + 1) (tw_f w k))), .int (nI 1)]) [.int (nI (z_lev w (tw_f w k + 1) (tw_f w k))), .int (nI 1)] _) zk_X14_level q133 hrm (IH _ (by omega) _ _ q9 _) (by omega) (by decide) (Nat.le_of_ble_eq_true rfl) (by omega) (by omega) (fun n_6 hn_6 => ?_)
      exact J_15 _ (by omega)
    · refine z_callN1 (b' := 0) (f' := 0) (rest := [.int (nI (z_lev w (tw_f w k + 1) (tw_f w k))), .int (nI 1)]) (av := [.ref (sa (tw_s w k))]) (z_siteU hb ho zc11 q9 q1304 q1295 (Or.inl q1294) q1302 q1308 ⟨by decide +kernel, by decide +kernel⟩ (by show _ = some 0; decide +kernel) dX14_level_12 : z_Site M _ _ _ _ _ ([].reverse ++ .ref (sa (tw_s w k)) :: [.int (nI (z_lev w (tw_f w k + 1) (tw_f w k))), .int (nI 1)]) [.int (nI (z_lev w (tw_f w k + 1) (tw_f w k))), .int (nI 1)] _) zk_X14_level q133 hrm (IH _ (by omega) _ _ q9 _) (by omega) (by decide) (Nat.le_of_ble_eq_true rfl) (by omega) (by omega) (fun n_7 hn_7 => ?_)
      exact J_15 _ (by omega)
    · refine z_callN1 (b' := 0) (f' := 0) (rest := [.int (nI (z_lev w (tw_f w k + 1) (tw_f w k))), .int (nI 1)]) (av := [.ref (sa (tw_s w k))]) (z_siteU hb ho zc12 q9 q1304 q1295 (Or.inl q1294) q1297 q1309 ⟨by decide +kernel, by decide +kernel⟩ (by show _ = some 0; decide +kernel) dX14_level_12 : z_Site M _ _ _ _ _ ([].reverse ++ .ref (sa (tw_s w k)) :: [.int (nI (z_lev w (tw_f w k + 1) (tw_f w k))), .int (nI 1)]) [.int (nI (z_lev w (tw_f w k + 1) (tw_f w k))), .int (nI 1)] _) zk_X15_level q134 hrm (IH _ (by omega) _ _ q9 _) (by omega) (by decide) (Nat.le_of_ble_eq_true rfl) (by omega) (by omega) (fun n_8 hn_8 => ?_)
      exact J_15 _ (by omega)
    · refine z_callN1 (b' := 0) (f' := 0) (rest := [.int (nI (z_lev w (tw_f w k + 1) (tw_f w k))), .int (nI 1)]) (av := [.ref (sa (tw_s w k))]) (z_siteU hb ho zc13 q9 q1304 q1295 (Or.inl q1294) q1297 q1296 ⟨by decide +kernel, by decide +kernel⟩ (by show _ = some 0; decide +kernel) dX14_level_12 : z_Site M _ _ _ _ _ ([].reverse ++ .ref (sa (tw_s w k)) :: [.int (nI (z_lev w (tw_f w k + 1) (tw_f w k))), .int (nI 1)]) [.int (nI (z_lev w (tw_f w k + 1) (tw_f w k))), .int (nI 1)] _) zk_X15_level q134 hrm (IH _ (by omega) _ _ q9 _) (by omega) (by decide) (Nat.le_of_ble_eq_true rfl) (by omega) (by omega) (fun n_9 hn_9 => ?_)
      exact J_15 _ (by omega)
  rcases hs (tw_f w k) (by omega) with ⟨q1, q9⟩ | ⟨q1, q9⟩ | ⟨q1, q9⟩ | ⟨q1, q2, q3, q9⟩ | ⟨q1, q2, q3, q9⟩ | ⟨q1, q2, q3, q9⟩ | ⟨q1, q2, q3, q9⟩
  · refine z_callN1 (b' := 0) (f' := 0) (rest := [.int (nI 1)]) (av := [.ref (sa (tw_f w k))]) (z_siteU hb ho zc8 q9 q1304 q1295 (Or.inl q1294) q1300 q1310 ⟨by decide +kernel, by decide +kernel⟩ (by show _ = some 0; decide +kernel) dX14_level_5 : z_Site M _ _ _ _ _ ([].reverse ++ .ref (sa (tw_f w k)) :: [.int (nI 1)]) [.int (nI 1)] _) zk_X10_level q128 hrm (IH _ (by omega) _ _ q9 _) (by omega) (by decide) (Nat.le_of_ble_eq_true rfl) (by omega) (by omega) (fun n_10 hn_10 => ?_)
    exact J_8 _ (by omega)
  · refine z_callN1 (b' := 0) (f' := 0) (rest := [.int (nI 1)]) (av := [.ref (sa (tw_f w k))]) (z_siteU hb ho zc9 q9 q1304 q1295 (Or.inl q1294) q1300 q1306 ⟨by decide +kernel, by decide +kernel⟩ (by show _ = some 0; decide +kernel) dX14_level_5 : z_Site M _ _ _ _ _ ([].reverse ++ .ref (sa (tw_f w k)) :: [.int (nI 1)]) [.int (nI 1)] _) zk_X10_level q128 hrm (IH _ (by omega) _ _ q9 _) (by omega) (by decide) (Nat.le_of_ble_eq_true rfl) (by omega) (by omega) (fun n_11 hn_11 => ?_)
    exact J_8 _ (by omega)
  · refine z_callN1 (b' := 0) (f' := 0) (rest := [.int (nI 1)]) (av := [.ref (sa (tw_f w k))]) (z_siteU hb ho zc10 q9 q1304 q1295 (Or.inl q1294) q1300 q1307 ⟨by decide +kernel, by decide +kernel⟩ (by show _ = some 0; decide +kernel) dX14_level_5 : z_Site M _ _ _ _ _ ([].reverse ++ .ref (sa (tw_f w k)) :: [.int (nI 1)]) [.int (nI 1)] _) zk_X10_level q128 hrm (IH _ (by omega) _ _ q9 _) (by omega) (by decide) (Nat.le_of_ble_eq_true rfl) (by omega) (by omega) (fun n_12 hn_12 => ?_)
    exact J_8 _ (by omega)
  · refine z_callN1 (b' := 0) (f' := 0) (rest := [.int (nI 1)]) (av := [.ref (sa (tw_f w k))]) (z_siteU hb ho zc11 q9 q1304 q1295 (Or.inl q1294) q1302 q1308 ⟨by decide +kernel, by decide +kernel⟩ (by show _ = some 0; decide +kernel) dX14_level_5 : z_Site M _ _ _ _ _ ([].reverse ++ .ref (sa (tw_f w k)) :: [.int (nI 1)]) [.int (nI 1)] _) zk_X14_level q133 hrm (IH _ (by omega) _ _ q9 _) (by omega) (by decide) (Nat.le_of_ble_eq_true rfl) (by omega) (by omega) (fun n_13 hn_13 => ?_)
    exact J_8 _ (by omega)
  · refine z_callN1 (b' := 0) (f' := 0) (rest := [.int (nI 1)]) (av := [.ref (sa (tw_f w k))]) (z_siteU hb ho zc11 q9 q1304 q1295 (Or.inl q1294) q1302 q1308 ⟨by decide +kernel, by decide +kernel⟩ (by show _ = some 0; decide +kernel) dX14_level_5 : z_Site M _ _ _ _ _ ([].reverse ++ .ref (sa (tw_f w k)) :: [.int (nI 1)]) [.int (nI 1)] _) zk_X14_level q133 hrm (IH _ (by omega) _ _ q9 _) (by omega) (by decide) (Nat.le_of_ble_eq_true rfl) (by omega) (by omega) (fun n_14 hn_14 => ?_)
    exact J_8 _ (by omega)
  · refine z_callN1 (b' := 0) (f' := 0) (rest := [.int (nI 1)]) (av := [.ref (sa (tw_f w k))]) (z_siteU hb ho zc12 q9 q1304 q1295 (Or.inl q1294) q1297 q1309 ⟨by decide +kernel, by decide +kernel⟩ (by show _ = some 0; decide +kernel) dX14_level_5 : z_Site M _ _ _ _ _ ([].reverse ++ .ref (sa (tw_f w k)) :: [.int (nI 1)]) [.int (nI 1)] _) zk_X15_level q134 hrm (IH _ (by omega) _ _ q9 _) (by omega) (by decide) (Nat.le_of_ble_eq_true rfl) (by omega) (by omega) (fun n_15 hn_15 => ?_)
    exact J_8 _ (by omega)
  · refine z_callN1 (b' := 0) (f' := 0) (rest := [.int (nI 1)]) (av := [.ref (sa (tw_f w k))]) (z_siteU hb ho zc13 q9 q1304 q1295 (Or.inl q1294) q1297 q1296 ⟨by decide +kernel, by decide +kernel⟩ (by show _ = some 0; decide +kernel) dX14_level_5 : z_Site M _ _ _ _ _ ([].reverse ++ .ref (sa (tw_f w k)) :: [.int (nI 1)]) [.int (nI 1)] _) zk_X15_level q134 hrm (IH _ (by omega) _ _ q9 _) (by omega) (by decide) (Nat.le_of_ble_eq_true rfl) (by omega) (by omega) (fun n_16 hn_16 => ?_)
    exact J_8 _ (by omega)

set_option maxHeartbeats 1000000 in
theorem m_X15_level_12 {l : Launch} {G : zG} {h : zH} {n : Nat} {w : Nat → Int32} {S : Nat} {sa : Nat → Nat} {k : Nat} {c9 : Int32} (hs : ∀ j, j < S → z_Sp h w sa j) (hk : k < S) (hS8 : S ≤ 8) (IH : ∀ j, j < k → ∀ ci fs, h (sa j) = some (.inr (ci, fs)) → ∀ n : Nat, z_C l G (z_yl ci) (2 * j + 2) 0 0 [.ref (sa j)] h n (z_rn (.int (nI (z_lev w (j + 1) j))) h)) (hx : h (sa k) = some (.inr (12, [.ref (sa (tw_f w k)), .int c9]))) (hf : tw_f w k < k) (hs2 : tw_s w k = tw_f w k) (hnb : tw_base w k = false) : z_C l G yX15_level (2 * k + 2) 0 0 [.ref (sa k)] h n (z_rn (.int (nI (z_lev w (k + 1) k))) h) := by
  refine z_start zk_X15_level zpl_RX15 (Nat.le_of_ble_eq_true rfl) ?_
  intro hn0 M hl hG ho hb hN hr hm hH hrm hQ
  subst hl hG
  have ho : zm_o M = RX15 := ho
  show z_V M h n 0 0 0 [(0, .ref (sa k))] []
  refine z_dom (fun hD0 => ?_)
  refine z_iconst (x := nI 1) hb dX15_level_0 (by decide) ?_
  refine z_aload_n hb dX15_level_1 rfl ?_
  refine z_get (k := 0) (C := RX16) (T := TX16) (N := 2) hb ho zc12 in_X16 (zf_RX15_7 _) dX15_level_2 hx (by decide) rfl ?_
  have J_8 : ∀ n_1 : Nat, n ≤ n_1 → z_V M h n_1 0 0 8 [(0, .ref (sa k))] [.int (nI (z_lev w (tw_f w k + 1) (tw_f w k))), .int (nI 1)] := by
    intro n_1 hn_1
    refine z_iadd hb dX15_level_8 ?_
    refine z_toI (y := nI (1 + (z_lev w (tw_f w k + 1) (tw_f w k)))) (nI_add 1 (z_lev w (tw_f w k + 1) (tw_f w k))) ?_
    refine z_iret hb hr dX15_level_9 ?_
    rw [hQ]
    exact z_rn_e (by rw [z_lev_n hnb hf (by omega), hs2, Nat.max_self])
  rcases hs (tw_f w k) (by omega) with ⟨q1, q9⟩ | ⟨q1, q9⟩ | ⟨q1, q9⟩ | ⟨q1, q2, q3, q9⟩ | ⟨q1, q2, q3, q9⟩ | ⟨q1, q2, q3, q9⟩ | ⟨q1, q2, q3, q9⟩
  · refine z_callN1 (b' := 0) (f' := 0) (rest := [.int (nI 1)]) (av := [.ref (sa (tw_f w k))]) (z_siteU hb ho zc8 q9 q1299 q1295 (Or.inl q1294) q1300 q1310 ⟨by decide +kernel, by decide +kernel⟩ (by show _ = some 0; decide +kernel) dX15_level_5 : z_Site M _ _ _ _ _ ([].reverse ++ .ref (sa (tw_f w k)) :: [.int (nI 1)]) [.int (nI 1)] _) zk_X10_level q128 hrm (IH _ (by omega) _ _ q9 _) (by omega) (by decide) (Nat.le_of_ble_eq_true rfl) (by omega) (by omega) (fun n_2 hn_2 => ?_)
    exact J_8 _ (by omega)
  · refine z_callN1 (b' := 0) (f' := 0) (rest := [.int (nI 1)]) (av := [.ref (sa (tw_f w k))]) (z_siteU hb ho zc9 q9 q1299 q1295 (Or.inl q1294) q1300 q1306 ⟨by decide +kernel, by decide +kernel⟩ (by show _ = some 0; decide +kernel) dX15_level_5 : z_Site M _ _ _ _ _ ([].reverse ++ .ref (sa (tw_f w k)) :: [.int (nI 1)]) [.int (nI 1)] _) zk_X10_level q128 hrm (IH _ (by omega) _ _ q9 _) (by omega) (by decide) (Nat.le_of_ble_eq_true rfl) (by omega) (by omega) (fun n_3 hn_3 => ?_)
    exact J_8 _ (by omega)
  · refine z_callN1 (b' := 0) (f' := 0) (rest := [.int (nI 1)]) (av := [.ref (sa (tw_f w k))]) (z_siteU hb ho zc10 q9 q1299 q1295 (Or.inl q1294) q1300 q1307 ⟨by decide +kernel, by decide +kernel⟩ (by show _ = some 0; decide +kernel) dX15_level_5 : z_Site M _ _ _ _ _ ([].reverse ++ .ref (sa (tw_f w k)) :: [.int (nI 1)]) [.int (nI 1)] _) zk_X10_level q128 hrm (IH _ (by omega) _ _ q9 _) (by omega) (by decide) (Nat.le_of_ble_eq_true rfl) (by omega) (by omega) (fun n_4 hn_4 => ?_)
    exact J_8 _ (by omega)
  · refine z_callN1 (b' := 0) (f' := 0) (rest := [.int (nI 1)]) (av := [.ref (sa (tw_f w k))]) (z_siteU hb ho zc11 q9 q1299 q1295 (Or.inl q1294) q1302 q1308 ⟨by decide +kernel, by decide +kernel⟩ (by show _ = some 0; decide +kernel) dX15_level_5 : z_Site M _ _ _ _ _ ([].reverse ++ .ref (sa (tw_f w k)) :: [.int (nI 1)]) [.int (nI 1)] _) zk_X14_level q133 hrm (IH _ (by omega) _ _ q9 _) (by omega) (by decide) (Nat.le_of_ble_eq_true rfl) (by omega) (by omega) (fun n_5 hn_5 => ?_)
    exact J_8 _ (by omega)
  · refine z_callN1 (b' := 0) (f' := 0) (rest := [.int (nI 1)]) (av := [.ref (sa (tw_f w k))]) (z_siteU hb ho zc11 q9 q1299 q1295 (Or.inl q1294) q1302 q1308 ⟨by decide +kernel, by decide +kernel⟩ (by show _ = some 0; decide +kernel) dX15_level_5 : z_Site M _ _ _ _ _ ([].reverse ++ .ref (sa (tw_f w k)) :: [.int (nI 1)]) [.int (nI 1)] _) zk_X14_level q133 hrm (IH _ (by omega) _ _ q9 _) (by omega) (by decide) (Nat.le_of_ble_eq_true rfl) (by omega) (by omega) (fun n_6 hn_6 => ?_)
    exact J_8 _ (by omega)
  · refine z_callN1 (b' := 0) (f' := 0) (rest := [.int (nI 1)]) (av := [.ref (sa (tw_f w k))]) (z_siteU hb ho zc12 q9 q1299 q1295 (Or.inl q1294) q1297 q1309 ⟨by decide +kernel, by decide +kernel⟩ (by show _ = some 0; decide +kernel) dX15_level_5 : z_Site M _ _ _ _ _ ([].reverse ++ .ref (sa (tw_f w k)) :: [.int (nI 1)]) [.int (nI 1)] _) zk_X15_level q134 hrm (IH _ (by omega) _ _ q9 _) (by omega) (by decide) (Nat.le_of_ble_eq_true rfl) (by omega) (by omega) (fun n_7 hn_7 => ?_)
    exact J_8 _ (by omega)
  · refine z_callN1 (b' := 0) (f' := 0) (rest := [.int (nI 1)]) (av := [.ref (sa (tw_f w k))]) (z_siteU hb ho zc13 q9 q1299 q1295 (Or.inl q1294) q1297 q1296 ⟨by decide +kernel, by decide +kernel⟩ (by show _ = some 0; decide +kernel) dX15_level_5 : z_Site M _ _ _ _ _ ([].reverse ++ .ref (sa (tw_f w k)) :: [.int (nI 1)]) [.int (nI 1)] _) zk_X15_level q134 hrm (IH _ (by omega) _ _ q9 _) (by omega) (by decide) (Nat.le_of_ble_eq_true rfl) (by omega) (by omega) (fun n_8 hn_8 => ?_)
    exact J_8 _ (by omega)

set_option maxHeartbeats 1000000 in
theorem m_X15_level_13 {l : Launch} {G : zG} {h : zH} {n : Nat} {w : Nat → Int32} {S : Nat} {sa : Nat → Nat} {k : Nat} {c9 s9 : Int32} (hs : ∀ j, j < S → z_Sp h w sa j) (hk : k < S) (hS8 : S ≤ 8) (IH : ∀ j, j < k → ∀ ci fs, h (sa j) = some (.inr (ci, fs)) → ∀ n : Nat, z_C l G (z_yl ci) (2 * j + 2) 0 0 [.ref (sa j)] h n (z_rn (.int (nI (z_lev w (j + 1) j))) h)) (hx : h (sa k) = some (.inr (13, [.ref (sa (tw_f w k)), .int c9, .int s9]))) (hf : tw_f w k < k) (hs2 : tw_s w k = tw_f w k) (hnb : tw_base w k = false) : z_C l G yX15_level (2 * k + 2) 0 0 [.ref (sa k)] h n (z_rn (.int (nI (z_lev w (k + 1) k))) h) := by
  refine z_start zk_X15_level zpl_RX15 (Nat.le_of_ble_eq_true rfl) ?_
  intro hn0 M hl hG ho hb hN hr hm hH hrm hQ
  subst hl hG
  have ho : zm_o M = RX15 := ho
  show z_V M h n 0 0 0 [(0, .ref (sa k))] []
  refine z_dom (fun hD0 => ?_)
  refine z_iconst (x := nI 1) hb dX15_level_0 (by decide) ?_
  refine z_aload_n hb dX15_level_1 rfl ?_
  refine z_get (k := 0) (C := RX17) (T := TX17) (N := 3) hb ho zc13 in_X17 (zf_RX15_7 _) dX15_level_2 hx (by decide) rfl ?_
  have J_8 : ∀ n_1 : Nat, n ≤ n_1 → z_V M h n_1 0 0 8 [(0, .ref (sa k))] [.int (nI (z_lev w (tw_f w k + 1) (tw_f w k))), .int (nI 1)] := by
    intro n_1 hn_1
    refine z_iadd hb dX15_level_8 ?_
    refine z_toI (y := nI (1 + (z_lev w (tw_f w k + 1) (tw_f w k)))) (nI_add 1 (z_lev w (tw_f w k + 1) (tw_f w k))) ?_
    refine z_iret hb hr dX15_level_9 ?_
    rw [hQ]
    exact z_rn_e (by rw [z_lev_n hnb hf (by omega), hs2, Nat.max_self])
  rcases hs (tw_f w k) (by omega) with ⟨q1, q9⟩ | ⟨q1, q9⟩ | ⟨q1, q9⟩ | ⟨q1, q2, q3, q9⟩ | ⟨q1, q2, q3, q9⟩ | ⟨q1, q2, q3, q9⟩ | ⟨q1, q2, q3, q9⟩
  · refine z_callN1 (b' := 0) (f' := 0) (rest := [.int (nI 1)]) (av := [.ref (sa (tw_f w k))]) (z_siteU hb ho zc8 q9 q1299 q1295 (Or.inl q1294) q1300 q1310 ⟨by decide +kernel, by decide +kernel⟩ (by show _ = some 0; decide +kernel) dX15_level_5 : z_Site M _ _ _ _ _ ([].reverse ++ .ref (sa (tw_f w k)) :: [.int (nI 1)]) [.int (nI 1)] _) zk_X10_level q128 hrm (IH _ (by omega) _ _ q9 _) (by omega) (by decide) (Nat.le_of_ble_eq_true rfl) (by omega) (by omega) (fun n_2 hn_2 => ?_)
    exact J_8 _ (by omega)
  · refine z_callN1 (b' := 0) (f' := 0) (rest := [.int (nI 1)]) (av := [.ref (sa (tw_f w k))]) (z_siteU hb ho zc9 q9 q1299 q1295 (Or.inl q1294) q1300 q1306 ⟨by decide +kernel, by decide +kernel⟩ (by show _ = some 0; decide +kernel) dX15_level_5 : z_Site M _ _ _ _ _ ([].reverse ++ .ref (sa (tw_f w k)) :: [.int (nI 1)]) [.int (nI 1)] _) zk_X10_level q128 hrm (IH _ (by omega) _ _ q9 _) (by omega) (by decide) (Nat.le_of_ble_eq_true rfl) (by omega) (by omega) (fun n_3 hn_3 => ?_)
    exact J_8 _ (by omega)
  · refine z_callN1 (b' := 0) (f' := 0) (rest := [.int (nI 1)]) (av := [.ref (sa (tw_f w k))]) (z_siteU hb ho zc10 q9 q1299 q1295 (Or.inl q1294) q1300 q1307 ⟨by decide +kernel, by decide +kernel⟩ (by show _ = some 0; decide +kernel) dX15_level_5 : z_Site M _ _ _ _ _ ([].reverse ++ .ref (sa (tw_f w k)) :: [.int (nI 1)]) [.int (nI 1)] _) zk_X10_level q128 hrm (IH _ (by omega) _ _ q9 _) (by omega) (by decide) (Nat.le_of_ble_eq_true rfl) (by omega) (by omega) (fun n_4 hn_4 => ?_)
    exact J_8 _ (by omega)
  · refine z_callN1 (b' := 0) (f' := 0) (rest := [.int (nI 1)]) (av := [.ref (sa (tw_f w k))]) (z_siteU hb ho zc11 q9 q1299 q1295 (Or.inl q1294) q1302 q1308 ⟨by decide +kernel, by decide +kernel⟩ (by show _ = some 0; decide +kernel) dX15_level_5 : z_Site M _ _ _ _ _ ([].reverse ++ .ref (sa (tw_f w k)) :: [.int (nI 1)]) [.int (nI 1)] _) zk_X14_level q133 hrm (IH _ (by omega) _ _ q9 _) (by omega) (by decide) (Nat.le_of_ble_eq_true rfl) (by omega) (by omega) (fun n_5 hn_5 => ?_)
    exact J_8 _ (by omega)
  · refine z_callN1 (b' := 0) (f' := 0) (rest := [.int (nI 1)]) (av := [.ref (sa (tw_f w k))]) (z_siteU hb ho zc11 q9 q1299 q1295 (Or.inl q1294) q1302 q1308 ⟨by decide +kernel, by decide +kernel⟩ (by show _ = some 0; decide +kernel) dX15_level_5 : z_Site M _ _ _ _ _ ([].reverse ++ .ref (sa (tw_f w k)) :: [.int (nI 1)]) [.int (nI 1)] _) zk_X14_level q133 hrm (IH _ (by omega) _ _ q9 _) (by omega) (by decide) (Nat.le_of_ble_eq_true rfl) (by omega) (by omega) (fun n_6 hn_6 => ?_)
    exact J_8 _ (by omega)
  · refine z_callN1 (b' := 0) (f' := 0) (rest := [.int (nI 1)]) (av := [.ref (sa (tw_f w k))]) (z_siteU hb ho zc12 q9 q1299 q1295 (Or.inl q1294) q1297 q1309 ⟨by decide +kernel, by decide +kernel⟩ (by show _ = some 0; decide +kernel) dX15_level_5 : z_Site M _ _ _ _ _ ([].reverse ++ .ref (sa (tw_f w k)) :: [.int (nI 1)]) [.int (nI 1)] _) zk_X15_level q134 hrm (IH _ (by omega) _ _ q9 _) (by omega) (by decide) (Nat.le_of_ble_eq_true rfl) (by omega) (by omega) (fun n_7 hn_7 => ?_)
    exact J_8 _ (by omega)
  · refine z_callN1 (b' := 0) (f' := 0) (rest := [.int (nI 1)]) (av := [.ref (sa (tw_f w k))]) (z_siteU hb ho zc13 q9 q1299 q1295 (Or.inl q1294) q1297 q1296 ⟨by decide +kernel, by decide +kernel⟩ (by show _ = some 0; decide +kernel) dX15_level_5 : z_Site M _ _ _ _ _ ([].reverse ++ .ref (sa (tw_f w k)) :: [.int (nI 1)]) [.int (nI 1)] _) zk_X15_level q134 hrm (IH _ (by omega) _ _ q9 _) (by omega) (by decide) (Nat.le_of_ble_eq_true rfl) (by omega) (by omega) (fun n_8 hn_8 => ?_)
    exact J_8 _ (by omega)

theorem m_level {l : Launch} {G : zG} {h : zH} {w : Nat → Int32} {S : Nat} {sa : Nat → Nat} (hs : ∀ j, j < S → z_Sp h w sa j) (hS8 : S ≤ 8) : ∀ m k, k < m → k < S → ∀ ci fs, h (sa k) = some (.inr (ci, fs)) → ∀ n : Nat, z_C l G (z_yl ci) (2 * k + 2) 0 0 [.ref (sa k)] h n (z_rn (.int (nI (z_lev w (k + 1) k))) h)
  | 0, k, h0 => absurd h0 (Nat.not_lt_zero _)
  | m + 1, k, h0 => fun hk ci fs hx n => by
    have IH := fun j (hj : j < k) => m_level (l := l) (G := G) (h := h) hs hS8 m j (by omega) (by omega)
    rcases hs k hk with ⟨qk, q⟩ | ⟨qk, q⟩ | ⟨qk, q⟩ | ⟨qk, g1, g2, q⟩ | ⟨qk, g1, g2, q⟩ | ⟨qk, g1, g2, q⟩ | ⟨qk, g1, g2, q⟩
    all_goals
      have e9 := Option.some.inj (hx.symm.trans q)
      injection e9 with e9
      injection e9 with e9 e8
      subst e9 e8
    · rw [z_lev_b (z_kb qk (by simp))]; exact m_X10_levelR (m := 0)
    · rw [z_lev_b (z_kb qk (by simp))]; exact m_X10_levelR (m := 0)
    · rw [z_lev_b (z_kb qk (by simp))]; exact m_X10_levelR (m := 0)
    · exact m_X14_level hs hk hS8 IH hx g1 g2 (z_kn qk (by simp))
    · exact m_X14_level hs hk hS8 IH hx g1 g2 (z_kn qk (by simp))
    · exact m_X15_level_12 hs hk hS8 IH hx g1 g2 (z_kn qk (by simp))
    · exact m_X15_level_13 hs hk hS8 IH hx g1 g2 (z_kn qk (by simp))

