theorem z_ex_up {h h2 : zH} {q : Nat} {c : va_E} (a : z_ex h h2) : z_ex (z_up h q c) (z_up h2 q c) := fun x e y => by
  by_cases z : x = q
  · rw [z, z_up_s] at y ⊢; exact y
  · rw [z_up_n z] at y ⊢; exact a x e y

set_option maxHeartbeats 1000000 in
theorem m_X2_row_ok {l : Launch} {G : zG} {h : zH} {n : Nat} {w : Nat → Int32} {v : Nat → Int64} {R S D a lr ls lv : Nat} {ra sa va : Nat → Nat} {x : Int32} {p0 : Nat} (hL : z_Ln G h w v R S D a lr ls lv ra sa va) (hOE : h (G.2.2.1 1003) = some (.inr (25, [.null]))) (hR4 : R ≤ 40) (hp0 : p0 < R) (hx : w (16 + 4 * p0) = x) (hnd : ∀ p q, p < R → q < R → w (16 + 4 * p) = w (16 + 4 * q) → p = q) : z_C l G yX2_row 9 43 50 [.ref a, .int x] h n (z_rn (.ref (ra p0)) h) := by
  refine z_start zk_X2_row zpl_RX2 (Nat.le_of_ble_eq_true rfl) ?_
  intro hn0 M hl hG ho hb hN hr hm hH hrm hQ
  subst hl hG
  have ho : zm_o M = RX2 := ho
  obtain ⟨h1, ⟨e0, N0, m0, f0, r1, r2, r3, ⟨r4, r4n⟩, r5⟩, ⟨e, N, m9, f, h3, h4, h5, ⟨h6, h6n⟩, h7⟩, ⟨ev, Nv, mv, fv, v1, v2, v3, ⟨v4, v4n⟩, v5⟩, h9, hs, hv, hi, hrI⟩ := id hL
  show z_V M h n 43 50 0 [(0, .ref a), (1, .int x)] []
  refine z_dom (fun hD0 => ?_)
  refine z_call1 (b' := 43) (f' := 50) (rest := []) (av := []) (z_siteS hb ho q1342 q1343 q125 ⟨_, _, _, _, zk_J21_empty⟩ zy_J21_empty zl_J21_empty dX2_row_0 : z_Site M _ _ _ _ _ ([].reverse ++ []) [] _) zk_J21_empty q125 hrm (m_J21_empty) (by omega) (by decide) (Nat.le_of_ble_eq_true rfl) (by omega) (by omega) ?_
  refine z_astore_n (lv' := [(2, .ref ((zm_G M).2.2.1 1003)), (0, .ref a), (1, .int x)]) hb dX2_row_3 (by rw [hN]; decide) rfl ?_
  refine z_aload_n hb dX2_row_4 rfl ?_
  refine z_get (k := 0) (C := RX2) (T := TX2) (N := 8) hb ho zc1 in_X2 (zf_RX2_12 _) dX2_row_5 h1 (by decide) rfl ?_
  refine z_dom (fun hD_1 => ?_)
  refine z_call1 (b' := 42) (f' := 46) (rest := []) (av := [.ref lr]) (z_siteF hb ho zc20 r1 q340 zx1 q343 q345 q346 q344 q321 zxl1 dX2_row_8 : z_Site M _ _ _ _ _ ([].reverse ++ .ref lr :: []) [] _) zk_J2_iterator q98 hrm (m_J2_iterator r1 (hD_1 _ _ r1)) (by omega) (by decide) (Nat.le_of_ble_eq_true rfl) (by omega) (by omega) ?_
  refine z_hn (fun h_2 eh_2 => ?_)
  have eh_2 : h_2 = z_up h n (.inr (24, [.int (nI 0), .int (-1), .int m0, .ref lr])) := eh_2
  have k_3 : h_2 a = some (.inr (1, [.ref lr, .ref ls, .ref lv, .int (nI D), .int (w 2), .int (w 4), .int (w 5), .int (w 6)])) := z_nx eh_2 (Nat.ne_of_lt (hD_1 _ _ h1)) h1
  have k_4 : h_2 lr = some (.inr (20, [.int m0, .ref e0, .int (nI R)])) := z_nx eh_2 (Nat.ne_of_lt (hD_1 _ _ r1)) r1
  have k_5 : h_2 e0 = some (.inl ((zm_G M).2.1 5, N0, .inr (.inr (.inr (.inr f0))))) := z_nx eh_2 (Nat.ne_of_lt (hD_1 _ _ r2)) r2
  have k_6 : h_2 ls = some (.inr (20, [.int m9, .ref e, .int (nI S)])) := z_nx eh_2 (Nat.ne_of_lt (hD_1 _ _ h3)) h3
  have k_7 : h_2 e = some (.inl ((zm_G M).2.1 5, N, .inr (.inr (.inr (.inr f))))) := z_nx eh_2 (Nat.ne_of_lt (hD_1 _ _ h4)) h4
  have k_8 : h_2 lv = some (.inr (20, [.int mv, .ref ev, .int (nI S)])) := z_nx eh_2 (Nat.ne_of_lt (hD_1 _ _ v1)) v1
  have k_9 : h_2 ev = some (.inl ((zm_G M).2.1 5, Nv, .inr (.inr (.inr (.inr fv))))) := z_nx eh_2 (Nat.ne_of_lt (hD_1 _ _ v2)) v2
  have k_10 : h_2 ((zm_G M).2.2.1 1003) = some (.inr (25, [.null])) := z_nx eh_2 (Nat.ne_of_lt (hD_1 _ _ hOE)) hOE
  refine z_astore_n (lv' := [(3, .ref n), (2, .ref ((zm_G M).2.2.1 1003)), (0, .ref a), (1, .int x)]) hb dX2_row_13 (by rw [hN]; decide) rfl ?_
  have lp_14 : ∀ (k9_14 : Nat) (j : Nat) (lr9j : Int32) (nnj : Nat) (hhj : zH) (fo : Nat), R + 1 - j < k9_14 → (j ≤ R) → (n < nnj) → (z_ex h hhj) → (hhj n = some (.inr (24, [.int (nI j), .int lr9j, .int m0, .ref lr]))) → (j ≤ p0 → fo = ((zm_G M).2.2.1 1003)) → (p0 < j → hhj fo = some (.inr (25, [.ref (ra p0)]))) → z_V M hhj nnj (R - j + 1) (1 * (R - j) + 6) 14 [(3, .ref n), (2, .ref fo), (0, .ref a), (1, .int x)] [] := by
    intro k9_14
    induction k9_14 with
    | zero => intro j lr9j nnj hhj fo hk9_14; exact absurd hk9_14 (Nat.not_lt_zero _)
    | succ k9_14 ih_14 =>
      intro j lr9j nnj hhj fo hk9_14 hj hnnj hEj hTj hf1 hf2
      refine z_aload_n hb dX2_row_14 rfl ?_
      refine z_call1 (b' := R - j + 1) (f' := 1 * (R - j) + 6) (rest := []) (av := [.ref n]) (z_siteF hb ho zc24 hTj q368 zx2 q372 q374 q375 q373 q371 zxl2 dX2_row_15 : z_Site M _ _ _ _ _ ([].reverse ++ .ref n :: []) [] _) zk_J8_hasNext q105 hrm (m_J8_hasNext hTj (hEj _ _ r1) (by omega) (by omega)) (by omega) (by decide) (Nat.le_of_ble_eq_true rfl) (by omega) (by omega) ?_
      refine z_ifb_eq (tgt := 56) hb dX2_row_20 (by decide) (fun c_20 => ?_) (fun c_20 => ?_)
      · have hx_j : j = R := by simpa using c_20
        have hfo := hf2 (by omega)
        refine z_aload_n hb dX2_row_56 rfl ?_
        refine z_call1 (b' := R - j + 1) (f' := 1 * (R - j) + 6) (rest := []) (av := [.ref fo]) (z_siteV hb ho zc25 hfo q1363 q1364 q1365 ⟨_, _, _, _, zk_J21_isPresent⟩ zy_J21_isPresent zl_J21_isPresent dX2_row_57 : z_Site M _ _ _ _ _ ([].reverse ++ .ref fo :: []) [] _) zk_J21_isPresent q125 hrm (m_J21_isPresent_t hfo) (by omega) (by decide) (Nat.le_of_ble_eq_true rfl) (by omega) (by omega) ?_
        refine z_callC0 (b' := (R - j + 1) - 1) (f' := (1 * (R - j) + 6) - 6) (rest := []) (av := [.int (z_b true)]) (z_siteSN hb ho q1367 q1368 q94 ⟨_, _, _, _, zk_X1_requireElement⟩ zy_X1_requireElement zl_X1_requireElement dX2_row_60 : z_Site M _ _ _ _ _ ([.int (z_b true)].reverse ++ []) [] _) zk_X1_requireElement q94 hrm (m_X1_requireElement true) (by omega) (by decide) (Nat.le_of_ble_eq_true rfl) (by omega) (by omega) (fun c_60 => ?_) (fun c_60 => ?_)
        · refine z_aload_n hb dX2_row_63 rfl ?_
          refine z_call1 (b' := (R - j + 1) - 1) (f' := (1 * (R - j) + 6) - 6) (rest := []) (av := [.ref fo]) (z_siteV hb ho zc25 hfo q1372 q1373 q1374 ⟨_, _, _, _, zk_J21_get⟩ zy_J21_get zl_J21_get dX2_row_64 : z_Site M _ _ _ _ _ ([].reverse ++ .ref fo :: []) [] _) zk_J21_get q125 hrm (m_J21_get hfo) (by omega) (by decide) (Nat.le_of_ble_eq_true rfl) (by omega) (by omega) ?_
          have hrw_11 := h9 p0 hp0
          unfold z_Rw at hrw_11
          have k_12 : hhj (ra p0) = some (.inr (6, [.int (w (16 + 4 * p0)), .int (w (16 + 4 * p0 + 1)), .int (w (16 + 4 * p0 + 2)), .int (w (16 + 4 * p0 + 3))])) := hEj _ _ hrw_11
          refine z_cast hb ho zc6 k_12 q473 (Or.inl rfl) dX2_row_67 ?_
          refine z_less hEj ?_
          refine z_aret hb hr (Or.inl ⟨_, rfl⟩) (Or.inr ⟨_, rfl⟩) dX2_row_70 ?_
          rw [hQ]
          exact ⟨rfl, rfl⟩
        · cases c_60
      · have hl_j : j < R := Nat.lt_of_le_of_ne hj (by simpa using c_20)
        refine z_aload_n hb dX2_row_23 rfl ?_
        refine z_call1 (b' := R - j + 1) (f' := 1 * (R - j) + 6) (rest := []) (av := [.ref n]) (z_siteF hb ho zc24 hTj q378 zx3 q381 q383 q384 q382 q371 zxl3 dX2_row_24 : z_Site M _ _ _ _ _ ([].reverse ++ .ref n :: []) [] _) zk_J8_next q105 hrm (m_J8_next hTj (hEj _ _ r1) (hEj _ _ r2) (by omega) (by omega) r5 (by omega) (by omega)) (by omega) (by decide) (Nat.le_of_ble_eq_true rfl) (by omega) (by omega) ?_
        refine z_hn (fun h_13 eh_13 => ?_)
        have eh_13 : h_13 = z_up hhj n (.inr (24, [.int (nI (j + 1)), .int (nI j), .int m0, .ref lr])) := eh_13
        have k_14 : h_13 a = some (.inr (1, [.ref lr, .ref ls, .ref lv, .int (nI D), .int (w 2), .int (w 4), .int (w 5), .int (w 6)])) := z_nx eh_13 (Nat.ne_of_lt (hD_1 _ _ h1)) (hEj _ _ h1)
        have k_15 : h_13 lr = some (.inr (20, [.int m0, .ref e0, .int (nI R)])) := z_nx eh_13 (Nat.ne_of_lt (hD_1 _ _ r1)) (hEj _ _ r1)
        have k_16 : h_13 e0 = some (.inl ((zm_G M).2.1 5, N0, .inr (.inr (.inr (.inr f0))))) := z_nx eh_13 (Nat.ne_of_lt (hD_1 _ _ r2)) (hEj _ _ r2)
        have k_17 : h_13 ls = some (.inr (20, [.int m9, .ref e, .int (nI S)])) := z_nx eh_13 (Nat.ne_of_lt (hD_1 _ _ h3)) (hEj _ _ h3)
        have k_18 : h_13 e = some (.inl ((zm_G M).2.1 5, N, .inr (.inr (.inr (.inr f))))) := z_nx eh_13 (Nat.ne_of_lt (hD_1 _ _ h4)) (hEj _ _ h4)
        have k_19 : h_13 lv = some (.inr (20, [.int mv, .ref ev, .int (nI S)])) := z_nx eh_13 (Nat.ne_of_lt (hD_1 _ _ v1)) (hEj _ _ v1)
        have k_20 : h_13 ev = some (.inl ((zm_G M).2.1 5, Nv, .inr (.inr (.inr (.inr fv))))) := z_nx eh_13 (Nat.ne_of_lt (hD_1 _ _ v2)) (hEj _ _ v2)
        have k_21 : h_13 ((zm_G M).2.2.1 1003) = some (.inr (25, [.null])) := z_nx eh_13 (Nat.ne_of_lt (hD_1 _ _ hOE)) (hEj _ _ hOE)
        have hrw_22 := h9 j (by omega)
        unfold z_Rw at hrw_22
        have k_23 : h_13 (ra j) = some (.inr (6, [.int (w (16 + 4 * j)), .int (w (16 + 4 * j + 1)), .int (w (16 + 4 * j + 2)), .int (w (16 + 4 * j + 3))])) := (z_exW hD0 (by omega) eh_13 hEj) _ _ hrw_22
        have hf3 : p0 < j → h_13 fo = some (.inr (25, [.ref (ra p0)])) := fun z => by
          rw [eh_13, z_up_n (z_neO (hf2 z) hTj rfl)]
          exact hf2 z
        refine z_cast hb ho zc6 k_23 q473 (Or.inl rfl) dX2_row_29 ?_
        refine z_astore (lv' := [(4, .ref (ra j)), (3, .ref n), (2, .ref fo), (0, .ref a), (1, .int x)]) hb dX2_row_32 (by rw [hN]; decide) rfl ?_
        have J_52 : ∀ (nn5 : Nat) (hh5 : zH) (fo5 : Nat), (nnj ≤ nn5) → (z_ex h_13 hh5) → (j < p0 → fo5 = ((zm_G M).2.2.1 1003)) → (p0 ≤ j → hh5 fo5 = some (.inr (25, [.ref (ra p0)]))) → z_V M hh5 nn5 (R - (j + 1) + 1) (1 * (R - (j + 1)) + 6) 52 [(4, .ref (ra j)), (3, .ref n), (2, .ref fo), (0, .ref a), (1, .int x)] [.ref fo5] := by
          intro nn5 hh5 fo5 hn5 hE5 hg1 hg2
          refine z_astore_n (lv' := [(2, .ref fo5), (4, .ref (ra j)), (3, .ref n), (0, .ref a), (1, .int x)]) hb dX2_row_52 (by rw [hN]; decide) rfl ?_
          refine z_goto (tgt := 14) hb dX2_row_53 (by decide) ?_
          refine z_lv [2, 0, 3, 4] (lv' := [(3, .ref n), (2, .ref fo5), (0, .ref a), (1, .int x)]) rfl ?_
          exact z_bf (by omega) (by omega) (ih_14 (j + 1) _ nn5 hh5 fo5 (by omega) (by omega) (by omega) (z_ex_t (z_exW hD_1 (by omega) eh_13 hEj) hE5) (hE5 _ _ (z_nxs eh_13)) (fun q => hg1 (by omega)) (fun q => hg2 (by omega)))
        refine z_aload hb dX2_row_34 rfl ?_
        refine z_get (k := 0) (C := RX7) (T := TX7) (N := 4) hb ho zc6 in_X7 (zf_RX2_111 _) dX2_row_36 k_23 (by decide) rfl ?_
        refine z_iload_n hb dX2_row_39 rfl ?_
        refine z_icmp_ne (tgt := 51) hb dX2_row_40 (by decide) (fun c_40 => ?_) (fun c_40 => ?_)
        · refine z_aload_n hb dX2_row_51 rfl ?_
          refine z_lv [0, 1, 2, 3, 4] (lv' := [(4, .ref (ra j)), (3, .ref n), (2, .ref fo), (0, .ref a), (1, .int x)]) rfl ?_
          exact z_bf (by omega) (by omega) (J_52 nnj h_13 fo (by omega) z_ex_r (fun q => hf1 (by omega)) (fun q => hf3 (by
            rcases Nat.lt_or_ge p0 j with z | z
            · exact z
            · exact absurd (show w (16 + 4 * j) = x by rw [show j = p0 by omega]; exact hx) c_40)))
        · refine z_aload hb dX2_row_43 rfl ?_
          refine z_dom (fun hD_24 => ?_)
          refine z_call1 (b' := (R - j + 1) - 1) (f' := (1 * (R - j) + 6) - 1) (rest := []) (av := [.ref (ra j)]) (z_siteS hb ho q1347 q1348 q125 ⟨_, _, _, _, zk_J21_of⟩ zy_J21_of zl_J21_of dX2_row_45 : z_Site M _ _ _ _ _ ([.ref (ra j)].reverse ++ []) [] _) zk_J21_of q125 hrm (m_J21_of) (by omega) (by decide) (Nat.le_of_ble_eq_true rfl) (by omega) (by omega) ?_
          refine z_hn (fun h_25 eh_25 => ?_)
          have eh_25 : h_25 = z_up h_13 nnj (.inr (25, [.ref (ra j)])) := eh_25
          have k_26 : h_25 a = some (.inr (1, [.ref lr, .ref ls, .ref lv, .int (nI D), .int (w 2), .int (w 4), .int (w 5), .int (w 6)])) := z_nx eh_25 (Nat.ne_of_lt (hD_24 _ _ k_14)) k_14
          have k_27 : h_25 lr = some (.inr (20, [.int m0, .ref e0, .int (nI R)])) := z_nx eh_25 (Nat.ne_of_lt (hD_24 _ _ k_15)) k_15
          have k_28 : h_25 e0 = some (.inl ((zm_G M).2.1 5, N0, .inr (.inr (.inr (.inr f0))))) := z_nx eh_25 (Nat.ne_of_lt (hD_24 _ _ k_16)) k_16
          have k_29 : h_25 ls = some (.inr (20, [.int m9, .ref e, .int (nI S)])) := z_nx eh_25 (Nat.ne_of_lt (hD_24 _ _ k_17)) k_17
          have k_30 : h_25 e = some (.inl ((zm_G M).2.1 5, N, .inr (.inr (.inr (.inr f))))) := z_nx eh_25 (Nat.ne_of_lt (hD_24 _ _ k_18)) k_18
          have k_31 : h_25 lv = some (.inr (20, [.int mv, .ref ev, .int (nI S)])) := z_nx eh_25 (Nat.ne_of_lt (hD_24 _ _ k_19)) k_19
          have k_32 : h_25 ev = some (.inl ((zm_G M).2.1 5, Nv, .inr (.inr (.inr (.inr fv))))) := z_nx eh_25 (Nat.ne_of_lt (hD_24 _ _ k_20)) k_20
          have k_33 : h_25 ((zm_G M).2.2.1 1003) = some (.inr (25, [.null])) := z_nx eh_25 (Nat.ne_of_lt (hD_24 _ _ k_21)) k_21
          have k_34 : h_25 n = some (.inr (24, [.int (nI (j + 1)), .int (nI j), .int m0, .ref lr])) := z_nx eh_25 (Nat.ne_of_lt (hD_24 _ _ (z_nxs eh_13))) (z_nxs eh_13)
          have k_35 : h_25 (ra j) = some (.inr (6, [.int (w (16 + 4 * j)), .int (w (16 + 4 * j + 1)), .int (w (16 + 4 * j + 2)), .int (w (16 + 4 * j + 3))])) := z_nx eh_25 (Nat.ne_of_lt (hD_24 _ _ k_23)) k_23
          refine z_goto (tgt := 52) hb dX2_row_48 (by decide) ?_
          refine z_lv [0, 1, 2, 3, 4] (lv' := [(4, .ref (ra j)), (3, .ref n), (2, .ref fo), (0, .ref a), (1, .int x)]) rfl ?_
          exact z_bf (by omega) (by omega) (J_52 (nnj + 1) h_25 nnj (by omega) (z_exN z_ex_r hD_24 eh_25) (fun q => absurd (hnd _ _ hl_j hp0 (c_40.trans hx.symm)) (by omega)) (fun q => by
            have e9 := hnd _ _ hl_j hp0 (c_40.trans hx.symm)
            rw [← e9]
            exact (z_nxs eh_25)))
  refine z_lv [0, 1, 2, 3] (lv' := [(3, .ref n), (2, .ref ((zm_G M).2.2.1 1003)), (0, .ref a), (1, .int x)]) rfl ?_
  exact z_bf (by omega) (by omega) (lp_14 _ 0 (-1) (n + 1) h_2 ((zm_G M).2.2.1 1003) (Nat.lt_succ_self _) (Nat.zero_le _) (by omega) (z_exN z_ex_r hD_1 eh_2) (z_nxs eh_2) (fun _ => rfl) (fun h => absurd h (Nat.not_lt_zero _)))

