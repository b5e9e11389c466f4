set_option maxHeartbeats 1000000 in
theorem m_J4_append_c0 {l : Launch} {G : zG} {h : zH} {n : Nat} {b e c N : Nat} {ml : Bool} {f : Nat → Int32} {cs : List Nat} (hB : h b = some (z_sb e 0 ml cs.length)) (hA : h e = some (z_ab G N f)) (hb9 : z_n0 G ≤ b) (he0 : z_n0 G ≤ e) (hN16 : 16 ≤ N) (hN3 : N ≤ 300) (hfb : z_fB f N) (hkN : cs.length ≤ N) (hf : ∀ j, j < cs.length → cs.getD j 0 < 256 ∧ f j = z_bt (cs.getD j 0)) (hc16 : c < 65536) (hk9 : cs.length ≤ 65) : z_C l G yJ4_append_3 7 2 900 [.ref b, .int (nI c)] h n (z_q1 (fun r9 h9 n9 => r9 = .ref b ∧ ∃ e9 cd9, z_BF G h9 b e9 cd9 (cs ++ [c]) ∧ (cd9 = 0 ∨ cd9 = 1) ∧ (e9 = e ∨ n ≤ e9) ∧ (c < 256 → cd9 = 0) ∧ z_fr (fun y => y = b ∨ y = e) h h9)) := by
  refine z_start zk_J4_append_3 zpl_RJ4 (Nat.le_of_ble_eq_true rfl) ?_
  intro hn0 M hl hG ho hb hN hr hm hH hrm hQ
  subst hl hG
  have ho : zm_o M = RJ4 := ho
  refine z_dom (fun hdm => ?_)
  have hbn := hdm _ _ hB
  show z_V M h n 2 900 0 [(0, .ref b), (1, .int (nI c))] []
  refine z_aload_n hb dJ4_append_3_0 rfl ?_
  refine z_aload_n hb dJ4_append_3_1 rfl ?_
  refine z_get (k := 3) (C := RJ5) (T := TJ5) (N := 4) hb ho zc22 in_J5 (zf_RJ4_79 _) dJ4_append_3_2 hB (by decide) rfl ?_
  refine z_iconst (x := nI 1) hb dJ4_append_3_5 (by decide) ?_
  refine z_iadd hb dJ4_append_3_6 ?_
  refine z_toI (y := nI (cs.length + 1)) (nI_add cs.length 1) ?_
  refine z_callQ0 (b' := 1) (f' := 600) (rest := []) (av := [.ref b, .int (nI (cs.length + 1))]) (z_siteQ hb ho zc22 hB q923 q925 q924 q3278 ⟨_, _, _, _, zk_J4_ensureCapacityInternal⟩ zy_J4_ensureCapacityInternal zl_J4_ensureCapacityInternal dJ4_append_3_7 : z_Site M _ _ _ _ _ ([.int (nI (cs.length + 1))].reverse ++ .ref b :: []) [] _) zk_J4_ensureCapacityInternal q100 hrm (m_J4_ensureCapacity_0 hB hA hb9 he0 (by omega) hN3 (Or.inr rfl) hfb) (by omega) (by decide) (Nat.le_of_ble_eq_true rfl) (by omega) (by omega) (fun h7 n7 hq7 hn7 => ?_)
  obtain ⟨e2, N2, f2, hB2, hA2, he2, hcap, hNN, hN2, hev2, hfp, hfb2, hee, hfr1⟩ := hq7
  refine z_dom (fun hdm7 => ?_)
  have hbn7 := hdm7 _ _ hB2
  refine z_aload_n hb dJ4_append_3_10 rfl ?_
  refine z_call1 (b' := 1) (f' := 600) (rest := []) (av := [.ref b]) (z_siteV hb ho zc22 hB2 q943 q944 q946 ⟨_, _, _, _, zk_J4_isLatin1⟩ zy_J4_isLatin1 zl_J4_isLatin1 dJ4_append_3_11 : z_Site M _ _ _ _ _ ([].reverse ++ .ref b :: []) [] _) zk_J4_isLatin1 q100 hrm (m_J4_isLatin1_0 hB2) (by omega) (by decide) (Nat.le_of_ble_eq_true rfl) (by omega) (by omega) ?_
  refine z_if_eqN (tgt := 45) hb dJ4_append_3_14 (by decide) (by omega) (fun c_14 => ?_) (fun c_14 => ?_)
  · exact absurd c_14 (by omega)
  · refine z_iload_n hb dJ4_append_3_17 rfl ?_
    refine z_call1 (b' := 1) (f' := 600) (rest := []) (av := [.int (nI c)]) (z_siteS hb ho q2232 q2233 q116 ⟨_, _, _, _, zk_J16_canEncode_2⟩ zy_J16_canEncode_2 zl_J16_canEncode_2 dJ4_append_3_18 : z_Site M _ _ _ _ _ ([.int (nI c)].reverse ++ []) [] _) zk_J16_canEncode_2 q116 hrm (m_J16_canEncode_2 hc16) (by omega) (by decide) (Nat.le_of_ble_eq_true rfl) (by omega) (by omega) ?_
    refine z_ifb_eq (tgt := 45) hb dJ4_append_3_21 (by decide) (fun c_21 => ?_) (fun c_21 => ?_)
    · refine z_aload_n hb dJ4_append_3_45 rfl ?_
      refine z_call1 (b' := 1) (f' := 600) (rest := []) (av := [.ref b]) (z_siteV hb ho zc22 hB2 q943 q944 q946 ⟨_, _, _, _, zk_J4_isLatin1⟩ zy_J4_isLatin1 zl_J4_isLatin1 dJ4_append_3_46 : z_Site M _ _ _ _ _ ([].reverse ++ .ref b :: []) [] _) zk_J4_isLatin1 q100 hrm (m_J4_isLatin1_0 hB2) (by omega) (by decide) (Nat.le_of_ble_eq_true rfl) (by omega) (by omega) ?_
      refine z_if_eqN (tgt := 56) hb dJ4_append_3_49 (by decide) (by omega) (fun c_49 => ?_) (fun c_49 => ?_)
      · exact absurd c_49 (by omega)
      · refine z_aload_n hb dJ4_append_3_52 rfl ?_
        refine z_callQ0 (b' := 0) (f' := 0) (rest := []) (av := [.ref b]) (z_siteQ hb ho zc22 hB2 q982 q984 q983 q3282 ⟨_, _, _, _, zk_J4_inflate⟩ zy_J4_inflate zl_J4_inflate dJ4_append_3_53 : z_Site M _ _ _ _ _ ([].reverse ++ .ref b :: []) [] _) zk_J4_inflate q100 hrm (m_J4_inflate (cs := cs) hB2 hA2 hb9 (by omega) (by omega) (fun j hj => by rw [hfp _ (by omega)]; exact hf j hj)) (by omega) (by decide) (Nat.le_of_ble_eq_true rfl) (by omega) (by omega) (fun h53 n53 hq53 hn53 => ?_)
        obtain ⟨rfl, g, hB3, hA3, hg3, hgd, hfr2⟩ := hq53
        refine z_aload_n hb dJ4_append_3_56 rfl ?_
        refine z_get (k := 0) (C := RJ5) (T := TJ5) (N := 4) hb ho zc22 in_J5 (zf_RJ4_15 _) dJ4_append_3_57 hB3 (by decide) rfl ?_
        refine z_aload_n hb dJ4_append_3_60 rfl ?_
        refine z_dup hb dJ4_append_3_61 rfl ?_
        refine z_get (k := 3) (C := RJ5) (T := TJ5) (N := 4) hb ho zc22 in_J5 (zf_RJ4_79 _) dJ4_append_3_62 hB3 (by decide) rfl ?_
        refine z_dup_x1 hb dJ4_append_3_65 rfl rfl ?_
        refine z_iconst (x := nI 1) hb dJ4_append_3_66 (by decide) ?_
        refine z_iadd hb dJ4_append_3_67 ?_
        refine z_toI (y := nI (cs.length + 1)) (nI_add cs.length 1) ?_
        refine z_put (k := 3) (C := RJ5) (T := TJ5) (N := 4) hb ho zc22 in_J5 tyJ5_ok nmJ5 (zf_RJ4_79 _) dJ4_append_3_68 hB3 hb9 (by decide) (Or.inl rfl) rfl rfl rfl (Nat.le_of_ble_eq_true rfl) ?_
        refine z_hn (fun h_1 eh_1 => ?_)
        have eh_1 : h_1 = z_up h53 b (.inr (22, [.ref n7, .int (nI 1), .int (z_b ml), .int (nI (cs.length + 1))])) := eh_1
        have k_2 : h_1 n7 = some (.inl ((zm_G M).2.1 3, 2 * N2, .inl g)) := z_nx eh_1 (z_neA' hA3 hB3) hA3
        refine z_iload_n hb dJ4_append_3_71 rfl ?_
        refine z_call0 (b' := 0) (f' := 0) (rest := []) (av := [.ref n7, .int (nI cs.length), .int (nI c)]) (z_siteS hb ho q2235 q2236 q103 ⟨_, _, _, _, zk_J7_putCharSB⟩ zy_J7_putCharSB zl_J7_putCharSB dJ4_append_3_72 : z_Site M _ _ _ _ _ ([.ref n7, .int (nI cs.length), .int (nI c)].reverse ++ []) [] _) zk_J7_putCharSB q103 hrm (m_J7_putCharSB k_2 (by omega) (by omega) hc16 (by omega)) (by omega) (by decide) (Nat.le_of_ble_eq_true rfl) (by omega) (by omega) ?_
        refine z_hn (fun h_3 eh_3 => ?_)
        have eh_3 : h_3 = z_up h_1 n7 (.inl ((zm_G M).2.1 3, 2 * N2, .inl (va_up (va_up g (2 * cs.length) (z_bt c)) (2 * cs.length + 1) (z_bt (c / 256))))) := eh_3
        have k_4 : h_3 b = some (.inr (22, [.ref n7, .int (nI 1), .int (z_b ml), .int (nI (cs.length + 1))])) := z_nx eh_3 (z_neA (z_nxs eh_1) k_2) (z_nxs eh_1)
        refine z_aload_n hb dJ4_append_3_75 rfl ?_
        refine z_aret hb hr (Or.inl ⟨_, rfl⟩) (Or.inr ⟨_, rfl⟩) dJ4_append_3_76 ?_
        rw [hQ]
        exact ⟨_, rfl, rfl, n7, 1, z_BF_p1 k_4 (z_nxs eh_3) hb9 (by omega) (by omega) (by omega) (by omega) hg3 hc16 (by omega) (fun j hj => ⟨by have := hf j hj; omega, hgd j hj⟩), Or.inr rfl, Or.inr (by omega), (fun q => absurd (by simpa using c_21) (show ¬ (255 < c) by omega)), z_frB hdm (by omega) hfr1 hfr2 eh_1 eh_3⟩
    · have hc8 : c < 256 := by have := of_decide_eq_true c_21; omega
      refine z_aload_n hb dJ4_append_3_24 rfl ?_
      refine z_get (k := 0) (C := RJ5) (T := TJ5) (N := 4) hb ho zc22 in_J5 (zf_RJ4_15 _) dJ4_append_3_25 hB2 (by decide) rfl ?_
      refine z_aload_n hb dJ4_append_3_28 rfl ?_
      refine z_dup hb dJ4_append_3_29 rfl ?_
      refine z_get (k := 3) (C := RJ5) (T := TJ5) (N := 4) hb ho zc22 in_J5 (zf_RJ4_79 _) dJ4_append_3_30 hB2 (by decide) rfl ?_
      refine z_dup_x1 hb dJ4_append_3_33 rfl rfl ?_
      refine z_iconst (x := nI 1) hb dJ4_append_3_34 (by decide) ?_
      refine z_iadd hb dJ4_append_3_35 ?_
      refine z_toI (y := nI (cs.length + 1)) (nI_add cs.length 1) ?_
      refine z_put (k := 3) (C := RJ5) (T := TJ5) (N := 4) hb ho zc22 in_J5 tyJ5_ok nmJ5 (zf_RJ4_79 _) dJ4_append_3_36 hB2 hb9 (by decide) (Or.inl rfl) rfl rfl rfl (Nat.le_of_ble_eq_true rfl) ?_
      refine z_hn (fun h_5 eh_5 => ?_)
      have eh_5 : h_5 = z_up h7 b (.inr (22, [.ref e2, .int (nI 0), .int (z_b ml), .int (nI (cs.length + 1))])) := eh_5
      have k_6 : h_5 e2 = some (.inl ((zm_G M).2.1 3, N2, .inl f2)) := z_nx eh_5 (z_neA' hA2 hB2) hA2
      refine z_iload_n hb dJ4_append_3_39 rfl ?_
      refine z_i2b hb dJ4_append_3_40 rfl ?_
      refine z_toI (y := z_bt c) rfl ?_
      refine z_bast (j := cs.length) (v := (z_bt c)) hb dJ4_append_3_41 k_6 he2 rfl (by omega) (by omega) (z_bt_nar _) ?_
      refine z_hn (fun h_7 eh_7 => ?_)
      have eh_7 : h_7 = z_up h_5 e2 (.inl ((zm_G M).2.1 3, N2, .inl (va_up f2 cs.length (z_bt c)))) := eh_7
      have k_8 : h_7 b = some (.inr (22, [.ref e2, .int (nI 0), .int (z_b ml), .int (nI (cs.length + 1))])) := z_nx eh_7 (z_neA (z_nxs eh_5) k_6) (z_nxs eh_5)
      refine z_goto (tgt := 75) hb dJ4_append_3_42 (by decide) ?_
      refine z_aload_n hb dJ4_append_3_75 rfl ?_
      refine z_aret hb hr (Or.inl ⟨_, rfl⟩) (Or.inr ⟨_, rfl⟩) dJ4_append_3_76 ?_
      rw [hQ]
      exact ⟨_, rfl, rfl, e2, 0, z_BF_p0 k_8 (z_nxs eh_7) hb9 he2 (by omega) (by omega) hfb2 hc8 (by omega) hf (fun j hj => hfp j (by omega)), Or.inl rfl, hee, fun _ => rfl, z_frA hdm hfr1 eh_5 eh_7 hee⟩

set_option maxHeartbeats 1000000 in
theorem m_J4_append_c1 {l : Launch} {G : zG} {h : zH} {n : Nat} {b e c N : Nat} {ml : Bool} {f : Nat → Int32} {cs : List Nat} (hB : h b = some (z_sb e 1 ml cs.length)) (hA : h e = some (z_ab G N f)) (hb9 : z_n0 G ≤ b) (he0 : z_n0 G ≤ e) (hN16 : 16 ≤ N) (hN3 : N ≤ 600) (hfb : z_fB f N) (hev : N % 2 = 0) (hkN : 2 * cs.length ≤ N) (hf : ∀ j, j < cs.length → cs.getD j 0 < 65536 ∧ f (2 * j) = z_bt (cs.getD j 0) ∧ f (2 * j + 1) = z_bt (cs.getD j 0 / 256)) (hc16 : c < 65536) (hk9 : cs.length ≤ 65) : z_C l G yJ4_append_3 7 2 900 [.ref b, .int (nI c)] h n (z_q1 (fun r9 h9 n9 => r9 = .ref b ∧ ∃ e9 cd9, z_BF G h9 b e9 cd9 (cs ++ [c]) ∧ (cd9 = 0 ∨ cd9 = 1) ∧ (e9 = e ∨ n ≤ e9) ∧ z_fr (fun y => y = b ∨ y = e) h h9)) := by
  refine z_start zk_J4_append_3 zpl_RJ4 (Nat.le_of_ble_eq_true rfl) ?_
  intro hn0 M hl hG ho hb hN hr hm hH hrm hQ
  subst hl hG
  have ho : zm_o M = RJ4 := ho
  refine z_dom (fun hdm => ?_)
  have hbn := hdm _ _ hB
  show z_V M h n 2 900 0 [(0, .ref b), (1, .int (nI c))] []
  refine z_aload_n hb dJ4_append_3_0 rfl ?_
  refine z_aload_n hb dJ4_append_3_1 rfl ?_
  refine z_get (k := 3) (C := RJ5) (T := TJ5) (N := 4) hb ho zc22 in_J5 (zf_RJ4_79 _) dJ4_append_3_2 hB (by decide) rfl ?_
  refine z_iconst (x := nI 1) hb dJ4_append_3_5 (by decide) ?_
  refine z_iadd hb dJ4_append_3_6 ?_
  refine z_toI (y := nI (cs.length + 1)) (nI_add cs.length 1) ?_
  refine z_callQ0 (b' := 1) (f' := 600) (rest := []) (av := [.ref b, .int (nI (cs.length + 1))]) (z_siteQ hb ho zc22 hB q923 q925 q924 q3278 ⟨_, _, _, _, zk_J4_ensureCapacityInternal⟩ zy_J4_ensureCapacityInternal zl_J4_ensureCapacityInternal dJ4_append_3_7 : z_Site M _ _ _ _ _ ([.int (nI (cs.length + 1))].reverse ++ .ref b :: []) [] _) zk_J4_ensureCapacityInternal q100 hrm (m_J4_ensureCapacity_1 hB hA hb9 he0 (by omega) hN3 (Or.inl hev) hfb) (by omega) (by decide) (Nat.le_of_ble_eq_true rfl) (by omega) (by omega) (fun h7 n7 hq7 hn7 => ?_)
  obtain ⟨e2, N2, f2, hB2, hA2, he2, hcap, hNN, hN2, hev2, hfp, hfb2, hee, hfr1⟩ := hq7
  refine z_dom (fun hdm7 => ?_)
  have hbn7 := hdm7 _ _ hB2
  refine z_aload_n hb dJ4_append_3_10 rfl ?_
  refine z_call1 (b' := 1) (f' := 600) (rest := []) (av := [.ref b]) (z_siteV hb ho zc22 hB2 q943 q944 q946 ⟨_, _, _, _, zk_J4_isLatin1⟩ zy_J4_isLatin1 zl_J4_isLatin1 dJ4_append_3_11 : z_Site M _ _ _ _ _ ([].reverse ++ .ref b :: []) [] _) zk_J4_isLatin1 q100 hrm (m_J4_isLatin1_1 hB2) (by omega) (by decide) (Nat.le_of_ble_eq_true rfl) (by omega) (by omega) ?_
  refine z_if_eqN (tgt := 45) hb dJ4_append_3_14 (by decide) (by omega) (fun c_14 => ?_) (fun c_14 => ?_)
  · refine z_aload_n hb dJ4_append_3_45 rfl ?_
    refine z_call1 (b' := 1) (f' := 600) (rest := []) (av := [.ref b]) (z_siteV hb ho zc22 hB2 q943 q944 q946 ⟨_, _, _, _, zk_J4_isLatin1⟩ zy_J4_isLatin1 zl_J4_isLatin1 dJ4_append_3_46 : z_Site M _ _ _ _ _ ([].reverse ++ .ref b :: []) [] _) zk_J4_isLatin1 q100 hrm (m_J4_isLatin1_1 hB2) (by omega) (by decide) (Nat.le_of_ble_eq_true rfl) (by omega) (by omega) ?_
    refine z_if_eqN (tgt := 56) hb dJ4_append_3_49 (by decide) (by omega) (fun c_49 => ?_) (fun c_49 => ?_)
    · refine z_aload_n hb dJ4_append_3_56 rfl ?_
      refine z_get (k := 0) (C := RJ5) (T := TJ5) (N := 4) hb ho zc22 in_J5 (zf_RJ4_15 _) dJ4_append_3_57 hB2 (by decide) rfl ?_
      refine z_aload_n hb dJ4_append_3_60 rfl ?_
      refine z_dup hb dJ4_append_3_61 rfl ?_
      refine z_get (k := 3) (C := RJ5) (T := TJ5) (N := 4) hb ho zc22 in_J5 (zf_RJ4_79 _) dJ4_append_3_62 hB2 (by decide) rfl ?_
      refine z_dup_x1 hb dJ4_append_3_65 rfl rfl ?_
      refine z_iconst (x := nI 1) hb dJ4_append_3_66 (by decide) ?_
      refine z_iadd hb dJ4_append_3_67 ?_
      refine z_toI (y := nI (cs.length + 1)) (nI_add cs.length 1) ?_
      refine z_put (k := 3) (C := RJ5) (T := TJ5) (N := 4) hb ho zc22 in_J5 tyJ5_ok nmJ5 (zf_RJ4_79 _) dJ4_append_3_68 hB2 hb9 (by decide) (Or.inl rfl) rfl rfl rfl (Nat.le_of_ble_eq_true rfl) ?_
      refine z_hn (fun h_1 eh_1 => ?_)
      have eh_1 : h_1 = z_up h7 b (.inr (22, [.ref e2, .int (nI 1), .int (z_b ml), .int (nI (cs.length + 1))])) := eh_1
      have k_2 : h_1 e2 = some (.inl ((zm_G M).2.1 3, N2, .inl f2)) := z_nx eh_1 (z_neA' hA2 hB2) hA2
      refine z_iload_n hb dJ4_append_3_71 rfl ?_
      refine z_call0 (b' := 1) (f' := 600) (rest := []) (av := [.ref e2, .int (nI cs.length), .int (nI c)]) (z_siteS hb ho q2235 q2236 q103 ⟨_, _, _, _, zk_J7_putCharSB⟩ zy_J7_putCharSB zl_J7_putCharSB dJ4_append_3_72 : z_Site M _ _ _ _ _ ([.ref e2, .int (nI cs.length), .int (nI c)].reverse ++ []) [] _) zk_J7_putCharSB q103 hrm (m_J7_putCharSB k_2 (by omega) (by omega) hc16 he2) (by omega) (by decide) (Nat.le_of_ble_eq_true rfl) (by omega) (by omega) ?_
      refine z_hn (fun h_3 eh_3 => ?_)
      have eh_3 : h_3 = z_up h_1 e2 (.inl ((zm_G M).2.1 3, N2, .inl (va_up (va_up f2 (2 * cs.length) (z_bt c)) (2 * cs.length + 1) (z_bt (c / 256))))) := eh_3
      have k_4 : h_3 b = some (.inr (22, [.ref e2, .int (nI 1), .int (z_b ml), .int (nI (cs.length + 1))])) := z_nx eh_3 (z_neA (z_nxs eh_1) k_2) (z_nxs eh_1)
      refine z_aload_n hb dJ4_append_3_75 rfl ?_
      refine z_aret hb hr (Or.inl ⟨_, rfl⟩) (Or.inr ⟨_, rfl⟩) dJ4_append_3_76 ?_
      rw [hQ]
      exact ⟨_, rfl, rfl, e2, 1, z_BF_p1 k_4 (z_nxs eh_3) hb9 he2 (by omega) (by omega) (by omega) hfb2 hc16 (by omega) (fun j hj => by rw [hfp _ (by omega), hfp _ (by omega)]; exact hf j hj), Or.inr rfl, hee, z_frA hdm hfr1 eh_1 eh_3 hee⟩
    · exact absurd c_49 (by omega)
  · exact absurd c_14 (by omega)

