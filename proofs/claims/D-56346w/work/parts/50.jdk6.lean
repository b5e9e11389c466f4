set_option maxHeartbeats 1000000 in
theorem m_J2_rangeCheckForAdd {l : Launch} {G : zG} {h : zH} {n : Nat} {a e k i : Nat} {m9 : Int32} (hO : h a = some (.inr (20, [.int m9, .ref e, .int (nI k)]))) (hik : i ≤ k) (hk2 : k ≤ 200) : z_C l G yJ2_rangeCheckForAdd 1 0 0 [.ref a, .int (nI i)] h n (z_r0 h n) := by
  refine z_start zk_J2_rangeCheckForAdd zpl_RJ2 (Nat.le_of_ble_eq_true rfl) ?_
  intro hn0 M hl hG ho hb hN hr hm hH hrm hQ
  subst hl hG
  have ho : zm_o M = RJ2 := ho
  show z_V M h n 0 0 0 [(0, .ref a), (1, .int (nI i))] []
  refine z_iload_n hb dJ2_rangeCheckForAdd_0 rfl ?_
  refine z_aload_n hb dJ2_rangeCheckForAdd_1 rfl ?_
  refine z_get (k := 2) (C := RJ2) (T := TJ2) (N := 3) hb ho zc20 in_J2 (zf_RJ2_48 _) dJ2_rangeCheckForAdd_2 hO (by decide) rfl ?_
  refine z_icmp_gtN (tgt := 12) hb dJ2_rangeCheckForAdd_5 (by decide) (by omega) (by omega) (fun c_5 => ?_) (fun c_5 => ?_)
  · exact absurd c_5 (by omega)
  · refine z_iload_n hb dJ2_rangeCheckForAdd_8 rfl ?_
    refine z_if_geN (tgt := 25) hb dJ2_rangeCheckForAdd_9 (by decide) (by omega) ?_
    refine z_vret hb hr dJ2_rangeCheckForAdd_25 ?_
    rw [hQ]
    exact ⟨rfl, rfl, rfl⟩

set_option maxHeartbeats 1000000 in
theorem m_J2_add_3_p {l : Launch} {G : zG} {h : zH} {n : Nat} {a e N k i x : Nat} {m9 : Int32} {f : Nat → Option Nat} {g : Nat → Nat} (hO : h a = some (.inr (20, [.int m9, .ref e, .int (nI k)]))) (hA : h e = some (z_ao G N f)) (ha0 : z_n0 G ≤ a) (he0 : z_n0 G ≤ e) (hkN : k < N) (hN2 : N ≤ 200) (hx : z_obj h x) (hxa : x ≠ a) (hik : i ≤ k) (hS : ∀ j, j < k → f j = some (g j)) (hob : ∀ j, j < k → z_obj h (g j)) (hoa : ∀ j, j < k → g j ≠ a) : z_C l G yJ2_add_3 2 0 0 [.ref a, .int (nI i), .ref x] h n (z_r0 (z_up (z_up h e (z_ao G N (va_up (va_cpy f f i (i + 1) (k - i)) i (some x)))) a (.inr (20, [.int (m9 + nI 1), .ref e, .int (nI (k + 1))]))) n) := by
  refine z_start zk_J2_add_3 zpl_RJ2 (Nat.le_of_ble_eq_true rfl) ?_
  intro hn0 M hl hG ho hb hN hr hm hH hrm hQ
  subst hl hG
  have ho : zm_o M = RJ2 := ho
  obtain ⟨ci9, fs9, r9, hx9, hz9, hc9⟩ := hx
  show z_V M h n 0 0 0 [(0, .ref a), (1, .int (nI i)), (2, .ref x)] []
  refine z_aload_n hb dJ2_add_3_0 rfl ?_
  refine z_iload_n hb dJ2_add_3_1 rfl ?_
  refine z_call0 (b' := 0) (f' := 0) (rest := []) (av := [.ref a, .int (nI i)]) (z_siteV hb ho zc20 hO q1759 q1761 qs18 ⟨_, _, _, _, zk_J2_rangeCheckForAdd⟩ zy_J2_rangeCheckForAdd zl_J2_rangeCheckForAdd dJ2_add_3_2 : z_Site M _ _ _ _ _ ([.int (nI i)].reverse ++ .ref a :: []) [] _) zk_J2_rangeCheckForAdd q98 hrm (m_J2_rangeCheckForAdd hO (by omega) (by omega)) (by omega) (by decide) (Nat.le_of_ble_eq_true rfl) (by omega) (by omega) ?_
  refine z_aload_n hb dJ2_add_3_5 rfl ?_
  refine z_dup hb dJ2_add_3_6 rfl ?_
  refine z_get (k := 0) (C := RJ2) (T := TJ2) (N := 3) hb ho zc20 in_J2 (zf_RJ2_63 _) dJ2_add_3_7 hO (by decide) rfl ?_
  refine z_iconst (x := nI 1) hb dJ2_add_3_10 (by decide) ?_
  refine z_iadd hb dJ2_add_3_11 ?_
  refine z_put (k := 0) (C := RJ2) (T := TJ2) (N := 3) hb ho zc20 in_J2 tyJ2_ok nmJ2 (zf_RJ2_63 _) dJ2_add_3_12 hO ha0 (by decide) (Or.inl rfl) rfl rfl rfl (Nat.le_of_ble_eq_true rfl) ?_
  refine z_hn (fun h_1 eh_1 => ?_)
  have eh_1 : h_1 = z_up h a (.inr (20, [.int (m9 + (nI 1)), .ref e, .int (nI k)])) := eh_1
  have k_2 : h_1 e = some (.inl ((zm_G M).2.1 5, N, .inr (.inr (.inr (.inr f))))) := z_nx eh_1 (z_neA' hA hO) hA
  have k_3 : h_1 x = some (.inr (ci9, fs9)) := z_nx eh_1 hxa hx9
  refine z_aload_n hb dJ2_add_3_15 rfl ?_
  refine z_get (k := 2) (C := RJ2) (T := TJ2) (N := 3) hb ho zc20 in_J2 (zf_RJ2_48 _) dJ2_add_3_16 (z_nxs eh_1) (by decide) rfl ?_
  refine z_dup hb dJ2_add_3_19 rfl ?_
  refine z_istore_n (lv' := [(3, .int (nI k)), (0, .ref a), (1, .int (nI i)), (2, .ref x)]) hb dJ2_add_3_20 (by rw [hN]; decide) rfl ?_
  refine z_aload_n hb dJ2_add_3_21 rfl ?_
  refine z_get (k := 1) (C := RJ2) (T := TJ2) (N := 3) hb ho zc20 in_J2 (zf_RJ2_9 _) dJ2_add_3_22 (z_nxs eh_1) (by decide) rfl ?_
  refine z_dup hb dJ2_add_3_25 rfl ?_
  refine z_astore (lv' := [(4, .ref e), (3, .int (nI k)), (0, .ref a), (1, .int (nI i)), (2, .ref x)]) hb dJ2_add_3_26 (by rw [hN]; decide) rfl ?_
  refine z_alen (kk := 5) hb rfl dJ2_add_3_28 k_2 ?_
  refine z_icmp_neN (tgt := 38) hb dJ2_add_3_29 (by decide) (by omega) (by omega) (fun c_29 => ?_) (fun c_29 => ?_)
  · refine z_aload hb dJ2_add_3_38 rfl ?_
    refine z_iload_n hb dJ2_add_3_40 rfl ?_
    refine z_aload hb dJ2_add_3_41 rfl ?_
    refine z_iload_n hb dJ2_add_3_43 rfl ?_
    refine z_iconst (x := nI 1) hb dJ2_add_3_44 (by decide) ?_
    refine z_iadd hb dJ2_add_3_45 ?_
    refine z_toI (y := nI (i + 1)) (nI_add i 1) ?_
    refine z_iload_n hb dJ2_add_3_46 rfl ?_
    refine z_iload_n hb dJ2_add_3_47 rfl ?_
    refine z_isub hb dJ2_add_3_48 ?_
    refine z_toI (y := nI (k - i)) (pk_sub (by omega)) ?_
    refine z_copyo hb ho hrm (by omega) q1395 q557 q556 q113 dJ2_add_3_49 k_2 k_2 he0 rfl rfl rfl (by omega) (by omega) (by omega) (by omega) (fun j hj y hy => by rw [hS _ (by omega)] at hy; cases hy; rw [eh_1]; exact (hob _ (by omega)).up (hoa _ (by omega))) (Nat.le_of_ble_eq_true rfl) ?_
    refine z_hn (fun h_4 eh_4 => ?_)
    have eh_4 : h_4 = z_up h_1 e (.inl ((zm_G M).2.1 5, N, .inr (.inr (.inr (.inr (va_cpy f f i (i + 1) (k - i))))))) := eh_4
    have k_5 : h_4 x = some (.inr (ci9, fs9)) := z_nx eh_4 (z_neA k_3 k_2) k_3
    have k_6 : h_4 a = some (.inr (20, [.int (m9 + (nI 1)), .ref e, .int (nI k)])) := z_nx eh_4 (z_neA (z_nxs eh_1) k_2) (z_nxs eh_1)
    refine z_aload hb dJ2_add_3_52 rfl ?_
    refine z_iload_n hb dJ2_add_3_54 rfl ?_
    refine z_aload_n hb dJ2_add_3_55 rfl ?_
    refine z_aast (j := i) hb dJ2_add_3_56 (z_nxs eh_4) he0 k_5 hz9 hc9 rfl (by omega) (by omega) ?_
    refine z_hn (fun h_7 eh_7 => ?_)
    have eh_7 : h_7 = z_up h_4 e (.inl ((zm_G M).2.1 5, N, .inr (.inr (.inr (.inr (va_up (va_cpy f f i (i + 1) (k - i)) i (some x))))))) := eh_7
    have k_8 : h_7 x = some (.inr (ci9, fs9)) := z_nx eh_7 (z_neA k_5 (z_nxs eh_4)) k_5
    have k_9 : h_7 a = some (.inr (20, [.int (m9 + (nI 1)), .ref e, .int (nI k)])) := z_nx eh_7 (z_neA k_6 (z_nxs eh_4)) k_6
    refine z_aload_n hb dJ2_add_3_57 rfl ?_
    refine z_iload_n hb dJ2_add_3_58 rfl ?_
    refine z_iconst (x := nI 1) hb dJ2_add_3_59 (by decide) ?_
    refine z_iadd hb dJ2_add_3_60 ?_
    refine z_toI (y := nI (k + 1)) (nI_add k 1) ?_
    refine z_put (k := 2) (C := RJ2) (T := TJ2) (N := 3) hb ho zc20 in_J2 tyJ2_ok nmJ2 (zf_RJ2_48 _) dJ2_add_3_61 k_9 ha0 (by decide) (Or.inl rfl) rfl rfl rfl (Nat.le_of_ble_eq_true rfl) ?_
    refine z_hn (fun h_10 eh_10 => ?_)
    have eh_10 : h_10 = z_up h_7 a (.inr (20, [.int (m9 + (nI 1)), .ref e, .int (nI (k + 1))])) := eh_10
    have k_11 : h_10 x = some (.inr (ci9, fs9)) := z_nx eh_10 hxa k_8
    have k_12 : h_10 e = some (.inl ((zm_G M).2.1 5, N, .inr (.inr (.inr (.inr (va_up (va_cpy f f i (i + 1) (k - i)) i (some x))))))) := z_nx eh_10 (z_neA' (z_nxs eh_7) k_9) (z_nxs eh_7)
    refine z_vret hb hr dJ2_add_3_64 ?_
    rw [hQ]
    refine ⟨rfl, ?_, rfl⟩
    have hae : ¬a = e := z_neA hO hA
    rw [eh_10, eh_7, eh_4, eh_1]
    funext y
    simp only [z_up]
    by_cases q1 : y = a
    · subst q1; simp only [if_true, hae, if_false]
    · by_cases q2 : y = e
      · subst q2; simp only [q1, if_true, if_false]
      · simp only [q1, q2, if_false]
  · exact absurd c_29 (by omega)

set_option maxHeartbeats 1000000 in
theorem m_J2_add_3_0 {l : Launch} {G : zG} {h : zH} {n : Nat} {a x : Nat} {m9 : Int32} {f : Nat → Option Nat} (hO : h a = some (.inr (20, [.int m9, .ref (G.2.2.1 1002), .int (nI 0)]))) (hE : h (G.2.2.1 1002) = some (z_ao G 0 f)) (ha0 : z_n0 G ≤ a) (han : a < n) (hEn : G.2.2.1 1002 < n) (hx : z_obj h x) (hxa : x ≠ a) (hxn : x < n) : z_C l G yJ2_add_3 6 1 10 [.ref a, .int (nI 0), .ref x] h n (z_r0 (z_up (z_up h n (z_ao G 10 (va_up (fun _ => none) 0 (some x)))) a (.inr (20, [.int (m9 + nI 1), .ref n, .int (nI 1)]))) (n + 1)) := by
  refine z_start zk_J2_add_3 zpl_RJ2 (Nat.le_of_ble_eq_true rfl) ?_
  intro hn0 M hl hG ho hb hN hr hm hH hrm hQ
  subst hl hG
  have ho : zm_o M = RJ2 := ho
  obtain ⟨ci9, fs9, r9, hx9, hz9, hc9⟩ := hx
  show z_V M h n 1 10 0 [(0, .ref a), (1, .int (nI 0)), (2, .ref x)] []
  refine z_aload_n hb dJ2_add_3_0 rfl ?_
  refine z_iload_n hb dJ2_add_3_1 rfl ?_
  refine z_call0 (b' := 1) (f' := 10) (rest := []) (av := [.ref a, .int (nI 0)]) (z_siteV hb ho zc20 hO q1759 q1761 qs18 ⟨_, _, _, _, zk_J2_rangeCheckForAdd⟩ zy_J2_rangeCheckForAdd zl_J2_rangeCheckForAdd dJ2_add_3_2 : z_Site M _ _ _ _ _ ([.int (nI 0)].reverse ++ .ref a :: []) [] _) zk_J2_rangeCheckForAdd q98 hrm (m_J2_rangeCheckForAdd hO (by omega) (by omega)) (by omega) (by decide) (Nat.le_of_ble_eq_true rfl) (by omega) (by omega) ?_
  refine z_aload_n hb dJ2_add_3_5 rfl ?_
  refine z_dup hb dJ2_add_3_6 rfl ?_
  refine z_get (k := 0) (C := RJ2) (T := TJ2) (N := 3) hb ho zc20 in_J2 (zf_RJ2_63 _) dJ2_add_3_7 hO (by decide) rfl ?_
  refine z_iconst (x := nI 1) hb dJ2_add_3_10 (by decide) ?_
  refine z_iadd hb dJ2_add_3_11 ?_
  refine z_put (k := 0) (C := RJ2) (T := TJ2) (N := 3) hb ho zc20 in_J2 tyJ2_ok nmJ2 (zf_RJ2_63 _) dJ2_add_3_12 hO ha0 (by decide) (Or.inl rfl) rfl rfl rfl (Nat.le_of_ble_eq_true rfl) ?_
  refine z_hn (fun h_1 eh_1 => ?_)
  have eh_1 : h_1 = z_up h a (.inr (20, [.int (m9 + (nI 1)), .ref ((zm_G M).2.2.1 1002), .int (nI 0)])) := eh_1
  have k_2 : h_1 ((zm_G M).2.2.1 1002) = some (.inl ((zm_G M).2.1 5, 0, .inr (.inr (.inr (.inr f))))) := z_nx eh_1 (z_neA' hE hO) hE
  have k_3 : h_1 x = some (.inr (ci9, fs9)) := z_nx eh_1 hxa hx9
  refine z_aload_n hb dJ2_add_3_15 rfl ?_
  refine z_get (k := 2) (C := RJ2) (T := TJ2) (N := 3) hb ho zc20 in_J2 (zf_RJ2_48 _) dJ2_add_3_16 (z_nxs eh_1) (by decide) rfl ?_
  refine z_dup hb dJ2_add_3_19 rfl ?_
  refine z_istore_n (lv' := [(3, .int (nI 0)), (0, .ref a), (1, .int (nI 0)), (2, .ref x)]) hb dJ2_add_3_20 (by rw [hN]; decide) rfl ?_
  refine z_aload_n hb dJ2_add_3_21 rfl ?_
  refine z_get (k := 1) (C := RJ2) (T := TJ2) (N := 3) hb ho zc20 in_J2 (zf_RJ2_9 _) dJ2_add_3_22 (z_nxs eh_1) (by decide) rfl ?_
  refine z_dup hb dJ2_add_3_25 rfl ?_
  refine z_astore (lv' := [(4, .ref ((zm_G M).2.2.1 1002)), (3, .int (nI 0)), (0, .ref a), (1, .int (nI 0)), (2, .ref x)]) hb dJ2_add_3_26 (by rw [hN]; decide) rfl ?_
  refine z_alen (kk := 5) hb rfl dJ2_add_3_28 k_2 ?_
  refine z_icmp_neN (tgt := 38) hb dJ2_add_3_29 (by decide) (by omega) (by omega) (fun c_29 => ?_) (fun c_29 => ?_)
  · exact absurd c_29 (by omega)
  · refine z_aload_n hb dJ2_add_3_32 rfl ?_
    refine z_call1 (b' := 0) (f' := 0) (rest := []) (av := [.ref a]) (z_siteV hb ho zc20 (z_nxs eh_1) q487 q489 qs3 ⟨_, _, _, _, zk_J2_grow⟩ zy_J2_grow zl_J2_grow dJ2_add_3_33 : z_Site M _ _ _ _ _ ([].reverse ++ .ref a :: []) [] _) zk_J2_grow q98 hrm (m_J2_grow_0 (z_nxs eh_1) k_2 ha0 han hEn) (by omega) (by decide) (Nat.le_of_ble_eq_true rfl) (by omega) (by omega) ?_
    obtain ⟨h_4, eh_4⟩ : ∃ h_4, h_4 = z_up h_1 n (.inl ((zm_G M).2.1 5, 10, .inr (.inr (.inr (.inr (fun _ => none)))))) := ⟨_, rfl⟩
    have k_5 : h_4 ((zm_G M).2.2.1 1002) = some (.inl ((zm_G M).2.1 5, 0, .inr (.inr (.inr (.inr f))))) := z_nx eh_4 (Nat.ne_of_lt hEn) k_2
    have k_6 : h_4 x = some (.inr (ci9, fs9)) := z_nx eh_4 (Nat.ne_of_lt hxn) k_3
    have k_7 : h_4 a = some (.inr (20, [.int (m9 + (nI 1)), .ref ((zm_G M).2.2.1 1002), .int (nI 0)])) := z_nx eh_4 (Nat.ne_of_lt han) (z_nxs eh_1)
    refine z_hh (h2 := z_up h_4 a (.inr (20, [.int (m9 + nI 1), .ref n, .int (nI 0)]))) (by rw [eh_4]) ?_
    refine z_hn (fun h_8 eh_8 => ?_)
    have eh_8 : h_8 = z_up h_4 a (.inr (20, [.int (m9 + nI 1), .ref n, .int (nI 0)])) := eh_8
    have k_9 : h_8 ((zm_G M).2.2.1 1002) = some (.inl ((zm_G M).2.1 5, 0, .inr (.inr (.inr (.inr f))))) := z_nx eh_8 (z_neA' k_5 k_7) k_5
    have k_10 : h_8 x = some (.inr (ci9, fs9)) := z_nx eh_8 hxa k_6
    have k_11 : h_8 n = some (.inl ((zm_G M).2.1 5, 10, .inr (.inr (.inr (.inr (fun _ => none)))))) := z_nx eh_8 (z_neA' (z_nxs eh_4) k_7) (z_nxs eh_4)
    refine z_astore (lv' := [(4, .ref n), (3, .int (nI 0)), (0, .ref a), (1, .int (nI 0)), (2, .ref x)]) hb dJ2_add_3_36 (by rw [hN]; decide) rfl ?_
    refine z_aload hb dJ2_add_3_38 rfl ?_
    refine z_iload_n hb dJ2_add_3_40 rfl ?_
    refine z_aload hb dJ2_add_3_41 rfl ?_
    refine z_iload_n hb dJ2_add_3_43 rfl ?_
    refine z_iconst (x := nI 1) hb dJ2_add_3_44 (by decide) ?_
    refine z_iadd hb dJ2_add_3_45 ?_
    refine z_toI (y := nI 1) (nI_add 0 1) ?_
    refine z_iload_n hb dJ2_add_3_46 rfl ?_
    refine z_iload_n hb dJ2_add_3_47 rfl ?_
    refine z_isub hb dJ2_add_3_48 ?_
    refine z_toI (y := nI 0) (pk_sub (by omega)) ?_
    refine z_copyo hb ho hrm (by omega) q1395 q557 q556 q113 dJ2_add_3_49 k_11 k_11 hn0 rfl rfl rfl (by omega) (by omega) (by omega) (by omega) (fun j hj => absurd hj (Nat.not_lt_zero _)) (Nat.le_of_ble_eq_true rfl) ?_
    refine z_hn (fun h_12 eh_12 => ?_)
    have eh_12 : h_12 = z_up h_8 n (.inl ((zm_G M).2.1 5, 10, .inr (.inr (.inr (.inr (va_cpy (fun _ => none) (fun _ => none) 0 1 0)))))) := eh_12
    have k_13 : h_12 x = some (.inr (ci9, fs9)) := z_nx eh_12 (z_neA k_10 k_11) k_10
    have k_14 : h_12 a = some (.inr (20, [.int (m9 + nI 1), .ref n, .int (nI 0)])) := z_nx eh_12 (z_neA (z_nxs eh_8) k_11) (z_nxs eh_8)
    refine z_aload hb dJ2_add_3_52 rfl ?_
    refine z_iload_n hb dJ2_add_3_54 rfl ?_
    refine z_aload_n hb dJ2_add_3_55 rfl ?_
    refine z_aast (j := 0) hb dJ2_add_3_56 (z_nxs eh_12) hn0 k_13 hz9 hc9 rfl (by omega) (by omega) ?_
    refine z_hn (fun h_15 eh_15 => ?_)
    have eh_15 : h_15 = z_up h_12 n (.inl ((zm_G M).2.1 5, 10, .inr (.inr (.inr (.inr (va_up (va_cpy (fun _ => none) (fun _ => none) 0 1 0) 0 (some x))))))) := eh_15
    have k_16 : h_15 x = some (.inr (ci9, fs9)) := z_nx eh_15 (z_neA k_13 (z_nxs eh_12)) k_13
    have k_17 : h_15 a = some (.inr (20, [.int (m9 + nI 1), .ref n, .int (nI 0)])) := z_nx eh_15 (z_neA k_14 (z_nxs eh_12)) k_14
    refine z_aload_n hb dJ2_add_3_57 rfl ?_
    refine z_iload_n hb dJ2_add_3_58 rfl ?_
    refine z_iconst (x := nI 1) hb dJ2_add_3_59 (by decide) ?_
    refine z_iadd hb dJ2_add_3_60 ?_
    refine z_toI (y := nI 1) (nI_add 0 1) ?_
    refine z_put (k := 2) (C := RJ2) (T := TJ2) (N := 3) hb ho zc20 in_J2 tyJ2_ok nmJ2 (zf_RJ2_48 _) dJ2_add_3_61 k_17 ha0 (by decide) (Or.inl rfl) rfl rfl rfl (Nat.le_of_ble_eq_true rfl) ?_
    refine z_hn (fun h_18 eh_18 => ?_)
    have eh_18 : h_18 = z_up h_15 a (.inr (20, [.int (m9 + nI 1), .ref n, .int (nI 1)])) := eh_18
    have k_19 : h_18 x = some (.inr (ci9, fs9)) := z_nx eh_18 hxa k_16
    have k_20 : h_18 n = some (.inl ((zm_G M).2.1 5, 10, .inr (.inr (.inr (.inr (va_up (va_cpy (fun _ => none) (fun _ => none) 0 1 0) 0 (some x))))))) := z_nx eh_18 (z_neA' (z_nxs eh_15) k_17) (z_nxs eh_15)
    refine z_vret hb hr dJ2_add_3_64 ?_
    rw [hQ]
    refine ⟨rfl, ?_, rfl⟩
    simp only [z_cpy0] at *
    first
    | (rw [eh_18, eh_15, eh_12, eh_8, eh_4, eh_1]; done)
    | (rw [eh_18, eh_15, eh_12, eh_8, eh_4, eh_1]; simp only [z_up_up, z_up3]; done)
    | (rw [eh_18, eh_15, eh_12, eh_8, eh_4, eh_1]
       funext y
       simp only [z_up]
       by_cases q1 : y = a
       · simp only [q1, if_true]
       · by_cases q2 : y = n
         · simp only [q1, q2, if_true, if_false]
         · simp only [q1, q2, if_false])

set_option maxHeartbeats 1000000 in
theorem m_J2_add_3_f {l : Launch} {G : zG} {h : zH} {n : Nat} {a e N i x : Nat} {m9 : Int32} {f : Nat → Option Nat} {g : Nat → Nat} (hO : h a = some (.inr (20, [.int m9, .ref e, .int (nI N)]))) (hA : h e = some (z_ao G N f)) (ha0 : z_n0 G ≤ a) (he0 : z_n0 G ≤ e) (han : a < n) (hen : e < n) (hN10 : 10 ≤ N) (hN2 : N ≤ 100) (hel : ∀ i, i < N → ∀ y, f i = some y → y < n ∧ z_obj h y) (hx : z_obj h x) (hxa : x ≠ a) (hxn : x < n) (hela : ∀ i, i < N → ∀ y, f i = some y → y ≠ a) (hik : i ≤ N) : z_C l G yJ2_add_3 6 1 (N + N / 2) [.ref a, .int (nI i), .ref x] h n (z_r0 (z_up (z_up h n (z_ao G (N + N / 2) (va_up (va_cpy (va_cpy f (fun _ => none) 0 0 N) (va_cpy f (fun _ => none) 0 0 N) i (i + 1) (N - i)) i (some x)))) a (.inr (20, [.int (m9 + nI 1), .ref n, .int (nI (N + 1))]))) (n + 1)) := by
  refine z_start zk_J2_add_3 zpl_RJ2 (Nat.le_of_ble_eq_true rfl) ?_
  intro hn0 M hl hG ho hb hN hr hm hH hrm hQ
  subst hl hG
  have ho : zm_o M = RJ2 := ho
  obtain ⟨ci9, fs9, r9, hx9, hz9, hc9⟩ := hx
  show z_V M h n 1 (N + N / 2) 0 [(0, .ref a), (1, .int (nI i)), (2, .ref x)] []
  refine z_aload_n hb dJ2_add_3_0 rfl ?_
  refine z_iload_n hb dJ2_add_3_1 rfl ?_
  refine z_call0 (b' := 1) (f' := N + N / 2) (rest := []) (av := [.ref a, .int (nI i)]) (z_siteV hb ho zc20 hO q1759 q1761 qs18 ⟨_, _, _, _, zk_J2_rangeCheckForAdd⟩ zy_J2_rangeCheckForAdd zl_J2_rangeCheckForAdd dJ2_add_3_2 : z_Site M _ _ _ _ _ ([.int (nI i)].reverse ++ .ref a :: []) [] _) zk_J2_rangeCheckForAdd q98 hrm (m_J2_rangeCheckForAdd hO (by omega) (by omega)) (by omega) (by decide) (Nat.le_of_ble_eq_true rfl) (by omega) (by omega) ?_
  refine z_aload_n hb dJ2_add_3_5 rfl ?_
  refine z_dup hb dJ2_add_3_6 rfl ?_
  refine z_get (k := 0) (C := RJ2) (T := TJ2) (N := 3) hb ho zc20 in_J2 (zf_RJ2_63 _) dJ2_add_3_7 hO (by decide) rfl ?_
  refine z_iconst (x := nI 1) hb dJ2_add_3_10 (by decide) ?_
  refine z_iadd hb dJ2_add_3_11 ?_
  refine z_put (k := 0) (C := RJ2) (T := TJ2) (N := 3) hb ho zc20 in_J2 tyJ2_ok nmJ2 (zf_RJ2_63 _) dJ2_add_3_12 hO ha0 (by decide) (Or.inl rfl) rfl rfl rfl (Nat.le_of_ble_eq_true rfl) ?_
  refine z_hn (fun h_1 eh_1 => ?_)
  have eh_1 : h_1 = z_up h a (.inr (20, [.int (m9 + (nI 1)), .ref e, .int (nI N)])) := eh_1
  have k_2 : h_1 e = some (.inl ((zm_G M).2.1 5, N, .inr (.inr (.inr (.inr f))))) := z_nx eh_1 (z_neA' hA hO) hA
  have k_3 : h_1 x = some (.inr (ci9, fs9)) := z_nx eh_1 hxa hx9
  refine z_aload_n hb dJ2_add_3_15 rfl ?_
  refine z_get (k := 2) (C := RJ2) (T := TJ2) (N := 3) hb ho zc20 in_J2 (zf_RJ2_48 _) dJ2_add_3_16 (z_nxs eh_1) (by decide) rfl ?_
  refine z_dup hb dJ2_add_3_19 rfl ?_
  refine z_istore_n (lv' := [(3, .int (nI N)), (0, .ref a), (1, .int (nI i)), (2, .ref x)]) hb dJ2_add_3_20 (by rw [hN]; decide) rfl ?_
  refine z_aload_n hb dJ2_add_3_21 rfl ?_
  refine z_get (k := 1) (C := RJ2) (T := TJ2) (N := 3) hb ho zc20 in_J2 (zf_RJ2_9 _) dJ2_add_3_22 (z_nxs eh_1) (by decide) rfl ?_
  refine z_dup hb dJ2_add_3_25 rfl ?_
  refine z_astore (lv' := [(4, .ref e), (3, .int (nI N)), (0, .ref a), (1, .int (nI i)), (2, .ref x)]) hb dJ2_add_3_26 (by rw [hN]; decide) rfl ?_
  refine z_alen (kk := 5) hb rfl dJ2_add_3_28 k_2 ?_
  refine z_icmp_neN (tgt := 38) hb dJ2_add_3_29 (by decide) (by omega) (by omega) (fun c_29 => ?_) (fun c_29 => ?_)
  · exact absurd rfl c_29
  · refine z_aload_n hb dJ2_add_3_32 rfl ?_
    refine z_call1 (b' := 0) (f' := 0) (rest := []) (av := [.ref a]) (z_siteV hb ho zc20 (z_nxs eh_1) q487 q489 qs3 ⟨_, _, _, _, zk_J2_grow⟩ zy_J2_grow zl_J2_grow dJ2_add_3_33 : z_Site M _ _ _ _ _ ([].reverse ++ .ref a :: []) [] _) zk_J2_grow q98 hrm (m_J2_grow_f (z_nxs eh_1) k_2 ha0 he0 han hen hN10 hN2 (fun i hi y hy => ⟨(hel i hi y hy).1, by rw [eh_1]; exact (hel i hi y hy).2.up (hela i hi y hy)⟩)) (by omega) (by decide) (Nat.le_of_ble_eq_true rfl) (by omega) (by omega) ?_
    obtain ⟨h_4, eh_4⟩ : ∃ h_4, h_4 = z_up h_1 n (.inl ((zm_G M).2.1 5, N + N / 2, .inr (.inr (.inr (.inr (va_cpy f (fun _ => none) 0 0 N)))))) := ⟨_, rfl⟩
    have k_5 : h_4 e = some (.inl ((zm_G M).2.1 5, N, .inr (.inr (.inr (.inr f))))) := z_nx eh_4 (Nat.ne_of_lt hen) k_2
    have k_6 : h_4 x = some (.inr (ci9, fs9)) := z_nx eh_4 (Nat.ne_of_lt hxn) k_3
    have k_7 : h_4 a = some (.inr (20, [.int (m9 + (nI 1)), .ref e, .int (nI N)])) := z_nx eh_4 (Nat.ne_of_lt han) (z_nxs eh_1)
    refine z_hh (h2 := z_up h_4 a (.inr (20, [.int (m9 + nI 1), .ref n, .int (nI N)]))) (by rw [eh_4]) ?_
    refine z_hn (fun h_8 eh_8 => ?_)
    have eh_8 : h_8 = z_up h_4 a (.inr (20, [.int (m9 + nI 1), .ref n, .int (nI N)])) := eh_8
    have k_9 : h_8 e = some (.inl ((zm_G M).2.1 5, N, .inr (.inr (.inr (.inr f))))) := z_nx eh_8 (z_neA' k_5 k_7) k_5
    have k_10 : h_8 x = some (.inr (ci9, fs9)) := z_nx eh_8 hxa k_6
    have k_11 : h_8 n = some (.inl ((zm_G M).2.1 5, N + N / 2, .inr (.inr (.inr (.inr (va_cpy f (fun _ => none) 0 0 N)))))) := z_nx eh_8 (z_neA' (z_nxs eh_4) k_7) (z_nxs eh_4)
    refine z_astore (lv' := [(4, .ref n), (3, .int (nI N)), (0, .ref a), (1, .int (nI i)), (2, .ref x)]) hb dJ2_add_3_36 (by rw [hN]; decide) rfl ?_
    refine z_aload hb dJ2_add_3_38 rfl ?_
    refine z_iload_n hb dJ2_add_3_40 rfl ?_
    refine z_aload hb dJ2_add_3_41 rfl ?_
    refine z_iload_n hb dJ2_add_3_43 rfl ?_
    refine z_iconst (x := nI 1) hb dJ2_add_3_44 (by decide) ?_
    refine z_iadd hb dJ2_add_3_45 ?_
    refine z_toI (y := nI (i + 1)) (nI_add i 1) ?_
    refine z_iload_n hb dJ2_add_3_46 rfl ?_
    refine z_iload_n hb dJ2_add_3_47 rfl ?_
    refine z_isub hb dJ2_add_3_48 ?_
    refine z_toI (y := nI (N - i)) (pk_sub (by omega)) ?_
    refine z_copyo hb ho hrm (by omega) q1395 q557 q556 q113 dJ2_add_3_49 k_11 k_11 hn0 rfl rfl rfl (by omega) (by omega) (by omega) (by omega) (fun j hj y hy => by rw [show va_cpy f (fun _ => none) 0 0 N (i + j) = f (i + j) by rw [va_cpy, if_pos (by omega)]; congr 1; omega] at hy; rw [eh_8, eh_4, eh_1]; exact ((((hel _ (by omega) y hy).2.up (hela _ (by omega) y hy)).up (Nat.ne_of_lt (hel _ (by omega) y hy).1)).up (hela _ (by omega) y hy))) (Nat.le_of_ble_eq_true rfl) ?_
    refine z_hn (fun h_12 eh_12 => ?_)
    have eh_12 : h_12 = z_up h_8 n (.inl ((zm_G M).2.1 5, N + N / 2, .inr (.inr (.inr (.inr (va_cpy (va_cpy f (fun _ => none) 0 0 N) (va_cpy f (fun _ => none) 0 0 N) i (i + 1) (N - i))))))) := eh_12
    have k_13 : h_12 x = some (.inr (ci9, fs9)) := z_nx eh_12 (z_neA k_10 k_11) k_10
    have k_14 : h_12 a = some (.inr (20, [.int (m9 + nI 1), .ref n, .int (nI N)])) := z_nx eh_12 (z_neA (z_nxs eh_8) k_11) (z_nxs eh_8)
    refine z_aload hb dJ2_add_3_52 rfl ?_
    refine z_iload_n hb dJ2_add_3_54 rfl ?_
    refine z_aload_n hb dJ2_add_3_55 rfl ?_
    refine z_aast (j := i) hb dJ2_add_3_56 (z_nxs eh_12) hn0 k_13 hz9 hc9 rfl (by omega) (by omega) ?_
    refine z_hn (fun h_15 eh_15 => ?_)
    have eh_15 : h_15 = z_up h_12 n (.inl ((zm_G M).2.1 5, N + N / 2, .inr (.inr (.inr (.inr (va_up (va_cpy (va_cpy f (fun _ => none) 0 0 N) (va_cpy f (fun _ => none) 0 0 N) i (i + 1) (N - i)) i (some x))))))) := eh_15
    have k_16 : h_15 x = some (.inr (ci9, fs9)) := z_nx eh_15 (z_neA k_13 (z_nxs eh_12)) k_13
    have k_17 : h_15 a = some (.inr (20, [.int (m9 + nI 1), .ref n, .int (nI N)])) := z_nx eh_15 (z_neA k_14 (z_nxs eh_12)) k_14
    refine z_aload_n hb dJ2_add_3_57 rfl ?_
    refine z_iload_n hb dJ2_add_3_58 rfl ?_
    refine z_iconst (x := nI 1) hb dJ2_add_3_59 (by decide) ?_
    refine z_iadd hb dJ2_add_3_60 ?_
    refine z_toI (y := nI (N + 1)) (nI_add N 1) ?_
    refine z_put (k := 2) (C := RJ2) (T := TJ2) (N := 3) hb ho zc20 in_J2 tyJ2_ok nmJ2 (zf_RJ2_48 _) dJ2_add_3_61 k_17 ha0 (by decide) (Or.inl rfl) rfl rfl rfl (Nat.le_of_ble_eq_true rfl) ?_
    refine z_hn (fun h_18 eh_18 => ?_)
    have eh_18 : h_18 = z_up h_15 a (.inr (20, [.int (m9 + nI 1), .ref n, .int (nI (N + 1))])) := eh_18
    have k_19 : h_18 x = some (.inr (ci9, fs9)) := z_nx eh_18 hxa k_16
    have k_20 : h_18 n = some (.inl ((zm_G M).2.1 5, N + N / 2, .inr (.inr (.inr (.inr (va_up (va_cpy (va_cpy f (fun _ => none) 0 0 N) (va_cpy f (fun _ => none) 0 0 N) i (i + 1) (N - i)) i (some x))))))) := z_nx eh_18 (z_neA' (z_nxs eh_15) k_17) (z_nxs eh_15)
    refine z_vret hb hr dJ2_add_3_64 ?_
    rw [hQ]
    refine ⟨rfl, ?_, rfl⟩
    first
    | (rw [eh_18, eh_15, eh_12, eh_8, eh_4, eh_1]; done)
    | (rw [eh_18, eh_15, eh_12, eh_8, eh_4, eh_1]; simp only [z_up_up, z_up3]; done)
    | (rw [eh_18, eh_15, eh_12, eh_8, eh_4, eh_1]
       funext y
       simp only [z_up]
       by_cases q1 : y = a
       · simp only [q1, if_true]
       · by_cases q2 : y = n
         · simp only [q1, q2, if_true, if_false]
         · simp only [q1, q2, if_false])

