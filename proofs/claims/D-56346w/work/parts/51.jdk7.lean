theorem z_dq_sub {i j : Nat} (hi : i < 17) (hj : j < 17) : (0 ≤ nI i - nI j → nI i - nI j = nI ((i + 17 - j) % 17)) ∧ (¬ 0 ≤ nI i - nI j → nI i - nI j + nI 17 = nI ((i + 17 - j) % 17)) := by
  have : ∀ i : Nat, i < 17 → ∀ j : Nat, j < 17 → (0 ≤ nI i - nI j → nI i - nI j = nI ((i + 17 - j) % 17)) ∧ (¬ 0 ≤ nI i - nI j → nI i - nI j + nI 17 = nI ((i + 17 - j) % 17)) := by decide +kernel
  exact this i hi j hj
theorem z_dq_dec {i : Nat} (hi : i < 17) : (0 ≤ nI i + (-1) → nI i + (-1) = nI ((i + 16) % 17)) ∧ (¬ 0 ≤ nI i + (-1) → nI 16 = nI ((i + 16) % 17)) := by
  have : ∀ i : Nat, i < 17 → (0 ≤ nI i + (-1) → nI i + (-1) = nI ((i + 16) % 17)) ∧ (¬ 0 ≤ nI i + (-1) → nI 16 = nI ((i + 16) % 17)) := by decide +kernel
  exact this i hi

set_option maxHeartbeats 1000000 in
theorem m_J3_sub {l : Launch} {G : zG} {h : zH} {n : Nat} {i j : Nat} (hi : i < 17) (hj : j < 17) : z_C l G yJ3_sub 1 0 0 [.int (nI i), .int (nI j), .int (nI 17)] h n (z_rv (.int (nI ((i + 17 - j) % 17))) h n) := by
  refine z_start zk_J3_sub zpl_RJ3 (Nat.le_of_ble_eq_true rfl) ?_
  intro hn0 M hl hG ho hb hN hr hm hH hrm hQ
  subst hl hG
  have ho : zm_o M = RJ3 := ho
  show z_V M h n 0 0 0 [(0, .int (nI i)), (1, .int (nI j)), (2, .int (nI 17))] []
  refine z_iload_n hb dJ3_sub_0 rfl ?_
  refine z_iload_n hb dJ3_sub_1 rfl ?_
  refine z_isub hb dJ3_sub_2 ?_
  refine z_dup hb dJ3_sub_3 rfl ?_
  refine z_istore_n (lv' := [(0, .int ((nI i) - (nI j))), (1, .int (nI j)), (2, .int (nI 17))]) hb dJ3_sub_4 (by rw [hN]; decide) rfl ?_
  refine z_if_ge (tgt := 12) hb dJ3_sub_5 (by decide) (fun c_5 => ?_) (fun c_5 => ?_)
  · refine z_iload_n hb dJ3_sub_12 rfl ?_
    refine z_iret hb hr dJ3_sub_13 ?_
    rw [hQ]
    exact z_rve (congrArg Value.int ((z_dq_sub hi hj).1 c_5))
  · refine z_iload_n hb dJ3_sub_8 rfl ?_
    refine z_iload_n hb dJ3_sub_9 rfl ?_
    refine z_iadd hb dJ3_sub_10 ?_
    refine z_istore_n (lv' := [(0, .int (((nI i) - (nI j)) + (nI 17))), (1, .int (nI j)), (2, .int (nI 17))]) hb dJ3_sub_11 (by rw [hN]; decide) rfl ?_
    refine z_iload_n hb dJ3_sub_12 rfl ?_
    refine z_iret hb hr dJ3_sub_13 ?_
    rw [hQ]
    exact z_rve (congrArg Value.int ((z_dq_sub hi hj).2 c_5))

set_option maxHeartbeats 1000000 in
theorem m_J3_dec {l : Launch} {G : zG} {h : zH} {n : Nat} {i : Nat} (hi : i < 17) : z_C l G yJ3_dec 1 0 0 [.int (nI i), .int (nI 17)] h n (z_rv (.int (nI ((i + 16) % 17))) h n) := by
  refine z_start zk_J3_dec zpl_RJ3 (Nat.le_of_ble_eq_true rfl) ?_
  intro hn0 M hl hG ho hb hN hr hm hH hrm hQ
  subst hl hG
  have ho : zm_o M = RJ3 := ho
  show z_V M h n 0 0 0 [(0, .int (nI i)), (1, .int (nI 17))] []
  refine z_iinc (k0 := 0) (lv' := [(0, .int (nI i + (-1))), (1, .int (nI 17))]) hb dJ3_dec_0 rfl rfl (by rw [hN]; decide) rfl ?_
  refine z_iload_n hb dJ3_dec_3 rfl ?_
  refine z_if_ge (tgt := 11) hb dJ3_dec_4 (by decide) (fun c_4 => ?_) (fun c_4 => ?_)
  · refine z_iload_n hb dJ3_dec_11 rfl ?_
    refine z_iret hb hr dJ3_dec_12 ?_
    rw [hQ]
    exact z_rve (congrArg Value.int ((z_dq_dec hi).1 c_4))
  · refine z_iload_n hb dJ3_dec_7 rfl ?_
    refine z_iconst (x := nI 1) hb dJ3_dec_8 (by decide) ?_
    refine z_isub hb dJ3_dec_9 ?_
    refine z_toI (y := nI 16) (pk_sub (by omega)) ?_
    refine z_istore_n (lv' := [(0, .int (nI 16)), (1, .int (nI 17))]) hb dJ3_dec_10 (by rw [hN]; decide) rfl ?_
    refine z_iload_n hb dJ3_dec_11 rfl ?_
    refine z_iret hb hr dJ3_dec_12 ?_
    rw [hQ]
    exact z_rve (congrArg Value.int ((z_dq_dec hi).2 c_4))

set_option maxHeartbeats 1000000 in
theorem m_J3_inc {l : Launch} {G : zG} {h : zH} {n : Nat} {i : Nat} (hi : i < 17) : z_C l G yJ3_inc 1 0 0 [.int (nI i), .int (nI 17)] h n (z_rv (.int (nI ((i + 1) % 17))) h n) := by
  refine z_start zk_J3_inc zpl_RJ3 (Nat.le_of_ble_eq_true rfl) ?_
  intro hn0 M hl hG ho hb hN hr hm hH hrm hQ
  subst hl hG
  have ho : zm_o M = RJ3 := ho
  show z_V M h n 0 0 0 [(0, .int (nI i)), (1, .int (nI 17))] []
  refine z_iinc (k0 := 0) (lv' := [(0, .int (nI (i + 1))), (1, .int (nI 17))]) hb dJ3_inc_0 rfl (nI_1 i) (by rw [hN]; decide) rfl ?_
  refine z_iload_n hb dJ3_inc_3 rfl ?_
  refine z_iload_n hb dJ3_inc_4 rfl ?_
  refine z_icmp_ltN (tgt := 10) hb dJ3_inc_5 (by decide) (by omega) (by omega) (fun c_5 => ?_) (fun c_5 => ?_)
  · refine z_iload_n hb dJ3_inc_10 rfl ?_
    refine z_iret hb hr dJ3_inc_11 ?_
    rw [hQ]
    exact z_rve (congrArg (fun z => Value.int (nI z)) (by omega))
  · refine z_iconst (x := nI 0) hb dJ3_inc_8 (by decide) ?_
    refine z_istore_n (lv' := [(0, .int (nI 0)), (1, .int (nI 17))]) hb dJ3_inc_9 (by rw [hN]; decide) rfl ?_
    refine z_iload_n hb dJ3_inc_10 rfl ?_
    refine z_iret hb hr dJ3_inc_11 ?_
    rw [hQ]
    exact z_rve (congrArg (fun z => Value.int (nI z)) (by omega))

set_option maxHeartbeats 1000000 in
theorem m_J3_elementAt {l : Launch} {G : zG} {h : zH} {n : Nat} {e i x : Nat} {f : Nat → Option Nat} (hA : h e = some (z_ao G 17 f)) (hi : i < 17) (hx : f i = some x) : z_C l G yJ3_elementAt 1 0 0 [.ref e, .int (nI i)] h n (z_rv (.ref x) h n) := by
  refine z_start zk_J3_elementAt zpl_RJ3 (Nat.le_of_ble_eq_true rfl) ?_
  intro hn0 M hl hG ho hb hN hr hm hH hrm hQ
  subst hl hG
  have ho : zm_o M = RJ3 := ho
  show z_V M h n 0 0 0 [(0, .ref e), (1, .int (nI i))] []
  refine z_aload_n hb dJ3_elementAt_0 rfl ?_
  refine z_iload_n hb dJ3_elementAt_1 rfl ?_
  refine z_aald (j := i) hb dJ3_elementAt_2 hA rfl (by omega) (by omega) ?_
  refine z_toR (z := x) hx ?_
  refine z_aret hb hr (Or.inl ⟨_, rfl⟩) (Or.inr ⟨_, rfl⟩) dJ3_elementAt_3 ?_
  rw [hQ]
  exact ⟨rfl, rfl, rfl⟩

set_option maxHeartbeats 1000000 in
theorem m_J3_size {l : Launch} {G : zG} {h : zH} {n : Nat} {a e hd tl : Nat} {f : Nat → Option Nat} (hO : h a = some (.inr (21, [.ref e, .int (nI hd), .int (nI tl)]))) (hA : h e = some (z_ao G 17 f)) (ha0 : z_n0 G ≤ a) (he0 : z_n0 G ≤ e) (hhd : hd < 17) (htl : tl < 17) : z_C l G yJ3_size 2 0 0 [.ref a] h n (z_rv (.int (nI ((tl + 17 - hd) % 17))) h n) := by
  refine z_start zk_J3_size zpl_RJ3 (Nat.le_of_ble_eq_true rfl) ?_
  intro hn0 M hl hG ho hb hN hr hm hH hrm hQ
  subst hl hG
  have ho : zm_o M = RJ3 := ho
  show z_V M h n 0 0 0 [(0, .ref a)] []
  refine z_aload_n hb dJ3_size_0 rfl ?_
  refine z_get (k := 2) (C := RJ3) (T := TJ3) (N := 3) hb ho zc21 in_J3 (zf_RJ3_20 _) dJ3_size_1 hO (by decide) rfl ?_
  refine z_aload_n hb dJ3_size_4 rfl ?_
  refine z_get (k := 1) (C := RJ3) (T := TJ3) (N := 3) hb ho zc21 in_J3 (zf_RJ3_24 _) dJ3_size_5 hO (by decide) rfl ?_
  refine z_aload_n hb dJ3_size_8 rfl ?_
  refine z_get (k := 0) (C := RJ3) (T := TJ3) (N := 3) hb ho zc21 in_J3 (zf_RJ3_3 _) dJ3_size_9 hO (by decide) rfl ?_
  refine z_alen (kk := 5) hb rfl dJ3_size_12 hA ?_
  refine z_call1 (b' := 0) (f' := 0) (rest := []) (av := [.int (nI tl), .int (nI hd), .int (nI 17)]) (z_siteS hb ho q795 q796 q99 ⟨_, _, _, _, zk_J3_sub⟩ zy_J3_sub zl_J3_sub dJ3_size_13 : z_Site M _ _ _ _ _ ([.int (nI tl), .int (nI hd), .int (nI 17)].reverse ++ []) [] _) zk_J3_sub q99 hrm (m_J3_sub (by omega) (by omega)) (by omega) (by decide) (Nat.le_of_ble_eq_true rfl) (by omega) (by omega) ?_
  refine z_iret hb hr dJ3_size_16 ?_
  rw [hQ]
  exact ⟨rfl, rfl, rfl⟩

set_option maxHeartbeats 1000000 in
theorem m_J3_isEmpty {l : Launch} {G : zG} {h : zH} {n : Nat} {a e hd tl : Nat} {f : Nat → Option Nat} (hO : h a = some (.inr (21, [.ref e, .int (nI hd), .int (nI tl)]))) (hA : h e = some (z_ao G 17 f)) (ha0 : z_n0 G ≤ a) (he0 : z_n0 G ≤ e) (hhd : hd < 17) (htl : tl < 17) : z_C l G yJ3_isEmpty 1 0 0 [.ref a] h n (z_rv (.int (z_b (decide (hd = tl)))) h n) := by
  refine z_start zk_J3_isEmpty zpl_RJ3 (Nat.le_of_ble_eq_true rfl) ?_
  intro hn0 M hl hG ho hb hN hr hm hH hrm hQ
  subst hl hG
  have ho : zm_o M = RJ3 := ho
  show z_V M h n 0 0 0 [(0, .ref a)] []
  refine z_aload_n hb dJ3_isEmpty_0 rfl ?_
  refine z_get (k := 1) (C := RJ3) (T := TJ3) (N := 3) hb ho zc21 in_J3 (zf_RJ3_24 _) dJ3_isEmpty_1 hO (by decide) rfl ?_
  refine z_aload_n hb dJ3_isEmpty_4 rfl ?_
  refine z_get (k := 2) (C := RJ3) (T := TJ3) (N := 3) hb ho zc21 in_J3 (zf_RJ3_20 _) dJ3_isEmpty_5 hO (by decide) rfl ?_
  refine z_icmp_neN (tgt := 15) hb dJ3_isEmpty_8 (by decide) (by omega) (by omega) (fun c_8 => ?_) (fun c_8 => ?_)
  · refine z_iconst (x := nI 0) hb dJ3_isEmpty_15 (by decide) ?_
    refine z_zret hb hr rfl dJ3_isEmpty_16 ?_
    rw [hQ]
    exact z_rvb0 (by simp [c_8])
  · refine z_iconst (x := nI 1) hb dJ3_isEmpty_11 (by decide) ?_
    refine z_goto (tgt := 16) hb dJ3_isEmpty_12 (by decide) ?_
    refine z_zret hb hr rfl dJ3_isEmpty_16 ?_
    rw [hQ]
    exact z_rvb1 (by simp [c_8])

set_option maxHeartbeats 1000000 in
theorem m_J3_addFirst {l : Launch} {G : zG} {h : zH} {n : Nat} {a e hd tl x : Nat} {f : Nat → Option Nat} (hO : h a = some (.inr (21, [.ref e, .int (nI hd), .int (nI tl)]))) (hA : h e = some (z_ao G 17 f)) (ha0 : z_n0 G ≤ a) (he0 : z_n0 G ≤ e) (hhd : hd < 17) (htl : tl < 17) (hx : z_obj h x) (hxa : x ≠ a) (hnt : (hd + 16) % 17 ≠ tl) : z_C l G yJ3_addFirst 2 0 0 [.ref a, .ref x] h n (z_r0 (z_up (z_up h a (.inr (21, [.ref e, .int (nI ((hd + 16) % 17)), .int (nI tl)]))) e (z_ao G 17 (va_up f ((hd + 16) % 17) (some x)))) n) := by
  refine z_start zk_J3_addFirst zpl_RJ3 (Nat.le_of_ble_eq_true rfl) ?_
  intro hn0 M hl hG ho hb hN hr hm hH hrm hQ
  subst hl hG
  have ho : zm_o M = RJ3 := ho
  obtain ⟨ci9, fs9, r9, hx9, hz9, hc9⟩ := hx
  show z_V M h n 0 0 0 [(0, .ref a), (1, .ref x)] []
  refine z_aload_n hb dJ3_addFirst_0 rfl ?_
  refine z_ifnonnull (tgt := 12) hb dJ3_addFirst_1 (by decide) ?_
  refine z_aload_n hb dJ3_addFirst_12 rfl ?_
  refine z_get (k := 0) (C := RJ3) (T := TJ3) (N := 3) hb ho zc21 in_J3 (zf_RJ3_3 _) dJ3_addFirst_13 hO (by decide) rfl ?_
  refine z_astore_n (lv' := [(2, .ref e), (0, .ref a), (1, .ref x)]) hb dJ3_addFirst_16 (by rw [hN]; decide) rfl ?_
  refine z_aload_n hb dJ3_addFirst_17 rfl ?_
  refine z_aload_n hb dJ3_addFirst_18 rfl ?_
  refine z_aload_n hb dJ3_addFirst_19 rfl ?_
  refine z_get (k := 1) (C := RJ3) (T := TJ3) (N := 3) hb ho zc21 in_J3 (zf_RJ3_24 _) dJ3_addFirst_20 hO (by decide) rfl ?_
  refine z_aload_n hb dJ3_addFirst_23 rfl ?_
  refine z_alen (kk := 5) hb rfl dJ3_addFirst_24 hA ?_
  refine z_call1 (b' := 0) (f' := 0) (rest := [.ref a, .ref e]) (av := [.int (nI hd), .int (nI 17)]) (z_siteS hb ho q1629 q1630 q99 ⟨_, _, _, _, zk_J3_dec⟩ zy_J3_dec zl_J3_dec dJ3_addFirst_25 : z_Site M _ _ _ _ _ ([.int (nI hd), .int (nI 17)].reverse ++ [.ref a, .ref e]) [.ref a, .ref e] _) zk_J3_dec q99 hrm (m_J3_dec (by omega)) (by omega) (by decide) (Nat.le_of_ble_eq_true rfl) (by omega) (by omega) ?_
  refine z_dup_x1 hb dJ3_addFirst_28 rfl rfl ?_
  refine z_put (k := 1) (C := RJ3) (T := TJ3) (N := 3) hb ho zc21 in_J3 tyJ3_ok nmJ3 (zf_RJ3_24 _) dJ3_addFirst_29 hO ha0 (by decide) (Or.inl rfl) rfl rfl rfl (Nat.le_of_ble_eq_true rfl) ?_
  refine z_hn (fun h_1 eh_1 => ?_)
  have eh_1 : h_1 = z_up h a (.inr (21, [.ref e, .int (nI ((hd + 16) % 17)), .int (nI tl)])) := eh_1
  have k_2 : h_1 e = some (.inl ((zm_G M).2.1 5, 17, .inr (.inr (.inr (.inr f))))) := z_nx eh_1 (z_neA' hA hO) hA
  have k_3 : h_1 x = some (.inr (ci9, fs9)) := z_nx eh_1 hxa hx9
  refine z_aload_n hb dJ3_addFirst_32 rfl ?_
  refine z_aast (j := (hd + 16) % 17) hb dJ3_addFirst_33 k_2 he0 k_3 hz9 hc9 rfl (by omega) (by omega) ?_
  refine z_hn (fun h_4 eh_4 => ?_)
  have eh_4 : h_4 = z_up h_1 e (.inl ((zm_G M).2.1 5, 17, .inr (.inr (.inr (.inr (va_up f ((hd + 16) % 17) (some x))))))) := eh_4
  have k_5 : h_4 x = some (.inr (ci9, fs9)) := z_nx eh_4 (z_neA k_3 k_2) k_3
  have k_6 : h_4 a = some (.inr (21, [.ref e, .int (nI ((hd + 16) % 17)), .int (nI tl)])) := z_nx eh_4 (z_neA (z_nxs eh_1) k_2) (z_nxs eh_1)
  refine z_aload_n hb dJ3_addFirst_34 rfl ?_
  refine z_get (k := 1) (C := RJ3) (T := TJ3) (N := 3) hb ho zc21 in_J3 (zf_RJ3_24 _) dJ3_addFirst_35 k_6 (by decide) rfl ?_
  refine z_aload_n hb dJ3_addFirst_38 rfl ?_
  refine z_get (k := 2) (C := RJ3) (T := TJ3) (N := 3) hb ho zc21 in_J3 (zf_RJ3_20 _) dJ3_addFirst_39 k_6 (by decide) rfl ?_
  refine z_icmp_neN (tgt := 50) hb dJ3_addFirst_42 (by decide) (by omega) (by omega) (fun c_42 => ?_) (fun c_42 => ?_)
  · refine z_vret hb hr dJ3_addFirst_50 ?_
    rw [hQ]
    exact ⟨rfl, (by rw [eh_4, eh_1]), rfl⟩
  · exact absurd c_42 hnt

set_option maxHeartbeats 1000000 in
theorem m_J3_push {l : Launch} {G : zG} {h : zH} {n : Nat} {a e hd tl x : Nat} {f : Nat → Option Nat} (hO : h a = some (.inr (21, [.ref e, .int (nI hd), .int (nI tl)]))) (hA : h e = some (z_ao G 17 f)) (ha0 : z_n0 G ≤ a) (he0 : z_n0 G ≤ e) (hhd : hd < 17) (htl : tl < 17) (hx : z_obj h x) (hxa : x ≠ a) (hnt : (hd + 16) % 17 ≠ tl) : z_C l G yJ3_push 3 0 0 [.ref a, .ref x] h n (z_r0 (z_up (z_up h a (.inr (21, [.ref e, .int (nI ((hd + 16) % 17)), .int (nI tl)]))) e (z_ao G 17 (va_up f ((hd + 16) % 17) (some x)))) n) := by
  refine z_start zk_J3_push zpl_RJ3 (Nat.le_of_ble_eq_true rfl) ?_
  intro hn0 M hl hG ho hb hN hr hm hH hrm hQ
  subst hl hG
  have ho : zm_o M = RJ3 := ho
  obtain ⟨ci9, fs9, r9, hx9, hz9, hc9⟩ := hx
  show z_V M h n 0 0 0 [(0, .ref a), (1, .ref x)] []
  refine z_aload_n hb dJ3_push_0 rfl ?_
  refine z_aload_n hb dJ3_push_1 rfl ?_
  refine z_call0 (b' := 0) (f' := 0) (rest := []) (av := [.ref a, .ref x]) (z_siteV hb ho zc21 hO q1641 q1642 q1643 ⟨_, _, _, _, zk_J3_addFirst⟩ zy_J3_addFirst zl_J3_addFirst dJ3_push_2 : z_Site M _ _ _ _ _ ([.ref x].reverse ++ .ref a :: []) [] _) zk_J3_addFirst q99 hrm (m_J3_addFirst hO hA ha0 he0 hhd htl ⟨_, _, _, hx9, hz9, hc9⟩ hxa hnt) (by omega) (by decide) (Nat.le_of_ble_eq_true rfl) (by omega) (by omega) ?_
  obtain ⟨h_1, eh_1⟩ : ∃ h_1, h_1 = z_up h a (.inr (21, [.ref e, .int (nI ((hd + 16) % 17)), .int (nI tl)])) := ⟨_, rfl⟩
  have k_2 : h_1 e = some (.inl ((zm_G M).2.1 5, 17, .inr (.inr (.inr (.inr f))))) := z_nx eh_1 (z_neA' hA hO) hA
  have k_3 : h_1 x = some (.inr (ci9, fs9)) := z_nx eh_1 hxa hx9
  refine z_hh (h2 := z_up h_1 e (.inl ((zm_G M).2.1 5, 17, .inr (.inr (.inr (.inr (va_up f ((hd + 16) % 17) (some x)))))))) (by rw [eh_1]) ?_
  refine z_hn (fun h_4 eh_4 => ?_)
  have eh_4 : h_4 = z_up h_1 e (.inl ((zm_G M).2.1 5, 17, .inr (.inr (.inr (.inr (va_up f ((hd + 16) % 17) (some x))))))) := eh_4
  have k_5 : h_4 x = some (.inr (ci9, fs9)) := z_nx eh_4 (z_neA k_3 k_2) k_3
  have k_6 : h_4 a = some (.inr (21, [.ref e, .int (nI ((hd + 16) % 17)), .int (nI tl)])) := z_nx eh_4 (z_neA (z_nxs eh_1) k_2) (z_nxs eh_1)
  refine z_vret hb hr dJ3_push_5 ?_
  rw [hQ]
  exact ⟨rfl, (by rw [eh_4, eh_1]), rfl⟩

set_option maxHeartbeats 1000000 in
theorem m_J3_pollFirst {l : Launch} {G : zG} {h : zH} {n : Nat} {a e hd tl x : Nat} {f : Nat → Option Nat} (hO : h a = some (.inr (21, [.ref e, .int (nI hd), .int (nI tl)]))) (hA : h e = some (z_ao G 17 f)) (ha0 : z_n0 G ≤ a) (he0 : z_n0 G ≤ e) (hhd : hd < 17) (htl : tl < 17) (hfx : f hd = some x) : z_C l G yJ3_pollFirst 2 0 0 [.ref a] h n (z_rv (.ref x) (z_up (z_up h e (z_ao G 17 (va_up f hd none))) a (.inr (21, [.ref e, .int (nI ((hd + 1) % 17)), .int (nI tl)]))) n) := by
  refine z_start zk_J3_pollFirst zpl_RJ3 (Nat.le_of_ble_eq_true rfl) ?_
  intro hn0 M hl hG ho hb hN hr hm hH hrm hQ
  subst hl hG
  have ho : zm_o M = RJ3 := ho
  show z_V M h n 0 0 0 [(0, .ref a)] []
  refine z_aload_n hb dJ3_pollFirst_0 rfl ?_
  refine z_get (k := 0) (C := RJ3) (T := TJ3) (N := 3) hb ho zc21 in_J3 (zf_RJ3_3 _) dJ3_pollFirst_1 hO (by decide) rfl ?_
  refine z_dup hb dJ3_pollFirst_4 rfl ?_
  refine z_astore_n (lv' := [(1, .ref e), (0, .ref a)]) hb dJ3_pollFirst_5 (by rw [hN]; decide) rfl ?_
  refine z_aload_n hb dJ3_pollFirst_6 rfl ?_
  refine z_get (k := 1) (C := RJ3) (T := TJ3) (N := 3) hb ho zc21 in_J3 (zf_RJ3_24 _) dJ3_pollFirst_7 hO (by decide) rfl ?_
  refine z_dup hb dJ3_pollFirst_10 rfl ?_
  refine z_istore_n (lv' := [(2, .int (nI hd)), (1, .ref e), (0, .ref a)]) hb dJ3_pollFirst_11 (by rw [hN]; decide) rfl ?_
  refine z_call1 (b' := 0) (f' := 0) (rest := []) (av := [.ref e, .int (nI hd)]) (z_siteS hb ho q1632 q1633 q99 ⟨_, _, _, _, zk_J3_elementAt⟩ zy_J3_elementAt zl_J3_elementAt dJ3_pollFirst_12 : z_Site M _ _ _ _ _ ([.ref e, .int (nI hd)].reverse ++ []) [] _) zk_J3_elementAt q99 hrm (m_J3_elementAt hA (by omega) hfx) (by omega) (by decide) (Nat.le_of_ble_eq_true rfl) (by omega) (by omega) ?_
  refine z_astore_n (lv' := [(3, .ref x), (2, .int (nI hd)), (1, .ref e), (0, .ref a)]) hb dJ3_pollFirst_15 (by rw [hN]; decide) rfl ?_
  refine z_aload_n hb dJ3_pollFirst_16 rfl ?_
  refine z_ifnull hb dJ3_pollFirst_17 ?_
  refine z_aload_n hb dJ3_pollFirst_20 rfl ?_
  refine z_iload_n hb dJ3_pollFirst_21 rfl ?_
  refine z_null hb dJ3_pollFirst_22 ?_
  refine z_aastN (j := hd) hb dJ3_pollFirst_23 hA he0 rfl (by omega) (by omega) ?_
  refine z_hn (fun h_1 eh_1 => ?_)
  have eh_1 : h_1 = z_up h e (.inl ((zm_G M).2.1 5, 17, .inr (.inr (.inr (.inr (va_up f hd none)))))) := eh_1
  have k_2 : h_1 a = some (.inr (21, [.ref e, .int (nI hd), .int (nI tl)])) := z_nx eh_1 (z_neA hO hA) hO
  refine z_aload_n hb dJ3_pollFirst_24 rfl ?_
  refine z_iload_n hb dJ3_pollFirst_25 rfl ?_
  refine z_aload_n hb dJ3_pollFirst_26 rfl ?_
  refine z_alen (kk := 5) hb rfl dJ3_pollFirst_27 (z_nxs eh_1) ?_
  refine z_call1 (b' := 0) (f' := 0) (rest := [.ref a]) (av := [.int (nI hd), .int (nI 17)]) (z_siteS hb ho q2672 q2673 q99 ⟨_, _, _, _, zk_J3_inc⟩ zy_J3_inc zl_J3_inc dJ3_pollFirst_28 : z_Site M _ _ _ _ _ ([.int (nI hd), .int (nI 17)].reverse ++ [.ref a]) [.ref a] _) zk_J3_inc q99 hrm (m_J3_inc (by omega)) (by omega) (by decide) (Nat.le_of_ble_eq_true rfl) (by omega) (by omega) ?_
  refine z_put (k := 1) (C := RJ3) (T := TJ3) (N := 3) hb ho zc21 in_J3 tyJ3_ok nmJ3 (zf_RJ3_24 _) dJ3_pollFirst_31 k_2 ha0 (by decide) (Or.inl rfl) rfl rfl rfl (Nat.le_of_ble_eq_true rfl) ?_
  refine z_hn (fun h_3 eh_3 => ?_)
  have eh_3 : h_3 = z_up h_1 a (.inr (21, [.ref e, .int (nI ((hd + 1) % 17)), .int (nI tl)])) := eh_3
  have k_4 : h_3 e = some (.inl ((zm_G M).2.1 5, 17, .inr (.inr (.inr (.inr (va_up f hd none)))))) := z_nx eh_3 (z_neA' (z_nxs eh_1) k_2) (z_nxs eh_1)
  refine z_aload_n hb dJ3_pollFirst_34 rfl ?_
  refine z_aret hb hr (Or.inl ⟨_, rfl⟩) (Or.inr ⟨_, rfl⟩) dJ3_pollFirst_35 ?_
  rw [hQ]
  exact ⟨rfl, (by rw [eh_3, eh_1]), rfl⟩

set_option maxHeartbeats 1000000 in
theorem m_J3_removeFirst {l : Launch} {G : zG} {h : zH} {n : Nat} {a e hd tl x : Nat} {f : Nat → Option Nat} (hO : h a = some (.inr (21, [.ref e, .int (nI hd), .int (nI tl)]))) (hA : h e = some (z_ao G 17 f)) (ha0 : z_n0 G ≤ a) (he0 : z_n0 G ≤ e) (hhd : hd < 17) (htl : tl < 17) (hfx : f hd = some x) : z_C l G yJ3_removeFirst 3 0 0 [.ref a] h n (z_rv (.ref x) (z_up (z_up h e (z_ao G 17 (va_up f hd none))) a (.inr (21, [.ref e, .int (nI ((hd + 1) % 17)), .int (nI tl)]))) n) := by
  refine z_start zk_J3_removeFirst zpl_RJ3 (Nat.le_of_ble_eq_true rfl) ?_
  intro hn0 M hl hG ho hb hN hr hm hH hrm hQ
  subst hl hG
  have ho : zm_o M = RJ3 := ho
  show z_V M h n 0 0 0 [(0, .ref a)] []
  refine z_aload_n hb dJ3_removeFirst_0 rfl ?_
  refine z_call1 (b' := 0) (f' := 0) (rest := []) (av := [.ref a]) (z_siteV hb ho zc21 hO q2668 q2669 q2670 ⟨_, _, _, _, zk_J3_pollFirst⟩ zy_J3_pollFirst zl_J3_pollFirst dJ3_removeFirst_1 : z_Site M _ _ _ _ _ ([].reverse ++ .ref a :: []) [] _) zk_J3_pollFirst q99 hrm (m_J3_pollFirst hO hA ha0 he0 hhd htl hfx) (by omega) (by decide) (Nat.le_of_ble_eq_true rfl) (by omega) (by omega) ?_
  obtain ⟨h_1, eh_1⟩ : ∃ h_1, h_1 = z_up h e (.inl ((zm_G M).2.1 5, 17, .inr (.inr (.inr (.inr (va_up f hd none)))))) := ⟨_, rfl⟩
  have k_2 : h_1 a = some (.inr (21, [.ref e, .int (nI hd), .int (nI tl)])) := z_nx eh_1 (z_neA hO hA) hO
  refine z_hh (h2 := z_up h_1 a (.inr (21, [.ref e, .int (nI ((hd + 1) % 17)), .int (nI tl)]))) (by rw [eh_1]) ?_
  refine z_hn (fun h_3 eh_3 => ?_)
  have eh_3 : h_3 = z_up h_1 a (.inr (21, [.ref e, .int (nI ((hd + 1) % 17)), .int (nI tl)])) := eh_3
  have k_4 : h_3 e = some (.inl ((zm_G M).2.1 5, 17, .inr (.inr (.inr (.inr (va_up f hd none)))))) := z_nx eh_3 (z_neA' (z_nxs eh_1) k_2) (z_nxs eh_1)
  refine z_astore_n (lv' := [(1, .ref x), (0, .ref a)]) hb dJ3_removeFirst_4 (by rw [hN]; decide) rfl ?_
  refine z_aload_n hb dJ3_removeFirst_5 rfl ?_
  refine z_ifnonnull (tgt := 17) hb dJ3_removeFirst_6 (by decide) ?_
  refine z_aload_n hb dJ3_removeFirst_17 rfl ?_
  refine z_aret hb hr (Or.inl ⟨_, rfl⟩) (Or.inr ⟨_, rfl⟩) dJ3_removeFirst_18 ?_
  rw [hQ]
  exact ⟨rfl, (by rw [eh_3, eh_1]), rfl⟩

set_option maxHeartbeats 1000000 in
theorem m_J3_pop {l : Launch} {G : zG} {h : zH} {n : Nat} {a e hd tl x : Nat} {f : Nat → Option Nat} (hO : h a = some (.inr (21, [.ref e, .int (nI hd), .int (nI tl)]))) (hA : h e = some (z_ao G 17 f)) (ha0 : z_n0 G ≤ a) (he0 : z_n0 G ≤ e) (hhd : hd < 17) (htl : tl < 17) (hfx : f hd = some x) : z_C l G yJ3_pop 4 0 0 [.ref a] h n (z_rv (.ref x) (z_up (z_up h e (z_ao G 17 (va_up f hd none))) a (.inr (21, [.ref e, .int (nI ((hd + 1) % 17)), .int (nI tl)]))) n) := by
  refine z_start zk_J3_pop zpl_RJ3 (Nat.le_of_ble_eq_true rfl) ?_
  intro hn0 M hl hG ho hb hN hr hm hH hrm hQ
  subst hl hG
  have ho : zm_o M = RJ3 := ho
  show z_V M h n 0 0 0 [(0, .ref a)] []
  refine z_aload_n hb dJ3_pop_0 rfl ?_
  refine z_call1 (b' := 0) (f' := 0) (rest := []) (av := [.ref a]) (z_siteV hb ho zc21 hO q2664 q2665 q2666 ⟨_, _, _, _, zk_J3_removeFirst⟩ zy_J3_removeFirst zl_J3_removeFirst dJ3_pop_1 : z_Site M _ _ _ _ _ ([].reverse ++ .ref a :: []) [] _) zk_J3_removeFirst q99 hrm (m_J3_removeFirst hO hA ha0 he0 hhd htl hfx) (by omega) (by decide) (Nat.le_of_ble_eq_true rfl) (by omega) (by omega) ?_
  obtain ⟨h_1, eh_1⟩ : ∃ h_1, h_1 = z_up h e (.inl ((zm_G M).2.1 5, 17, .inr (.inr (.inr (.inr (va_up f hd none)))))) := ⟨_, rfl⟩
  have k_2 : h_1 a = some (.inr (21, [.ref e, .int (nI hd), .int (nI tl)])) := z_nx eh_1 (z_neA hO hA) hO
  refine z_hh (h2 := z_up h_1 a (.inr (21, [.ref e, .int (nI ((hd + 1) % 17)), .int (nI tl)]))) (by rw [eh_1]) ?_
  refine z_hn (fun h_3 eh_3 => ?_)
  have eh_3 : h_3 = z_up h_1 a (.inr (21, [.ref e, .int (nI ((hd + 1) % 17)), .int (nI tl)])) := eh_3
  have k_4 : h_3 e = some (.inl ((zm_G M).2.1 5, 17, .inr (.inr (.inr (.inr (va_up f hd none)))))) := z_nx eh_3 (z_neA' (z_nxs eh_1) k_2) (z_nxs eh_1)
  refine z_aret hb hr (Or.inl ⟨_, rfl⟩) (Or.inr ⟨_, rfl⟩) dJ3_pop_4 ?_
  rw [hQ]
  exact ⟨rfl, (by rw [eh_3, eh_1]), rfl⟩

set_option maxHeartbeats 1000000 in
theorem m_J3_pollLast {l : Launch} {G : zG} {h : zH} {n : Nat} {a e hd tl x : Nat} {f : Nat → Option Nat} (hO : h a = some (.inr (21, [.ref e, .int (nI hd), .int (nI tl)]))) (hA : h e = some (z_ao G 17 f)) (ha0 : z_n0 G ≤ a) (he0 : z_n0 G ≤ e) (hhd : hd < 17) (htl : tl < 17) (hfx : f ((tl + 16) % 17) = some x) : z_C l G yJ3_pollLast 2 0 0 [.ref a] h n (z_rv (.ref x) (z_up (z_up h a (.inr (21, [.ref e, .int (nI hd), .int (nI ((tl + 16) % 17))]))) e (z_ao G 17 (va_up f ((tl + 16) % 17) none))) n) := by
  refine z_start zk_J3_pollLast zpl_RJ3 (Nat.le_of_ble_eq_true rfl) ?_
  intro hn0 M hl hG ho hb hN hr hm hH hrm hQ
  subst hl hG
  have ho : zm_o M = RJ3 := ho
  show z_V M h n 0 0 0 [(0, .ref a)] []
  refine z_aload_n hb dJ3_pollLast_0 rfl ?_
  refine z_get (k := 0) (C := RJ3) (T := TJ3) (N := 3) hb ho zc21 in_J3 (zf_RJ3_3 _) dJ3_pollLast_1 hO (by decide) rfl ?_
  refine z_dup hb dJ3_pollLast_4 rfl ?_
  refine z_astore_n (lv' := [(1, .ref e), (0, .ref a)]) hb dJ3_pollLast_5 (by rw [hN]; decide) rfl ?_
  refine z_aload_n hb dJ3_pollLast_6 rfl ?_
  refine z_get (k := 2) (C := RJ3) (T := TJ3) (N := 3) hb ho zc21 in_J3 (zf_RJ3_20 _) dJ3_pollLast_7 hO (by decide) rfl ?_
  refine z_aload_n hb dJ3_pollLast_10 rfl ?_
  refine z_alen (kk := 5) hb rfl dJ3_pollLast_11 hA ?_
  refine z_call1 (b' := 0) (f' := 0) (rest := [.ref e]) (av := [.int (nI tl), .int (nI 17)]) (z_siteS hb ho q1629 q1630 q99 ⟨_, _, _, _, zk_J3_dec⟩ zy_J3_dec zl_J3_dec dJ3_pollLast_12 : z_Site M _ _ _ _ _ ([.int (nI tl), .int (nI 17)].reverse ++ [.ref e]) [.ref e] _) zk_J3_dec q99 hrm (m_J3_dec (by omega)) (by omega) (by decide) (Nat.le_of_ble_eq_true rfl) (by omega) (by omega) ?_
  refine z_dup hb dJ3_pollLast_15 rfl ?_
  refine z_istore_n (lv' := [(2, .int (nI ((tl + 16) % 17))), (1, .ref e), (0, .ref a)]) hb dJ3_pollLast_16 (by rw [hN]; decide) rfl ?_
  refine z_call1 (b' := 0) (f' := 0) (rest := []) (av := [.ref e, .int (nI ((tl + 16) % 17))]) (z_siteS hb ho q1632 q1633 q99 ⟨_, _, _, _, zk_J3_elementAt⟩ zy_J3_elementAt zl_J3_elementAt dJ3_pollLast_17 : z_Site M _ _ _ _ _ ([.ref e, .int (nI ((tl + 16) % 17))].reverse ++ []) [] _) zk_J3_elementAt q99 hrm (m_J3_elementAt hA (by omega) hfx) (by omega) (by decide) (Nat.le_of_ble_eq_true rfl) (by omega) (by omega) ?_
  refine z_astore_n (lv' := [(3, .ref x), (2, .int (nI ((tl + 16) % 17))), (1, .ref e), (0, .ref a)]) hb dJ3_pollLast_20 (by rw [hN]; decide) rfl ?_
  refine z_aload_n hb dJ3_pollLast_21 rfl ?_
  refine z_ifnull hb dJ3_pollLast_22 ?_
  refine z_aload_n hb dJ3_pollLast_25 rfl ?_
  refine z_aload_n hb dJ3_pollLast_26 rfl ?_
  refine z_iload_n hb dJ3_pollLast_27 rfl ?_
  refine z_dup_x1 hb dJ3_pollLast_28 rfl rfl ?_
  refine z_put (k := 2) (C := RJ3) (T := TJ3) (N := 3) hb ho zc21 in_J3 tyJ3_ok nmJ3 (zf_RJ3_20 _) dJ3_pollLast_29 hO ha0 (by decide) (Or.inl rfl) rfl rfl rfl (Nat.le_of_ble_eq_true rfl) ?_
  refine z_hn (fun h_1 eh_1 => ?_)
  have eh_1 : h_1 = z_up h a (.inr (21, [.ref e, .int (nI hd), .int (nI ((tl + 16) % 17))])) := eh_1
  have k_2 : h_1 e = some (.inl ((zm_G M).2.1 5, 17, .inr (.inr (.inr (.inr f))))) := z_nx eh_1 (z_neA' hA hO) hA
  refine z_null hb dJ3_pollLast_32 ?_
  refine z_aastN (j := (tl + 16) % 17) hb dJ3_pollLast_33 k_2 he0 rfl (by omega) (by omega) ?_
  refine z_hn (fun h_3 eh_3 => ?_)
  have eh_3 : h_3 = z_up h_1 e (.inl ((zm_G M).2.1 5, 17, .inr (.inr (.inr (.inr (va_up f ((tl + 16) % 17) none)))))) := eh_3
  have k_4 : h_3 a = some (.inr (21, [.ref e, .int (nI hd), .int (nI ((tl + 16) % 17))])) := z_nx eh_3 (z_neA (z_nxs eh_1) k_2) (z_nxs eh_1)
  refine z_aload_n hb dJ3_pollLast_34 rfl ?_
  refine z_aret hb hr (Or.inl ⟨_, rfl⟩) (Or.inr ⟨_, rfl⟩) dJ3_pollLast_35 ?_
  rw [hQ]
  exact ⟨rfl, (by rw [eh_3, eh_1]), rfl⟩

set_option maxHeartbeats 1000000 in
theorem m_J3_removeLast {l : Launch} {G : zG} {h : zH} {n : Nat} {a e hd tl x : Nat} {f : Nat → Option Nat} (hO : h a = some (.inr (21, [.ref e, .int (nI hd), .int (nI tl)]))) (hA : h e = some (z_ao G 17 f)) (ha0 : z_n0 G ≤ a) (he0 : z_n0 G ≤ e) (hhd : hd < 17) (htl : tl < 17) (hfx : f ((tl + 16) % 17) = some x) : z_C l G yJ3_removeLast 3 0 0 [.ref a] h n (z_rv (.ref x) (z_up (z_up h a (.inr (21, [.ref e, .int (nI hd), .int (nI ((tl + 16) % 17))]))) e (z_ao G 17 (va_up f ((tl + 16) % 17) none))) n) := by
  refine z_start zk_J3_removeLast zpl_RJ3 (Nat.le_of_ble_eq_true rfl) ?_
  intro hn0 M hl hG ho hb hN hr hm hH hrm hQ
  subst hl hG
  have ho : zm_o M = RJ3 := ho
  show z_V M h n 0 0 0 [(0, .ref a)] []
  refine z_aload_n hb dJ3_removeLast_0 rfl ?_
  refine z_call1 (b' := 0) (f' := 0) (rest := []) (av := [.ref a]) (z_siteV hb ho zc21 hO q1625 q1626 q1627 ⟨_, _, _, _, zk_J3_pollLast⟩ zy_J3_pollLast zl_J3_pollLast dJ3_removeLast_1 : z_Site M _ _ _ _ _ ([].reverse ++ .ref a :: []) [] _) zk_J3_pollLast q99 hrm (m_J3_pollLast hO hA ha0 he0 hhd htl hfx) (by omega) (by decide) (Nat.le_of_ble_eq_true rfl) (by omega) (by omega) ?_
  obtain ⟨h_1, eh_1⟩ : ∃ h_1, h_1 = z_up h a (.inr (21, [.ref e, .int (nI hd), .int (nI ((tl + 16) % 17))])) := ⟨_, rfl⟩
  have k_2 : h_1 e = some (.inl ((zm_G M).2.1 5, 17, .inr (.inr (.inr (.inr f))))) := z_nx eh_1 (z_neA' hA hO) hA
  refine z_hh (h2 := z_up h_1 e (.inl ((zm_G M).2.1 5, 17, .inr (.inr (.inr (.inr (va_up f ((tl + 16) % 17) none))))))) (by rw [eh_1]) ?_
  refine z_hn (fun h_3 eh_3 => ?_)
  have eh_3 : h_3 = z_up h_1 e (.inl ((zm_G M).2.1 5, 17, .inr (.inr (.inr (.inr (va_up f ((tl + 16) % 17) none)))))) := eh_3
  have k_4 : h_3 a = some (.inr (21, [.ref e, .int (nI hd), .int (nI ((tl + 16) % 17))])) := z_nx eh_3 (z_neA (z_nxs eh_1) k_2) (z_nxs eh_1)
  refine z_astore_n (lv' := [(1, .ref x), (0, .ref a)]) hb dJ3_removeLast_4 (by rw [hN]; decide) rfl ?_
  refine z_aload_n hb dJ3_removeLast_5 rfl ?_
  refine z_ifnonnull (tgt := 17) hb dJ3_removeLast_6 (by decide) ?_
  refine z_aload_n hb dJ3_removeLast_17 rfl ?_
  refine z_aret hb hr (Or.inl ⟨_, rfl⟩) (Or.inr ⟨_, rfl⟩) dJ3_removeLast_18 ?_
  rw [hQ]
  exact ⟨rfl, (by rw [eh_3, eh_1]), rfl⟩

