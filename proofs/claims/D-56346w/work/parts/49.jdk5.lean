set_option maxHeartbeats 1000000 in
theorem m_J2_fastRemove {l : Launch} {G : zG} {h : zH} {n : Nat} {a e N k i : Nat} {m9 : Int32} {f : Nat → Option Nat} {g : Nat → Nat} (hO : h a = some (.inr (20, [.int m9, .ref e, .int (nI k)]))) (hA : h e = some (z_ao G N f)) (ha0 : z_n0 G ≤ a) (he0 : z_n0 G ≤ e) (hik : i < k) (hkN : k ≤ N) (hN2 : N ≤ 200) (hS : ∀ j, j < k → f j = some (g j)) (hob : ∀ j, j < k → z_obj h (g j)) (hoa : ∀ j, j < k → g j ≠ a) : z_C l G yJ2_fastRemove 1 0 0 [.ref a, .ref e, .int (nI i)] h n (z_r0 (z_up (z_up h e (z_ao G N (va_up (va_cpy f f (i + 1) i (k - 1 - i)) (k - 1) none))) a (.inr (20, [.int (m9 + nI 1), .ref e, .int (nI (k - 1))]))) n) := by
  refine z_start zk_J2_fastRemove zpl_RJ2 (Nat.le_of_ble_eq_true rfl) ?_
  intro hn0 M hl hG ho hb hN hr hm hH hrm hQ
  subst hl hG
  have ho : zm_o M = RJ2 := ho
  show z_V M h n 0 0 0 [(0, .ref a), (1, .ref e), (2, .int (nI i))] []
  refine z_aload_n hb dJ2_fastRemove_0 rfl ?_
  refine z_dup hb dJ2_fastRemove_1 rfl ?_
  refine z_get (k := 0) (C := RJ2) (T := TJ2) (N := 3) hb ho zc20 in_J2 (zf_RJ2_63 _) dJ2_fastRemove_2 hO (by decide) rfl ?_
  refine z_iconst (x := nI 1) hb dJ2_fastRemove_5 (by decide) ?_
  refine z_iadd hb dJ2_fastRemove_6 ?_
  refine z_put (k := 0) (C := RJ2) (T := TJ2) (N := 3) hb ho zc20 in_J2 tyJ2_ok nmJ2 (zf_RJ2_63 _) dJ2_fastRemove_7 hO ha0 (by decide) (Or.inl rfl) rfl rfl rfl (Nat.le_of_ble_eq_true rfl) ?_
  refine z_hn (fun h_1 eh_1 => ?_)
  have eh_1 : h_1 = z_up h a (.inr (20, [.int (m9 + (nI 1)), .ref e, .int (nI k)])) := eh_1
  have k_2 : h_1 e = some (.inl ((zm_G M).2.1 5, N, .inr (.inr (.inr (.inr f))))) := z_nx eh_1 (z_neA' hA hO) hA
  refine z_aload_n hb dJ2_fastRemove_10 rfl ?_
  refine z_get (k := 2) (C := RJ2) (T := TJ2) (N := 3) hb ho zc20 in_J2 (zf_RJ2_48 _) dJ2_fastRemove_11 (z_nxs eh_1) (by decide) rfl ?_
  refine z_iconst (x := nI 1) hb dJ2_fastRemove_14 (by decide) ?_
  refine z_isub hb dJ2_fastRemove_15 ?_
  refine z_toI (y := nI (k - 1)) (pk_sub (by omega)) ?_
  refine z_dup hb dJ2_fastRemove_16 rfl ?_
  refine z_istore_n (lv' := [(3, .int (nI (k - 1))), (0, .ref a), (1, .ref e), (2, .int (nI i))]) hb dJ2_fastRemove_17 (by rw [hN]; decide) rfl ?_
  refine z_iload_n hb dJ2_fastRemove_18 rfl ?_
  refine z_icmp_leN (tgt := 34) hb dJ2_fastRemove_19 (by decide) (by omega) (by omega) (fun c_19 => ?_) (fun c_19 => ?_)
  · refine z_aload_n hb dJ2_fastRemove_34 rfl ?_
    refine z_aload_n hb dJ2_fastRemove_35 rfl ?_
    refine z_iload_n hb dJ2_fastRemove_36 rfl ?_
    refine z_dup_x1 hb dJ2_fastRemove_37 rfl rfl ?_
    refine z_put (k := 2) (C := RJ2) (T := TJ2) (N := 3) hb ho zc20 in_J2 tyJ2_ok nmJ2 (zf_RJ2_48 _) dJ2_fastRemove_38 (z_nxs eh_1) ha0 (by decide) (Or.inl rfl) rfl rfl rfl (Nat.le_of_ble_eq_true rfl) ?_
    refine z_hn (fun h_3 eh_3 => ?_)
    have eh_3 : h_3 = z_up h_1 a (.inr (20, [.int (m9 + (nI 1)), .ref e, .int (nI (k - 1))])) := eh_3
    have k_4 : h_3 e = some (.inl ((zm_G M).2.1 5, N, .inr (.inr (.inr (.inr f))))) := z_nx eh_3 (z_neA' k_2 (z_nxs eh_1)) k_2
    refine z_null hb dJ2_fastRemove_41 ?_
    refine z_aastN (j := k - 1) hb dJ2_fastRemove_42 k_4 he0 rfl (by omega) (by omega) ?_
    refine z_hn (fun h_5 eh_5 => ?_)
    have eh_5 : h_5 = z_up h_3 e (.inl ((zm_G M).2.1 5, N, .inr (.inr (.inr (.inr (va_up f (k - 1) none)))))) := eh_5
    have k_6 : h_5 a = some (.inr (20, [.int (m9 + (nI 1)), .ref e, .int (nI (k - 1))])) := z_nx eh_5 (z_neA (z_nxs eh_3) k_4) (z_nxs eh_3)
    refine z_vret hb hr dJ2_fastRemove_43 ?_
    rw [hQ]
    refine ⟨rfl, ?_, rfl⟩
    rw [show k - 1 - i = 0 by omega, z_cpy0]
    have hae : ¬a = e := z_neA hO hA
    rw [eh_5, eh_3, eh_1]
    funext y
    simp only [z_up]
    by_cases q1 : y = a
    · subst q1; simp only [if_true, hae, if_false]
    · by_cases q2 : y = e
      · subst q2; simp only [q1, if_true, if_false]
      · simp only [q1, q2, if_false]
  · refine z_aload_n hb dJ2_fastRemove_22 rfl ?_
    refine z_iload_n hb dJ2_fastRemove_23 rfl ?_
    refine z_iconst (x := nI 1) hb dJ2_fastRemove_24 (by decide) ?_
    refine z_iadd hb dJ2_fastRemove_25 ?_
    refine z_toI (y := nI (i + 1)) (nI_add i 1) ?_
    refine z_aload_n hb dJ2_fastRemove_26 rfl ?_
    refine z_iload_n hb dJ2_fastRemove_27 rfl ?_
    refine z_iload_n hb dJ2_fastRemove_28 rfl ?_
    refine z_iload_n hb dJ2_fastRemove_29 rfl ?_
    refine z_isub hb dJ2_fastRemove_30 ?_
    refine z_toI (y := nI ((k - 1) - i)) (pk_sub (by omega)) ?_
    refine z_copyo hb ho hrm (by omega) q1395 q557 q556 q113 dJ2_fastRemove_31 k_2 k_2 he0 rfl rfl rfl (by omega) (by omega) (by omega) (by omega) (fun j hj y hy => by rw [hS _ (by omega)] at hy; cases hy; rw [eh_1]; exact (hob _ (by omega)).up (hoa _ (by omega))) (Nat.le_of_ble_eq_true rfl) ?_
    refine z_hn (fun h_7 eh_7 => ?_)
    have eh_7 : h_7 = z_up h_1 e (.inl ((zm_G M).2.1 5, N, .inr (.inr (.inr (.inr (va_cpy f f (i + 1) i ((k - 1) - i))))))) := eh_7
    have k_8 : h_7 a = some (.inr (20, [.int (m9 + (nI 1)), .ref e, .int (nI k)])) := z_nx eh_7 (z_neA (z_nxs eh_1) k_2) (z_nxs eh_1)
    refine z_aload_n hb dJ2_fastRemove_34 rfl ?_
    refine z_aload_n hb dJ2_fastRemove_35 rfl ?_
    refine z_iload_n hb dJ2_fastRemove_36 rfl ?_
    refine z_dup_x1 hb dJ2_fastRemove_37 rfl rfl ?_
    refine z_put (k := 2) (C := RJ2) (T := TJ2) (N := 3) hb ho zc20 in_J2 tyJ2_ok nmJ2 (zf_RJ2_48 _) dJ2_fastRemove_38 k_8 ha0 (by decide) (Or.inl rfl) rfl rfl rfl (Nat.le_of_ble_eq_true rfl) ?_
    refine z_hn (fun h_9 eh_9 => ?_)
    have eh_9 : h_9 = z_up h_7 a (.inr (20, [.int (m9 + (nI 1)), .ref e, .int (nI (k - 1))])) := eh_9
    have k_10 : h_9 e = some (.inl ((zm_G M).2.1 5, N, .inr (.inr (.inr (.inr (va_cpy f f (i + 1) i ((k - 1) - i))))))) := z_nx eh_9 (z_neA' (z_nxs eh_7) k_8) (z_nxs eh_7)
    refine z_null hb dJ2_fastRemove_41 ?_
    refine z_aastN (j := k - 1) hb dJ2_fastRemove_42 k_10 he0 rfl (by omega) (by omega) ?_
    refine z_hn (fun h_11 eh_11 => ?_)
    have eh_11 : h_11 = z_up h_9 e (.inl ((zm_G M).2.1 5, N, .inr (.inr (.inr (.inr (va_up (va_cpy f f (i + 1) i ((k - 1) - i)) (k - 1) none)))))) := eh_11
    have k_12 : h_11 a = some (.inr (20, [.int (m9 + (nI 1)), .ref e, .int (nI (k - 1))])) := z_nx eh_11 (z_neA (z_nxs eh_9) k_10) (z_nxs eh_9)
    refine z_vret hb hr dJ2_fastRemove_43 ?_
    rw [hQ]
    refine ⟨rfl, ?_, rfl⟩
    have hae : ¬a = e := z_neA hO hA
    rw [eh_11, eh_9, eh_7, eh_1]
    funext y
    simp only [z_up]
    by_cases q1 : y = a
    · subst q1; simp only [if_true, hae, if_false]
    · by_cases q2 : y = e
      · subst q2; simp only [q1, if_true, if_false]
      · simp only [q1, q2, if_false]

set_option maxHeartbeats 1000000 in
theorem m_J2_remove_2 {l : Launch} {G : zG} {h : zH} {n : Nat} {a e N k i : Nat} {m9 : Int32} {f : Nat → Option Nat} {g : Nat → Nat} (hO : h a = some (.inr (20, [.int m9, .ref e, .int (nI k)]))) (hA : h e = some (z_ao G N f)) (ha0 : z_n0 G ≤ a) (he0 : z_n0 G ≤ e) (hik : i < k) (hkN : k ≤ N) (hN2 : N ≤ 200) (hS : ∀ j, j < k → f j = some (g j)) (hob : ∀ j, j < k → z_obj h (g j)) (hoa : ∀ j, j < k → g j ≠ a) : z_C l G yJ2_remove_2 3 0 0 [.ref a, .int (nI i)] h n (z_rv (.ref (g i)) (z_up (z_up h e (z_ao G N (va_up (va_cpy f f (i + 1) i (k - 1 - i)) (k - 1) none))) a (.inr (20, [.int (m9 + nI 1), .ref e, .int (nI (k - 1))]))) n) := by
  refine z_start zk_J2_remove_2 zpl_RJ2 (Nat.le_of_ble_eq_true rfl) ?_
  intro hn0 M hl hG ho hb hN hr hm hH hrm hQ
  subst hl hG
  have ho : zm_o M = RJ2 := ho
  show z_V M h n 0 0 0 [(0, .ref a), (1, .int (nI i))] []
  refine z_iload_n hb dJ2_remove_2_0 rfl ?_
  refine z_aload_n hb dJ2_remove_2_1 rfl ?_
  refine z_get (k := 2) (C := RJ2) (T := TJ2) (N := 3) hb ho zc20 in_J2 (zf_RJ2_48 _) dJ2_remove_2_2 hO (by decide) rfl ?_
  refine z_call1 (b' := 0) (f' := 0) (rest := []) (av := [.int (nI i), .int (nI k)]) (z_siteS hb ho q668 q669 q124 ⟨_, _, _, _, zk_J20_checkIndex⟩ zy_J20_checkIndex zl_J20_checkIndex dJ2_remove_2_5 : z_Site M _ _ _ _ _ ([.int (nI i), .int (nI k)].reverse ++ []) [] _) zk_J20_checkIndex q124 hrm (m_J20_checkIndex (by omega) (by omega)) (by omega) (by decide) (Nat.le_of_ble_eq_true rfl) (by omega) (by omega) ?_
  refine z_pop hb dJ2_remove_2_8 rfl ?_
  refine z_aload_n hb dJ2_remove_2_9 rfl ?_
  refine z_get (k := 1) (C := RJ2) (T := TJ2) (N := 3) hb ho zc20 in_J2 (zf_RJ2_9 _) dJ2_remove_2_10 hO (by decide) rfl ?_
  refine z_astore_n (lv' := [(2, .ref e), (0, .ref a), (1, .int (nI i))]) hb dJ2_remove_2_13 (by rw [hN]; decide) rfl ?_
  refine z_aload_n hb dJ2_remove_2_14 rfl ?_
  refine z_iload_n hb dJ2_remove_2_15 rfl ?_
  refine z_aald (j := i) hb dJ2_remove_2_16 hA rfl (by omega) (by omega) ?_
  refine z_toR (z := g i) (hS i hik) ?_
  refine z_astore_n (lv' := [(3, .ref (g i)), (2, .ref e), (0, .ref a), (1, .int (nI i))]) hb dJ2_remove_2_17 (by rw [hN]; decide) rfl ?_
  refine z_aload_n hb dJ2_remove_2_18 rfl ?_
  refine z_aload_n hb dJ2_remove_2_19 rfl ?_
  refine z_iload_n hb dJ2_remove_2_20 rfl ?_
  refine z_call0 (b' := 0) (f' := 0) (rest := []) (av := [.ref a, .ref e, .int (nI i)]) (z_siteV hb ho zc20 hO q1391 q1393 qs11 ⟨_, _, _, _, zk_J2_fastRemove⟩ zy_J2_fastRemove zl_J2_fastRemove dJ2_remove_2_21 : z_Site M _ _ _ _ _ ([.ref e, .int (nI i)].reverse ++ .ref a :: []) [] _) zk_J2_fastRemove q98 hrm (m_J2_fastRemove (g := g) hO hA ha0 he0 hik hkN hN2 hS hob hoa) (by omega) (by decide) (Nat.le_of_ble_eq_true rfl) (by omega) (by omega) ?_
  obtain ⟨h_1, eh_1⟩ : ∃ h_1, h_1 = z_up h e (.inl ((zm_G M).2.1 5, N, .inr (.inr (.inr (.inr (va_up (va_cpy f f (i + 1) i (k - 1 - i)) (k - 1) none)))))) := ⟨_, rfl⟩
  have k_2 : h_1 a = some (.inr (20, [.int m9, .ref e, .int (nI k)])) := z_nx eh_1 (z_neA hO hA) hO
  refine z_hh (h2 := z_up h_1 a (.inr (20, [.int (m9 + nI 1), .ref e, .int (nI (k - 1))]))) (by rw [eh_1]) ?_
  refine z_hn (fun h_3 eh_3 => ?_)
  have eh_3 : h_3 = z_up h_1 a (.inr (20, [.int (m9 + nI 1), .ref e, .int (nI (k - 1))])) := eh_3
  have k_4 : h_3 e = some (.inl ((zm_G M).2.1 5, N, .inr (.inr (.inr (.inr (va_up (va_cpy f f (i + 1) i (k - 1 - i)) (k - 1) none)))))) := z_nx eh_3 (z_neA' (z_nxs eh_1) k_2) (z_nxs eh_1)
  refine z_aload_n hb dJ2_remove_2_24 rfl ?_
  refine z_aret hb hr (Or.inl ⟨_, rfl⟩) (Or.inr ⟨_, rfl⟩) dJ2_remove_2_25 ?_
  rw [hQ]
  exact ⟨rfl, (by rw [eh_3, eh_1]), rfl⟩

set_option maxHeartbeats 1000000 in
theorem m_J2_remove_6 {l : Launch} {G : zG} {h : zH} {n : Nat} {a e N k i : Nat} {m9 : Int32} {f : Nat → Option Nat} {g : Nat → Nat} {x : Nat} {fs9 : List Value} (hO : h a = some (.inr (20, [.int m9, .ref e, .int (nI k)]))) (hA : h e = some (z_ao G N f)) (ha0 : z_n0 G ≤ a) (he0 : z_n0 G ≤ e) (hik : i < k) (hkN : k ≤ N) (hN2 : N ≤ 200) (hS : ∀ j, j < k → f j = some (g j)) (hob : ∀ j, j < k → z_obj h (g j)) (hoa : ∀ j, j < k → g j ≠ a) (hx : h x = some (.inr (6, fs9))) (hfi : g i = x) (hne : ∀ j, j < i → g j ≠ x) : z_C l G yJ2_remove 2 0 0 [.ref a, .ref x] h n (z_rv (.int (nI 1)) (z_up (z_up h e (z_ao G N (va_up (va_cpy f f (i + 1) i (k - 1 - i)) (k - 1) none))) a (.inr (20, [.int (m9 + nI 1), .ref e, .int (nI (k - 1))]))) n) := by
  refine z_start zk_J2_remove zpl_RJ2 (Nat.le_of_ble_eq_true rfl) ?_
  intro hn0 M hl hG ho hb hN hr hm hH hrm hQ
  subst hl hG
  have ho : zm_o M = RJ2 := ho
  show z_V M h n 0 0 0 [(0, .ref a), (1, .ref x)] []
  refine z_aload_n hb dJ2_remove_0 rfl ?_
  refine z_get (k := 1) (C := RJ2) (T := TJ2) (N := 3) hb ho zc20 in_J2 (zf_RJ2_9 _) dJ2_remove_1 hO (by decide) rfl ?_
  refine z_astore_n (lv' := [(2, .ref e), (0, .ref a), (1, .ref x)]) hb dJ2_remove_4 (by rw [hN]; decide) rfl ?_
  refine z_aload_n hb dJ2_remove_5 rfl ?_
  refine z_get (k := 2) (C := RJ2) (T := TJ2) (N := 3) hb ho zc20 in_J2 (zf_RJ2_48 _) dJ2_remove_6 hO (by decide) rfl ?_
  refine z_istore_n (lv' := [(3, .int (nI k)), (2, .ref e), (0, .ref a), (1, .ref x)]) hb dJ2_remove_9 (by rw [hN]; decide) rfl ?_
  refine z_iconst (x := nI 0) hb dJ2_remove_10 (by decide) ?_
  refine z_istore (lv' := [(4, .int (nI 0)), (3, .int (nI k)), (2, .ref e), (0, .ref a), (1, .ref x)]) hb dJ2_remove_11 (by rw [hN]; decide) rfl ?_
  refine z_aload_n hb dJ2_remove_13 rfl ?_
  refine z_ifnonnull (tgt := 39) hb dJ2_remove_14 (by decide) ?_
  have lp_39 : ∀ (k9_39 : Nat) (j : Nat), i + 1 - j < k9_39 → (j ≤ i) → z_V M h n 0 0 39 [(4, .int (nI j)), (2, .ref e), (3, .int (nI k)), (0, .ref a), (1, .ref x)] [] := by
    intro k9_39
    induction k9_39 with
    | zero => intro j hk9_39; exact absurd hk9_39 (Nat.not_lt_zero _)
    | succ k9_39 ih_39 =>
      intro j hk9_39 hj
      refine z_iload hb dJ2_remove_39 rfl ?_
      refine z_iload_n hb dJ2_remove_41 rfl ?_
      refine z_icmp_geN (tgt := 65) hb dJ2_remove_42 (by decide) (by omega) (by omega) (fun c_42 => ?_) (fun c_42 => ?_)
      · exact absurd c_42 (by omega)
      · refine z_aload_n hb dJ2_remove_45 rfl ?_
        refine z_aload_n hb dJ2_remove_46 rfl ?_
        refine z_iload hb dJ2_remove_47 rfl ?_
        refine z_aald (j := j) hb dJ2_remove_49 hA rfl (by omega) (by omega) ?_
        refine z_toR (z := g j) (hS j (by omega)) ?_
        refine z_call1 (b' := 0) (f' := 0) (rest := []) (av := [.ref x, .ref (g j)]) (z_siteV hb ho zc6 hx q618 q619 q635 ⟨_, _, _, _, zk_J30_equals⟩ zy_J30_equals zl_J30_equals dJ2_remove_50 : z_Site M _ _ _ _ _ ([.ref (g j)].reverse ++ .ref x :: []) [] _) zk_J30_equals q3292 hrm (m_J30_equals x (g j)) (by omega) (by decide) (Nat.le_of_ble_eq_true rfl) (by omega) (by omega) ?_
        refine z_ifb_eq (tgt := 59) hb dJ2_remove_53 (by decide) (fun c_53 => ?_) (fun c_53 => ?_)
        · refine z_iinc (k0 := 0) (lv' := [(4, .int (nI (j + 1))), (2, .ref e), (3, .int (nI k)), (0, .ref a), (1, .ref x)]) hb dJ2_remove_59 rfl (nI_1 j) (by rw [hN]; decide) rfl ?_
          refine z_goto (tgt := 39) hb dJ2_remove_62 (by decide) ?_
          refine z_lv [0, 1, 2, 3, 4] (lv' := [(4, .int (nI (j + 1))), (2, .ref e), (3, .int (nI k)), (0, .ref a), (1, .ref x)]) rfl ?_
          exact ih_39 (j + 1) (by omega) (Nat.lt_of_le_of_ne hj (fun q => by rw [q, hfi] at c_53; simp at c_53))
        · refine z_goto (tgt := 67) hb dJ2_remove_56 (by decide) ?_
          obtain rfl : j = i := by
            rcases Nat.lt_or_ge j i with z | z
            · exact absurd (of_decide_eq_true c_53).symm (hne j z)
            · omega
          refine z_aload_n hb dJ2_remove_67 rfl ?_
          refine z_aload_n hb dJ2_remove_68 rfl ?_
          refine z_iload hb dJ2_remove_69 rfl ?_
          refine z_call0 (b' := 0) (f' := 0) (rest := []) (av := [.ref a, .ref e, .int (nI j)]) (z_siteV hb ho zc20 hO q1391 q1393 qs11 ⟨_, _, _, _, zk_J2_fastRemove⟩ zy_J2_fastRemove zl_J2_fastRemove dJ2_remove_71 : z_Site M _ _ _ _ _ ([.ref e, .int (nI j)].reverse ++ .ref a :: []) [] _) zk_J2_fastRemove q98 hrm (m_J2_fastRemove (g := g) hO hA ha0 he0 hik hkN hN2 hS hob hoa) (by omega) (by decide) (Nat.le_of_ble_eq_true rfl) (by omega) (by omega) ?_
          obtain ⟨h_1, eh_1⟩ : ∃ h_1, h_1 = z_up h e (.inl ((zm_G M).2.1 5, N, .inr (.inr (.inr (.inr (va_up (va_cpy f f (j + 1) j (k - 1 - j)) (k - 1) none)))))) := ⟨_, rfl⟩
          have k_2 : h_1 a = some (.inr (20, [.int m9, .ref e, .int (nI k)])) := z_nx eh_1 (z_neA hO hA) hO
          refine z_hh (h2 := z_up h_1 a (.inr (20, [.int (m9 + nI 1), .ref e, .int (nI (k - 1))]))) (by rw [eh_1]) ?_
          refine z_hn (fun h_3 eh_3 => ?_)
          have eh_3 : h_3 = z_up h_1 a (.inr (20, [.int (m9 + nI 1), .ref e, .int (nI (k - 1))])) := eh_3
          have k_4 : h_3 e = some (.inl ((zm_G M).2.1 5, N, .inr (.inr (.inr (.inr (va_up (va_cpy f f (j + 1) j (k - 1 - j)) (k - 1) none)))))) := z_nx eh_3 (z_neA' (z_nxs eh_1) k_2) (z_nxs eh_1)
          refine z_iconst (x := nI 1) hb dJ2_remove_74 (by decide) ?_
          refine z_zret hb hr rfl dJ2_remove_75 ?_
          rw [hQ]
          exact ⟨rfl, (by rw [eh_3, eh_1]), rfl⟩
  refine z_lv [0, 2, 1, 3, 4] (lv' := [(4, .int (nI 0)), (2, .ref e), (3, .int (nI k)), (0, .ref a), (1, .ref x)]) rfl ?_
  exact lp_39 _ 0 (Nat.lt_succ_self _) (Nat.zero_le _)

set_option maxHeartbeats 1000000 in
theorem m_J2_remove_8 {l : Launch} {G : zG} {h : zH} {n : Nat} {a e N k i : Nat} {m9 : Int32} {f : Nat → Option Nat} {g : Nat → Nat} {x : Nat} {fs9 : List Value} (hO : h a = some (.inr (20, [.int m9, .ref e, .int (nI k)]))) (hA : h e = some (z_ao G N f)) (ha0 : z_n0 G ≤ a) (he0 : z_n0 G ≤ e) (hik : i < k) (hkN : k ≤ N) (hN2 : N ≤ 200) (hS : ∀ j, j < k → f j = some (g j)) (hob : ∀ j, j < k → z_obj h (g j)) (hoa : ∀ j, j < k → g j ≠ a) (hx : h x = some (.inr (8, fs9))) (hfi : g i = x) (hne : ∀ j, j < i → g j ≠ x) : z_C l G yJ2_remove 2 0 0 [.ref a, .ref x] h n (z_rv (.int (nI 1)) (z_up (z_up h e (z_ao G N (va_up (va_cpy f f (i + 1) i (k - 1 - i)) (k - 1) none))) a (.inr (20, [.int (m9 + nI 1), .ref e, .int (nI (k - 1))]))) n) := by
  refine z_start zk_J2_remove zpl_RJ2 (Nat.le_of_ble_eq_true rfl) ?_
  intro hn0 M hl hG ho hb hN hr hm hH hrm hQ
  subst hl hG
  have ho : zm_o M = RJ2 := ho
  show z_V M h n 0 0 0 [(0, .ref a), (1, .ref x)] []
  refine z_aload_n hb dJ2_remove_0 rfl ?_
  refine z_get (k := 1) (C := RJ2) (T := TJ2) (N := 3) hb ho zc20 in_J2 (zf_RJ2_9 _) dJ2_remove_1 hO (by decide) rfl ?_
  refine z_astore_n (lv' := [(2, .ref e), (0, .ref a), (1, .ref x)]) hb dJ2_remove_4 (by rw [hN]; decide) rfl ?_
  refine z_aload_n hb dJ2_remove_5 rfl ?_
  refine z_get (k := 2) (C := RJ2) (T := TJ2) (N := 3) hb ho zc20 in_J2 (zf_RJ2_48 _) dJ2_remove_6 hO (by decide) rfl ?_
  refine z_istore_n (lv' := [(3, .int (nI k)), (2, .ref e), (0, .ref a), (1, .ref x)]) hb dJ2_remove_9 (by rw [hN]; decide) rfl ?_
  refine z_iconst (x := nI 0) hb dJ2_remove_10 (by decide) ?_
  refine z_istore (lv' := [(4, .int (nI 0)), (3, .int (nI k)), (2, .ref e), (0, .ref a), (1, .ref x)]) hb dJ2_remove_11 (by rw [hN]; decide) rfl ?_
  refine z_aload_n hb dJ2_remove_13 rfl ?_
  refine z_ifnonnull (tgt := 39) hb dJ2_remove_14 (by decide) ?_
  have lp_39 : ∀ (k9_39 : Nat) (j : Nat), i + 1 - j < k9_39 → (j ≤ i) → z_V M h n 0 0 39 [(4, .int (nI j)), (2, .ref e), (3, .int (nI k)), (0, .ref a), (1, .ref x)] [] := by
    intro k9_39
    induction k9_39 with
    | zero => intro j hk9_39; exact absurd hk9_39 (Nat.not_lt_zero _)
    | succ k9_39 ih_39 =>
      intro j hk9_39 hj
      refine z_iload hb dJ2_remove_39 rfl ?_
      refine z_iload_n hb dJ2_remove_41 rfl ?_
      refine z_icmp_geN (tgt := 65) hb dJ2_remove_42 (by decide) (by omega) (by omega) (fun c_42 => ?_) (fun c_42 => ?_)
      · exact absurd c_42 (by omega)
      · refine z_aload_n hb dJ2_remove_45 rfl ?_
        refine z_aload_n hb dJ2_remove_46 rfl ?_
        refine z_iload hb dJ2_remove_47 rfl ?_
        refine z_aald (j := j) hb dJ2_remove_49 hA rfl (by omega) (by omega) ?_
        refine z_toR (z := g j) (hS j (by omega)) ?_
        refine z_call1 (b' := 0) (f' := 0) (rest := []) (av := [.ref x, .ref (g j)]) (z_siteV hb ho zc8 hx q618 q619 q637 ⟨_, _, _, _, zk_J30_equals⟩ zy_J30_equals zl_J30_equals dJ2_remove_50 : z_Site M _ _ _ _ _ ([.ref (g j)].reverse ++ .ref x :: []) [] _) zk_J30_equals q3292 hrm (m_J30_equals x (g j)) (by omega) (by decide) (Nat.le_of_ble_eq_true rfl) (by omega) (by omega) ?_
        refine z_ifb_eq (tgt := 59) hb dJ2_remove_53 (by decide) (fun c_53 => ?_) (fun c_53 => ?_)
        · refine z_iinc (k0 := 0) (lv' := [(4, .int (nI (j + 1))), (2, .ref e), (3, .int (nI k)), (0, .ref a), (1, .ref x)]) hb dJ2_remove_59 rfl (nI_1 j) (by rw [hN]; decide) rfl ?_
          refine z_goto (tgt := 39) hb dJ2_remove_62 (by decide) ?_
          refine z_lv [0, 1, 2, 3, 4] (lv' := [(4, .int (nI (j + 1))), (2, .ref e), (3, .int (nI k)), (0, .ref a), (1, .ref x)]) rfl ?_
          exact ih_39 (j + 1) (by omega) (Nat.lt_of_le_of_ne hj (fun q => by rw [q, hfi] at c_53; simp at c_53))
        · refine z_goto (tgt := 67) hb dJ2_remove_56 (by decide) ?_
          obtain rfl : j = i := by
            rcases Nat.lt_or_ge j i with z | z
            · exact absurd (of_decide_eq_true c_53).symm (hne j z)
            · omega
          refine z_aload_n hb dJ2_remove_67 rfl ?_
          refine z_aload_n hb dJ2_remove_68 rfl ?_
          refine z_iload hb dJ2_remove_69 rfl ?_
          refine z_call0 (b' := 0) (f' := 0) (rest := []) (av := [.ref a, .ref e, .int (nI j)]) (z_siteV hb ho zc20 hO q1391 q1393 qs11 ⟨_, _, _, _, zk_J2_fastRemove⟩ zy_J2_fastRemove zl_J2_fastRemove dJ2_remove_71 : z_Site M _ _ _ _ _ ([.ref e, .int (nI j)].reverse ++ .ref a :: []) [] _) zk_J2_fastRemove q98 hrm (m_J2_fastRemove (g := g) hO hA ha0 he0 hik hkN hN2 hS hob hoa) (by omega) (by decide) (Nat.le_of_ble_eq_true rfl) (by omega) (by omega) ?_
          obtain ⟨h_1, eh_1⟩ : ∃ h_1, h_1 = z_up h e (.inl ((zm_G M).2.1 5, N, .inr (.inr (.inr (.inr (va_up (va_cpy f f (j + 1) j (k - 1 - j)) (k - 1) none)))))) := ⟨_, rfl⟩
          have k_2 : h_1 a = some (.inr (20, [.int m9, .ref e, .int (nI k)])) := z_nx eh_1 (z_neA hO hA) hO
          refine z_hh (h2 := z_up h_1 a (.inr (20, [.int (m9 + nI 1), .ref e, .int (nI (k - 1))]))) (by rw [eh_1]) ?_
          refine z_hn (fun h_3 eh_3 => ?_)
          have eh_3 : h_3 = z_up h_1 a (.inr (20, [.int (m9 + nI 1), .ref e, .int (nI (k - 1))])) := eh_3
          have k_4 : h_3 e = some (.inl ((zm_G M).2.1 5, N, .inr (.inr (.inr (.inr (va_up (va_cpy f f (j + 1) j (k - 1 - j)) (k - 1) none)))))) := z_nx eh_3 (z_neA' (z_nxs eh_1) k_2) (z_nxs eh_1)
          refine z_iconst (x := nI 1) hb dJ2_remove_74 (by decide) ?_
          refine z_zret hb hr rfl dJ2_remove_75 ?_
          rw [hQ]
          exact ⟨rfl, (by rw [eh_3, eh_1]), rfl⟩
  refine z_lv [0, 2, 1, 3, 4] (lv' := [(4, .int (nI 0)), (2, .ref e), (3, .int (nI k)), (0, .ref a), (1, .ref x)]) rfl ?_
  exact lp_39 _ 0 (Nat.lt_succ_self _) (Nat.zero_le _)

set_option maxHeartbeats 1000000 in
theorem m_J2_remove_9 {l : Launch} {G : zG} {h : zH} {n : Nat} {a e N k i : Nat} {m9 : Int32} {f : Nat → Option Nat} {g : Nat → Nat} {x : Nat} {fs9 : List Value} (hO : h a = some (.inr (20, [.int m9, .ref e, .int (nI k)]))) (hA : h e = some (z_ao G N f)) (ha0 : z_n0 G ≤ a) (he0 : z_n0 G ≤ e) (hik : i < k) (hkN : k ≤ N) (hN2 : N ≤ 200) (hS : ∀ j, j < k → f j = some (g j)) (hob : ∀ j, j < k → z_obj h (g j)) (hoa : ∀ j, j < k → g j ≠ a) (hx : h x = some (.inr (9, fs9))) (hfi : g i = x) (hne : ∀ j, j < i → g j ≠ x) : z_C l G yJ2_remove 2 0 0 [.ref a, .ref x] h n (z_rv (.int (nI 1)) (z_up (z_up h e (z_ao G N (va_up (va_cpy f f (i + 1) i (k - 1 - i)) (k - 1) none))) a (.inr (20, [.int (m9 + nI 1), .ref e, .int (nI (k - 1))]))) n) := by
  refine z_start zk_J2_remove zpl_RJ2 (Nat.le_of_ble_eq_true rfl) ?_
  intro hn0 M hl hG ho hb hN hr hm hH hrm hQ
  subst hl hG
  have ho : zm_o M = RJ2 := ho
  show z_V M h n 0 0 0 [(0, .ref a), (1, .ref x)] []
  refine z_aload_n hb dJ2_remove_0 rfl ?_
  refine z_get (k := 1) (C := RJ2) (T := TJ2) (N := 3) hb ho zc20 in_J2 (zf_RJ2_9 _) dJ2_remove_1 hO (by decide) rfl ?_
  refine z_astore_n (lv' := [(2, .ref e), (0, .ref a), (1, .ref x)]) hb dJ2_remove_4 (by rw [hN]; decide) rfl ?_
  refine z_aload_n hb dJ2_remove_5 rfl ?_
  refine z_get (k := 2) (C := RJ2) (T := TJ2) (N := 3) hb ho zc20 in_J2 (zf_RJ2_48 _) dJ2_remove_6 hO (by decide) rfl ?_
  refine z_istore_n (lv' := [(3, .int (nI k)), (2, .ref e), (0, .ref a), (1, .ref x)]) hb dJ2_remove_9 (by rw [hN]; decide) rfl ?_
  refine z_iconst (x := nI 0) hb dJ2_remove_10 (by decide) ?_
  refine z_istore (lv' := [(4, .int (nI 0)), (3, .int (nI k)), (2, .ref e), (0, .ref a), (1, .ref x)]) hb dJ2_remove_11 (by rw [hN]; decide) rfl ?_
  refine z_aload_n hb dJ2_remove_13 rfl ?_
  refine z_ifnonnull (tgt := 39) hb dJ2_remove_14 (by decide) ?_
  have lp_39 : ∀ (k9_39 : Nat) (j : Nat), i + 1 - j < k9_39 → (j ≤ i) → z_V M h n 0 0 39 [(4, .int (nI j)), (2, .ref e), (3, .int (nI k)), (0, .ref a), (1, .ref x)] [] := by
    intro k9_39
    induction k9_39 with
    | zero => intro j hk9_39; exact absurd hk9_39 (Nat.not_lt_zero _)
    | succ k9_39 ih_39 =>
      intro j hk9_39 hj
      refine z_iload hb dJ2_remove_39 rfl ?_
      refine z_iload_n hb dJ2_remove_41 rfl ?_
      refine z_icmp_geN (tgt := 65) hb dJ2_remove_42 (by decide) (by omega) (by omega) (fun c_42 => ?_) (fun c_42 => ?_)
      · exact absurd c_42 (by omega)
      · refine z_aload_n hb dJ2_remove_45 rfl ?_
        refine z_aload_n hb dJ2_remove_46 rfl ?_
        refine z_iload hb dJ2_remove_47 rfl ?_
        refine z_aald (j := j) hb dJ2_remove_49 hA rfl (by omega) (by omega) ?_
        refine z_toR (z := g j) (hS j (by omega)) ?_
        refine z_call1 (b' := 0) (f' := 0) (rest := []) (av := [.ref x, .ref (g j)]) (z_siteV hb ho zc9 hx q618 q619 q627 ⟨_, _, _, _, zk_J30_equals⟩ zy_J30_equals zl_J30_equals dJ2_remove_50 : z_Site M _ _ _ _ _ ([.ref (g j)].reverse ++ .ref x :: []) [] _) zk_J30_equals q3292 hrm (m_J30_equals x (g j)) (by omega) (by decide) (Nat.le_of_ble_eq_true rfl) (by omega) (by omega) ?_
        refine z_ifb_eq (tgt := 59) hb dJ2_remove_53 (by decide) (fun c_53 => ?_) (fun c_53 => ?_)
        · refine z_iinc (k0 := 0) (lv' := [(4, .int (nI (j + 1))), (2, .ref e), (3, .int (nI k)), (0, .ref a), (1, .ref x)]) hb dJ2_remove_59 rfl (nI_1 j) (by rw [hN]; decide) rfl ?_
          refine z_goto (tgt := 39) hb dJ2_remove_62 (by decide) ?_
          refine z_lv [0, 1, 2, 3, 4] (lv' := [(4, .int (nI (j + 1))), (2, .ref e), (3, .int (nI k)), (0, .ref a), (1, .ref x)]) rfl ?_
          exact ih_39 (j + 1) (by omega) (Nat.lt_of_le_of_ne hj (fun q => by rw [q, hfi] at c_53; simp at c_53))
        · refine z_goto (tgt := 67) hb dJ2_remove_56 (by decide) ?_
          obtain rfl : j = i := by
            rcases Nat.lt_or_ge j i with z | z
            · exact absurd (of_decide_eq_true c_53).symm (hne j z)
            · omega
          refine z_aload_n hb dJ2_remove_67 rfl ?_
          refine z_aload_n hb dJ2_remove_68 rfl ?_
          refine z_iload hb dJ2_remove_69 rfl ?_
          refine z_call0 (b' := 0) (f' := 0) (rest := []) (av := [.ref a, .ref e, .int (nI j)]) (z_siteV hb ho zc20 hO q1391 q1393 qs11 ⟨_, _, _, _, zk_J2_fastRemove⟩ zy_J2_fastRemove zl_J2_fastRemove dJ2_remove_71 : z_Site M _ _ _ _ _ ([.ref e, .int (nI j)].reverse ++ .ref a :: []) [] _) zk_J2_fastRemove q98 hrm (m_J2_fastRemove (g := g) hO hA ha0 he0 hik hkN hN2 hS hob hoa) (by omega) (by decide) (Nat.le_of_ble_eq_true rfl) (by omega) (by omega) ?_
          obtain ⟨h_1, eh_1⟩ : ∃ h_1, h_1 = z_up h e (.inl ((zm_G M).2.1 5, N, .inr (.inr (.inr (.inr (va_up (va_cpy f f (j + 1) j (k - 1 - j)) (k - 1) none)))))) := ⟨_, rfl⟩
          have k_2 : h_1 a = some (.inr (20, [.int m9, .ref e, .int (nI k)])) := z_nx eh_1 (z_neA hO hA) hO
          refine z_hh (h2 := z_up h_1 a (.inr (20, [.int (m9 + nI 1), .ref e, .int (nI (k - 1))]))) (by rw [eh_1]) ?_
          refine z_hn (fun h_3 eh_3 => ?_)
          have eh_3 : h_3 = z_up h_1 a (.inr (20, [.int (m9 + nI 1), .ref e, .int (nI (k - 1))])) := eh_3
          have k_4 : h_3 e = some (.inl ((zm_G M).2.1 5, N, .inr (.inr (.inr (.inr (va_up (va_cpy f f (j + 1) j (k - 1 - j)) (k - 1) none)))))) := z_nx eh_3 (z_neA' (z_nxs eh_1) k_2) (z_nxs eh_1)
          refine z_iconst (x := nI 1) hb dJ2_remove_74 (by decide) ?_
          refine z_zret hb hr rfl dJ2_remove_75 ?_
          rw [hQ]
          exact ⟨rfl, (by rw [eh_3, eh_1]), rfl⟩
  refine z_lv [0, 2, 1, 3, 4] (lv' := [(4, .int (nI 0)), (2, .ref e), (3, .int (nI k)), (0, .ref a), (1, .ref x)]) rfl ?_
  exact lp_39 _ 0 (Nat.lt_succ_self _) (Nat.zero_le _)

set_option maxHeartbeats 1000000 in
theorem m_J2_remove_10 {l : Launch} {G : zG} {h : zH} {n : Nat} {a e N k i : Nat} {m9 : Int32} {f : Nat → Option Nat} {g : Nat → Nat} {x : Nat} {fs9 : List Value} (hO : h a = some (.inr (20, [.int m9, .ref e, .int (nI k)]))) (hA : h e = some (z_ao G N f)) (ha0 : z_n0 G ≤ a) (he0 : z_n0 G ≤ e) (hik : i < k) (hkN : k ≤ N) (hN2 : N ≤ 200) (hS : ∀ j, j < k → f j = some (g j)) (hob : ∀ j, j < k → z_obj h (g j)) (hoa : ∀ j, j < k → g j ≠ a) (hx : h x = some (.inr (10, fs9))) (hfi : g i = x) (hne : ∀ j, j < i → g j ≠ x) : z_C l G yJ2_remove 2 0 0 [.ref a, .ref x] h n (z_rv (.int (nI 1)) (z_up (z_up h e (z_ao G N (va_up (va_cpy f f (i + 1) i (k - 1 - i)) (k - 1) none))) a (.inr (20, [.int (m9 + nI 1), .ref e, .int (nI (k - 1))]))) n) := by
  refine z_start zk_J2_remove zpl_RJ2 (Nat.le_of_ble_eq_true rfl) ?_
  intro hn0 M hl hG ho hb hN hr hm hH hrm hQ
  subst hl hG
  have ho : zm_o M = RJ2 := ho
  show z_V M h n 0 0 0 [(0, .ref a), (1, .ref x)] []
  refine z_aload_n hb dJ2_remove_0 rfl ?_
  refine z_get (k := 1) (C := RJ2) (T := TJ2) (N := 3) hb ho zc20 in_J2 (zf_RJ2_9 _) dJ2_remove_1 hO (by decide) rfl ?_
  refine z_astore_n (lv' := [(2, .ref e), (0, .ref a), (1, .ref x)]) hb dJ2_remove_4 (by rw [hN]; decide) rfl ?_
  refine z_aload_n hb dJ2_remove_5 rfl ?_
  refine z_get (k := 2) (C := RJ2) (T := TJ2) (N := 3) hb ho zc20 in_J2 (zf_RJ2_48 _) dJ2_remove_6 hO (by decide) rfl ?_
  refine z_istore_n (lv' := [(3, .int (nI k)), (2, .ref e), (0, .ref a), (1, .ref x)]) hb dJ2_remove_9 (by rw [hN]; decide) rfl ?_
  refine z_iconst (x := nI 0) hb dJ2_remove_10 (by decide) ?_
  refine z_istore (lv' := [(4, .int (nI 0)), (3, .int (nI k)), (2, .ref e), (0, .ref a), (1, .ref x)]) hb dJ2_remove_11 (by rw [hN]; decide) rfl ?_
  refine z_aload_n hb dJ2_remove_13 rfl ?_
  refine z_ifnonnull (tgt := 39) hb dJ2_remove_14 (by decide) ?_
  have lp_39 : ∀ (k9_39 : Nat) (j : Nat), i + 1 - j < k9_39 → (j ≤ i) → z_V M h n 0 0 39 [(4, .int (nI j)), (2, .ref e), (3, .int (nI k)), (0, .ref a), (1, .ref x)] [] := by
    intro k9_39
    induction k9_39 with
    | zero => intro j hk9_39; exact absurd hk9_39 (Nat.not_lt_zero _)
    | succ k9_39 ih_39 =>
      intro j hk9_39 hj
      refine z_iload hb dJ2_remove_39 rfl ?_
      refine z_iload_n hb dJ2_remove_41 rfl ?_
      refine z_icmp_geN (tgt := 65) hb dJ2_remove_42 (by decide) (by omega) (by omega) (fun c_42 => ?_) (fun c_42 => ?_)
      · exact absurd c_42 (by omega)
      · refine z_aload_n hb dJ2_remove_45 rfl ?_
        refine z_aload_n hb dJ2_remove_46 rfl ?_
        refine z_iload hb dJ2_remove_47 rfl ?_
        refine z_aald (j := j) hb dJ2_remove_49 hA rfl (by omega) (by omega) ?_
        refine z_toR (z := g j) (hS j (by omega)) ?_
        refine z_call1 (b' := 0) (f' := 0) (rest := []) (av := [.ref x, .ref (g j)]) (z_siteV hb ho zc10 hx q618 q619 q630 ⟨_, _, _, _, zk_J30_equals⟩ zy_J30_equals zl_J30_equals dJ2_remove_50 : z_Site M _ _ _ _ _ ([.ref (g j)].reverse ++ .ref x :: []) [] _) zk_J30_equals q3292 hrm (m_J30_equals x (g j)) (by omega) (by decide) (Nat.le_of_ble_eq_true rfl) (by omega) (by omega) ?_
        refine z_ifb_eq (tgt := 59) hb dJ2_remove_53 (by decide) (fun c_53 => ?_) (fun c_53 => ?_)
        · refine z_iinc (k0 := 0) (lv' := [(4, .int (nI (j + 1))), (2, .ref e), (3, .int (nI k)), (0, .ref a), (1, .ref x)]) hb dJ2_remove_59 rfl (nI_1 j) (by rw [hN]; decide) rfl ?_
          refine z_goto (tgt := 39) hb dJ2_remove_62 (by decide) ?_
          refine z_lv [0, 1, 2, 3, 4] (lv' := [(4, .int (nI (j + 1))), (2, .ref e), (3, .int (nI k)), (0, .ref a), (1, .ref x)]) rfl ?_
          exact ih_39 (j + 1) (by omega) (Nat.lt_of_le_of_ne hj (fun q => by rw [q, hfi] at c_53; simp at c_53))
        · refine z_goto (tgt := 67) hb dJ2_remove_56 (by decide) ?_
          obtain rfl : j = i := by
            rcases Nat.lt_or_ge j i with z | z
            · exact absurd (of_decide_eq_true c_53).symm (hne j z)
            · omega
          refine z_aload_n hb dJ2_remove_67 rfl ?_
          refine z_aload_n hb dJ2_remove_68 rfl ?_
          refine z_iload hb dJ2_remove_69 rfl ?_
          refine z_call0 (b' := 0) (f' := 0) (rest := []) (av := [.ref a, .ref e, .int (nI j)]) (z_siteV hb ho zc20 hO q1391 q1393 qs11 ⟨_, _, _, _, zk_J2_fastRemove⟩ zy_J2_fastRemove zl_J2_fastRemove dJ2_remove_71 : z_Site M _ _ _ _ _ ([.ref e, .int (nI j)].reverse ++ .ref a :: []) [] _) zk_J2_fastRemove q98 hrm (m_J2_fastRemove (g := g) hO hA ha0 he0 hik hkN hN2 hS hob hoa) (by omega) (by decide) (Nat.le_of_ble_eq_true rfl) (by omega) (by omega) ?_
          obtain ⟨h_1, eh_1⟩ : ∃ h_1, h_1 = z_up h e (.inl ((zm_G M).2.1 5, N, .inr (.inr (.inr (.inr (va_up (va_cpy f f (j + 1) j (k - 1 - j)) (k - 1) none)))))) := ⟨_, rfl⟩
          have k_2 : h_1 a = some (.inr (20, [.int m9, .ref e, .int (nI k)])) := z_nx eh_1 (z_neA hO hA) hO
          refine z_hh (h2 := z_up h_1 a (.inr (20, [.int (m9 + nI 1), .ref e, .int (nI (k - 1))]))) (by rw [eh_1]) ?_
          refine z_hn (fun h_3 eh_3 => ?_)
          have eh_3 : h_3 = z_up h_1 a (.inr (20, [.int (m9 + nI 1), .ref e, .int (nI (k - 1))])) := eh_3
          have k_4 : h_3 e = some (.inl ((zm_G M).2.1 5, N, .inr (.inr (.inr (.inr (va_up (va_cpy f f (j + 1) j (k - 1 - j)) (k - 1) none)))))) := z_nx eh_3 (z_neA' (z_nxs eh_1) k_2) (z_nxs eh_1)
          refine z_iconst (x := nI 1) hb dJ2_remove_74 (by decide) ?_
          refine z_zret hb hr rfl dJ2_remove_75 ?_
          rw [hQ]
          exact ⟨rfl, (by rw [eh_3, eh_1]), rfl⟩
  refine z_lv [0, 2, 1, 3, 4] (lv' := [(4, .int (nI 0)), (2, .ref e), (3, .int (nI k)), (0, .ref a), (1, .ref x)]) rfl ?_
  exact lp_39 _ 0 (Nat.lt_succ_self _) (Nat.zero_le _)

set_option maxHeartbeats 1000000 in
theorem m_J2_remove_11 {l : Launch} {G : zG} {h : zH} {n : Nat} {a e N k i : Nat} {m9 : Int32} {f : Nat → Option Nat} {g : Nat → Nat} {x : Nat} {fs9 : List Value} (hO : h a = some (.inr (20, [.int m9, .ref e, .int (nI k)]))) (hA : h e = some (z_ao G N f)) (ha0 : z_n0 G ≤ a) (he0 : z_n0 G ≤ e) (hik : i < k) (hkN : k ≤ N) (hN2 : N ≤ 200) (hS : ∀ j, j < k → f j = some (g j)) (hob : ∀ j, j < k → z_obj h (g j)) (hoa : ∀ j, j < k → g j ≠ a) (hx : h x = some (.inr (11, fs9))) (hfi : g i = x) (hne : ∀ j, j < i → g j ≠ x) : z_C l G yJ2_remove 2 0 0 [.ref a, .ref x] h n (z_rv (.int (nI 1)) (z_up (z_up h e (z_ao G N (va_up (va_cpy f f (i + 1) i (k - 1 - i)) (k - 1) none))) a (.inr (20, [.int (m9 + nI 1), .ref e, .int (nI (k - 1))]))) n) := by
  refine z_start zk_J2_remove zpl_RJ2 (Nat.le_of_ble_eq_true rfl) ?_
  intro hn0 M hl hG ho hb hN hr hm hH hrm hQ
  subst hl hG
  have ho : zm_o M = RJ2 := ho
  show z_V M h n 0 0 0 [(0, .ref a), (1, .ref x)] []
  refine z_aload_n hb dJ2_remove_0 rfl ?_
  refine z_get (k := 1) (C := RJ2) (T := TJ2) (N := 3) hb ho zc20 in_J2 (zf_RJ2_9 _) dJ2_remove_1 hO (by decide) rfl ?_
  refine z_astore_n (lv' := [(2, .ref e), (0, .ref a), (1, .ref x)]) hb dJ2_remove_4 (by rw [hN]; decide) rfl ?_
  refine z_aload_n hb dJ2_remove_5 rfl ?_
  refine z_get (k := 2) (C := RJ2) (T := TJ2) (N := 3) hb ho zc20 in_J2 (zf_RJ2_48 _) dJ2_remove_6 hO (by decide) rfl ?_
  refine z_istore_n (lv' := [(3, .int (nI k)), (2, .ref e), (0, .ref a), (1, .ref x)]) hb dJ2_remove_9 (by rw [hN]; decide) rfl ?_
  refine z_iconst (x := nI 0) hb dJ2_remove_10 (by decide) ?_
  refine z_istore (lv' := [(4, .int (nI 0)), (3, .int (nI k)), (2, .ref e), (0, .ref a), (1, .ref x)]) hb dJ2_remove_11 (by rw [hN]; decide) rfl ?_
  refine z_aload_n hb dJ2_remove_13 rfl ?_
  refine z_ifnonnull (tgt := 39) hb dJ2_remove_14 (by decide) ?_
  have lp_39 : ∀ (k9_39 : Nat) (j : Nat), i + 1 - j < k9_39 → (j ≤ i) → z_V M h n 0 0 39 [(4, .int (nI j)), (2, .ref e), (3, .int (nI k)), (0, .ref a), (1, .ref x)] [] := by
    intro k9_39
    induction k9_39 with
    | zero => intro j hk9_39; exact absurd hk9_39 (Nat.not_lt_zero _)
    | succ k9_39 ih_39 =>
      intro j hk9_39 hj
      refine z_iload hb dJ2_remove_39 rfl ?_
      refine z_iload_n hb dJ2_remove_41 rfl ?_
      refine z_icmp_geN (tgt := 65) hb dJ2_remove_42 (by decide) (by omega) (by omega) (fun c_42 => ?_) (fun c_42 => ?_)
      · exact absurd c_42 (by omega)
      · refine z_aload_n hb dJ2_remove_45 rfl ?_
        refine z_aload_n hb dJ2_remove_46 rfl ?_
        refine z_iload hb dJ2_remove_47 rfl ?_
        refine z_aald (j := j) hb dJ2_remove_49 hA rfl (by omega) (by omega) ?_
        refine z_toR (z := g j) (hS j (by omega)) ?_
        refine z_call1 (b' := 0) (f' := 0) (rest := []) (av := [.ref x, .ref (g j)]) (z_siteV hb ho zc11 hx q618 q619 q633 ⟨_, _, _, _, zk_J30_equals⟩ zy_J30_equals zl_J30_equals dJ2_remove_50 : z_Site M _ _ _ _ _ ([.ref (g j)].reverse ++ .ref x :: []) [] _) zk_J30_equals q3292 hrm (m_J30_equals x (g j)) (by omega) (by decide) (Nat.le_of_ble_eq_true rfl) (by omega) (by omega) ?_
        refine z_ifb_eq (tgt := 59) hb dJ2_remove_53 (by decide) (fun c_53 => ?_) (fun c_53 => ?_)
        · refine z_iinc (k0 := 0) (lv' := [(4, .int (nI (j + 1))), (2, .ref e), (3, .int (nI k)), (0, .ref a), (1, .ref x)]) hb dJ2_remove_59 rfl (nI_1 j) (by rw [hN]; decide) rfl ?_
          refine z_goto (tgt := 39) hb dJ2_remove_62 (by decide) ?_
          refine z_lv [0, 1, 2, 3, 4] (lv' := [(4, .int (nI (j + 1))), (2, .ref e), (3, .int (nI k)), (0, .ref a), (1, .ref x)]) rfl ?_
          exact ih_39 (j + 1) (by omega) (Nat.lt_of_le_of_ne hj (fun q => by rw [q, hfi] at c_53; simp at c_53))
        · refine z_goto (tgt := 67) hb dJ2_remove_56 (by decide) ?_
          obtain rfl : j = i := by
            rcases Nat.lt_or_ge j i with z | z
            · exact absurd (of_decide_eq_true c_53).symm (hne j z)
            · omega
          refine z_aload_n hb dJ2_remove_67 rfl ?_
          refine z_aload_n hb dJ2_remove_68 rfl ?_
          refine z_iload hb dJ2_remove_69 rfl ?_
          refine z_call0 (b' := 0) (f' := 0) (rest := []) (av := [.ref a, .ref e, .int (nI j)]) (z_siteV hb ho zc20 hO q1391 q1393 qs11 ⟨_, _, _, _, zk_J2_fastRemove⟩ zy_J2_fastRemove zl_J2_fastRemove dJ2_remove_71 : z_Site M _ _ _ _ _ ([.ref e, .int (nI j)].reverse ++ .ref a :: []) [] _) zk_J2_fastRemove q98 hrm (m_J2_fastRemove (g := g) hO hA ha0 he0 hik hkN hN2 hS hob hoa) (by omega) (by decide) (Nat.le_of_ble_eq_true rfl) (by omega) (by omega) ?_
          obtain ⟨h_1, eh_1⟩ : ∃ h_1, h_1 = z_up h e (.inl ((zm_G M).2.1 5, N, .inr (.inr (.inr (.inr (va_up (va_cpy f f (j + 1) j (k - 1 - j)) (k - 1) none)))))) := ⟨_, rfl⟩
          have k_2 : h_1 a = some (.inr (20, [.int m9, .ref e, .int (nI k)])) := z_nx eh_1 (z_neA hO hA) hO
          refine z_hh (h2 := z_up h_1 a (.inr (20, [.int (m9 + nI 1), .ref e, .int (nI (k - 1))]))) (by rw [eh_1]) ?_
          refine z_hn (fun h_3 eh_3 => ?_)
          have eh_3 : h_3 = z_up h_1 a (.inr (20, [.int (m9 + nI 1), .ref e, .int (nI (k - 1))])) := eh_3
          have k_4 : h_3 e = some (.inl ((zm_G M).2.1 5, N, .inr (.inr (.inr (.inr (va_up (va_cpy f f (j + 1) j (k - 1 - j)) (k - 1) none)))))) := z_nx eh_3 (z_neA' (z_nxs eh_1) k_2) (z_nxs eh_1)
          refine z_iconst (x := nI 1) hb dJ2_remove_74 (by decide) ?_
          refine z_zret hb hr rfl dJ2_remove_75 ?_
          rw [hQ]
          exact ⟨rfl, (by rw [eh_3, eh_1]), rfl⟩
  refine z_lv [0, 2, 1, 3, 4] (lv' := [(4, .int (nI 0)), (2, .ref e), (3, .int (nI k)), (0, .ref a), (1, .ref x)]) rfl ?_
  exact lp_39 _ 0 (Nat.lt_succ_self _) (Nat.zero_le _)

set_option maxHeartbeats 1000000 in
theorem m_J2_remove_12 {l : Launch} {G : zG} {h : zH} {n : Nat} {a e N k i : Nat} {m9 : Int32} {f : Nat → Option Nat} {g : Nat → Nat} {x : Nat} {fs9 : List Value} (hO : h a = some (.inr (20, [.int m9, .ref e, .int (nI k)]))) (hA : h e = some (z_ao G N f)) (ha0 : z_n0 G ≤ a) (he0 : z_n0 G ≤ e) (hik : i < k) (hkN : k ≤ N) (hN2 : N ≤ 200) (hS : ∀ j, j < k → f j = some (g j)) (hob : ∀ j, j < k → z_obj h (g j)) (hoa : ∀ j, j < k → g j ≠ a) (hx : h x = some (.inr (12, fs9))) (hfi : g i = x) (hne : ∀ j, j < i → g j ≠ x) : z_C l G yJ2_remove 2 0 0 [.ref a, .ref x] h n (z_rv (.int (nI 1)) (z_up (z_up h e (z_ao G N (va_up (va_cpy f f (i + 1) i (k - 1 - i)) (k - 1) none))) a (.inr (20, [.int (m9 + nI 1), .ref e, .int (nI (k - 1))]))) n) := by
  refine z_start zk_J2_remove zpl_RJ2 (Nat.le_of_ble_eq_true rfl) ?_
  intro hn0 M hl hG ho hb hN hr hm hH hrm hQ
  subst hl hG
  have ho : zm_o M = RJ2 := ho
  show z_V M h n 0 0 0 [(0, .ref a), (1, .ref x)] []
  refine z_aload_n hb dJ2_remove_0 rfl ?_
  refine z_get (k := 1) (C := RJ2) (T := TJ2) (N := 3) hb ho zc20 in_J2 (zf_RJ2_9 _) dJ2_remove_1 hO (by decide) rfl ?_
  refine z_astore_n (lv' := [(2, .ref e), (0, .ref a), (1, .ref x)]) hb dJ2_remove_4 (by rw [hN]; decide) rfl ?_
  refine z_aload_n hb dJ2_remove_5 rfl ?_
  refine z_get (k := 2) (C := RJ2) (T := TJ2) (N := 3) hb ho zc20 in_J2 (zf_RJ2_48 _) dJ2_remove_6 hO (by decide) rfl ?_
  refine z_istore_n (lv' := [(3, .int (nI k)), (2, .ref e), (0, .ref a), (1, .ref x)]) hb dJ2_remove_9 (by rw [hN]; decide) rfl ?_
  refine z_iconst (x := nI 0) hb dJ2_remove_10 (by decide) ?_
  refine z_istore (lv' := [(4, .int (nI 0)), (3, .int (nI k)), (2, .ref e), (0, .ref a), (1, .ref x)]) hb dJ2_remove_11 (by rw [hN]; decide) rfl ?_
  refine z_aload_n hb dJ2_remove_13 rfl ?_
  refine z_ifnonnull (tgt := 39) hb dJ2_remove_14 (by decide) ?_
  have lp_39 : ∀ (k9_39 : Nat) (j : Nat), i + 1 - j < k9_39 → (j ≤ i) → z_V M h n 0 0 39 [(4, .int (nI j)), (2, .ref e), (3, .int (nI k)), (0, .ref a), (1, .ref x)] [] := by
    intro k9_39
    induction k9_39 with
    | zero => intro j hk9_39; exact absurd hk9_39 (Nat.not_lt_zero _)
    | succ k9_39 ih_39 =>
      intro j hk9_39 hj
      refine z_iload hb dJ2_remove_39 rfl ?_
      refine z_iload_n hb dJ2_remove_41 rfl ?_
      refine z_icmp_geN (tgt := 65) hb dJ2_remove_42 (by decide) (by omega) (by omega) (fun c_42 => ?_) (fun c_42 => ?_)
      · exact absurd c_42 (by omega)
      · refine z_aload_n hb dJ2_remove_45 rfl ?_
        refine z_aload_n hb dJ2_remove_46 rfl ?_
        refine z_iload hb dJ2_remove_47 rfl ?_
        refine z_aald (j := j) hb dJ2_remove_49 hA rfl (by omega) (by omega) ?_
        refine z_toR (z := g j) (hS j (by omega)) ?_
        refine z_call1 (b' := 0) (f' := 0) (rest := []) (av := [.ref x, .ref (g j)]) (z_siteV hb ho zc12 hx q618 q619 q636 ⟨_, _, _, _, zk_J30_equals⟩ zy_J30_equals zl_J30_equals dJ2_remove_50 : z_Site M _ _ _ _ _ ([.ref (g j)].reverse ++ .ref x :: []) [] _) zk_J30_equals q3292 hrm (m_J30_equals x (g j)) (by omega) (by decide) (Nat.le_of_ble_eq_true rfl) (by omega) (by omega) ?_
        refine z_ifb_eq (tgt := 59) hb dJ2_remove_53 (by decide) (fun c_53 => ?_) (fun c_53 => ?_)
        · refine z_iinc (k0 := 0) (lv' := [(4, .int (nI (j + 1))), (2, .ref e), (3, .int (nI k)), (0, .ref a), (1, .ref x)]) hb dJ2_remove_59 rfl (nI_1 j) (by rw [hN]; decide) rfl ?_
          refine z_goto (tgt := 39) hb dJ2_remove_62 (by decide) ?_
          refine z_lv [0, 1, 2, 3, 4] (lv' := [(4, .int (nI (j + 1))), (2, .ref e), (3, .int (nI k)), (0, .ref a), (1, .ref x)]) rfl ?_
          exact ih_39 (j + 1) (by omega) (Nat.lt_of_le_of_ne hj (fun q => by rw [q, hfi] at c_53; simp at c_53))
        · refine z_goto (tgt := 67) hb dJ2_remove_56 (by decide) ?_
          obtain rfl : j = i := by
            rcases Nat.lt_or_ge j i with z | z
            · exact absurd (of_decide_eq_true c_53).symm (hne j z)
            · omega
          refine z_aload_n hb dJ2_remove_67 rfl ?_
          refine z_aload_n hb dJ2_remove_68 rfl ?_
          refine z_iload hb dJ2_remove_69 rfl ?_
          refine z_call0 (b' := 0) (f' := 0) (rest := []) (av := [.ref a, .ref e, .int (nI j)]) (z_siteV hb ho zc20 hO q1391 q1393 qs11 ⟨_, _, _, _, zk_J2_fastRemove⟩ zy_J2_fastRemove zl_J2_fastRemove dJ2_remove_71 : z_Site M _ _ _ _ _ ([.ref e, .int (nI j)].reverse ++ .ref a :: []) [] _) zk_J2_fastRemove q98 hrm (m_J2_fastRemove (g := g) hO hA ha0 he0 hik hkN hN2 hS hob hoa) (by omega) (by decide) (Nat.le_of_ble_eq_true rfl) (by omega) (by omega) ?_
          obtain ⟨h_1, eh_1⟩ : ∃ h_1, h_1 = z_up h e (.inl ((zm_G M).2.1 5, N, .inr (.inr (.inr (.inr (va_up (va_cpy f f (j + 1) j (k - 1 - j)) (k - 1) none)))))) := ⟨_, rfl⟩
          have k_2 : h_1 a = some (.inr (20, [.int m9, .ref e, .int (nI k)])) := z_nx eh_1 (z_neA hO hA) hO
          refine z_hh (h2 := z_up h_1 a (.inr (20, [.int (m9 + nI 1), .ref e, .int (nI (k - 1))]))) (by rw [eh_1]) ?_
          refine z_hn (fun h_3 eh_3 => ?_)
          have eh_3 : h_3 = z_up h_1 a (.inr (20, [.int (m9 + nI 1), .ref e, .int (nI (k - 1))])) := eh_3
          have k_4 : h_3 e = some (.inl ((zm_G M).2.1 5, N, .inr (.inr (.inr (.inr (va_up (va_cpy f f (j + 1) j (k - 1 - j)) (k - 1) none)))))) := z_nx eh_3 (z_neA' (z_nxs eh_1) k_2) (z_nxs eh_1)
          refine z_iconst (x := nI 1) hb dJ2_remove_74 (by decide) ?_
          refine z_zret hb hr rfl dJ2_remove_75 ?_
          rw [hQ]
          exact ⟨rfl, (by rw [eh_3, eh_1]), rfl⟩
  refine z_lv [0, 2, 1, 3, 4] (lv' := [(4, .int (nI 0)), (2, .ref e), (3, .int (nI k)), (0, .ref a), (1, .ref x)]) rfl ?_
  exact lp_39 _ 0 (Nat.lt_succ_self _) (Nat.zero_le _)

set_option maxHeartbeats 1000000 in
theorem m_J2_remove_13 {l : Launch} {G : zG} {h : zH} {n : Nat} {a e N k i : Nat} {m9 : Int32} {f : Nat → Option Nat} {g : Nat → Nat} {x : Nat} {fs9 : List Value} (hO : h a = some (.inr (20, [.int m9, .ref e, .int (nI k)]))) (hA : h e = some (z_ao G N f)) (ha0 : z_n0 G ≤ a) (he0 : z_n0 G ≤ e) (hik : i < k) (hkN : k ≤ N) (hN2 : N ≤ 200) (hS : ∀ j, j < k → f j = some (g j)) (hob : ∀ j, j < k → z_obj h (g j)) (hoa : ∀ j, j < k → g j ≠ a) (hx : h x = some (.inr (13, fs9))) (hfi : g i = x) (hne : ∀ j, j < i → g j ≠ x) : z_C l G yJ2_remove 2 0 0 [.ref a, .ref x] h n (z_rv (.int (nI 1)) (z_up (z_up h e (z_ao G N (va_up (va_cpy f f (i + 1) i (k - 1 - i)) (k - 1) none))) a (.inr (20, [.int (m9 + nI 1), .ref e, .int (nI (k - 1))]))) n) := by
  refine z_start zk_J2_remove zpl_RJ2 (Nat.le_of_ble_eq_true rfl) ?_
  intro hn0 M hl hG ho hb hN hr hm hH hrm hQ
  subst hl hG
  have ho : zm_o M = RJ2 := ho
  show z_V M h n 0 0 0 [(0, .ref a), (1, .ref x)] []
  refine z_aload_n hb dJ2_remove_0 rfl ?_
  refine z_get (k := 1) (C := RJ2) (T := TJ2) (N := 3) hb ho zc20 in_J2 (zf_RJ2_9 _) dJ2_remove_1 hO (by decide) rfl ?_
  refine z_astore_n (lv' := [(2, .ref e), (0, .ref a), (1, .ref x)]) hb dJ2_remove_4 (by rw [hN]; decide) rfl ?_
  refine z_aload_n hb dJ2_remove_5 rfl ?_
  refine z_get (k := 2) (C := RJ2) (T := TJ2) (N := 3) hb ho zc20 in_J2 (zf_RJ2_48 _) dJ2_remove_6 hO (by decide) rfl ?_
  refine z_istore_n (lv' := [(3, .int (nI k)), (2, .ref e), (0, .ref a), (1, .ref x)]) hb dJ2_remove_9 (by rw [hN]; decide) rfl ?_
  refine z_iconst (x := nI 0) hb dJ2_remove_10 (by decide) ?_
  refine z_istore (lv' := [(4, .int (nI 0)), (3, .int (nI k)), (2, .ref e), (0, .ref a), (1, .ref x)]) hb dJ2_remove_11 (by rw [hN]; decide) rfl ?_
  refine z_aload_n hb dJ2_remove_13 rfl ?_
  refine z_ifnonnull (tgt := 39) hb dJ2_remove_14 (by decide) ?_
  have lp_39 : ∀ (k9_39 : Nat) (j : Nat), i + 1 - j < k9_39 → (j ≤ i) → z_V M h n 0 0 39 [(4, .int (nI j)), (2, .ref e), (3, .int (nI k)), (0, .ref a), (1, .ref x)] [] := by
    intro k9_39
    induction k9_39 with
    | zero => intro j hk9_39; exact absurd hk9_39 (Nat.not_lt_zero _)
    | succ k9_39 ih_39 =>
      intro j hk9_39 hj
      refine z_iload hb dJ2_remove_39 rfl ?_
      refine z_iload_n hb dJ2_remove_41 rfl ?_
      refine z_icmp_geN (tgt := 65) hb dJ2_remove_42 (by decide) (by omega) (by omega) (fun c_42 => ?_) (fun c_42 => ?_)
      · exact absurd c_42 (by omega)
      · refine z_aload_n hb dJ2_remove_45 rfl ?_
        refine z_aload_n hb dJ2_remove_46 rfl ?_
        refine z_iload hb dJ2_remove_47 rfl ?_
        refine z_aald (j := j) hb dJ2_remove_49 hA rfl (by omega) (by omega) ?_
        refine z_toR (z := g j) (hS j (by omega)) ?_
        refine z_call1 (b' := 0) (f' := 0) (rest := []) (av := [.ref x, .ref (g j)]) (z_siteV hb ho zc13 hx q618 q619 q623 ⟨_, _, _, _, zk_J30_equals⟩ zy_J30_equals zl_J30_equals dJ2_remove_50 : z_Site M _ _ _ _ _ ([.ref (g j)].reverse ++ .ref x :: []) [] _) zk_J30_equals q3292 hrm (m_J30_equals x (g j)) (by omega) (by decide) (Nat.le_of_ble_eq_true rfl) (by omega) (by omega) ?_
        refine z_ifb_eq (tgt := 59) hb dJ2_remove_53 (by decide) (fun c_53 => ?_) (fun c_53 => ?_)
        · refine z_iinc (k0 := 0) (lv' := [(4, .int (nI (j + 1))), (2, .ref e), (3, .int (nI k)), (0, .ref a), (1, .ref x)]) hb dJ2_remove_59 rfl (nI_1 j) (by rw [hN]; decide) rfl ?_
          refine z_goto (tgt := 39) hb dJ2_remove_62 (by decide) ?_
          refine z_lv [0, 1, 2, 3, 4] (lv' := [(4, .int (nI (j + 1))), (2, .ref e), (3, .int (nI k)), (0, .ref a), (1, .ref x)]) rfl ?_
          exact ih_39 (j + 1) (by omega) (Nat.lt_of_le_of_ne hj (fun q => by rw [q, hfi] at c_53; simp at c_53))
        · refine z_goto (tgt := 67) hb dJ2_remove_56 (by decide) ?_
          obtain rfl : j = i := by
            rcases Nat.lt_or_ge j i with z | z
            · exact absurd (of_decide_eq_true c_53).symm (hne j z)
            · omega
          refine z_aload_n hb dJ2_remove_67 rfl ?_
          refine z_aload_n hb dJ2_remove_68 rfl ?_
          refine z_iload hb dJ2_remove_69 rfl ?_
          refine z_call0 (b' := 0) (f' := 0) (rest := []) (av := [.ref a, .ref e, .int (nI j)]) (z_siteV hb ho zc20 hO q1391 q1393 qs11 ⟨_, _, _, _, zk_J2_fastRemove⟩ zy_J2_fastRemove zl_J2_fastRemove dJ2_remove_71 : z_Site M _ _ _ _ _ ([.ref e, .int (nI j)].reverse ++ .ref a :: []) [] _) zk_J2_fastRemove q98 hrm (m_J2_fastRemove (g := g) hO hA ha0 he0 hik hkN hN2 hS hob hoa) (by omega) (by decide) (Nat.le_of_ble_eq_true rfl) (by omega) (by omega) ?_
          obtain ⟨h_1, eh_1⟩ : ∃ h_1, h_1 = z_up h e (.inl ((zm_G M).2.1 5, N, .inr (.inr (.inr (.inr (va_up (va_cpy f f (j + 1) j (k - 1 - j)) (k - 1) none)))))) := ⟨_, rfl⟩
          have k_2 : h_1 a = some (.inr (20, [.int m9, .ref e, .int (nI k)])) := z_nx eh_1 (z_neA hO hA) hO
          refine z_hh (h2 := z_up h_1 a (.inr (20, [.int (m9 + nI 1), .ref e, .int (nI (k - 1))]))) (by rw [eh_1]) ?_
          refine z_hn (fun h_3 eh_3 => ?_)
          have eh_3 : h_3 = z_up h_1 a (.inr (20, [.int (m9 + nI 1), .ref e, .int (nI (k - 1))])) := eh_3
          have k_4 : h_3 e = some (.inl ((zm_G M).2.1 5, N, .inr (.inr (.inr (.inr (va_up (va_cpy f f (j + 1) j (k - 1 - j)) (k - 1) none)))))) := z_nx eh_3 (z_neA' (z_nxs eh_1) k_2) (z_nxs eh_1)
          refine z_iconst (x := nI 1) hb dJ2_remove_74 (by decide) ?_
          refine z_zret hb hr rfl dJ2_remove_75 ?_
          rw [hQ]
          exact ⟨rfl, (by rw [eh_3, eh_1]), rfl⟩
  refine z_lv [0, 2, 1, 3, 4] (lv' := [(4, .int (nI 0)), (2, .ref e), (3, .int (nI k)), (0, .ref a), (1, .ref x)]) rfl ?_
  exact lp_39 _ 0 (Nat.lt_succ_self _) (Nat.zero_le _)

