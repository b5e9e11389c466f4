theorem z_shr1 {N : Nat} (h : N ≤ 200) : nI N >>> (nI 1 &&& 31) = nI (N / 2) := by
  have : ∀ N : Nat, N < 201 → nI N >>> (nI 1 &&& 31) = nI (N / 2) := by decide +kernel
  exact this N (by omega)

set_option maxHeartbeats 1000000 in
theorem m_J13_newLength {l : Launch} {G : zG} {h : zH} {n : Nat} {o p : Nat} (hp : 2 ≤ p) (ho2 : o + p ≤ 1000) : z_C l G yJ13_newLength 2 0 0 [.int (nI o), .int (nI 1), .int (nI p)] h n (z_rv (.int (nI (o + p))) h n) := by
  refine z_start zk_J13_newLength zpl_RJ13 (Nat.le_of_ble_eq_true rfl) ?_
  intro hn0 M hl hG ho hb hN hr hm hH hrm hQ
  subst hl hG
  have ho : zm_o M = RJ13 := ho
  show z_V M h n 0 0 0 [(0, .int (nI o)), (1, .int (nI 1)), (2, .int (nI p))] []
  refine z_iload_n hb dJ13_newLength_0 rfl ?_
  refine z_iload_n hb dJ13_newLength_1 rfl ?_
  refine z_iload_n hb dJ13_newLength_2 rfl ?_
  refine z_mmax hb ho hrm (by omega) q498 q499 q111 q500 dJ13_newLength_3 (Nat.le_of_ble_eq_true rfl) ?_
  refine z_toI (y := nI p) (if_pos ((nI_ltI (by omega) (by omega)).mpr (by omega))) ?_
  refine z_iadd hb dJ13_newLength_6 ?_
  refine z_toI (y := nI (o + p)) (nI_add o p) ?_
  refine z_istore_n (lv' := [(3, .int (nI (o + p))), (0, .int (nI o)), (1, .int (nI 1)), (2, .int (nI p))]) hb dJ13_newLength_7 (by rw [hN]; decide) rfl ?_
  refine z_iconst (x := nI 0) hb dJ13_newLength_8 (by decide) ?_
  refine z_iload_n hb dJ13_newLength_9 rfl ?_
  refine z_icmp_geN (tgt := 21) hb dJ13_newLength_10 (by decide) (by omega) (by omega) (fun c_10 => ?_) (fun c_10 => ?_)
  · exact absurd c_10 (by omega)
  · refine z_iload_n hb dJ13_newLength_13 rfl ?_
    refine z_ldc hb ho q501 dJ13_newLength_14 ?_
    refine z_icmp_gt (tgt := 21) hb dJ13_newLength_16 (by decide) (fun c_16 => ?_) (fun c_16 => ?_)
    · exact absurd ((nI_ltI (a := 2147483639) (by omega) (by omega)).mp c_16) (by omega)
    · refine z_iload_n hb dJ13_newLength_19 rfl ?_
      refine z_iret hb hr dJ13_newLength_20 ?_
      rw [hQ]
      exact ⟨rfl, rfl, rfl⟩

set_option maxHeartbeats 1000000 in
theorem m_J2_grow_2_0 {l : Launch} {G : zG} {h : zH} {n : Nat} {a : Nat} {m9 : Int32} {f : Nat → Option Nat} (hO : h a = some (.inr (20, [.int m9, .ref (G.2.2.1 1002), .int (nI 0)]))) (hE : h (G.2.2.1 1002) = some (z_ao G 0 f)) (ha0 : z_n0 G ≤ a) (han : a < n) (hEn : G.2.2.1 1002 < n) : z_C l G yJ2_grow_2 3 1 10 [.ref a, .int (nI 1)] h n (z_rv (.ref n) (z_up (z_up h n (z_ao G 10 (fun _ => none))) a (.inr (20, [.int m9, .ref n, .int (nI 0)]))) (n + 1)) := by
  refine z_start zk_J2_grow_2 zpl_RJ2 (Nat.le_of_ble_eq_true rfl) ?_
  intro hn0 M hl hG ho hb hN hr hm hH hrm hQ
  subst hl hG
  have ho : zm_o M = RJ2 := ho
  show z_V M h n 1 10 0 [(0, .ref a), (1, .int (nI 1))] []
  refine z_aload_n hb dJ2_grow_2_0 rfl ?_
  refine z_get (k := 1) (C := RJ2) (T := TJ2) (N := 3) hb ho zc20 in_J2 (zf_RJ2_9 _) dJ2_grow_2_1 hO (by decide) rfl ?_
  refine z_alen (kk := 5) hb rfl dJ2_grow_2_4 hE ?_
  refine z_istore_n (lv' := [(2, .int (nI 0)), (0, .ref a), (1, .int (nI 1))]) hb dJ2_grow_2_5 (by rw [hN]; decide) rfl ?_
  refine z_iload_n hb dJ2_grow_2_6 rfl ?_
  refine z_if_gtN (tgt := 20) hb dJ2_grow_2_7 (by decide) (by omega) (fun c_7 => ?_) (fun c_7 => ?_)
  · exact absurd c_7 (by omega)
  · refine z_aload_n hb dJ2_grow_2_10 rfl ?_
    refine z_get (k := 1) (C := RJ2) (T := TJ2) (N := 3) hb ho zc20 in_J2 (zf_RJ2_9 _) dJ2_grow_2_11 hO (by decide) rfl ?_
    refine z_gets (i := 6) hb ho rfl (zf_RJ2_39 _) dJ2_grow_2_14 ?_
    refine z_acmp_eq (rx := some ((zm_G M).2.2.1 1002)) (ry := some ((zm_G M).2.2.1 1002)) (tgt := 45) hb dJ2_grow_2_17 (by decide) (fun c_17 => ?_) (fun c_17 => ?_)
    · refine z_aload_n hb dJ2_grow_2_45 rfl ?_
      refine z_bipush (x := nI 10) hb dJ2_grow_2_46 (by decide) ?_
      refine z_iload_n hb dJ2_grow_2_48 rfl ?_
      refine z_mmax hb ho hrm (by omega) q558 q499 q111 q500 dJ2_grow_2_49 (Nat.le_of_ble_eq_true rfl) ?_
      refine z_toI (y := nI 10) rfl ?_
      refine z_anew (N := 10) (b' := 0) (f' := 0) hb ho q559 dJ2_grow_2_52 rfl (by omega) (by omega) (by omega) ?_
      refine z_hn (fun h_1 eh_1 => ?_)
      have eh_1 : h_1 = z_up h n (.inl ((zm_G M).2.1 5, 10, .inr (.inr (.inr (.inr (fun _ => none)))))) := eh_1
      have k_2 : h_1 a = some (.inr (20, [.int m9, .ref ((zm_G M).2.2.1 1002), .int (nI 0)])) := z_nx eh_1 (Nat.ne_of_lt han) hO
      have k_3 : h_1 ((zm_G M).2.2.1 1002) = some (.inl ((zm_G M).2.1 5, 0, .inr (.inr (.inr (.inr f))))) := z_nx eh_1 (Nat.ne_of_lt hEn) hE
      refine z_dup_x1 hb dJ2_grow_2_55 rfl rfl ?_
      refine z_put (k := 1) (C := RJ2) (T := TJ2) (N := 3) hb ho zc20 in_J2 tyJ2_ok nmJ2 (zf_RJ2_9 _) dJ2_grow_2_56 k_2 ha0 (by decide) (Or.inl rfl) rfl rfl rfl (Nat.le_of_ble_eq_true rfl) ?_
      refine z_hn (fun h_4 eh_4 => ?_)
      have eh_4 : h_4 = z_up h_1 a (.inr (20, [.int m9, .ref n, .int (nI 0)])) := eh_4
      have k_5 : h_4 ((zm_G M).2.2.1 1002) = some (.inl ((zm_G M).2.1 5, 0, .inr (.inr (.inr (.inr f))))) := z_nx eh_4 (z_neA' k_3 k_2) k_3
      have k_6 : h_4 n = some (.inl ((zm_G M).2.1 5, 10, .inr (.inr (.inr (.inr (fun _ => none)))))) := z_nx eh_4 (z_neA' (z_nxs eh_1) k_2) (z_nxs eh_1)
      refine z_aret hb hr (Or.inr ⟨_, rfl⟩) (Or.inr ⟨_, rfl⟩) dJ2_grow_2_59 ?_
      rw [hQ]
      refine ⟨rfl, ?_, rfl⟩
      first
      | (rw [eh_4, eh_1]; done)
      | (rw [eh_4, eh_1]; simp only [z_up_up, z_up3]; done)
      | (rw [eh_4, eh_1]
         funext y
         simp only [z_up]
         by_cases q1 : y = a
         · simp only [q1, if_true]
         · by_cases q2 : y = n
           · simp only [q1, q2, if_true, if_false]
           · simp only [q1, q2, if_false])
    · exact absurd rfl c_17

set_option maxHeartbeats 1000000 in
theorem m_J2_grow_0 {l : Launch} {G : zG} {h : zH} {n : Nat} {a : Nat} {m9 : Int32} {f : Nat → Option Nat} (hO : h a = some (.inr (20, [.int m9, .ref (G.2.2.1 1002), .int (nI 0)]))) (hE : h (G.2.2.1 1002) = some (z_ao G 0 f)) (ha0 : z_n0 G ≤ a) (han : a < n) (hEn : G.2.2.1 1002 < n) : z_C l G yJ2_grow 4 1 10 [.ref a] h n (z_rv (.ref n) (z_up (z_up h n (z_ao G 10 (fun _ => none))) a (.inr (20, [.int m9, .ref n, .int (nI 0)]))) (n + 1)) := by
  refine z_start zk_J2_grow zpl_RJ2 (Nat.le_of_ble_eq_true rfl) ?_
  intro hn0 M hl hG ho hb hN hr hm hH hrm hQ
  subst hl hG
  have ho : zm_o M = RJ2 := ho
  show z_V M h n 1 10 0 [(0, .ref a)] []
  refine z_aload_n hb dJ2_grow_0 rfl ?_
  refine z_aload_n hb dJ2_grow_1 rfl ?_
  refine z_get (k := 2) (C := RJ2) (T := TJ2) (N := 3) hb ho zc20 in_J2 (zf_RJ2_48 _) dJ2_grow_2 hO (by decide) rfl ?_
  refine z_iconst (x := nI 1) hb dJ2_grow_5 (by decide) ?_
  refine z_iadd hb dJ2_grow_6 ?_
  refine z_toI (y := nI 1) (nI_add 0 1) ?_
  refine z_call1 (b' := 0) (f' := 0) (rest := []) (av := [.ref a, .int (nI 1)]) (z_siteV hb ho zc20 hO q491 q493 qs4 ⟨_, _, _, _, zk_J2_grow_2⟩ zy_J2_grow_2 zl_J2_grow_2 dJ2_grow_7 : z_Site M _ _ _ _ _ ([.int (nI 1)].reverse ++ .ref a :: []) [] _) zk_J2_grow_2 q98 hrm (m_J2_grow_2_0 hO hE ha0 han hEn) (by omega) (by decide) (Nat.le_of_ble_eq_true rfl) (by omega) (by omega) ?_
  refine z_aret hb hr (Or.inr ⟨_, rfl⟩) (Or.inr ⟨_, rfl⟩) dJ2_grow_10 ?_
  rw [hQ]
  exact ⟨rfl, rfl, rfl⟩

set_option maxHeartbeats 1000000 in
theorem m_J2_grow_2_f {l : Launch} {G : zG} {h : zH} {n : Nat} {a e N : Nat} {m9 : Int32} {f : Nat → Option Nat} (hO : h a = some (.inr (20, [.int m9, .ref e, .int (nI N)]))) (hA : h e = some (z_ao G N f)) (ha0 : z_n0 G ≤ a) (he0 : z_n0 G ≤ e) (han : a < n) (hen : e < n) (hN10 : 10 ≤ N) (hN2 : N ≤ 100) (hel : ∀ i, i < N → ∀ y, f i = some y → y < n ∧ z_obj h y) : z_C l G yJ2_grow_2 3 1 (N + N / 2) [.ref a, .int (nI (N + 1))] h n (z_rv (.ref n) (z_up (z_up h n (z_ao G (N + N / 2) (va_cpy f (fun _ => none) 0 0 N))) a (.inr (20, [.int m9, .ref n, .int (nI N)]))) (n + 1)) := by
  refine z_start zk_J2_grow_2 zpl_RJ2 (Nat.le_of_ble_eq_true rfl) ?_
  intro hn0 M hl hG ho hb hN hr hm hH hrm hQ
  subst hl hG
  have ho : zm_o M = RJ2 := ho
  show z_V M h n 1 (N + N / 2) 0 [(0, .ref a), (1, .int (nI (N + 1)))] []
  refine z_aload_n hb dJ2_grow_2_0 rfl ?_
  refine z_get (k := 1) (C := RJ2) (T := TJ2) (N := 3) hb ho zc20 in_J2 (zf_RJ2_9 _) dJ2_grow_2_1 hO (by decide) rfl ?_
  refine z_alen (kk := 5) hb rfl dJ2_grow_2_4 hA ?_
  refine z_istore_n (lv' := [(2, .int (nI N)), (0, .ref a), (1, .int (nI (N + 1)))]) hb dJ2_grow_2_5 (by rw [hN]; decide) rfl ?_
  refine z_iload_n hb dJ2_grow_2_6 rfl ?_
  refine z_if_gtN (tgt := 20) hb dJ2_grow_2_7 (by decide) (by omega) (fun c_7 => ?_) (fun c_7 => ?_)
  · refine z_iload_n hb dJ2_grow_2_20 rfl ?_
    refine z_iload_n hb dJ2_grow_2_21 rfl ?_
    refine z_iload_n hb dJ2_grow_2_22 rfl ?_
    refine z_isub hb dJ2_grow_2_23 ?_
    refine z_toI (y := nI 1) ((pk_sub (by omega)).trans (congrArg nI (by omega))) ?_
    refine z_iload_n hb dJ2_grow_2_24 rfl ?_
    refine z_iconst (x := nI 1) hb dJ2_grow_2_25 (by decide) ?_
    refine z_ishr hb dJ2_grow_2_26 ?_
    refine z_toI (y := nI (N / 2)) (z_shr1 (by omega)) ?_
    refine z_call1 (b' := 1) (f' := N + N / 2) (rest := []) (av := [.int (nI N), .int (nI 1), .int (nI (N / 2))]) (z_siteS hb ho q495 q496 q110 ⟨_, _, _, _, zk_J13_newLength⟩ zy_J13_newLength zl_J13_newLength dJ2_grow_2_27 : z_Site M _ _ _ _ _ ([.int (nI N), .int (nI 1), .int (nI (N / 2))].reverse ++ []) [] _) zk_J13_newLength q110 hrm (m_J13_newLength (by omega) (by omega)) (by omega) (by decide) (Nat.le_of_ble_eq_true rfl) (by omega) (by omega) ?_
    refine z_istore_n (lv' := [(3, .int (nI (N + (N / 2)))), (2, .int (nI N)), (0, .ref a), (1, .int (nI (N + 1)))]) hb dJ2_grow_2_30 (by rw [hN]; decide) rfl ?_
    refine z_aload_n hb dJ2_grow_2_31 rfl ?_
    refine z_aload_n hb dJ2_grow_2_32 rfl ?_
    refine z_get (k := 1) (C := RJ2) (T := TJ2) (N := 3) hb ho zc20 in_J2 (zf_RJ2_9 _) dJ2_grow_2_33 hO (by decide) rfl ?_
    refine z_iload_n hb dJ2_grow_2_36 rfl ?_
    refine z_call1 (b' := 0) (f' := 0) (rest := [.ref a]) (av := [.ref e, .int (nI (N + (N / 2)))]) (z_siteS hb ho q505 q506 q112 ⟨_, _, _, _, zk_J15_copyOf⟩ zy_J15_copyOf zl_J15_copyOf dJ2_grow_2_37 : z_Site M _ _ _ _ _ ([.ref e, .int (nI (N + (N / 2)))].reverse ++ [.ref a]) [.ref a] _) zk_J15_copyOf q112 hrm (m_J15_copyOf hA he0 hen (by omega) (by omega) hel) (by omega) (by decide) (Nat.le_of_ble_eq_true rfl) (by omega) (by omega) ?_
    refine z_hn (fun h_1 eh_1 => ?_)
    have eh_1 : h_1 = z_up h n (.inl ((zm_G M).2.1 5, N + N / 2, .inr (.inr (.inr (.inr (va_cpy f (fun _ => none) 0 0 N)))))) := eh_1
    have k_2 : h_1 a = some (.inr (20, [.int m9, .ref e, .int (nI N)])) := z_nx eh_1 (Nat.ne_of_lt han) hO
    have k_3 : h_1 e = some (.inl ((zm_G M).2.1 5, N, .inr (.inr (.inr (.inr f))))) := z_nx eh_1 (Nat.ne_of_lt hen) hA
    refine z_dup_x1 hb dJ2_grow_2_40 rfl rfl ?_
    refine z_put (k := 1) (C := RJ2) (T := TJ2) (N := 3) hb ho zc20 in_J2 tyJ2_ok nmJ2 (zf_RJ2_9 _) dJ2_grow_2_41 k_2 ha0 (by decide) (Or.inl rfl) rfl rfl rfl (Nat.le_of_ble_eq_true rfl) ?_
    refine z_hn (fun h_4 eh_4 => ?_)
    have eh_4 : h_4 = z_up h_1 a (.inr (20, [.int m9, .ref n, .int (nI N)])) := eh_4
    have k_5 : h_4 e = some (.inl ((zm_G M).2.1 5, N, .inr (.inr (.inr (.inr f))))) := z_nx eh_4 (z_neA' k_3 k_2) k_3
    have k_6 : h_4 n = some (.inl ((zm_G M).2.1 5, N + N / 2, .inr (.inr (.inr (.inr (va_cpy f (fun _ => none) 0 0 N)))))) := z_nx eh_4 (z_neA' (z_nxs eh_1) k_2) (z_nxs eh_1)
    refine z_aret hb hr (Or.inr ⟨_, rfl⟩) (Or.inr ⟨_, rfl⟩) dJ2_grow_2_44 ?_
    rw [hQ]
    refine ⟨rfl, ?_, rfl⟩
    first
    | (rw [eh_4, eh_1]; done)
    | (rw [eh_4, eh_1]; simp only [z_up_up, z_up3]; done)
    | (rw [eh_4, eh_1]
       funext y
       simp only [z_up]
       by_cases q1 : y = a
       · simp only [q1, if_true]
       · by_cases q2 : y = n
         · simp only [q1, q2, if_true, if_false]
         · simp only [q1, q2, if_false])
  · exact absurd c_7 (by omega)

set_option maxHeartbeats 1000000 in
theorem m_J2_grow_f {l : Launch} {G : zG} {h : zH} {n : Nat} {a e N : Nat} {m9 : Int32} {f : Nat → Option Nat} (hO : h a = some (.inr (20, [.int m9, .ref e, .int (nI N)]))) (hA : h e = some (z_ao G N f)) (ha0 : z_n0 G ≤ a) (he0 : z_n0 G ≤ e) (han : a < n) (hen : e < n) (hN10 : 10 ≤ N) (hN2 : N ≤ 100) (hel : ∀ i, i < N → ∀ y, f i = some y → y < n ∧ z_obj h y) : z_C l G yJ2_grow 4 1 (N + N / 2) [.ref a] h n (z_rv (.ref n) (z_up (z_up h n (z_ao G (N + N / 2) (va_cpy f (fun _ => none) 0 0 N))) a (.inr (20, [.int m9, .ref n, .int (nI N)]))) (n + 1)) := by
  refine z_start zk_J2_grow zpl_RJ2 (Nat.le_of_ble_eq_true rfl) ?_
  intro hn0 M hl hG ho hb hN hr hm hH hrm hQ
  subst hl hG
  have ho : zm_o M = RJ2 := ho
  show z_V M h n 1 (N + N / 2) 0 [(0, .ref a)] []
  refine z_aload_n hb dJ2_grow_0 rfl ?_
  refine z_aload_n hb dJ2_grow_1 rfl ?_
  refine z_get (k := 2) (C := RJ2) (T := TJ2) (N := 3) hb ho zc20 in_J2 (zf_RJ2_48 _) dJ2_grow_2 hO (by decide) rfl ?_
  refine z_iconst (x := nI 1) hb dJ2_grow_5 (by decide) ?_
  refine z_iadd hb dJ2_grow_6 ?_
  refine z_toI (y := nI (N + 1)) (nI_add N 1) ?_
  refine z_call1 (b' := 0) (f' := 0) (rest := []) (av := [.ref a, .int (nI (N + 1))]) (z_siteV hb ho zc20 hO q491 q493 qs4 ⟨_, _, _, _, zk_J2_grow_2⟩ zy_J2_grow_2 zl_J2_grow_2 dJ2_grow_7 : z_Site M _ _ _ _ _ ([.int (nI (N + 1))].reverse ++ .ref a :: []) [] _) zk_J2_grow_2 q98 hrm (m_J2_grow_2_f hO hA ha0 he0 han hen hN10 hN2 hel) (by omega) (by decide) (Nat.le_of_ble_eq_true rfl) (by omega) (by omega) ?_
  refine z_aret hb hr (Or.inr ⟨_, rfl⟩) (Or.inr ⟨_, rfl⟩) dJ2_grow_10 ?_
  rw [hQ]
  exact ⟨rfl, rfl, rfl⟩

