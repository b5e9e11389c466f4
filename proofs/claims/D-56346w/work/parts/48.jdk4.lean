set_option maxHeartbeats 1000000 in
theorem m_J2_add_2_p {l : Launch} {G : zG} {h : zH} {n : Nat} {a e N k x : Nat} {m9 : Int32} {f : Nat → Option Nat} (hO : h a = some (.inr (20, [.int m9, .ref e, .int (nI k)]))) (hA : h e = some (z_ao G N f)) (ha0 : z_n0 G ≤ a) (he0 : z_n0 G ≤ e) (hkN : k < N) (hN2 : N ≤ 200) (hx : z_obj h x) : z_C l G yJ2_add_2 1 0 0 [.ref a, .ref x, .ref e, .int (nI k)] h n (z_r0 (z_up (z_up h e (z_ao G N (va_up f k (some x)))) a (.inr (20, [.int m9, .ref e, .int (nI (k + 1))]))) n) := by
  refine z_start zk_J2_add_2 zpl_RJ2 (Nat.le_of_ble_eq_true rfl) ?_
  intro hn0 M hl hG ho hb hN hr hm hH hrm hQ
  subst hl hG
  have ho : zm_o M = RJ2 := ho
  obtain ⟨ci9, fs9, r9, hx9, hz9, hc9⟩ := hx
  show z_V M h n 0 0 0 [(0, .ref a), (1, .ref x), (2, .ref e), (3, .int (nI k))] []
  refine z_iload_n hb dJ2_add_2_0 rfl ?_
  refine z_aload_n hb dJ2_add_2_1 rfl ?_
  refine z_alen (kk := 5) hb rfl dJ2_add_2_2 hA ?_
  refine z_icmp_neN (tgt := 11) hb dJ2_add_2_3 (by decide) (by omega) (by omega) (fun c_3 => ?_) (fun c_3 => ?_)
  · refine z_aload_n hb dJ2_add_2_11 rfl ?_
    refine z_iload_n hb dJ2_add_2_12 rfl ?_
    refine z_aload_n hb dJ2_add_2_13 rfl ?_
    refine z_aast (j := k) hb dJ2_add_2_14 hA he0 hx9 hz9 hc9 rfl (by omega) (by omega) ?_
    refine z_hn (fun h_1 eh_1 => ?_)
    have eh_1 : h_1 = z_up h e (.inl ((zm_G M).2.1 5, N, .inr (.inr (.inr (.inr (va_up f k (some x))))))) := eh_1
    have k_2 : h_1 a = some (.inr (20, [.int m9, .ref e, .int (nI k)])) := z_nx eh_1 (z_neA hO hA) hO
    refine z_aload_n hb dJ2_add_2_15 rfl ?_
    refine z_iload_n hb dJ2_add_2_16 rfl ?_
    refine z_iconst (x := nI 1) hb dJ2_add_2_17 (by decide) ?_
    refine z_iadd hb dJ2_add_2_18 ?_
    refine z_toI (y := nI (k + 1)) (nI_add k 1) ?_
    refine z_put (k := 2) (C := RJ2) (T := TJ2) (N := 3) hb ho zc20 in_J2 tyJ2_ok nmJ2 (zf_RJ2_48 _) dJ2_add_2_19 k_2 ha0 (by decide) (Or.inl rfl) rfl rfl rfl (Nat.le_of_ble_eq_true rfl) ?_
    refine z_hn (fun h_3 eh_3 => ?_)
    have eh_3 : h_3 = z_up h_1 a (.inr (20, [.int m9, .ref e, .int (nI (k + 1))])) := eh_3
    have k_4 : h_3 e = some (.inl ((zm_G M).2.1 5, N, .inr (.inr (.inr (.inr (va_up f k (some x))))))) := z_nx eh_3 (z_neA' (z_nxs eh_1) k_2) (z_nxs eh_1)
    refine z_vret hb hr dJ2_add_2_22 ?_
    rw [hQ]
    refine ⟨rfl, ?_, rfl⟩
    first
    | (rw [eh_3, eh_1]; done)
    | (rw [eh_3, eh_1]; simp only [z_up_up, z_up3]; done)
    | (rw [eh_3, eh_1]
       funext y
       simp only [z_up]
       by_cases q1 : y = a
       · simp only [q1, if_true]
       · by_cases q2 : y = n
         · simp only [q1, q2, if_true, if_false]
         · simp only [q1, q2, if_false])
  · exact absurd c_3 (by omega)

set_option maxHeartbeats 1000000 in
theorem m_J2_add_2_0 {l : Launch} {G : zG} {h : zH} {n : Nat} {a x : Nat} {m9 : Int32} {f : Nat → Option Nat} (hO : h a = some (.inr (20, [.int m9, .ref (G.2.2.1 1002), .int (nI 0)]))) (hE : h (G.2.2.1 1002) = some (z_ao G 0 f)) (ha0 : z_n0 G ≤ a) (han : a < n) (hEn : G.2.2.1 1002 < n) (hx : z_obj h x) (hxa : x ≠ a) (hxn : x < n) : z_C l G yJ2_add_2 5 1 10 [.ref a, .ref x, .ref (G.2.2.1 1002), .int (nI 0)] h n (z_r0 (z_up (z_up h n (z_ao G 10 (va_up (fun _ => none) 0 (some x)))) a (.inr (20, [.int m9, .ref n, .int (nI 1)]))) (n + 1)) := by
  refine z_start zk_J2_add_2 zpl_RJ2 (Nat.le_of_ble_eq_true rfl) ?_
  intro hn0 M hl hG ho hb hN hr hm hH hrm hQ
  subst hl hG
  have ho : zm_o M = RJ2 := ho
  obtain ⟨ci9, fs9, r9, hx9, hz9, hc9⟩ := hx
  show z_V M h n 1 10 0 [(0, .ref a), (1, .ref x), (2, .ref ((zm_G M).2.2.1 1002)), (3, .int (nI 0))] []
  refine z_iload_n hb dJ2_add_2_0 rfl ?_
  refine z_aload_n hb dJ2_add_2_1 rfl ?_
  refine z_alen (kk := 5) hb rfl dJ2_add_2_2 hE ?_
  refine z_icmp_neN (tgt := 11) hb dJ2_add_2_3 (by decide) (by omega) (by omega) (fun c_3 => ?_) (fun c_3 => ?_)
  · exact absurd c_3 (by omega)
  · refine z_aload_n hb dJ2_add_2_6 rfl ?_
    refine z_call1 (b' := 0) (f' := 0) (rest := []) (av := [.ref a]) (z_siteV hb ho zc20 hO q487 q489 qs3 ⟨_, _, _, _, zk_J2_grow⟩ zy_J2_grow zl_J2_grow dJ2_add_2_7 : z_Site M _ _ _ _ _ ([].reverse ++ .ref a :: []) [] _) zk_J2_grow q98 hrm (m_J2_grow_0 hO hE ha0 han hEn) (by omega) (by decide) (Nat.le_of_ble_eq_true rfl) (by omega) (by omega) ?_
    obtain ⟨h_1, eh_1⟩ : ∃ h_1, h_1 = z_up h n (.inl ((zm_G M).2.1 5, 10, .inr (.inr (.inr (.inr (fun _ => none)))))) := ⟨_, rfl⟩
    have k_2 : h_1 a = some (.inr (20, [.int m9, .ref ((zm_G M).2.2.1 1002), .int (nI 0)])) := z_nx eh_1 (Nat.ne_of_lt han) hO
    have k_3 : h_1 ((zm_G M).2.2.1 1002) = some (.inl ((zm_G M).2.1 5, 0, .inr (.inr (.inr (.inr f))))) := z_nx eh_1 (Nat.ne_of_lt hEn) hE
    have k_4 : h_1 x = some (.inr (ci9, fs9)) := z_nx eh_1 (Nat.ne_of_lt hxn) hx9
    refine z_hh (h2 := z_up h_1 a (.inr (20, [.int m9, .ref n, .int (nI 0)]))) (by rw [eh_1]) ?_
    refine z_hn (fun h_5 eh_5 => ?_)
    have eh_5 : h_5 = z_up h_1 a (.inr (20, [.int m9, .ref n, .int (nI 0)])) := eh_5
    have k_6 : h_5 ((zm_G M).2.2.1 1002) = some (.inl ((zm_G M).2.1 5, 0, .inr (.inr (.inr (.inr f))))) := z_nx eh_5 (z_neA' k_3 k_2) k_3
    have k_7 : h_5 x = some (.inr (ci9, fs9)) := z_nx eh_5 hxa k_4
    have k_8 : h_5 n = some (.inl ((zm_G M).2.1 5, 10, .inr (.inr (.inr (.inr (fun _ => none)))))) := z_nx eh_5 (z_neA' (z_nxs eh_1) k_2) (z_nxs eh_1)
    refine z_astore_n (lv' := [(2, .ref n), (0, .ref a), (1, .ref x), (3, .int (nI 0))]) hb dJ2_add_2_10 (by rw [hN]; decide) rfl ?_
    refine z_aload_n hb dJ2_add_2_11 rfl ?_
    refine z_iload_n hb dJ2_add_2_12 rfl ?_
    refine z_aload_n hb dJ2_add_2_13 rfl ?_
    refine z_aast (j := 0) hb dJ2_add_2_14 k_8 hn0 k_7 hz9 hc9 rfl (by omega) (by omega) ?_
    refine z_hn (fun h_9 eh_9 => ?_)
    have eh_9 : h_9 = z_up h_5 n (.inl ((zm_G M).2.1 5, 10, .inr (.inr (.inr (.inr (va_up (fun _ => none) 0 (some x))))))) := eh_9
    have k_10 : h_9 a = some (.inr (20, [.int m9, .ref n, .int (nI 0)])) := z_nx eh_9 (z_neA (z_nxs eh_5) k_8) (z_nxs eh_5)
    refine z_aload_n hb dJ2_add_2_15 rfl ?_
    refine z_iload_n hb dJ2_add_2_16 rfl ?_
    refine z_iconst (x := nI 1) hb dJ2_add_2_17 (by decide) ?_
    refine z_iadd hb dJ2_add_2_18 ?_
    refine z_toI (y := nI 1) (nI_add 0 1) ?_
    refine z_put (k := 2) (C := RJ2) (T := TJ2) (N := 3) hb ho zc20 in_J2 tyJ2_ok nmJ2 (zf_RJ2_48 _) dJ2_add_2_19 k_10 ha0 (by decide) (Or.inl rfl) rfl rfl rfl (Nat.le_of_ble_eq_true rfl) ?_
    refine z_hn (fun h_11 eh_11 => ?_)
    have eh_11 : h_11 = z_up h_9 a (.inr (20, [.int m9, .ref n, .int (nI 1)])) := eh_11
    have k_12 : h_11 n = some (.inl ((zm_G M).2.1 5, 10, .inr (.inr (.inr (.inr (va_up (fun _ => none) 0 (some x))))))) := z_nx eh_11 (z_neA' (z_nxs eh_9) k_10) (z_nxs eh_9)
    refine z_vret hb hr dJ2_add_2_22 ?_
    rw [hQ]
    refine ⟨rfl, ?_, rfl⟩
    first
    | (rw [eh_11, eh_9, eh_5, eh_1]; done)
    | (rw [eh_11, eh_9, eh_5, eh_1]; simp only [z_up_up, z_up3]; done)
    | (rw [eh_11, eh_9, eh_5, eh_1]
       funext y
       simp only [z_up]
       by_cases q1 : y = a
       · simp only [q1, if_true]
       · by_cases q2 : y = n
         · simp only [q1, q2, if_true, if_false]
         · simp only [q1, q2, if_false])

set_option maxHeartbeats 1000000 in
theorem m_J2_add_2_f {l : Launch} {G : zG} {h : zH} {n : Nat} {a e N x : Nat} {m9 : Int32} {f : Nat → Option Nat} (hO : h a = some (.inr (20, [.int m9, .ref e, .int (nI N)]))) (hA : h e = some (z_ao G N f)) (ha0 : z_n0 G ≤ a) (he0 : z_n0 G ≤ e) (han : a < n) (hen : e < n) (hN10 : 10 ≤ N) (hN2 : N ≤ 100) (hel : ∀ i, i < N → ∀ y, f i = some y → y < n ∧ z_obj h y) (hx : z_obj h x) (hxa : x ≠ a) (hxn : x < n) : z_C l G yJ2_add_2 5 1 (N + N / 2) [.ref a, .ref x, .ref e, .int (nI N)] h n (z_r0 (z_up (z_up h n (z_ao G (N + N / 2) (va_up (va_cpy f (fun _ => none) 0 0 N) N (some x)))) a (.inr (20, [.int m9, .ref n, .int (nI (N + 1))]))) (n + 1)) := by
  refine z_start zk_J2_add_2 zpl_RJ2 (Nat.le_of_ble_eq_true rfl) ?_
  intro hn0 M hl hG ho hb hN hr hm hH hrm hQ
  subst hl hG
  have ho : zm_o M = RJ2 := ho
  obtain ⟨ci9, fs9, r9, hx9, hz9, hc9⟩ := hx
  show z_V M h n 1 (N + N / 2) 0 [(0, .ref a), (1, .ref x), (2, .ref e), (3, .int (nI N))] []
  refine z_iload_n hb dJ2_add_2_0 rfl ?_
  refine z_aload_n hb dJ2_add_2_1 rfl ?_
  refine z_alen (kk := 5) hb rfl dJ2_add_2_2 hA ?_
  refine z_icmp_neN (tgt := 11) hb dJ2_add_2_3 (by decide) (by omega) (by omega) (fun c_3 => ?_) (fun c_3 => ?_)
  · exact absurd rfl c_3
  · refine z_aload_n hb dJ2_add_2_6 rfl ?_
    refine z_call1 (b' := 0) (f' := 0) (rest := []) (av := [.ref a]) (z_siteV hb ho zc20 hO q487 q489 qs3 ⟨_, _, _, _, zk_J2_grow⟩ zy_J2_grow zl_J2_grow dJ2_add_2_7 : z_Site M _ _ _ _ _ ([].reverse ++ .ref a :: []) [] _) zk_J2_grow q98 hrm (m_J2_grow_f hO hA ha0 he0 han hen hN10 hN2 hel) (by omega) (by decide) (Nat.le_of_ble_eq_true rfl) (by omega) (by omega) ?_
    obtain ⟨h_1, eh_1⟩ : ∃ h_1, h_1 = z_up h n (.inl ((zm_G M).2.1 5, N + N / 2, .inr (.inr (.inr (.inr (va_cpy f (fun _ => none) 0 0 N)))))) := ⟨_, rfl⟩
    have k_2 : h_1 a = some (.inr (20, [.int m9, .ref e, .int (nI N)])) := z_nx eh_1 (Nat.ne_of_lt han) hO
    have k_3 : h_1 e = some (.inl ((zm_G M).2.1 5, N, .inr (.inr (.inr (.inr f))))) := z_nx eh_1 (Nat.ne_of_lt hen) hA
    have k_4 : h_1 x = some (.inr (ci9, fs9)) := z_nx eh_1 (Nat.ne_of_lt hxn) hx9
    refine z_hh (h2 := z_up h_1 a (.inr (20, [.int m9, .ref n, .int (nI N)]))) (by rw [eh_1]) ?_
    refine z_hn (fun h_5 eh_5 => ?_)
    have eh_5 : h_5 = z_up h_1 a (.inr (20, [.int m9, .ref n, .int (nI N)])) := eh_5
    have k_6 : h_5 e = some (.inl ((zm_G M).2.1 5, N, .inr (.inr (.inr (.inr f))))) := z_nx eh_5 (z_neA' k_3 k_2) k_3
    have k_7 : h_5 x = some (.inr (ci9, fs9)) := z_nx eh_5 hxa k_4
    have k_8 : h_5 n = some (.inl ((zm_G M).2.1 5, N + N / 2, .inr (.inr (.inr (.inr (va_cpy f (fun _ => none) 0 0 N)))))) := z_nx eh_5 (z_neA' (z_nxs eh_1) k_2) (z_nxs eh_1)
    refine z_astore_n (lv' := [(2, .ref n), (0, .ref a), (1, .ref x), (3, .int (nI N))]) hb dJ2_add_2_10 (by rw [hN]; decide) rfl ?_
    refine z_aload_n hb dJ2_add_2_11 rfl ?_
    refine z_iload_n hb dJ2_add_2_12 rfl ?_
    refine z_aload_n hb dJ2_add_2_13 rfl ?_
    refine z_aast (j := N) hb dJ2_add_2_14 k_8 hn0 k_7 hz9 hc9 rfl (by omega) (by omega) ?_
    refine z_hn (fun h_9 eh_9 => ?_)
    have eh_9 : h_9 = z_up h_5 n (.inl ((zm_G M).2.1 5, N + N / 2, .inr (.inr (.inr (.inr (va_up (va_cpy f (fun _ => none) 0 0 N) N (some x))))))) := eh_9
    have k_10 : h_9 a = some (.inr (20, [.int m9, .ref n, .int (nI N)])) := z_nx eh_9 (z_neA (z_nxs eh_5) k_8) (z_nxs eh_5)
    refine z_aload_n hb dJ2_add_2_15 rfl ?_
    refine z_iload_n hb dJ2_add_2_16 rfl ?_
    refine z_iconst (x := nI 1) hb dJ2_add_2_17 (by decide) ?_
    refine z_iadd hb dJ2_add_2_18 ?_
    refine z_toI (y := nI (N + 1)) (nI_add N 1) ?_
    refine z_put (k := 2) (C := RJ2) (T := TJ2) (N := 3) hb ho zc20 in_J2 tyJ2_ok nmJ2 (zf_RJ2_48 _) dJ2_add_2_19 k_10 ha0 (by decide) (Or.inl rfl) rfl rfl rfl (Nat.le_of_ble_eq_true rfl) ?_
    refine z_hn (fun h_11 eh_11 => ?_)
    have eh_11 : h_11 = z_up h_9 a (.inr (20, [.int m9, .ref n, .int (nI (N + 1))])) := eh_11
    have k_12 : h_11 n = some (.inl ((zm_G M).2.1 5, N + N / 2, .inr (.inr (.inr (.inr (va_up (va_cpy f (fun _ => none) 0 0 N) N (some x))))))) := z_nx eh_11 (z_neA' (z_nxs eh_9) k_10) (z_nxs eh_9)
    refine z_vret hb hr dJ2_add_2_22 ?_
    rw [hQ]
    refine ⟨rfl, ?_, rfl⟩
    first
    | (rw [eh_11, eh_9, eh_5, eh_1]; done)
    | (rw [eh_11, eh_9, eh_5, eh_1]; simp only [z_up_up, z_up3]; done)
    | (rw [eh_11, eh_9, eh_5, eh_1]
       funext y
       simp only [z_up]
       by_cases q1 : y = a
       · simp only [q1, if_true]
       · by_cases q2 : y = n
         · simp only [q1, q2, if_true, if_false]
         · simp only [q1, q2, if_false])

set_option maxHeartbeats 1000000 in
theorem m_J2_add_p {l : Launch} {G : zG} {h : zH} {n : Nat} {a e N k x : Nat} {m9 : Int32} {f : Nat → Option Nat} (hO : h a = some (.inr (20, [.int m9, .ref e, .int (nI k)]))) (hA : h e = some (z_ao G N f)) (ha0 : z_n0 G ≤ a) (he0 : z_n0 G ≤ e) (hkN : k < N) (hN2 : N ≤ 200) (hx : z_obj h x) (hxa : x ≠ a) : z_C l G yJ2_add 2 0 0 [.ref a, .ref x] h n (z_rv (.int (nI 1)) (z_up (z_up h e (z_ao G N (va_up f k (some x)))) a (.inr (20, [.int (m9 + nI 1), .ref e, .int (nI (k + 1))]))) n) := by
  refine z_start zk_J2_add zpl_RJ2 (Nat.le_of_ble_eq_true rfl) ?_
  intro hn0 M hl hG ho hb hN hr hm hH hrm hQ
  subst hl hG
  have ho : zm_o M = RJ2 := ho
  obtain ⟨ci9, fs9, r9, hx9, hz9, hc9⟩ := hx
  show z_V M h n 0 0 0 [(0, .ref a), (1, .ref x)] []
  refine z_aload_n hb dJ2_add_0 rfl ?_
  refine z_dup hb dJ2_add_1 rfl ?_
  refine z_get (k := 0) (C := RJ2) (T := TJ2) (N := 3) hb ho zc20 in_J2 (zf_RJ2_63 _) dJ2_add_2 hO (by decide) rfl ?_
  refine z_iconst (x := nI 1) hb dJ2_add_5 (by decide) ?_
  refine z_iadd hb dJ2_add_6 ?_
  refine z_put (k := 0) (C := RJ2) (T := TJ2) (N := 3) hb ho zc20 in_J2 tyJ2_ok nmJ2 (zf_RJ2_63 _) dJ2_add_7 hO ha0 (by decide) (Or.inl rfl) rfl rfl rfl (Nat.le_of_ble_eq_true rfl) ?_
  refine z_hn (fun h_1 eh_1 => ?_)
  have eh_1 : h_1 = z_up h a (.inr (20, [.int (m9 + (nI 1)), .ref e, .int (nI k)])) := eh_1
  have k_2 : h_1 e = some (.inl ((zm_G M).2.1 5, N, .inr (.inr (.inr (.inr f))))) := z_nx eh_1 (z_neA' hA hO) hA
  have k_3 : h_1 x = some (.inr (ci9, fs9)) := z_nx eh_1 hxa hx9
  refine z_aload_n hb dJ2_add_10 rfl ?_
  refine z_aload_n hb dJ2_add_11 rfl ?_
  refine z_aload_n hb dJ2_add_12 rfl ?_
  refine z_get (k := 1) (C := RJ2) (T := TJ2) (N := 3) hb ho zc20 in_J2 (zf_RJ2_9 _) dJ2_add_13 (z_nxs eh_1) (by decide) rfl ?_
  refine z_aload_n hb dJ2_add_16 rfl ?_
  refine z_get (k := 2) (C := RJ2) (T := TJ2) (N := 3) hb ho zc20 in_J2 (zf_RJ2_48 _) dJ2_add_17 (z_nxs eh_1) (by decide) rfl ?_
  refine z_call0 (b' := 0) (f' := 0) (rest := []) (av := [.ref a, .ref x, .ref e, .int (nI k)]) (z_siteV hb ho zc20 (z_nxs eh_1) q483 q485 qs2 ⟨_, _, _, _, zk_J2_add_2⟩ zy_J2_add_2 zl_J2_add_2 dJ2_add_20 : z_Site M _ _ _ _ _ ([.ref x, .ref e, .int (nI k)].reverse ++ .ref a :: []) [] _) zk_J2_add_2 q98 hrm (m_J2_add_2_p (z_nxs eh_1) k_2 ha0 he0 hkN hN2 ⟨_, _, _, k_3, hz9, hc9⟩) (by omega) (by decide) (Nat.le_of_ble_eq_true rfl) (by omega) (by omega) ?_
  obtain ⟨h_4, eh_4⟩ : ∃ h_4, h_4 = z_up h_1 e (.inl ((zm_G M).2.1 5, N, .inr (.inr (.inr (.inr (va_up f k (some x))))))) := ⟨_, rfl⟩
  have k_5 : h_4 a = some (.inr (20, [.int (m9 + (nI 1)), .ref e, .int (nI k)])) := z_nx eh_4 (z_neA (z_nxs eh_1) k_2) (z_nxs eh_1)
  refine z_hh (h2 := z_up h_4 a (.inr (20, [.int (m9 + nI 1), .ref e, .int (nI (k + 1))]))) (by rw [eh_4]) ?_
  refine z_hn (fun h_6 eh_6 => ?_)
  have eh_6 : h_6 = z_up h_4 a (.inr (20, [.int (m9 + nI 1), .ref e, .int (nI (k + 1))])) := eh_6
  have k_7 : h_6 e = some (.inl ((zm_G M).2.1 5, N, .inr (.inr (.inr (.inr (va_up f k (some x))))))) := z_nx eh_6 (z_neA' (z_nxs eh_4) k_5) (z_nxs eh_4)
  refine z_iconst (x := nI 1) hb dJ2_add_23 (by decide) ?_
  refine z_zret hb hr rfl dJ2_add_24 ?_
  rw [hQ]
  refine ⟨rfl, ?_, rfl⟩
  first
  | (rw [eh_6, eh_4, eh_1]; done)
  | (rw [eh_6, eh_4, eh_1]; simp only [z_up_up, z_up3]; done)
  | (rw [eh_6, eh_4, eh_1]
     funext y
     simp only [z_up]
     by_cases q1 : y = a
     · simp only [q1, if_true]
     · by_cases q2 : y = n
       · simp only [q1, q2, if_true, if_false]
       · simp only [q1, q2, if_false])

set_option maxHeartbeats 1000000 in
theorem m_J2_add_0 {l : Launch} {G : zG} {h : zH} {n : Nat} {a x : Nat} {m9 : Int32} {f : Nat → Option Nat} (hO : h a = some (.inr (20, [.int m9, .ref (G.2.2.1 1002), .int (nI 0)]))) (hE : h (G.2.2.1 1002) = some (z_ao G 0 f)) (ha0 : z_n0 G ≤ a) (han : a < n) (hEn : G.2.2.1 1002 < n) (hx : z_obj h x) (hxa : x ≠ a) (hxn : x < n) : z_C l G yJ2_add 6 1 10 [.ref a, .ref x] h n (z_rv (.int (nI 1)) (z_up (z_up h n (z_ao G 10 (va_up (fun _ => none) 0 (some x)))) a (.inr (20, [.int (m9 + nI 1), .ref n, .int (nI 1)]))) (n + 1)) := by
  refine z_start zk_J2_add zpl_RJ2 (Nat.le_of_ble_eq_true rfl) ?_
  intro hn0 M hl hG ho hb hN hr hm hH hrm hQ
  subst hl hG
  have ho : zm_o M = RJ2 := ho
  obtain ⟨ci9, fs9, r9, hx9, hz9, hc9⟩ := hx
  show z_V M h n 1 10 0 [(0, .ref a), (1, .ref x)] []
  refine z_aload_n hb dJ2_add_0 rfl ?_
  refine z_dup hb dJ2_add_1 rfl ?_
  refine z_get (k := 0) (C := RJ2) (T := TJ2) (N := 3) hb ho zc20 in_J2 (zf_RJ2_63 _) dJ2_add_2 hO (by decide) rfl ?_
  refine z_iconst (x := nI 1) hb dJ2_add_5 (by decide) ?_
  refine z_iadd hb dJ2_add_6 ?_
  refine z_put (k := 0) (C := RJ2) (T := TJ2) (N := 3) hb ho zc20 in_J2 tyJ2_ok nmJ2 (zf_RJ2_63 _) dJ2_add_7 hO ha0 (by decide) (Or.inl rfl) rfl rfl rfl (Nat.le_of_ble_eq_true rfl) ?_
  refine z_hn (fun h_1 eh_1 => ?_)
  have eh_1 : h_1 = z_up h a (.inr (20, [.int (m9 + (nI 1)), .ref ((zm_G M).2.2.1 1002), .int (nI 0)])) := eh_1
  have k_2 : h_1 ((zm_G M).2.2.1 1002) = some (.inl ((zm_G M).2.1 5, 0, .inr (.inr (.inr (.inr f))))) := z_nx eh_1 (z_neA' hE hO) hE
  have k_3 : h_1 x = some (.inr (ci9, fs9)) := z_nx eh_1 hxa hx9
  refine z_aload_n hb dJ2_add_10 rfl ?_
  refine z_aload_n hb dJ2_add_11 rfl ?_
  refine z_aload_n hb dJ2_add_12 rfl ?_
  refine z_get (k := 1) (C := RJ2) (T := TJ2) (N := 3) hb ho zc20 in_J2 (zf_RJ2_9 _) dJ2_add_13 (z_nxs eh_1) (by decide) rfl ?_
  refine z_aload_n hb dJ2_add_16 rfl ?_
  refine z_get (k := 2) (C := RJ2) (T := TJ2) (N := 3) hb ho zc20 in_J2 (zf_RJ2_48 _) dJ2_add_17 (z_nxs eh_1) (by decide) rfl ?_
  refine z_call0 (b' := 0) (f' := 0) (rest := []) (av := [.ref a, .ref x, .ref ((zm_G M).2.2.1 1002), .int (nI 0)]) (z_siteV hb ho zc20 (z_nxs eh_1) q483 q485 qs2 ⟨_, _, _, _, zk_J2_add_2⟩ zy_J2_add_2 zl_J2_add_2 dJ2_add_20 : z_Site M _ _ _ _ _ ([.ref x, .ref ((zm_G M).2.2.1 1002), .int (nI 0)].reverse ++ .ref a :: []) [] _) zk_J2_add_2 q98 hrm (m_J2_add_2_0 (z_nxs eh_1) k_2 ha0 han hEn ⟨_, _, _, k_3, hz9, hc9⟩ hxa hxn) (by omega) (by decide) (Nat.le_of_ble_eq_true rfl) (by omega) (by omega) ?_
  obtain ⟨h_4, eh_4⟩ : ∃ h_4, h_4 = z_up h_1 n (.inl ((zm_G M).2.1 5, 10, .inr (.inr (.inr (.inr (va_up (fun _ => none) 0 (some x))))))) := ⟨_, rfl⟩
  have k_5 : h_4 ((zm_G M).2.2.1 1002) = some (.inl ((zm_G M).2.1 5, 0, .inr (.inr (.inr (.inr f))))) := z_nx eh_4 (Nat.ne_of_lt hEn) k_2
  have k_6 : h_4 x = some (.inr (ci9, fs9)) := z_nx eh_4 (Nat.ne_of_lt hxn) k_3
  have k_7 : h_4 a = some (.inr (20, [.int (m9 + (nI 1)), .ref ((zm_G M).2.2.1 1002), .int (nI 0)])) := z_nx eh_4 (Nat.ne_of_lt han) (z_nxs eh_1)
  refine z_hh (h2 := z_up h_4 a (.inr (20, [.int (m9 + nI 1), .ref n, .int (nI 1)]))) (by rw [eh_4]) ?_
  refine z_hn (fun h_8 eh_8 => ?_)
  have eh_8 : h_8 = z_up h_4 a (.inr (20, [.int (m9 + nI 1), .ref n, .int (nI 1)])) := eh_8
  have k_9 : h_8 ((zm_G M).2.2.1 1002) = some (.inl ((zm_G M).2.1 5, 0, .inr (.inr (.inr (.inr f))))) := z_nx eh_8 (z_neA' k_5 k_7) k_5
  have k_10 : h_8 x = some (.inr (ci9, fs9)) := z_nx eh_8 hxa k_6
  have k_11 : h_8 n = some (.inl ((zm_G M).2.1 5, 10, .inr (.inr (.inr (.inr (va_up (fun _ => none) 0 (some x))))))) := z_nx eh_8 (z_neA' (z_nxs eh_4) k_7) (z_nxs eh_4)
  refine z_iconst (x := nI 1) hb dJ2_add_23 (by decide) ?_
  refine z_zret hb hr rfl dJ2_add_24 ?_
  rw [hQ]
  refine ⟨rfl, ?_, rfl⟩
  first
  | (rw [eh_8, eh_4, eh_1]; done)
  | (rw [eh_8, eh_4, eh_1]; simp only [z_up_up, z_up3]; done)
  | (rw [eh_8, eh_4, eh_1]
     funext y
     simp only [z_up]
     by_cases q1 : y = a
     · simp only [q1, if_true]
     · by_cases q2 : y = n
       · simp only [q1, q2, if_true, if_false]
       · simp only [q1, q2, if_false])

set_option maxHeartbeats 1000000 in
theorem m_J2_add_f {l : Launch} {G : zG} {h : zH} {n : Nat} {a e N x : Nat} {m9 : Int32} {f : Nat → Option Nat} (hO : h a = some (.inr (20, [.int m9, .ref e, .int (nI N)]))) (hA : h e = some (z_ao G N f)) (ha0 : z_n0 G ≤ a) (he0 : z_n0 G ≤ e) (han : a < n) (hen : e < n) (hN10 : 10 ≤ N) (hN2 : N ≤ 100) (hel : ∀ i, i < N → ∀ y, f i = some y → y < n ∧ z_obj h y) (hx : z_obj h x) (hxa : x ≠ a) (hxn : x < n) (hela : ∀ i, i < N → ∀ y, f i = some y → y ≠ a) : z_C l G yJ2_add 6 1 (N + N / 2) [.ref a, .ref x] h n (z_rv (.int (nI 1)) (z_up (z_up h n (z_ao G (N + N / 2) (va_up (va_cpy f (fun _ => none) 0 0 N) N (some x)))) a (.inr (20, [.int (m9 + nI 1), .ref n, .int (nI (N + 1))]))) (n + 1)) := by
  refine z_start zk_J2_add zpl_RJ2 (Nat.le_of_ble_eq_true rfl) ?_
  intro hn0 M hl hG ho hb hN hr hm hH hrm hQ
  subst hl hG
  have ho : zm_o M = RJ2 := ho
  obtain ⟨ci9, fs9, r9, hx9, hz9, hc9⟩ := hx
  show z_V M h n 1 (N + N / 2) 0 [(0, .ref a), (1, .ref x)] []
  refine z_aload_n hb dJ2_add_0 rfl ?_
  refine z_dup hb dJ2_add_1 rfl ?_
  refine z_get (k := 0) (C := RJ2) (T := TJ2) (N := 3) hb ho zc20 in_J2 (zf_RJ2_63 _) dJ2_add_2 hO (by decide) rfl ?_
  refine z_iconst (x := nI 1) hb dJ2_add_5 (by decide) ?_
  refine z_iadd hb dJ2_add_6 ?_
  refine z_put (k := 0) (C := RJ2) (T := TJ2) (N := 3) hb ho zc20 in_J2 tyJ2_ok nmJ2 (zf_RJ2_63 _) dJ2_add_7 hO ha0 (by decide) (Or.inl rfl) rfl rfl rfl (Nat.le_of_ble_eq_true rfl) ?_
  refine z_hn (fun h_1 eh_1 => ?_)
  have eh_1 : h_1 = z_up h a (.inr (20, [.int (m9 + (nI 1)), .ref e, .int (nI N)])) := eh_1
  have k_2 : h_1 e = some (.inl ((zm_G M).2.1 5, N, .inr (.inr (.inr (.inr f))))) := z_nx eh_1 (z_neA' hA hO) hA
  have k_3 : h_1 x = some (.inr (ci9, fs9)) := z_nx eh_1 hxa hx9
  refine z_aload_n hb dJ2_add_10 rfl ?_
  refine z_aload_n hb dJ2_add_11 rfl ?_
  refine z_aload_n hb dJ2_add_12 rfl ?_
  refine z_get (k := 1) (C := RJ2) (T := TJ2) (N := 3) hb ho zc20 in_J2 (zf_RJ2_9 _) dJ2_add_13 (z_nxs eh_1) (by decide) rfl ?_
  refine z_aload_n hb dJ2_add_16 rfl ?_
  refine z_get (k := 2) (C := RJ2) (T := TJ2) (N := 3) hb ho zc20 in_J2 (zf_RJ2_48 _) dJ2_add_17 (z_nxs eh_1) (by decide) rfl ?_
  refine z_call0 (b' := 0) (f' := 0) (rest := []) (av := [.ref a, .ref x, .ref e, .int (nI N)]) (z_siteV hb ho zc20 (z_nxs eh_1) q483 q485 qs2 ⟨_, _, _, _, zk_J2_add_2⟩ zy_J2_add_2 zl_J2_add_2 dJ2_add_20 : z_Site M _ _ _ _ _ ([.ref x, .ref e, .int (nI N)].reverse ++ .ref a :: []) [] _) zk_J2_add_2 q98 hrm (m_J2_add_2_f (z_nxs eh_1) k_2 ha0 he0 han hen hN10 hN2 (fun i hi y hy => ⟨(hel i hi y hy).1, by rw [eh_1]; exact (hel i hi y hy).2.up (hela i hi y hy)⟩) ⟨_, _, _, k_3, hz9, hc9⟩ hxa hxn) (by omega) (by decide) (Nat.le_of_ble_eq_true rfl) (by omega) (by omega) ?_
  obtain ⟨h_4, eh_4⟩ : ∃ h_4, h_4 = z_up h_1 n (.inl ((zm_G M).2.1 5, N + N / 2, .inr (.inr (.inr (.inr (va_up (va_cpy f (fun _ => none) 0 0 N) N (some x))))))) := ⟨_, rfl⟩
  have k_5 : h_4 e = some (.inl ((zm_G M).2.1 5, N, .inr (.inr (.inr (.inr f))))) := z_nx eh_4 (Nat.ne_of_lt hen) k_2
  have k_6 : h_4 x = some (.inr (ci9, fs9)) := z_nx eh_4 (Nat.ne_of_lt hxn) k_3
  have k_7 : h_4 a = some (.inr (20, [.int (m9 + (nI 1)), .ref e, .int (nI N)])) := z_nx eh_4 (Nat.ne_of_lt han) (z_nxs eh_1)
  refine z_hh (h2 := z_up h_4 a (.inr (20, [.int (m9 + nI 1), .ref n, .int (nI (N + 1))]))) (by rw [eh_4]) ?_
  refine z_hn (fun h_8 eh_8 => ?_)
  have eh_8 : h_8 = z_up h_4 a (.inr (20, [.int (m9 + nI 1), .ref n, .int (nI (N + 1))])) := eh_8
  have k_9 : h_8 e = some (.inl ((zm_G M).2.1 5, N, .inr (.inr (.inr (.inr f))))) := z_nx eh_8 (z_neA' k_5 k_7) k_5
  have k_10 : h_8 x = some (.inr (ci9, fs9)) := z_nx eh_8 hxa k_6
  have k_11 : h_8 n = some (.inl ((zm_G M).2.1 5, N + N / 2, .inr (.inr (.inr (.inr (va_up (va_cpy f (fun _ => none) 0 0 N) N (some x))))))) := z_nx eh_8 (z_neA' (z_nxs eh_4) k_7) (z_nxs eh_4)
  refine z_iconst (x := nI 1) hb dJ2_add_23 (by decide) ?_
  refine z_zret hb hr rfl dJ2_add_24 ?_
  rw [hQ]
  refine ⟨rfl, ?_, rfl⟩
  first
  | (rw [eh_8, eh_4, eh_1]; done)
  | (rw [eh_8, eh_4, eh_1]; simp only [z_up_up, z_up3]; done)
  | (rw [eh_8, eh_4, eh_1]
     funext y
     simp only [z_up]
     by_cases q1 : y = a
     · simp only [q1, if_true]
     · by_cases q2 : y = n
       · simp only [q1, q2, if_true, if_false]
       · simp only [q1, q2, if_false])

