set_option maxHeartbeats 1000000 in
theorem m_J30_equals {l : Launch} {G : zG} {h : zH} {n : Nat} (x y : Nat)  : z_C l G yJ30_equals 1 0 0 [.ref x, .ref y] h n (z_rv (.int (z_b (decide (x = y)))) h n) := by
  refine z_startF zk_J30_equals (by decide +kernel) (Nat.le_of_ble_eq_true rfl) ?_
  intro hn0 M hl hG ho hb hN hr hm hH hrm hQ
  subst hl hG
  have ho : zm_o M = RJ30 := ho
  show z_V M h n 0 0 0 [(0, .ref x), (1, .ref y)] []
  refine z_aload_n hb dJ30_equals_0 rfl ?_
  refine z_aload_n hb dJ30_equals_1 rfl ?_
  refine z_acmp_ne (rx := some x) (ry := some y) (tgt := 9) hb dJ30_equals_2 (by decide) (fun c_2 => ?_) (fun c_2 => ?_)
  · refine z_iconst (x := nI 0) hb dJ30_equals_9 (by decide) ?_
    refine z_zret hb hr rfl dJ30_equals_10 ?_
    rw [hQ]
    exact z_rvb0 (by simpa using c_2)
  · refine z_iconst (x := nI 1) hb dJ30_equals_5 (by decide) ?_
    refine z_goto (tgt := 10) hb dJ30_equals_6 (by decide) ?_
    refine z_zret hb hr rfl dJ30_equals_10 ?_
    rw [hQ]
    exact z_rvb1 (by simpa using c_2)

set_option maxHeartbeats 1000000 in
theorem m_J18_checkIndex {l : Launch} {G : zG} {h : zH} {n : Nat} {i k : Nat} (hi : i < k) (hk : k < 2 ^ 31) : z_C l G yJ18_checkIndex 1 0 0 [.int (nI i), .int (nI k), .null] h n (z_rv (.int (nI i)) h n) := by
  refine z_start zk_J18_checkIndex zpl_RJ18 (Nat.le_of_ble_eq_true rfl) ?_
  intro hn0 M hl hG ho hb hN hr hm hH hrm hQ
  subst hl hG
  have ho : zm_o M = RJ18 := ho
  show z_V M h n 0 0 0 [(0, .int (nI i)), (1, .int (nI k)), (2, .null)] []
  refine z_iload_n hb dJ18_checkIndex_0 rfl ?_
  refine z_if_ltN (tgt := 9) hb dJ18_checkIndex_1 (by decide) (by omega) ?_
  refine z_iload_n hb dJ18_checkIndex_4 rfl ?_
  refine z_iload_n hb dJ18_checkIndex_5 rfl ?_
  refine z_icmp_ltN (tgt := 16) hb dJ18_checkIndex_6 (by decide) (by omega) (by omega) (fun c_6 => ?_) (fun c_6 => ?_)
  · refine z_iload_n hb dJ18_checkIndex_16 rfl ?_
    refine z_iret hb hr dJ18_checkIndex_17 ?_
    rw [hQ]
    exact ⟨rfl, rfl, rfl⟩
  · exact absurd c_6 (by omega)

set_option maxHeartbeats 1000000 in
theorem m_J20_checkIndex {l : Launch} {G : zG} {h : zH} {n : Nat} {i k : Nat} (hi : i < k) (hk : k < 2 ^ 31) : z_C l G yJ20_checkIndex 2 0 0 [.int (nI i), .int (nI k)] h n (z_rv (.int (nI i)) h n) := by
  refine z_start zk_J20_checkIndex zpl_RJ20 (Nat.le_of_ble_eq_true rfl) ?_
  intro hn0 M hl hG ho hb hN hr hm hH hrm hQ
  subst hl hG
  have ho : zm_o M = RJ20 := ho
  show z_V M h n 0 0 0 [(0, .int (nI i)), (1, .int (nI k))] []
  refine z_iload_n hb dJ20_checkIndex_0 rfl ?_
  refine z_iload_n hb dJ20_checkIndex_1 rfl ?_
  refine z_null hb dJ20_checkIndex_2 ?_
  refine z_call1 (b' := 0) (f' := 0) (rest := []) (av := [.int (nI i), .int (nI k), .null]) (z_siteS hb ho q671 q672 q118 ⟨_, _, _, _, zk_J18_checkIndex⟩ zy_J18_checkIndex zl_J18_checkIndex dJ20_checkIndex_3 : z_Site M _ _ _ _ _ ([.int (nI i), .int (nI k), .null].reverse ++ []) [] _) zk_J18_checkIndex q118 hrm (m_J18_checkIndex (by omega) (by omega)) (by omega) (by decide) (Nat.le_of_ble_eq_true rfl) (by omega) (by omega) ?_
  refine z_iret hb hr dJ20_checkIndex_6 ?_
  rw [hQ]
  exact ⟨rfl, rfl, rfl⟩

set_option maxHeartbeats 1000000 in
theorem m_J2_size {l : Launch} {G : zG} {h : zH} {n : Nat} {a e k : Nat} {m9 : Int32} (hO : h a = some (.inr (20, [.int m9, .ref e, .int (nI k)]))) : z_C l G yJ2_size 1 0 0 [.ref a] h n (z_rv (.int (nI k)) h n) := by
  refine z_start zk_J2_size zpl_RJ2 (Nat.le_of_ble_eq_true rfl) ?_
  intro hn0 M hl hG ho hb hN hr hm hH hrm hQ
  subst hl hG
  have ho : zm_o M = RJ2 := ho
  show z_V M h n 0 0 0 [(0, .ref a)] []
  refine z_aload_n hb dJ2_size_0 rfl ?_
  refine z_get (k := 2) (C := RJ2) (T := TJ2) (N := 3) hb ho zc20 in_J2 (zf_RJ2_48 _) dJ2_size_1 hO (by decide) rfl ?_
  refine z_iret hb hr dJ2_size_4 ?_
  rw [hQ]
  exact ⟨rfl, rfl, rfl⟩

set_option maxHeartbeats 1000000 in
theorem m_J2_elementData {l : Launch} {G : zG} {h : zH} {n : Nat} {a e N k : Nat} {m9 : Int32} {f : Nat → Option Nat} {g : Nat → Nat} {i : Nat} (hO : h a = some (.inr (20, [.int m9, .ref e, .int (nI k)]))) (hA : h e = some (z_ao G N f)) (hkN : k ≤ N) (hN2 : N ≤ 200) (hS : ∀ j, j < k → f j = some (g j)) (hi : i < k) : z_C l G yJ2_elementData 1 0 0 [.ref a, .int (nI i)] h n (z_rv (.ref (g i)) h n) := by
  refine z_start zk_J2_elementData zpl_RJ2 (Nat.le_of_ble_eq_true rfl) ?_
  intro hn0 M hl hG ho hb hN hr hm hH hrm hQ
  subst hl hG
  have ho : zm_o M = RJ2 := ho
  show z_V M h n 0 0 0 [(0, .ref a), (1, .int (nI i))] []
  refine z_aload_n hb dJ2_elementData_0 rfl ?_
  refine z_get (k := 1) (C := RJ2) (T := TJ2) (N := 3) hb ho zc20 in_J2 (zf_RJ2_9 _) dJ2_elementData_1 hO (by decide) rfl ?_
  refine z_iload_n hb dJ2_elementData_4 rfl ?_
  refine z_aald (j := i) hb dJ2_elementData_5 hA rfl (by omega) (by omega) ?_
  refine z_toR (z := g i) (hS i hi) ?_
  refine z_aret hb hr (Or.inl ⟨_, rfl⟩) (Or.inr ⟨_, rfl⟩) dJ2_elementData_6 ?_
  rw [hQ]
  exact ⟨rfl, rfl, rfl⟩

set_option maxHeartbeats 1000000 in
theorem m_J2_get {l : Launch} {G : zG} {h : zH} {n : Nat} {a e N k : Nat} {m9 : Int32} {f : Nat → Option Nat} {g : Nat → Nat} {i : Nat} (hO : h a = some (.inr (20, [.int m9, .ref e, .int (nI k)]))) (hA : h e = some (z_ao G N f)) (hkN : k ≤ N) (hN2 : N ≤ 200) (hS : ∀ j, j < k → f j = some (g j)) (hi : i < k) : z_C l G yJ2_get 3 0 0 [.ref a, .int (nI i)] h n (z_rv (.ref (g i)) h n) := by
  refine z_start zk_J2_get zpl_RJ2 (Nat.le_of_ble_eq_true rfl) ?_
  intro hn0 M hl hG ho hb hN hr hm hH hrm hQ
  subst hl hG
  have ho : zm_o M = RJ2 := ho
  show z_V M h n 0 0 0 [(0, .ref a), (1, .int (nI i))] []
  refine z_iload_n hb dJ2_get_0 rfl ?_
  refine z_aload_n hb dJ2_get_1 rfl ?_
  refine z_get (k := 2) (C := RJ2) (T := TJ2) (N := 3) hb ho zc20 in_J2 (zf_RJ2_48 _) dJ2_get_2 hO (by decide) rfl ?_
  refine z_call1 (b' := 0) (f' := 0) (rest := []) (av := [.int (nI i), .int (nI k)]) (z_siteS hb ho q668 q669 q124 ⟨_, _, _, _, zk_J20_checkIndex⟩ zy_J20_checkIndex zl_J20_checkIndex dJ2_get_5 : z_Site M _ _ _ _ _ ([.int (nI i), .int (nI k)].reverse ++ []) [] _) zk_J20_checkIndex q124 hrm (m_J20_checkIndex (by omega) (by omega)) (by omega) (by decide) (Nat.le_of_ble_eq_true rfl) (by omega) (by omega) ?_
  refine z_pop hb dJ2_get_8 rfl ?_
  refine z_aload_n hb dJ2_get_9 rfl ?_
  refine z_iload_n hb dJ2_get_10 rfl ?_
  refine z_call1 (b' := 0) (f' := 0) (rest := []) (av := [.ref a, .int (nI i)]) (z_siteV hb ho zc20 hO q674 q675 q676 ⟨_, _, _, _, zk_J2_elementData⟩ zy_J2_elementData zl_J2_elementData dJ2_get_11 : z_Site M _ _ _ _ _ ([.int (nI i)].reverse ++ .ref a :: []) [] _) zk_J2_elementData q98 hrm (m_J2_elementData hO hA (by omega) (by omega) hS (by omega)) (by omega) (by decide) (Nat.le_of_ble_eq_true rfl) (by omega) (by omega) ?_
  refine z_aret hb hr (Or.inl ⟨_, rfl⟩) (Or.inr ⟨_, rfl⟩) dJ2_get_14 ?_
  rw [hQ]
  exact ⟨rfl, rfl, rfl⟩

set_option maxHeartbeats 1000000 in
theorem m_J8_init {l : Launch} {G : zG} {h : zH} {n : Nat} {a e k : Nat} {m9 : Int32} {t : Nat} (ht9 : h t = some (.inr (24, [.int (nI 0), .int (nI 0), .int (nI 0), .null]))) (hnt : z_n0 G ≤ t) (hO : h a = some (.inr (20, [.int m9, .ref e, .int (nI k)]))) : z_C l G yJ8_init 2 0 0 [.ref t, .ref a] h n (z_r0 (z_up h t (.inr (24, [.int (nI 0), .int (-1), .int m9, .ref a]))) n) := by
  refine z_start zk_J8_init zpl_RJ8 (Nat.le_of_ble_eq_true rfl) ?_
  intro hn0 M hl hG ho hb hN hr hm hH hrm hQ
  subst hl hG
  have ho : zm_o M = RJ8 := ho
  show z_V M h n 0 0 0 [(0, .ref t), (1, .ref a)] []
  refine z_aload_n hb dJ8_init_0 rfl ?_
  refine z_aload_n hb dJ8_init_1 rfl ?_
  refine z_put (k := 3) (C := RJ8) (T := TJ8) (N := 4) hb ho zc24 in_J8 tyJ8_ok nmJ8 (zf_RJ8_1 _) dJ8_init_2 ht9 hnt (by decide) (Or.inr ⟨hm, rfl⟩) rfl rfl rfl (Nat.le_of_ble_eq_true rfl) ?_
  refine z_hn (fun h_1 eh_1 => ?_)
  have eh_1 : h_1 = z_up h t (.inr (24, [.int (nI 0), .int (nI 0), .int (nI 0), .ref a])) := eh_1
  have k_2 : h_1 a = some (.inr (20, [.int m9, .ref e, .int (nI k)])) := z_nx eh_1 (z_neO hO ht9 rfl) hO
  refine z_aload_n hb dJ8_init_5 rfl ?_
  refine z_oinit hb ho hrm (by omega) q353 q155 q156 (by decide) dJ8_init_6 ?_
  refine z_aload_n hb dJ8_init_9 rfl ?_
  refine z_iconst (x := (-1)) hb dJ8_init_10 (by decide) ?_
  refine z_put (k := 1) (C := RJ8) (T := TJ8) (N := 4) hb ho zc24 in_J8 tyJ8_ok nmJ8 (zf_RJ8_13 _) dJ8_init_11 (z_nxs eh_1) hnt (by decide) (Or.inl rfl) rfl rfl rfl (Nat.le_of_ble_eq_true rfl) ?_
  refine z_hn (fun h_3 eh_3 => ?_)
  have eh_3 : h_3 = z_up h_1 t (.inr (24, [.int (nI 0), .int (-1), .int (nI 0), .ref a])) := eh_3
  have k_4 : h_3 a = some (.inr (20, [.int m9, .ref e, .int (nI k)])) := z_nx eh_3 (z_neO k_2 (z_nxs eh_1) rfl) k_2
  refine z_aload_n hb dJ8_init_14 rfl ?_
  refine z_aload_n hb dJ8_init_15 rfl ?_
  refine z_get (k := 3) (C := RJ8) (T := TJ8) (N := 4) hb ho zc24 in_J8 (zf_RJ8_1 _) dJ8_init_16 (z_nxs eh_3) (by decide) rfl ?_
  refine z_get (k := 0) (C := RJ2) (T := TJ2) (N := 3) hb ho zc20 in_J2 (zf_RJ8_17 _) dJ8_init_19 k_4 (by decide) rfl ?_
  refine z_put (k := 2) (C := RJ8) (T := TJ8) (N := 4) hb ho zc24 in_J8 tyJ8_ok nmJ8 (zf_RJ8_22 _) dJ8_init_22 (z_nxs eh_3) hnt (by decide) (Or.inl rfl) rfl rfl rfl (Nat.le_of_ble_eq_true rfl) ?_
  refine z_hn (fun h_5 eh_5 => ?_)
  have eh_5 : h_5 = z_up h_3 t (.inr (24, [.int (nI 0), .int (-1), .int m9, .ref a])) := eh_5
  have k_6 : h_5 a = some (.inr (20, [.int m9, .ref e, .int (nI k)])) := z_nx eh_5 (z_neO k_4 (z_nxs eh_3) rfl) k_4
  refine z_vret hb hr dJ8_init_25 ?_
  rw [hQ]
  exact ⟨rfl, (by rw [eh_5, eh_3, eh_1] <;> simp only [z_up_up]), rfl⟩

set_option maxHeartbeats 1000000 in
theorem m_J2_iterator {l : Launch} {G : zG} {h : zH} {n : Nat} {a e k : Nat} {m9 : Int32} (hO : h a = some (.inr (20, [.int m9, .ref e, .int (nI k)]))) (ha : a < n) : z_C l G yJ2_iterator 3 1 4 [.ref a] h n (z_rv (.ref n) (z_up h n (.inr (24, [.int (nI 0), .int (-1), .int m9, .ref a]))) (n + 1)) := by
  refine z_start zk_J2_iterator zpl_RJ2 (Nat.le_of_ble_eq_true rfl) ?_
  intro hn0 M hl hG ho hb hN hr hm hH hrm hQ
  subst hl hG
  have ho : zm_o M = RJ2 := ho
  show z_V M h n 1 4 0 [(0, .ref a)] []
  refine z_new (N0 := 4) (b' := 0) (f' := 0) (fs := [.int (nI 0), .int (nI 0), .int (nI 0), .null]) (C := RJ8) (T := TJ8) (N := 4) hb ho zc24 in_J8 tyJ8_ok q348 q349 q105 dJ2_iterator_0 (zdf_J8) (by omega) (by omega) ?_
  refine z_hn (fun h_1 eh_1 => ?_)
  have eh_1 : h_1 = z_up h n (.inr (24, [.int (nI 0), .int (nI 0), .int (nI 0), .null])) := eh_1
  have k_2 : h_1 a = some (.inr (20, [.int m9, .ref e, .int (nI k)])) := z_nx eh_1 (Nat.ne_of_lt ha) hO
  refine z_dup hb dJ2_iterator_3 rfl ?_
  refine z_aload_n hb dJ2_iterator_4 rfl ?_
  refine z_call0 (b' := 0) (f' := 0) (rest := [.ref n]) (av := [.ref n, .ref a]) (z_siteI hb ho q350 q351 q352 rfl zy_J8_init zl_J8_init dJ2_iterator_5 : z_Site M _ _ _ _ _ ([.ref a].reverse ++ .ref n :: [.ref n]) [.ref n] _) zk_J8_init q105 hrm (m_J8_init (z_nxs eh_1) (by omega) k_2) (by omega) (by decide) (Nat.le_of_ble_eq_true rfl) (by omega) (by omega) ?_
  refine z_hn (fun h_3 eh_3 => ?_)
  have eh_3 : h_3 = z_up h_1 n (.inr (24, [.int (nI 0), .int (-1), .int m9, .ref a])) := eh_3
  have k_4 : h_3 a = some (.inr (20, [.int m9, .ref e, .int (nI k)])) := z_nx eh_3 (z_neO k_2 (z_nxs eh_1) rfl) k_2
  refine z_aret hb hr (Or.inl ⟨_, rfl⟩) (Or.inr ⟨_, rfl⟩) dJ2_iterator_8 ?_
  rw [hQ]
  exact ⟨rfl, (by rw [eh_3, eh_1] <;> simp only [z_up_up]), rfl⟩

set_option maxHeartbeats 1000000 in
theorem m_J8_hasNext {l : Launch} {G : zG} {h : zH} {n : Nat} {a e k : Nat} {m9 : Int32} {t c : Nat} {l9 : Int32} (hT : h t = some (.inr (24, [.int (nI c), .int l9, .int m9, .ref a]))) (hO : h a = some (.inr (20, [.int m9, .ref e, .int (nI k)]))) (hck : c ≤ k) (hk2 : k ≤ 200) : z_C l G yJ8_hasNext 1 0 0 [.ref t] h n (z_rv (.int (z_b (!decide (c = k)))) h n) := by
  refine z_start zk_J8_hasNext zpl_RJ8 (Nat.le_of_ble_eq_true rfl) ?_
  intro hn0 M hl hG ho hb hN hr hm hH hrm hQ
  subst hl hG
  have ho : zm_o M = RJ8 := ho
  show z_V M h n 0 0 0 [(0, .ref t)] []
  refine z_aload_n hb dJ8_hasNext_0 rfl ?_
  refine z_get (k := 0) (C := RJ8) (T := TJ8) (N := 4) hb ho zc24 in_J8 (zf_RJ8_25 _) dJ8_hasNext_1 hT (by decide) rfl ?_
  refine z_aload_n hb dJ8_hasNext_4 rfl ?_
  refine z_get (k := 3) (C := RJ8) (T := TJ8) (N := 4) hb ho zc24 in_J8 (zf_RJ8_1 _) dJ8_hasNext_5 hT (by decide) rfl ?_
  refine z_get (k := 2) (C := RJ2) (T := TJ2) (N := 3) hb ho zc20 in_J2 (zf_RJ8_28 _) dJ8_hasNext_8 hO (by decide) rfl ?_
  refine z_icmp_eqN (tgt := 18) hb dJ8_hasNext_11 (by decide) (by omega) (by omega) (fun c_11 => ?_) (fun c_11 => ?_)
  · refine z_iconst (x := nI 0) hb dJ8_hasNext_18 (by decide) ?_
    refine z_zret hb hr rfl dJ8_hasNext_19 ?_
    rw [hQ]
    exact z_rvb0 (by simp [c_11])
  · refine z_iconst (x := nI 1) hb dJ8_hasNext_14 (by decide) ?_
    refine z_goto (tgt := 19) hb dJ8_hasNext_15 (by decide) ?_
    refine z_zret hb hr rfl dJ8_hasNext_19 ?_
    rw [hQ]
    exact z_rvb1 (by simp [c_11])

set_option maxHeartbeats 1000000 in
theorem m_J8_checkForComodification {l : Launch} {G : zG} {h : zH} {n : Nat} {a e k : Nat} {m9 : Int32} {t c : Nat} {l9 : Int32} (hT : h t = some (.inr (24, [.int (nI c), .int l9, .int m9, .ref a]))) (hO : h a = some (.inr (20, [.int m9, .ref e, .int (nI k)]))) : z_C l G yJ8_checkForComodification 1 0 0 [.ref t] h n (z_r0 h n) := by
  refine z_start zk_J8_checkForComodification zpl_RJ8 (Nat.le_of_ble_eq_true rfl) ?_
  intro hn0 M hl hG ho hb hN hr hm hH hrm hQ
  subst hl hG
  have ho : zm_o M = RJ8 := ho
  show z_V M h n 0 0 0 [(0, .ref t)] []
  refine z_aload_n hb dJ8_checkForComodification_0 rfl ?_
  refine z_get (k := 3) (C := RJ8) (T := TJ8) (N := 4) hb ho zc24 in_J8 (zf_RJ8_1 _) dJ8_checkForComodification_1 hT (by decide) rfl ?_
  refine z_get (k := 0) (C := RJ2) (T := TJ2) (N := 3) hb ho zc20 in_J2 (zf_RJ8_17 _) dJ8_checkForComodification_4 hO (by decide) rfl ?_
  refine z_aload_n hb dJ8_checkForComodification_7 rfl ?_
  refine z_get (k := 2) (C := RJ8) (T := TJ8) (N := 4) hb ho zc24 in_J8 (zf_RJ8_22 _) dJ8_checkForComodification_8 hT (by decide) rfl ?_
  refine z_icmp_eq (tgt := 22) hb dJ8_checkForComodification_11 (by decide) (fun c_11 => ?_) (fun c_11 => ?_)
  · refine z_vret hb hr dJ8_checkForComodification_22 ?_
    rw [hQ]
    exact ⟨rfl, rfl, rfl⟩
  · exact absurd rfl c_11

set_option maxHeartbeats 1000000 in
theorem m_J8_next {l : Launch} {G : zG} {h : zH} {n : Nat} {a e N k : Nat} {m9 : Int32} {f : Nat → Option Nat} {g : Nat → Nat} {t c : Nat} {l9 : Int32} (hT : h t = some (.inr (24, [.int (nI c), .int l9, .int m9, .ref a]))) (hO : h a = some (.inr (20, [.int m9, .ref e, .int (nI k)]))) (hA : h e = some (z_ao G N f)) (hkN : k ≤ N) (hN2 : N ≤ 200) (hS : ∀ j, j < k → f j = some (g j)) (hck : c < k) (hnt : z_n0 G ≤ t) : z_C l G yJ8_next 2 0 0 [.ref t] h n (z_rv (.ref (g c)) (z_up h t (.inr (24, [.int (nI (c + 1)), .int (nI c), .int m9, .ref a]))) n) := by
  refine z_start zk_J8_next zpl_RJ8 (Nat.le_of_ble_eq_true rfl) ?_
  intro hn0 M hl hG ho hb hN hr hm hH hrm hQ
  subst hl hG
  have ho : zm_o M = RJ8 := ho
  show z_V M h n 0 0 0 [(0, .ref t)] []
  refine z_aload_n hb dJ8_next_0 rfl ?_
  refine z_call0 (b' := 0) (f' := 0) (rest := []) (av := [.ref t]) (z_siteV hb ho zc24 hT q386 q387 q388 ⟨_, _, _, _, zk_J8_checkForComodification⟩ zy_J8_checkForComodification zl_J8_checkForComodification dJ8_next_1 : z_Site M _ _ _ _ _ ([].reverse ++ .ref t :: []) [] _) zk_J8_checkForComodification q105 hrm (m_J8_checkForComodification hT hO) (by omega) (by decide) (Nat.le_of_ble_eq_true rfl) (by omega) (by omega) ?_
  refine z_aload_n hb dJ8_next_4 rfl ?_
  refine z_get (k := 0) (C := RJ8) (T := TJ8) (N := 4) hb ho zc24 in_J8 (zf_RJ8_25 _) dJ8_next_5 hT (by decide) rfl ?_
  refine z_istore_n (lv' := [(1, .int (nI c)), (0, .ref t)]) hb dJ8_next_8 (by rw [hN]; decide) rfl ?_
  refine z_iload_n hb dJ8_next_9 rfl ?_
  refine z_aload_n hb dJ8_next_10 rfl ?_
  refine z_get (k := 3) (C := RJ8) (T := TJ8) (N := 4) hb ho zc24 in_J8 (zf_RJ8_1 _) dJ8_next_11 hT (by decide) rfl ?_
  refine z_get (k := 2) (C := RJ2) (T := TJ2) (N := 3) hb ho zc20 in_J2 (zf_RJ8_28 _) dJ8_next_14 hO (by decide) rfl ?_
  refine z_icmp_ltN (tgt := 28) hb dJ8_next_17 (by decide) (by omega) (by omega) (fun c_17 => ?_) (fun c_17 => ?_)
  · refine z_aload_n hb dJ8_next_28 rfl ?_
    refine z_get (k := 3) (C := RJ8) (T := TJ8) (N := 4) hb ho zc24 in_J8 (zf_RJ8_1 _) dJ8_next_29 hT (by decide) rfl ?_
    refine z_get (k := 1) (C := RJ2) (T := TJ2) (N := 3) hb ho zc20 in_J2 (zf_RJ8_37 _) dJ8_next_32 hO (by decide) rfl ?_
    refine z_astore_n (lv' := [(2, .ref e), (1, .int (nI c)), (0, .ref t)]) hb dJ8_next_35 (by rw [hN]; decide) rfl ?_
    refine z_iload_n hb dJ8_next_36 rfl ?_
    refine z_aload_n hb dJ8_next_37 rfl ?_
    refine z_alen (kk := 5) hb rfl dJ8_next_38 hA ?_
    refine z_icmp_ltN (tgt := 50) hb dJ8_next_39 (by decide) (by omega) (by omega) (fun c_39 => ?_) (fun c_39 => ?_)
    · refine z_aload_n hb dJ8_next_50 rfl ?_
      refine z_iload_n hb dJ8_next_51 rfl ?_
      refine z_iconst (x := nI 1) hb dJ8_next_52 (by decide) ?_
      refine z_iadd hb dJ8_next_53 ?_
      refine z_toI (y := nI (c + 1)) (nI_add c 1) ?_
      refine z_put (k := 0) (C := RJ8) (T := TJ8) (N := 4) hb ho zc24 in_J8 tyJ8_ok nmJ8 (zf_RJ8_25 _) dJ8_next_54 hT hnt (by decide) (Or.inl rfl) rfl rfl rfl (Nat.le_of_ble_eq_true rfl) ?_
      refine z_hn (fun h_1 eh_1 => ?_)
      have eh_1 : h_1 = z_up h t (.inr (24, [.int (nI (c + 1)), .int l9, .int m9, .ref a])) := eh_1
      have k_2 : h_1 a = some (.inr (20, [.int m9, .ref e, .int (nI k)])) := z_nx eh_1 (z_neO hO hT rfl) hO
      have k_3 : h_1 e = some (.inl ((zm_G M).2.1 5, N, .inr (.inr (.inr (.inr f))))) := z_nx eh_1 (z_neA' hA hT) hA
      refine z_aload_n hb dJ8_next_57 rfl ?_
      refine z_aload_n hb dJ8_next_58 rfl ?_
      refine z_iload_n hb dJ8_next_59 rfl ?_
      refine z_dup_x1 hb dJ8_next_60 rfl rfl ?_
      refine z_put (k := 1) (C := RJ8) (T := TJ8) (N := 4) hb ho zc24 in_J8 tyJ8_ok nmJ8 (zf_RJ8_13 _) dJ8_next_61 (z_nxs eh_1) hnt (by decide) (Or.inl rfl) rfl rfl rfl (Nat.le_of_ble_eq_true rfl) ?_
      refine z_hn (fun h_4 eh_4 => ?_)
      have eh_4 : h_4 = z_up h_1 t (.inr (24, [.int (nI (c + 1)), .int (nI c), .int m9, .ref a])) := eh_4
      have k_5 : h_4 a = some (.inr (20, [.int m9, .ref e, .int (nI k)])) := z_nx eh_4 (z_neO k_2 (z_nxs eh_1) rfl) k_2
      have k_6 : h_4 e = some (.inl ((zm_G M).2.1 5, N, .inr (.inr (.inr (.inr f))))) := z_nx eh_4 (z_neA' k_3 (z_nxs eh_1)) k_3
      refine z_aald (j := c) hb dJ8_next_64 k_6 rfl (by omega) (by omega) ?_
      refine z_toR (z := g c) (hS c hck) ?_
      refine z_aret hb hr (Or.inl ⟨_, rfl⟩) (Or.inr ⟨_, rfl⟩) dJ8_next_65 ?_
      rw [hQ]
      exact ⟨rfl, (by rw [eh_4, eh_1] <;> simp only [z_up_up]), rfl⟩
    · exact absurd c_39 (by omega)
  · exact absurd c_17 (by omega)

set_option maxHeartbeats 1000000 in
theorem m_J2_indexOfRange_8 {l : Launch} {G : zG} {h : zH} {n : Nat} {a e N k : Nat} {m9 : Int32} {f : Nat → Option Nat} {g : Nat → Nat} {x i : Nat} {fs9 : List Value} (hO : h a = some (.inr (20, [.int m9, .ref e, .int (nI k)]))) (hA : h e = some (z_ao G N f)) (hkN : k ≤ N) (hN2 : N ≤ 200) (hS : ∀ j, j < k → f j = some (g j)) (hx : h x = some (.inr (8, fs9))) (hik : i < k) (hfi : g i = x) (hne : ∀ j, j < i → g j ≠ x) : z_C l G yJ2_indexOfRange 2 0 0 [.ref a, .ref x, .int (nI 0), .int (nI k)] h n (z_rv (.int (nI i)) h n) := by
  refine z_start zk_J2_indexOfRange zpl_RJ2 (Nat.le_of_ble_eq_true rfl) ?_
  intro hn0 M hl hG ho hb hN hr hm hH hrm hQ
  subst hl hG
  have ho : zm_o M = RJ2 := ho
  show z_V M h n 0 0 0 [(0, .ref a), (1, .ref x), (2, .int (nI 0)), (3, .int (nI k))] []
  refine z_aload_n hb dJ2_indexOfRange_0 rfl ?_
  refine z_get (k := 1) (C := RJ2) (T := TJ2) (N := 3) hb ho zc20 in_J2 (zf_RJ2_9 _) dJ2_indexOfRange_1 hO (by decide) rfl ?_
  refine z_astore (lv' := [(4, .ref e), (0, .ref a), (1, .ref x), (2, .int (nI 0)), (3, .int (nI k))]) hb dJ2_indexOfRange_4 (by rw [hN]; decide) rfl ?_
  refine z_aload_n hb dJ2_indexOfRange_6 rfl ?_
  refine z_ifnonnull (tgt := 39) hb dJ2_indexOfRange_7 (by decide) ?_
  refine z_iload_n hb dJ2_indexOfRange_39 rfl ?_
  refine z_istore (lv' := [(5, .int (nI 0)), (4, .ref e), (0, .ref a), (1, .ref x), (2, .int (nI 0)), (3, .int (nI k))]) hb dJ2_indexOfRange_40 (by rw [hN]; decide) rfl ?_
  have lp_42 : ∀ (k9_42 : Nat) (j : Nat), i + 1 - j < k9_42 → (j ≤ i) → z_V M h n 0 0 42 [(5, .int (nI j)), (4, .ref e), (0, .ref a), (1, .ref x), (2, .int (nI 0)), (3, .int (nI k))] [] := by
    intro k9_42
    induction k9_42 with
    | zero => intro j hk9_42; exact absurd hk9_42 (Nat.not_lt_zero _)
    | succ k9_42 ih_42 =>
      intro j hk9_42 hj
      refine z_iload hb dJ2_indexOfRange_42 rfl ?_
      refine z_iload_n hb dJ2_indexOfRange_44 rfl ?_
      refine z_icmp_geN (tgt := 69) hb dJ2_indexOfRange_45 (by decide) (by omega) (by omega) (fun c_45 => ?_) (fun c_45 => ?_)
      · exact absurd c_45 (by omega)
      · refine z_aload_n hb dJ2_indexOfRange_48 rfl ?_
        refine z_aload hb dJ2_indexOfRange_49 rfl ?_
        refine z_iload hb dJ2_indexOfRange_51 rfl ?_
        refine z_aald (j := j) hb dJ2_indexOfRange_53 hA rfl (by omega) (by omega) ?_
        refine z_toR (z := g j) (hS j (by omega)) ?_
        refine z_call1 (b' := 0) (f' := 0) (rest := []) (av := [.ref x, .ref (g j)]) (z_siteV hb ho zc8 hx q618 q619 q637 ⟨_, _, _, _, zk_J30_equals⟩ zy_J30_equals zl_J30_equals dJ2_indexOfRange_54 : z_Site M _ _ _ _ _ ([.ref (g j)].reverse ++ .ref x :: []) [] _) zk_J30_equals q3292 hrm (m_J30_equals x (g j)) (by omega) (by decide) (Nat.le_of_ble_eq_true rfl) (by omega) (by omega) ?_
        refine z_ifb_eq (tgt := 63) hb dJ2_indexOfRange_57 (by decide) (fun c_57 => ?_) (fun c_57 => ?_)
        · refine z_iinc (k0 := 0) (lv' := [(5, .int (nI (j + 1))), (4, .ref e), (0, .ref a), (1, .ref x), (2, .int (nI 0)), (3, .int (nI k))]) hb dJ2_indexOfRange_63 rfl (nI_1 j) (by rw [hN]; decide) rfl ?_
          refine z_goto (tgt := 42) hb dJ2_indexOfRange_66 (by decide) ?_
          refine z_lv [0, 1, 2, 3, 4, 5] (lv' := [(5, .int (nI (j + 1))), (4, .ref e), (0, .ref a), (1, .ref x), (2, .int (nI 0)), (3, .int (nI k))]) rfl ?_
          exact ih_42 (j + 1) (by omega) (Nat.lt_of_le_of_ne hj (fun q => by rw [q, hfi] at c_57; simp at c_57))
        · refine z_iload hb dJ2_indexOfRange_60 rfl ?_
          refine z_iret hb hr dJ2_indexOfRange_62 ?_
          rw [hQ]
          obtain rfl : j = i := by
            rcases Nat.lt_or_ge j i with z | z
            · exact absurd (of_decide_eq_true c_57).symm (hne j z)
            · omega
          exact ⟨rfl, rfl, rfl⟩
  refine z_lv [0, 1, 2, 3, 4, 5] (lv' := [(5, .int (nI 0)), (4, .ref e), (0, .ref a), (1, .ref x), (2, .int (nI 0)), (3, .int (nI k))]) rfl ?_
  exact lp_42 _ 0 (Nat.lt_succ_self _) (Nat.zero_le _)

set_option maxHeartbeats 1000000 in
theorem m_J2_indexOf_8 {l : Launch} {G : zG} {h : zH} {n : Nat} {a e N k : Nat} {m9 : Int32} {f : Nat → Option Nat} {g : Nat → Nat} {x i : Nat} {fs9 : List Value} (hO : h a = some (.inr (20, [.int m9, .ref e, .int (nI k)]))) (hA : h e = some (z_ao G N f)) (hkN : k ≤ N) (hN2 : N ≤ 200) (hS : ∀ j, j < k → f j = some (g j)) (hx : h x = some (.inr (8, fs9))) (hik : i < k) (hfi : g i = x) (hne : ∀ j, j < i → g j ≠ x) : z_C l G yJ2_indexOf 3 0 0 [.ref a, .ref x] h n (z_rv (.int (nI i)) h n) := by
  refine z_start zk_J2_indexOf zpl_RJ2 (Nat.le_of_ble_eq_true rfl) ?_
  intro hn0 M hl hG ho hb hN hr hm hH hrm hQ
  subst hl hG
  have ho : zm_o M = RJ2 := ho
  show z_V M h n 0 0 0 [(0, .ref a), (1, .ref x)] []
  refine z_aload_n hb dJ2_indexOf_0 rfl ?_
  refine z_aload_n hb dJ2_indexOf_1 rfl ?_
  refine z_iconst (x := nI 0) hb dJ2_indexOf_2 (by decide) ?_
  refine z_aload_n hb dJ2_indexOf_3 rfl ?_
  refine z_get (k := 2) (C := RJ2) (T := TJ2) (N := 3) hb ho zc20 in_J2 (zf_RJ2_48 _) dJ2_indexOf_4 hO (by decide) rfl ?_
  refine z_call1 (b' := 0) (f' := 0) (rest := []) (av := [.ref a, .ref x, .int (nI 0), .int (nI k)]) (z_siteV hb ho zc20 hO q613 q614 q615 ⟨_, _, _, _, zk_J2_indexOfRange⟩ zy_J2_indexOfRange zl_J2_indexOfRange dJ2_indexOf_7 : z_Site M _ _ _ _ _ ([.ref x, .int (nI 0), .int (nI k)].reverse ++ .ref a :: []) [] _) zk_J2_indexOfRange q98 hrm (m_J2_indexOfRange_8 hO hA hkN hN2 hS hx hik hfi hne) (by omega) (by decide) (Nat.le_of_ble_eq_true rfl) (by omega) (by omega) ?_
  refine z_iret hb hr dJ2_indexOf_10 ?_
  rw [hQ]
  exact ⟨rfl, rfl, rfl⟩

set_option maxHeartbeats 1000000 in
theorem m_J2_indexOfRange_9 {l : Launch} {G : zG} {h : zH} {n : Nat} {a e N k : Nat} {m9 : Int32} {f : Nat → Option Nat} {g : Nat → Nat} {x i : Nat} {fs9 : List Value} (hO : h a = some (.inr (20, [.int m9, .ref e, .int (nI k)]))) (hA : h e = some (z_ao G N f)) (hkN : k ≤ N) (hN2 : N ≤ 200) (hS : ∀ j, j < k → f j = some (g j)) (hx : h x = some (.inr (9, fs9))) (hik : i < k) (hfi : g i = x) (hne : ∀ j, j < i → g j ≠ x) : z_C l G yJ2_indexOfRange 2 0 0 [.ref a, .ref x, .int (nI 0), .int (nI k)] h n (z_rv (.int (nI i)) h n) := by
  refine z_start zk_J2_indexOfRange zpl_RJ2 (Nat.le_of_ble_eq_true rfl) ?_
  intro hn0 M hl hG ho hb hN hr hm hH hrm hQ
  subst hl hG
  have ho : zm_o M = RJ2 := ho
  show z_V M h n 0 0 0 [(0, .ref a), (1, .ref x), (2, .int (nI 0)), (3, .int (nI k))] []
  refine z_aload_n hb dJ2_indexOfRange_0 rfl ?_
  refine z_get (k := 1) (C := RJ2) (T := TJ2) (N := 3) hb ho zc20 in_J2 (zf_RJ2_9 _) dJ2_indexOfRange_1 hO (by decide) rfl ?_
  refine z_astore (lv' := [(4, .ref e), (0, .ref a), (1, .ref x), (2, .int (nI 0)), (3, .int (nI k))]) hb dJ2_indexOfRange_4 (by rw [hN]; decide) rfl ?_
  refine z_aload_n hb dJ2_indexOfRange_6 rfl ?_
  refine z_ifnonnull (tgt := 39) hb dJ2_indexOfRange_7 (by decide) ?_
  refine z_iload_n hb dJ2_indexOfRange_39 rfl ?_
  refine z_istore (lv' := [(5, .int (nI 0)), (4, .ref e), (0, .ref a), (1, .ref x), (2, .int (nI 0)), (3, .int (nI k))]) hb dJ2_indexOfRange_40 (by rw [hN]; decide) rfl ?_
  have lp_42 : ∀ (k9_42 : Nat) (j : Nat), i + 1 - j < k9_42 → (j ≤ i) → z_V M h n 0 0 42 [(5, .int (nI j)), (4, .ref e), (0, .ref a), (1, .ref x), (2, .int (nI 0)), (3, .int (nI k))] [] := by
    intro k9_42
    induction k9_42 with
    | zero => intro j hk9_42; exact absurd hk9_42 (Nat.not_lt_zero _)
    | succ k9_42 ih_42 =>
      intro j hk9_42 hj
      refine z_iload hb dJ2_indexOfRange_42 rfl ?_
      refine z_iload_n hb dJ2_indexOfRange_44 rfl ?_
      refine z_icmp_geN (tgt := 69) hb dJ2_indexOfRange_45 (by decide) (by omega) (by omega) (fun c_45 => ?_) (fun c_45 => ?_)
      · exact absurd c_45 (by omega)
      · refine z_aload_n hb dJ2_indexOfRange_48 rfl ?_
        refine z_aload hb dJ2_indexOfRange_49 rfl ?_
        refine z_iload hb dJ2_indexOfRange_51 rfl ?_
        refine z_aald (j := j) hb dJ2_indexOfRange_53 hA rfl (by omega) (by omega) ?_
        refine z_toR (z := g j) (hS j (by omega)) ?_
        refine z_call1 (b' := 0) (f' := 0) (rest := []) (av := [.ref x, .ref (g j)]) (z_siteV hb ho zc9 hx q618 q619 q627 ⟨_, _, _, _, zk_J30_equals⟩ zy_J30_equals zl_J30_equals dJ2_indexOfRange_54 : z_Site M _ _ _ _ _ ([.ref (g j)].reverse ++ .ref x :: []) [] _) zk_J30_equals q3292 hrm (m_J30_equals x (g j)) (by omega) (by decide) (Nat.le_of_ble_eq_true rfl) (by omega) (by omega) ?_
        refine z_ifb_eq (tgt := 63) hb dJ2_indexOfRange_57 (by decide) (fun c_57 => ?_) (fun c_57 => ?_)
        · refine z_iinc (k0 := 0) (lv' := [(5, .int (nI (j + 1))), (4, .ref e), (0, .ref a), (1, .ref x), (2, .int (nI 0)), (3, .int (nI k))]) hb dJ2_indexOfRange_63 rfl (nI_1 j) (by rw [hN]; decide) rfl ?_
          refine z_goto (tgt := 42) hb dJ2_indexOfRange_66 (by decide) ?_
          refine z_lv [0, 1, 2, 3, 4, 5] (lv' := [(5, .int (nI (j + 1))), (4, .ref e), (0, .ref a), (1, .ref x), (2, .int (nI 0)), (3, .int (nI k))]) rfl ?_
          exact ih_42 (j + 1) (by omega) (Nat.lt_of_le_of_ne hj (fun q => by rw [q, hfi] at c_57; simp at c_57))
        · refine z_iload hb dJ2_indexOfRange_60 rfl ?_
          refine z_iret hb hr dJ2_indexOfRange_62 ?_
          rw [hQ]
          obtain rfl : j = i := by
            rcases Nat.lt_or_ge j i with z | z
            · exact absurd (of_decide_eq_true c_57).symm (hne j z)
            · omega
          exact ⟨rfl, rfl, rfl⟩
  refine z_lv [0, 1, 2, 3, 4, 5] (lv' := [(5, .int (nI 0)), (4, .ref e), (0, .ref a), (1, .ref x), (2, .int (nI 0)), (3, .int (nI k))]) rfl ?_
  exact lp_42 _ 0 (Nat.lt_succ_self _) (Nat.zero_le _)

set_option maxHeartbeats 1000000 in
theorem m_J2_indexOf_9 {l : Launch} {G : zG} {h : zH} {n : Nat} {a e N k : Nat} {m9 : Int32} {f : Nat → Option Nat} {g : Nat → Nat} {x i : Nat} {fs9 : List Value} (hO : h a = some (.inr (20, [.int m9, .ref e, .int (nI k)]))) (hA : h e = some (z_ao G N f)) (hkN : k ≤ N) (hN2 : N ≤ 200) (hS : ∀ j, j < k → f j = some (g j)) (hx : h x = some (.inr (9, fs9))) (hik : i < k) (hfi : g i = x) (hne : ∀ j, j < i → g j ≠ x) : z_C l G yJ2_indexOf 3 0 0 [.ref a, .ref x] h n (z_rv (.int (nI i)) h n) := by
  refine z_start zk_J2_indexOf zpl_RJ2 (Nat.le_of_ble_eq_true rfl) ?_
  intro hn0 M hl hG ho hb hN hr hm hH hrm hQ
  subst hl hG
  have ho : zm_o M = RJ2 := ho
  show z_V M h n 0 0 0 [(0, .ref a), (1, .ref x)] []
  refine z_aload_n hb dJ2_indexOf_0 rfl ?_
  refine z_aload_n hb dJ2_indexOf_1 rfl ?_
  refine z_iconst (x := nI 0) hb dJ2_indexOf_2 (by decide) ?_
  refine z_aload_n hb dJ2_indexOf_3 rfl ?_
  refine z_get (k := 2) (C := RJ2) (T := TJ2) (N := 3) hb ho zc20 in_J2 (zf_RJ2_48 _) dJ2_indexOf_4 hO (by decide) rfl ?_
  refine z_call1 (b' := 0) (f' := 0) (rest := []) (av := [.ref a, .ref x, .int (nI 0), .int (nI k)]) (z_siteV hb ho zc20 hO q613 q614 q615 ⟨_, _, _, _, zk_J2_indexOfRange⟩ zy_J2_indexOfRange zl_J2_indexOfRange dJ2_indexOf_7 : z_Site M _ _ _ _ _ ([.ref x, .int (nI 0), .int (nI k)].reverse ++ .ref a :: []) [] _) zk_J2_indexOfRange q98 hrm (m_J2_indexOfRange_9 hO hA hkN hN2 hS hx hik hfi hne) (by omega) (by decide) (Nat.le_of_ble_eq_true rfl) (by omega) (by omega) ?_
  refine z_iret hb hr dJ2_indexOf_10 ?_
  rw [hQ]
  exact ⟨rfl, rfl, rfl⟩

set_option maxHeartbeats 1000000 in
theorem m_J2_indexOfRange_10 {l : Launch} {G : zG} {h : zH} {n : Nat} {a e N k : Nat} {m9 : Int32} {f : Nat → Option Nat} {g : Nat → Nat} {x i : Nat} {fs9 : List Value} (hO : h a = some (.inr (20, [.int m9, .ref e, .int (nI k)]))) (hA : h e = some (z_ao G N f)) (hkN : k ≤ N) (hN2 : N ≤ 200) (hS : ∀ j, j < k → f j = some (g j)) (hx : h x = some (.inr (10, fs9))) (hik : i < k) (hfi : g i = x) (hne : ∀ j, j < i → g j ≠ x) : z_C l G yJ2_indexOfRange 2 0 0 [.ref a, .ref x, .int (nI 0), .int (nI k)] h n (z_rv (.int (nI i)) h n) := by
  refine z_start zk_J2_indexOfRange zpl_RJ2 (Nat.le_of_ble_eq_true rfl) ?_
  intro hn0 M hl hG ho hb hN hr hm hH hrm hQ
  subst hl hG
  have ho : zm_o M = RJ2 := ho
  show z_V M h n 0 0 0 [(0, .ref a), (1, .ref x), (2, .int (nI 0)), (3, .int (nI k))] []
  refine z_aload_n hb dJ2_indexOfRange_0 rfl ?_
  refine z_get (k := 1) (C := RJ2) (T := TJ2) (N := 3) hb ho zc20 in_J2 (zf_RJ2_9 _) dJ2_indexOfRange_1 hO (by decide) rfl ?_
  refine z_astore (lv' := [(4, .ref e), (0, .ref a), (1, .ref x), (2, .int (nI 0)), (3, .int (nI k))]) hb dJ2_indexOfRange_4 (by rw [hN]; decide) rfl ?_
  refine z_aload_n hb dJ2_indexOfRange_6 rfl ?_
  refine z_ifnonnull (tgt := 39) hb dJ2_indexOfRange_7 (by decide) ?_
  refine z_iload_n hb dJ2_indexOfRange_39 rfl ?_
  refine z_istore (lv' := [(5, .int (nI 0)), (4, .ref e), (0, .ref a), (1, .ref x), (2, .int (nI 0)), (3, .int (nI k))]) hb dJ2_indexOfRange_40 (by rw [hN]; decide) rfl ?_
  have lp_42 : ∀ (k9_42 : Nat) (j : Nat), i + 1 - j < k9_42 → (j ≤ i) → z_V M h n 0 0 42 [(5, .int (nI j)), (4, .ref e), (0, .ref a), (1, .ref x), (2, .int (nI 0)), (3, .int (nI k))] [] := by
    intro k9_42
    induction k9_42 with
    | zero => intro j hk9_42; exact absurd hk9_42 (Nat.not_lt_zero _)
    | succ k9_42 ih_42 =>
      intro j hk9_42 hj
      refine z_iload hb dJ2_indexOfRange_42 rfl ?_
      refine z_iload_n hb dJ2_indexOfRange_44 rfl ?_
      refine z_icmp_geN (tgt := 69) hb dJ2_indexOfRange_45 (by decide) (by omega) (by omega) (fun c_45 => ?_) (fun c_45 => ?_)
      · exact absurd c_45 (by omega)
      · refine z_aload_n hb dJ2_indexOfRange_48 rfl ?_
        refine z_aload hb dJ2_indexOfRange_49 rfl ?_
        refine z_iload hb dJ2_indexOfRange_51 rfl ?_
        refine z_aald (j := j) hb dJ2_indexOfRange_53 hA rfl (by omega) (by omega) ?_
        refine z_toR (z := g j) (hS j (by omega)) ?_
        refine z_call1 (b' := 0) (f' := 0) (rest := []) (av := [.ref x, .ref (g j)]) (z_siteV hb ho zc10 hx q618 q619 q630 ⟨_, _, _, _, zk_J30_equals⟩ zy_J30_equals zl_J30_equals dJ2_indexOfRange_54 : z_Site M _ _ _ _ _ ([.ref (g j)].reverse ++ .ref x :: []) [] _) zk_J30_equals q3292 hrm (m_J30_equals x (g j)) (by omega) (by decide) (Nat.le_of_ble_eq_true rfl) (by omega) (by omega) ?_
        refine z_ifb_eq (tgt := 63) hb dJ2_indexOfRange_57 (by decide) (fun c_57 => ?_) (fun c_57 => ?_)
        · refine z_iinc (k0 := 0) (lv' := [(5, .int (nI (j + 1))), (4, .ref e), (0, .ref a), (1, .ref x), (2, .int (nI 0)), (3, .int (nI k))]) hb dJ2_indexOfRange_63 rfl (nI_1 j) (by rw [hN]; decide) rfl ?_
          refine z_goto (tgt := 42) hb dJ2_indexOfRange_66 (by decide) ?_
          refine z_lv [0, 1, 2, 3, 4, 5] (lv' := [(5, .int (nI (j + 1))), (4, .ref e), (0, .ref a), (1, .ref x), (2, .int (nI 0)), (3, .int (nI k))]) rfl ?_
          exact ih_42 (j + 1) (by omega) (Nat.lt_of_le_of_ne hj (fun q => by rw [q, hfi] at c_57; simp at c_57))
        · refine z_iload hb dJ2_indexOfRange_60 rfl ?_
          refine z_iret hb hr dJ2_indexOfRange_62 ?_
          rw [hQ]
          obtain rfl : j = i := by
            rcases Nat.lt_or_ge j i with z | z
            · exact absurd (of_decide_eq_true c_57).symm (hne j z)
            · omega
          exact ⟨rfl, rfl, rfl⟩
  refine z_lv [0, 1, 2, 3, 4, 5] (lv' := [(5, .int (nI 0)), (4, .ref e), (0, .ref a), (1, .ref x), (2, .int (nI 0)), (3, .int (nI k))]) rfl ?_
  exact lp_42 _ 0 (Nat.lt_succ_self _) (Nat.zero_le _)

set_option maxHeartbeats 1000000 in
theorem m_J2_indexOf_10 {l : Launch} {G : zG} {h : zH} {n : Nat} {a e N k : Nat} {m9 : Int32} {f : Nat → Option Nat} {g : Nat → Nat} {x i : Nat} {fs9 : List Value} (hO : h a = some (.inr (20, [.int m9, .ref e, .int (nI k)]))) (hA : h e = some (z_ao G N f)) (hkN : k ≤ N) (hN2 : N ≤ 200) (hS : ∀ j, j < k → f j = some (g j)) (hx : h x = some (.inr (10, fs9))) (hik : i < k) (hfi : g i = x) (hne : ∀ j, j < i → g j ≠ x) : z_C l G yJ2_indexOf 3 0 0 [.ref a, .ref x] h n (z_rv (.int (nI i)) h n) := by
  refine z_start zk_J2_indexOf zpl_RJ2 (Nat.le_of_ble_eq_true rfl) ?_
  intro hn0 M hl hG ho hb hN hr hm hH hrm hQ
  subst hl hG
  have ho : zm_o M = RJ2 := ho
  show z_V M h n 0 0 0 [(0, .ref a), (1, .ref x)] []
  refine z_aload_n hb dJ2_indexOf_0 rfl ?_
  refine z_aload_n hb dJ2_indexOf_1 rfl ?_
  refine z_iconst (x := nI 0) hb dJ2_indexOf_2 (by decide) ?_
  refine z_aload_n hb dJ2_indexOf_3 rfl ?_
  refine z_get (k := 2) (C := RJ2) (T := TJ2) (N := 3) hb ho zc20 in_J2 (zf_RJ2_48 _) dJ2_indexOf_4 hO (by decide) rfl ?_
  refine z_call1 (b' := 0) (f' := 0) (rest := []) (av := [.ref a, .ref x, .int (nI 0), .int (nI k)]) (z_siteV hb ho zc20 hO q613 q614 q615 ⟨_, _, _, _, zk_J2_indexOfRange⟩ zy_J2_indexOfRange zl_J2_indexOfRange dJ2_indexOf_7 : z_Site M _ _ _ _ _ ([.ref x, .int (nI 0), .int (nI k)].reverse ++ .ref a :: []) [] _) zk_J2_indexOfRange q98 hrm (m_J2_indexOfRange_10 hO hA hkN hN2 hS hx hik hfi hne) (by omega) (by decide) (Nat.le_of_ble_eq_true rfl) (by omega) (by omega) ?_
  refine z_iret hb hr dJ2_indexOf_10 ?_
  rw [hQ]
  exact ⟨rfl, rfl, rfl⟩

set_option maxHeartbeats 1000000 in
theorem m_J2_indexOfRange_11 {l : Launch} {G : zG} {h : zH} {n : Nat} {a e N k : Nat} {m9 : Int32} {f : Nat → Option Nat} {g : Nat → Nat} {x i : Nat} {fs9 : List Value} (hO : h a = some (.inr (20, [.int m9, .ref e, .int (nI k)]))) (hA : h e = some (z_ao G N f)) (hkN : k ≤ N) (hN2 : N ≤ 200) (hS : ∀ j, j < k → f j = some (g j)) (hx : h x = some (.inr (11, fs9))) (hik : i < k) (hfi : g i = x) (hne : ∀ j, j < i → g j ≠ x) : z_C l G yJ2_indexOfRange 2 0 0 [.ref a, .ref x, .int (nI 0), .int (nI k)] h n (z_rv (.int (nI i)) h n) := by
  refine z_start zk_J2_indexOfRange zpl_RJ2 (Nat.le_of_ble_eq_true rfl) ?_
  intro hn0 M hl hG ho hb hN hr hm hH hrm hQ
  subst hl hG
  have ho : zm_o M = RJ2 := ho
  show z_V M h n 0 0 0 [(0, .ref a), (1, .ref x), (2, .int (nI 0)), (3, .int (nI k))] []
  refine z_aload_n hb dJ2_indexOfRange_0 rfl ?_
  refine z_get (k := 1) (C := RJ2) (T := TJ2) (N := 3) hb ho zc20 in_J2 (zf_RJ2_9 _) dJ2_indexOfRange_1 hO (by decide) rfl ?_
  refine z_astore (lv' := [(4, .ref e), (0, .ref a), (1, .ref x), (2, .int (nI 0)), (3, .int (nI k))]) hb dJ2_indexOfRange_4 (by rw [hN]; decide) rfl ?_
  refine z_aload_n hb dJ2_indexOfRange_6 rfl ?_
  refine z_ifnonnull (tgt := 39) hb dJ2_indexOfRange_7 (by decide) ?_
  refine z_iload_n hb dJ2_indexOfRange_39 rfl ?_
  refine z_istore (lv' := [(5, .int (nI 0)), (4, .ref e), (0, .ref a), (1, .ref x), (2, .int (nI 0)), (3, .int (nI k))]) hb dJ2_indexOfRange_40 (by rw [hN]; decide) rfl ?_
  have lp_42 : ∀ (k9_42 : Nat) (j : Nat), i + 1 - j < k9_42 → (j ≤ i) → z_V M h n 0 0 42 [(5, .int (nI j)), (4, .ref e), (0, .ref a), (1, .ref x), (2, .int (nI 0)), (3, .int (nI k))] [] := by
    intro k9_42
    induction k9_42 with
    | zero => intro j hk9_42; exact absurd hk9_42 (Nat.not_lt_zero _)
    | succ k9_42 ih_42 =>
      intro j hk9_42 hj
      refine z_iload hb dJ2_indexOfRange_42 rfl ?_
      refine z_iload_n hb dJ2_indexOfRange_44 rfl ?_
      refine z_icmp_geN (tgt := 69) hb dJ2_indexOfRange_45 (by decide) (by omega) (by omega) (fun c_45 => ?_) (fun c_45 => ?_)
      · exact absurd c_45 (by omega)
      · refine z_aload_n hb dJ2_indexOfRange_48 rfl ?_
        refine z_aload hb dJ2_indexOfRange_49 rfl ?_
        refine z_iload hb dJ2_indexOfRange_51 rfl ?_
        refine z_aald (j := j) hb dJ2_indexOfRange_53 hA rfl (by omega) (by omega) ?_
        refine z_toR (z := g j) (hS j (by omega)) ?_
        refine z_call1 (b' := 0) (f' := 0) (rest := []) (av := [.ref x, .ref (g j)]) (z_siteV hb ho zc11 hx q618 q619 q633 ⟨_, _, _, _, zk_J30_equals⟩ zy_J30_equals zl_J30_equals dJ2_indexOfRange_54 : z_Site M _ _ _ _ _ ([.ref (g j)].reverse ++ .ref x :: []) [] _) zk_J30_equals q3292 hrm (m_J30_equals x (g j)) (by omega) (by decide) (Nat.le_of_ble_eq_true rfl) (by omega) (by omega) ?_
        refine z_ifb_eq (tgt := 63) hb dJ2_indexOfRange_57 (by decide) (fun c_57 => ?_) (fun c_57 => ?_)
        · refine z_iinc (k0 := 0) (lv' := [(5, .int (nI (j + 1))), (4, .ref e), (0, .ref a), (1, .ref x), (2, .int (nI 0)), (3, .int (nI k))]) hb dJ2_indexOfRange_63 rfl (nI_1 j) (by rw [hN]; decide) rfl ?_
          refine z_goto (tgt := 42) hb dJ2_indexOfRange_66 (by decide) ?_
          refine z_lv [0, 1, 2, 3, 4, 5] (lv' := [(5, .int (nI (j + 1))), (4, .ref e), (0, .ref a), (1, .ref x), (2, .int (nI 0)), (3, .int (nI k))]) rfl ?_
          exact ih_42 (j + 1) (by omega) (Nat.lt_of_le_of_ne hj (fun q => by rw [q, hfi] at c_57; simp at c_57))
        · refine z_iload hb dJ2_indexOfRange_60 rfl ?_
          refine z_iret hb hr dJ2_indexOfRange_62 ?_
          rw [hQ]
          obtain rfl : j = i := by
            rcases Nat.lt_or_ge j i with z | z
            · exact absurd (of_decide_eq_true c_57).symm (hne j z)
            · omega
          exact ⟨rfl, rfl, rfl⟩
  refine z_lv [0, 1, 2, 3, 4, 5] (lv' := [(5, .int (nI 0)), (4, .ref e), (0, .ref a), (1, .ref x), (2, .int (nI 0)), (3, .int (nI k))]) rfl ?_
  exact lp_42 _ 0 (Nat.lt_succ_self _) (Nat.zero_le _)

set_option maxHeartbeats 1000000 in
theorem m_J2_indexOf_11 {l : Launch} {G : zG} {h : zH} {n : Nat} {a e N k : Nat} {m9 : Int32} {f : Nat → Option Nat} {g : Nat → Nat} {x i : Nat} {fs9 : List Value} (hO : h a = some (.inr (20, [.int m9, .ref e, .int (nI k)]))) (hA : h e = some (z_ao G N f)) (hkN : k ≤ N) (hN2 : N ≤ 200) (hS : ∀ j, j < k → f j = some (g j)) (hx : h x = some (.inr (11, fs9))) (hik : i < k) (hfi : g i = x) (hne : ∀ j, j < i → g j ≠ x) : z_C l G yJ2_indexOf 3 0 0 [.ref a, .ref x] h n (z_rv (.int (nI i)) h n) := by
  refine z_start zk_J2_indexOf zpl_RJ2 (Nat.le_of_ble_eq_true rfl) ?_
  intro hn0 M hl hG ho hb hN hr hm hH hrm hQ
  subst hl hG
  have ho : zm_o M = RJ2 := ho
  show z_V M h n 0 0 0 [(0, .ref a), (1, .ref x)] []
  refine z_aload_n hb dJ2_indexOf_0 rfl ?_
  refine z_aload_n hb dJ2_indexOf_1 rfl ?_
  refine z_iconst (x := nI 0) hb dJ2_indexOf_2 (by decide) ?_
  refine z_aload_n hb dJ2_indexOf_3 rfl ?_
  refine z_get (k := 2) (C := RJ2) (T := TJ2) (N := 3) hb ho zc20 in_J2 (zf_RJ2_48 _) dJ2_indexOf_4 hO (by decide) rfl ?_
  refine z_call1 (b' := 0) (f' := 0) (rest := []) (av := [.ref a, .ref x, .int (nI 0), .int (nI k)]) (z_siteV hb ho zc20 hO q613 q614 q615 ⟨_, _, _, _, zk_J2_indexOfRange⟩ zy_J2_indexOfRange zl_J2_indexOfRange dJ2_indexOf_7 : z_Site M _ _ _ _ _ ([.ref x, .int (nI 0), .int (nI k)].reverse ++ .ref a :: []) [] _) zk_J2_indexOfRange q98 hrm (m_J2_indexOfRange_11 hO hA hkN hN2 hS hx hik hfi hne) (by omega) (by decide) (Nat.le_of_ble_eq_true rfl) (by omega) (by omega) ?_
  refine z_iret hb hr dJ2_indexOf_10 ?_
  rw [hQ]
  exact ⟨rfl, rfl, rfl⟩

set_option maxHeartbeats 1000000 in
theorem m_J2_indexOfRange_12 {l : Launch} {G : zG} {h : zH} {n : Nat} {a e N k : Nat} {m9 : Int32} {f : Nat → Option Nat} {g : Nat → Nat} {x i : Nat} {fs9 : List Value} (hO : h a = some (.inr (20, [.int m9, .ref e, .int (nI k)]))) (hA : h e = some (z_ao G N f)) (hkN : k ≤ N) (hN2 : N ≤ 200) (hS : ∀ j, j < k → f j = some (g j)) (hx : h x = some (.inr (12, fs9))) (hik : i < k) (hfi : g i = x) (hne : ∀ j, j < i → g j ≠ x) : z_C l G yJ2_indexOfRange 2 0 0 [.ref a, .ref x, .int (nI 0), .int (nI k)] h n (z_rv (.int (nI i)) h n) := by
  refine z_start zk_J2_indexOfRange zpl_RJ2 (Nat.le_of_ble_eq_true rfl) ?_
  intro hn0 M hl hG ho hb hN hr hm hH hrm hQ
  subst hl hG
  have ho : zm_o M = RJ2 := ho
  show z_V M h n 0 0 0 [(0, .ref a), (1, .ref x), (2, .int (nI 0)), (3, .int (nI k))] []
  refine z_aload_n hb dJ2_indexOfRange_0 rfl ?_
  refine z_get (k := 1) (C := RJ2) (T := TJ2) (N := 3) hb ho zc20 in_J2 (zf_RJ2_9 _) dJ2_indexOfRange_1 hO (by decide) rfl ?_
  refine z_astore (lv' := [(4, .ref e), (0, .ref a), (1, .ref x), (2, .int (nI 0)), (3, .int (nI k))]) hb dJ2_indexOfRange_4 (by rw [hN]; decide) rfl ?_
  refine z_aload_n hb dJ2_indexOfRange_6 rfl ?_
  refine z_ifnonnull (tgt := 39) hb dJ2_indexOfRange_7 (by decide) ?_
  refine z_iload_n hb dJ2_indexOfRange_39 rfl ?_
  refine z_istore (lv' := [(5, .int (nI 0)), (4, .ref e), (0, .ref a), (1, .ref x), (2, .int (nI 0)), (3, .int (nI k))]) hb dJ2_indexOfRange_40 (by rw [hN]; decide) rfl ?_
  have lp_42 : ∀ (k9_42 : Nat) (j : Nat), i + 1 - j < k9_42 → (j ≤ i) → z_V M h n 0 0 42 [(5, .int (nI j)), (4, .ref e), (0, .ref a), (1, .ref x), (2, .int (nI 0)), (3, .int (nI k))] [] := by
    intro k9_42
    induction k9_42 with
    | zero => intro j hk9_42; exact absurd hk9_42 (Nat.not_lt_zero _)
    | succ k9_42 ih_42 =>
      intro j hk9_42 hj
      refine z_iload hb dJ2_indexOfRange_42 rfl ?_
      refine z_iload_n hb dJ2_indexOfRange_44 rfl ?_
      refine z_icmp_geN (tgt := 69) hb dJ2_indexOfRange_45 (by decide) (by omega) (by omega) (fun c_45 => ?_) (fun c_45 => ?_)
      · exact absurd c_45 (by omega)
      · refine z_aload_n hb dJ2_indexOfRange_48 rfl ?_
        refine z_aload hb dJ2_indexOfRange_49 rfl ?_
        refine z_iload hb dJ2_indexOfRange_51 rfl ?_
        refine z_aald (j := j) hb dJ2_indexOfRange_53 hA rfl (by omega) (by omega) ?_
        refine z_toR (z := g j) (hS j (by omega)) ?_
        refine z_call1 (b' := 0) (f' := 0) (rest := []) (av := [.ref x, .ref (g j)]) (z_siteV hb ho zc12 hx q618 q619 q636 ⟨_, _, _, _, zk_J30_equals⟩ zy_J30_equals zl_J30_equals dJ2_indexOfRange_54 : z_Site M _ _ _ _ _ ([.ref (g j)].reverse ++ .ref x :: []) [] _) zk_J30_equals q3292 hrm (m_J30_equals x (g j)) (by omega) (by decide) (Nat.le_of_ble_eq_true rfl) (by omega) (by omega) ?_
        refine z_ifb_eq (tgt := 63) hb dJ2_indexOfRange_57 (by decide) (fun c_57 => ?_) (fun c_57 => ?_)
        · refine z_iinc (k0 := 0) (lv' := [(5, .int (nI (j + 1))), (4, .ref e), (0, .ref a), (1, .ref x), (2, .int (nI 0)), (3, .int (nI k))]) hb dJ2_indexOfRange_63 rfl (nI_1 j) (by rw [hN]; decide) rfl ?_
          refine z_goto (tgt := 42) hb dJ2_indexOfRange_66 (by decide) ?_
          refine z_lv [0, 1, 2, 3, 4, 5] (lv' := [(5, .int (nI (j + 1))), (4, .ref e), (0, .ref a), (1, .ref x), (2, .int (nI 0)), (3, .int (nI k))]) rfl ?_
          exact ih_42 (j + 1) (by omega) (Nat.lt_of_le_of_ne hj (fun q => by rw [q, hfi] at c_57; simp at c_57))
        · refine z_iload hb dJ2_indexOfRange_60 rfl ?_
          refine z_iret hb hr dJ2_indexOfRange_62 ?_
          rw [hQ]
          obtain rfl : j = i := by
            rcases Nat.lt_or_ge j i with z | z
            · exact absurd (of_decide_eq_true c_57).symm (hne j z)
            · omega
          exact ⟨rfl, rfl, rfl⟩
  refine z_lv [0, 1, 2, 3, 4, 5] (lv' := [(5, .int (nI 0)), (4, .ref e), (0, .ref a), (1, .ref x), (2, .int (nI 0)), (3, .int (nI k))]) rfl ?_
  exact lp_42 _ 0 (Nat.lt_succ_self _) (Nat.zero_le _)

set_option maxHeartbeats 1000000 in
theorem m_J2_indexOf_12 {l : Launch} {G : zG} {h : zH} {n : Nat} {a e N k : Nat} {m9 : Int32} {f : Nat → Option Nat} {g : Nat → Nat} {x i : Nat} {fs9 : List Value} (hO : h a = some (.inr (20, [.int m9, .ref e, .int (nI k)]))) (hA : h e = some (z_ao G N f)) (hkN : k ≤ N) (hN2 : N ≤ 200) (hS : ∀ j, j < k → f j = some (g j)) (hx : h x = some (.inr (12, fs9))) (hik : i < k) (hfi : g i = x) (hne : ∀ j, j < i → g j ≠ x) : z_C l G yJ2_indexOf 3 0 0 [.ref a, .ref x] h n (z_rv (.int (nI i)) h n) := by
  refine z_start zk_J2_indexOf zpl_RJ2 (Nat.le_of_ble_eq_true rfl) ?_
  intro hn0 M hl hG ho hb hN hr hm hH hrm hQ
  subst hl hG
  have ho : zm_o M = RJ2 := ho
  show z_V M h n 0 0 0 [(0, .ref a), (1, .ref x)] []
  refine z_aload_n hb dJ2_indexOf_0 rfl ?_
  refine z_aload_n hb dJ2_indexOf_1 rfl ?_
  refine z_iconst (x := nI 0) hb dJ2_indexOf_2 (by decide) ?_
  refine z_aload_n hb dJ2_indexOf_3 rfl ?_
  refine z_get (k := 2) (C := RJ2) (T := TJ2) (N := 3) hb ho zc20 in_J2 (zf_RJ2_48 _) dJ2_indexOf_4 hO (by decide) rfl ?_
  refine z_call1 (b' := 0) (f' := 0) (rest := []) (av := [.ref a, .ref x, .int (nI 0), .int (nI k)]) (z_siteV hb ho zc20 hO q613 q614 q615 ⟨_, _, _, _, zk_J2_indexOfRange⟩ zy_J2_indexOfRange zl_J2_indexOfRange dJ2_indexOf_7 : z_Site M _ _ _ _ _ ([.ref x, .int (nI 0), .int (nI k)].reverse ++ .ref a :: []) [] _) zk_J2_indexOfRange q98 hrm (m_J2_indexOfRange_12 hO hA hkN hN2 hS hx hik hfi hne) (by omega) (by decide) (Nat.le_of_ble_eq_true rfl) (by omega) (by omega) ?_
  refine z_iret hb hr dJ2_indexOf_10 ?_
  rw [hQ]
  exact ⟨rfl, rfl, rfl⟩

set_option maxHeartbeats 1000000 in
theorem m_J2_indexOfRange_13 {l : Launch} {G : zG} {h : zH} {n : Nat} {a e N k : Nat} {m9 : Int32} {f : Nat → Option Nat} {g : Nat → Nat} {x i : Nat} {fs9 : List Value} (hO : h a = some (.inr (20, [.int m9, .ref e, .int (nI k)]))) (hA : h e = some (z_ao G N f)) (hkN : k ≤ N) (hN2 : N ≤ 200) (hS : ∀ j, j < k → f j = some (g j)) (hx : h x = some (.inr (13, fs9))) (hik : i < k) (hfi : g i = x) (hne : ∀ j, j < i → g j ≠ x) : z_C l G yJ2_indexOfRange 2 0 0 [.ref a, .ref x, .int (nI 0), .int (nI k)] h n (z_rv (.int (nI i)) h n) := by
  refine z_start zk_J2_indexOfRange zpl_RJ2 (Nat.le_of_ble_eq_true rfl) ?_
  intro hn0 M hl hG ho hb hN hr hm hH hrm hQ
  subst hl hG
  have ho : zm_o M = RJ2 := ho
  show z_V M h n 0 0 0 [(0, .ref a), (1, .ref x), (2, .int (nI 0)), (3, .int (nI k))] []
  refine z_aload_n hb dJ2_indexOfRange_0 rfl ?_
  refine z_get (k := 1) (C := RJ2) (T := TJ2) (N := 3) hb ho zc20 in_J2 (zf_RJ2_9 _) dJ2_indexOfRange_1 hO (by decide) rfl ?_
  refine z_astore (lv' := [(4, .ref e), (0, .ref a), (1, .ref x), (2, .int (nI 0)), (3, .int (nI k))]) hb dJ2_indexOfRange_4 (by rw [hN]; decide) rfl ?_
  refine z_aload_n hb dJ2_indexOfRange_6 rfl ?_
  refine z_ifnonnull (tgt := 39) hb dJ2_indexOfRange_7 (by decide) ?_
  refine z_iload_n hb dJ2_indexOfRange_39 rfl ?_
  refine z_istore (lv' := [(5, .int (nI 0)), (4, .ref e), (0, .ref a), (1, .ref x), (2, .int (nI 0)), (3, .int (nI k))]) hb dJ2_indexOfRange_40 (by rw [hN]; decide) rfl ?_
  have lp_42 : ∀ (k9_42 : Nat) (j : Nat), i + 1 - j < k9_42 → (j ≤ i) → z_V M h n 0 0 42 [(5, .int (nI j)), (4, .ref e), (0, .ref a), (1, .ref x), (2, .int (nI 0)), (3, .int (nI k))] [] := by
    intro k9_42
    induction k9_42 with
    | zero => intro j hk9_42; exact absurd hk9_42 (Nat.not_lt_zero _)
    | succ k9_42 ih_42 =>
      intro j hk9_42 hj
      refine z_iload hb dJ2_indexOfRange_42 rfl ?_
      refine z_iload_n hb dJ2_indexOfRange_44 rfl ?_
      refine z_icmp_geN (tgt := 69) hb dJ2_indexOfRange_45 (by decide) (by omega) (by omega) (fun c_45 => ?_) (fun c_45 => ?_)
      · exact absurd c_45 (by omega)
      · refine z_aload_n hb dJ2_indexOfRange_48 rfl ?_
        refine z_aload hb dJ2_indexOfRange_49 rfl ?_
        refine z_iload hb dJ2_indexOfRange_51 rfl ?_
        refine z_aald (j := j) hb dJ2_indexOfRange_53 hA rfl (by omega) (by omega) ?_
        refine z_toR (z := g j) (hS j (by omega)) ?_
        refine z_call1 (b' := 0) (f' := 0) (rest := []) (av := [.ref x, .ref (g j)]) (z_siteV hb ho zc13 hx q618 q619 q623 ⟨_, _, _, _, zk_J30_equals⟩ zy_J30_equals zl_J30_equals dJ2_indexOfRange_54 : z_Site M _ _ _ _ _ ([.ref (g j)].reverse ++ .ref x :: []) [] _) zk_J30_equals q3292 hrm (m_J30_equals x (g j)) (by omega) (by decide) (Nat.le_of_ble_eq_true rfl) (by omega) (by omega) ?_
        refine z_ifb_eq (tgt := 63) hb dJ2_indexOfRange_57 (by decide) (fun c_57 => ?_) (fun c_57 => ?_)
        · refine z_iinc (k0 := 0) (lv' := [(5, .int (nI (j + 1))), (4, .ref e), (0, .ref a), (1, .ref x), (2, .int (nI 0)), (3, .int (nI k))]) hb dJ2_indexOfRange_63 rfl (nI_1 j) (by rw [hN]; decide) rfl ?_
          refine z_goto (tgt := 42) hb dJ2_indexOfRange_66 (by decide) ?_
          refine z_lv [0, 1, 2, 3, 4, 5] (lv' := [(5, .int (nI (j + 1))), (4, .ref e), (0, .ref a), (1, .ref x), (2, .int (nI 0)), (3, .int (nI k))]) rfl ?_
          exact ih_42 (j + 1) (by omega) (Nat.lt_of_le_of_ne hj (fun q => by rw [q, hfi] at c_57; simp at c_57))
        · refine z_iload hb dJ2_indexOfRange_60 rfl ?_
          refine z_iret hb hr dJ2_indexOfRange_62 ?_
          rw [hQ]
          obtain rfl : j = i := by
            rcases Nat.lt_or_ge j i with z | z
            · exact absurd (of_decide_eq_true c_57).symm (hne j z)
            · omega
          exact ⟨rfl, rfl, rfl⟩
  refine z_lv [0, 1, 2, 3, 4, 5] (lv' := [(5, .int (nI 0)), (4, .ref e), (0, .ref a), (1, .ref x), (2, .int (nI 0)), (3, .int (nI k))]) rfl ?_
  exact lp_42 _ 0 (Nat.lt_succ_self _) (Nat.zero_le _)

set_option maxHeartbeats 1000000 in
theorem m_J2_indexOf_13 {l : Launch} {G : zG} {h : zH} {n : Nat} {a e N k : Nat} {m9 : Int32} {f : Nat → Option Nat} {g : Nat → Nat} {x i : Nat} {fs9 : List Value} (hO : h a = some (.inr (20, [.int m9, .ref e, .int (nI k)]))) (hA : h e = some (z_ao G N f)) (hkN : k ≤ N) (hN2 : N ≤ 200) (hS : ∀ j, j < k → f j = some (g j)) (hx : h x = some (.inr (13, fs9))) (hik : i < k) (hfi : g i = x) (hne : ∀ j, j < i → g j ≠ x) : z_C l G yJ2_indexOf 3 0 0 [.ref a, .ref x] h n (z_rv (.int (nI i)) h n) := by
  refine z_start zk_J2_indexOf zpl_RJ2 (Nat.le_of_ble_eq_true rfl) ?_
  intro hn0 M hl hG ho hb hN hr hm hH hrm hQ
  subst hl hG
  have ho : zm_o M = RJ2 := ho
  show z_V M h n 0 0 0 [(0, .ref a), (1, .ref x)] []
  refine z_aload_n hb dJ2_indexOf_0 rfl ?_
  refine z_aload_n hb dJ2_indexOf_1 rfl ?_
  refine z_iconst (x := nI 0) hb dJ2_indexOf_2 (by decide) ?_
  refine z_aload_n hb dJ2_indexOf_3 rfl ?_
  refine z_get (k := 2) (C := RJ2) (T := TJ2) (N := 3) hb ho zc20 in_J2 (zf_RJ2_48 _) dJ2_indexOf_4 hO (by decide) rfl ?_
  refine z_call1 (b' := 0) (f' := 0) (rest := []) (av := [.ref a, .ref x, .int (nI 0), .int (nI k)]) (z_siteV hb ho zc20 hO q613 q614 q615 ⟨_, _, _, _, zk_J2_indexOfRange⟩ zy_J2_indexOfRange zl_J2_indexOfRange dJ2_indexOf_7 : z_Site M _ _ _ _ _ ([.ref x, .int (nI 0), .int (nI k)].reverse ++ .ref a :: []) [] _) zk_J2_indexOfRange q98 hrm (m_J2_indexOfRange_13 hO hA hkN hN2 hS hx hik hfi hne) (by omega) (by decide) (Nat.le_of_ble_eq_true rfl) (by omega) (by omega) ?_
  refine z_iret hb hr dJ2_indexOf_10 ?_
  rw [hQ]
  exact ⟨rfl, rfl, rfl⟩

