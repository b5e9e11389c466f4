/-- a String of one's own: its letters' array is no constant -/
def z_Sf (G : zG) (h : zH) (s : Nat) (l : List Nat) (hs : Int32) : Prop := ∃ (e : Nat), h s = some (.inr (23, [.ref e, .int (nI 0), .int hs, .int (nI 0)])) ∧ h e = some (z_ab G l.length (z_by l)) ∧ l.length ≤ 100 ∧ (∀ b ∈ l, b < 128) ∧ z_n0 G ≤ e
theorem z_Sf.sg {G : zG} {h : zH} {s : Nat} {l : List Nat} {hs : Int32} (q : z_Sf G h s l hs) : z_Sg G h s l hs := by
  obtain ⟨e, q1, q2, q3, q4, q5⟩ := q
  exact ⟨e, _, q1, q2, q3, q4⟩
theorem z_Sf.ex {G : zG} {h h2 : zH} {s : Nat} {l : List Nat} {hs : Int32} (q : z_Sf G h s l hs) (x : z_ex h h2) : z_Sf G h2 s l hs := by
  obtain ⟨e, q1, q2, q3⟩ := q
  exact ⟨e, x _ _ q1, x _ _ q2, q3⟩

set_option maxHeartbeats 1000000 in
theorem m_J15_copyOfRangeByte_g {l : Launch} {G : zG} {h : zH} {n : Nat} {e N p k : Nat} {f : Nat → Int32} (hA : h e = some (z_ab G N f)) (hen : e < n) (hpk : p ≤ k) (hkN : k ≤ N) (hN9 : N < 1000) (hfb : z_fB f N) : z_C l G yJ15_copyOfRangeByte 2 1 (k - p) [.ref e, .int (nI p), .int (nI k)] h n (z_rv (.ref n) (z_up h n (z_ab G (k - p) (va_cpy f (fun _ => 0) p 0 (k - p)))) (n + 1)) := by
  refine z_start zk_J15_copyOfRangeByte zpl_RJ15 (Nat.le_of_ble_eq_true rfl) ?_
  intro hn0 M hl hG ho hb hN hr hm hH hrm hQ
  subst hl hG
  have ho : zm_o M = RJ15 := ho
  show z_V M h n 1 (k - p) 0 [(0, .ref e), (1, .int (nI p)), (2, .int (nI k))] []
  refine z_iload_n hb dJ15_copyOfRangeByte_0 rfl ?_
  refine z_iload_n hb dJ15_copyOfRangeByte_1 rfl ?_
  refine z_call0 (b' := 1) (f' := k - p) (rest := []) (av := [.int (nI p), .int (nI k)]) (z_siteS hb ho q1065 q1066 q112 ⟨_, _, _, _, zk_J15_checkLength⟩ zy_J15_checkLength zl_J15_checkLength dJ15_copyOfRangeByte_2 : z_Site M _ _ _ _ _ ([.int (nI p), .int (nI k)].reverse ++ []) [] _) zk_J15_checkLength q112 hrm (m_J15_checkLength hpk (by omega)) (by omega) (by decide) (Nat.le_of_ble_eq_true rfl) (by omega) (by omega) ?_
  refine z_iload_n hb dJ15_copyOfRangeByte_5 rfl ?_
  refine z_iload_n hb dJ15_copyOfRangeByte_6 rfl ?_
  refine z_isub hb dJ15_copyOfRangeByte_7 ?_
  refine z_toI (y := nI (k - p)) (pk_sub (by omega)) ?_
  refine z_istore_n (lv' := [(3, .int (nI (k - p))), (0, .ref e), (1, .int (nI p)), (2, .int (nI k))]) hb dJ15_copyOfRangeByte_8 (by rw [hN]; decide) rfl ?_
  refine z_iload_n hb dJ15_copyOfRangeByte_9 rfl ?_
  refine z_newb (N := k - p) (b' := 0) (f' := (k - p) - (k - p)) hb q284 dJ15_copyOfRangeByte_10 rfl (by omega) (by omega) (by omega) ?_
  refine z_hn (fun h_1 eh_1 => ?_)
  have eh_1 : h_1 = z_up h n (.inl ((zm_G M).2.1 3, k - p, .inl (fun _ => 0))) := eh_1
  have k_2 : h_1 e = some (.inl ((zm_G M).2.1 3, N, .inl f)) := z_nx eh_1 (Nat.ne_of_lt hen) hA
  refine z_astore (lv' := [(4, .ref n), (3, .int (nI (k - p))), (0, .ref e), (1, .int (nI p)), (2, .int (nI k))]) hb dJ15_copyOfRangeByte_12 (by rw [hN]; decide) rfl ?_
  refine z_aload_n hb dJ15_copyOfRangeByte_14 rfl ?_
  refine z_iload_n hb dJ15_copyOfRangeByte_15 rfl ?_
  refine z_aload hb dJ15_copyOfRangeByte_16 rfl ?_
  refine z_iconst (x := nI 0) hb dJ15_copyOfRangeByte_18 (by decide) ?_
  refine z_aload_n hb dJ15_copyOfRangeByte_19 rfl ?_
  refine z_alen (kk := 3) hb rfl dJ15_copyOfRangeByte_20 k_2 ?_
  refine z_iload_n hb dJ15_copyOfRangeByte_21 rfl ?_
  refine z_isub hb dJ15_copyOfRangeByte_22 ?_
  refine z_toI (y := nI (N - p)) (pk_sub (by omega)) ?_
  refine z_iload_n hb dJ15_copyOfRangeByte_23 rfl ?_
  refine z_mmin hb ho hrm (by omega) q552 q553 q111 q554 dJ15_copyOfRangeByte_24 (Nat.le_of_ble_eq_true rfl) ?_
  refine z_toI (y := nI (k - p)) (by rw [z_minN (by omega) (by omega), Nat.min_eq_right (by omega)]) ?_
  refine z_copyb hb ho hrm (by omega) q555 q557 q556 q113 dJ15_copyOfRangeByte_27 k_2 (z_nxs eh_1) (by omega) rfl rfl rfl (by omega) (by omega) (by omega) (by omega) (fun i hi => hfb _ (by omega)) (Nat.le_of_ble_eq_true rfl) ?_
  refine z_hn (fun h_3 eh_3 => ?_)
  have eh_3 : h_3 = z_up h_1 n (.inl ((zm_G M).2.1 3, k - p, .inl (va_cpy f (fun _ => 0) p 0 (k - p)))) := eh_3
  refine z_aload hb dJ15_copyOfRangeByte_30 rfl ?_
  refine z_aret hb hr (Or.inr ⟨_, rfl⟩) (Or.inr ⟨_, rfl⟩) dJ15_copyOfRangeByte_32 ?_
  rw [hQ]
  exact ⟨rfl, (by rw [eh_3, eh_1] <;> simp only [z_up_up]), rfl⟩

set_option maxHeartbeats 1000000 in
theorem m_J15_copyOfRange_g {l : Launch} {G : zG} {h : zH} {n : Nat} {e N p k : Nat} {f : Nat → Int32} (hA : h e = some (z_ab G N f)) (hen : e < n) (hpk : p ≤ k) (hkN : k ≤ N) (hN9 : N < 1000) (hfb : z_fB f N) (hc : 0 < p ∨ k < N) : z_C l G yJ15_copyOfRange 3 1 (k - p) [.ref e, .int (nI p), .int (nI k)] h n (z_rv (.ref n) (z_up h n (z_ab G (k - p) (va_cpy f (fun _ => 0) p 0 (k - p)))) (n + 1)) := by
  refine z_start zk_J15_copyOfRange zpl_RJ15 (Nat.le_of_ble_eq_true rfl) ?_
  intro hn0 M hl hG ho hb hN hr hm hH hrm hQ
  subst hl hG
  have ho : zm_o M = RJ15 := ho
  show z_V M h n 1 (k - p) 0 [(0, .ref e), (1, .int (nI p)), (2, .int (nI k))] []
  refine z_iload_n hb dJ15_copyOfRange_0 rfl ?_
  refine z_if_neN (tgt := 10) hb dJ15_copyOfRange_1 (by decide) (by omega) (fun c_1 => ?_) (fun c_1 => ?_)
  · refine z_aload_n hb dJ15_copyOfRange_10 rfl ?_
    refine z_iload_n hb dJ15_copyOfRange_11 rfl ?_
    refine z_iload_n hb dJ15_copyOfRange_12 rfl ?_
    refine z_call1 (b' := 0) (f' := 0) (rest := []) (av := [.ref e, .int (nI p), .int (nI k)]) (z_siteS hb ho q1062 q1063 q112 ⟨_, _, _, _, zk_J15_copyOfRangeByte⟩ zy_J15_copyOfRangeByte zl_J15_copyOfRangeByte dJ15_copyOfRange_13 : z_Site M _ _ _ _ _ ([.ref e, .int (nI p), .int (nI k)].reverse ++ []) [] _) zk_J15_copyOfRangeByte q112 hrm (m_J15_copyOfRangeByte_g hA hen hpk hkN hN9 hfb) (by omega) (by decide) (Nat.le_of_ble_eq_true rfl) (by omega) (by omega) ?_
    refine z_hn (fun h_1 eh_1 => ?_)
    have eh_1 : h_1 = z_up h n (.inl ((zm_G M).2.1 3, k - p, .inl (va_cpy f (fun _ => 0) p 0 (k - p)))) := eh_1
    have k_2 : h_1 e = some (.inl ((zm_G M).2.1 3, N, .inl f)) := z_nx eh_1 (Nat.ne_of_lt hen) hA
    refine z_aret hb hr (Or.inr ⟨_, rfl⟩) (Or.inr ⟨_, rfl⟩) dJ15_copyOfRange_16 ?_
    rw [hQ]
    exact ⟨rfl, (by rw [eh_1] <;> simp only [z_up_up]), rfl⟩
  · refine z_iload_n hb dJ15_copyOfRange_4 rfl ?_
    refine z_aload_n hb dJ15_copyOfRange_5 rfl ?_
    refine z_alen (kk := 3) hb rfl dJ15_copyOfRange_6 hA ?_
    refine z_icmp_eqN (tgt := 17) hb dJ15_copyOfRange_7 (by decide) (by omega) (by omega) (fun c_7 => ?_) (fun c_7 => ?_)
    · exact absurd c_7 (by omega)
    · refine z_aload_n hb dJ15_copyOfRange_10 rfl ?_
      refine z_iload_n hb dJ15_copyOfRange_11 rfl ?_
      refine z_iload_n hb dJ15_copyOfRange_12 rfl ?_
      refine z_call1 (b' := 0) (f' := 0) (rest := []) (av := [.ref e, .int (nI p), .int (nI k)]) (z_siteS hb ho q1062 q1063 q112 ⟨_, _, _, _, zk_J15_copyOfRangeByte⟩ zy_J15_copyOfRangeByte zl_J15_copyOfRangeByte dJ15_copyOfRange_13 : z_Site M _ _ _ _ _ ([.ref e, .int (nI p), .int (nI k)].reverse ++ []) [] _) zk_J15_copyOfRangeByte q112 hrm (m_J15_copyOfRangeByte_g hA hen hpk hkN hN9 hfb) (by omega) (by decide) (Nat.le_of_ble_eq_true rfl) (by omega) (by omega) ?_
      refine z_hn (fun h_3 eh_3 => ?_)
      have eh_3 : h_3 = z_up h n (.inl ((zm_G M).2.1 3, k - p, .inl (va_cpy f (fun _ => 0) p 0 (k - p)))) := eh_3
      have k_4 : h_3 e = some (.inl ((zm_G M).2.1 3, N, .inl f)) := z_nx eh_3 (Nat.ne_of_lt hen) hA
      refine z_aret hb hr (Or.inr ⟨_, rfl⟩) (Or.inr ⟨_, rfl⟩) dJ15_copyOfRange_16 ?_
      rw [hQ]
      exact ⟨rfl, (by rw [eh_3] <;> simp only [z_up_up]), rfl⟩

set_option maxHeartbeats 1000000 in
theorem m_J16_newString_g {l : Launch} {G : zG} {h : zH} {n : Nat} {e : Nat} {ch : List Nat} (hs2 : h e = some (z_ab G ch.length (z_by ch))) (hl : 2 ≤ ch.length ∧ ch.length ≤ 100) (hs4 : ∀ b ∈ ch, b < 128) : z_C l G yJ16_newString 4 2 304 [.ref e, .int (nI 1), .int (nI (ch.length - 1))] h n (z_q1 (fun r9 h9 n9 => ∃ s, r9 = .ref s ∧ n ≤ s ∧ s < n9 ∧ z_Sf G h9 s (ch.drop 1) (nI 0) ∧ z_ex h h9)) := by
  refine z_start zk_J16_newString zpl_RJ16 (Nat.le_of_ble_eq_true rfl) ?_
  intro hn0 M hl hG ho hb hN hr hm hH hrm hQ
  subst hl hG
  have ho : zm_o M = RJ16 := ho
  refine z_dom (fun hdm => ?_)
  have hen := hdm _ _ hs2
  show z_V M h n 2 304 0 [(0, .ref e), (1, .int (nI 1)), (2, .int (nI (ch.length - 1)))] []
  refine z_iload_n hb dJ16_newString_0 rfl ?_
  refine z_if_neN (tgt := 7) hb dJ16_newString_1 (by decide) (by omega) (fun c_1 => ?_) (fun c_1 => ?_)
  · refine z_new (N0 := 4) (b' := 1) (f' := 300) (fs := [.null, .int (nI 0), .int (nI 0), .int (nI 0)]) (C := RJ6) (T := TJ6) (N := 4) hb ho zc23 in_J6 tyJ6_ok q2366 q1037 q102 dJ16_newString_7 (zdf_J6) (by omega) (by omega) ?_
    refine z_hn (fun h_1 eh_1 => ?_)
    have eh_1 : h_1 = z_up h n (.inr (23, [.null, .int (nI 0), .int (nI 0), .int (nI 0)])) := eh_1
    have k_2 : h_1 e = some (.inl ((zm_G M).2.1 3, ch.length, .inl (z_by ch))) := z_nx eh_1 (Nat.ne_of_lt hen) hs2
    refine z_dup hb dJ16_newString_10 rfl ?_
    refine z_aload_n hb dJ16_newString_11 rfl ?_
    refine z_iload_n hb dJ16_newString_12 rfl ?_
    refine z_iload_n hb dJ16_newString_13 rfl ?_
    refine z_iload_n hb dJ16_newString_14 rfl ?_
    refine z_iadd hb dJ16_newString_15 ?_
    refine z_toI (y := nI (1 + (ch.length - 1))) (nI_add 1 (ch.length - 1)) ?_
    refine z_call1 (b' := 0) (f' := 0) (rest := [.ref n, .ref n]) (av := [.ref e, .int (nI 1), .int (nI (1 + (ch.length - 1)))]) (z_siteS hb ho q2367 q1060 q112 ⟨_, _, _, _, zk_J15_copyOfRange⟩ zy_J15_copyOfRange zl_J15_copyOfRange dJ16_newString_16 : z_Site M _ _ _ _ _ ([.ref e, .int (nI 1), .int (nI (1 + (ch.length - 1)))].reverse ++ [.ref n, .ref n]) [.ref n, .ref n] _) zk_J15_copyOfRange q112 hrm (m_J15_copyOfRange_g k_2 (by omega) (by omega) (by omega) (by omega) (fun i hi => z_byfit hs4 _) (Or.inl (by decide))) (by omega) (by decide) (Nat.le_of_ble_eq_true rfl) (by omega) (by omega) ?_
    refine z_arU (N := 1 + (ch.length - 1) - 1) (x := va_cpy (z_by ch) (fun _ => 0) 1 0 (1 + (ch.length - 1) - 1)) (y := z_by (ch.drop 1)) (t := n + 1) rfl (by omega) (fun j hj => z_by_d1 hj) (fun h_3 eh_3 => ?_)
    have eh_3 : h_3 = z_up h_1 (n + 1) (z_ab (zm_G M) (1 + (ch.length - 1) - 1) (z_by (ch.drop 1))) := eh_3
    have k_4 : h_3 n = some (.inr (23, [.null, .int (nI 0), .int (nI 0), .int (nI 0)])) := z_nx eh_3 (by omega) (z_nxs eh_1)
    refine z_iconst (x := nI 0) hb dJ16_newString_19 (by decide) ?_
    refine z_call0 (b' := 0) (f' := 0) (rest := [.ref n]) (av := [.ref n, .ref (n + 1), .int (nI 0)]) (z_siteI hb ho q2368 q2369 q2370 rfl zy_J6_init_3 zl_J6_init_3 dJ16_newString_20 : z_Site M _ _ _ _ _ ([.ref (n + 1), .int (nI 0)].reverse ++ .ref n :: [.ref n]) [.ref n] _) zk_J6_init_3 q102 hrm (m_J6_init_3 k_4 hn0) (by omega) (by decide) (Nat.le_of_ble_eq_true rfl) (by omega) (by omega) ?_
    refine z_hn (fun h_5 eh_5 => ?_)
    have eh_5 : h_5 = z_up h_3 n (.inr (23, [.ref (n + 1), .int (nI 0), .int (nI 0), .int (nI 0)])) := eh_5
    have k_6 : h_5 (n + 1) = some (.inl ((zm_G M).2.1 3, 1 + (ch.length - 1) - 1, .inl (z_by (ch.drop 1)))) := z_nx eh_5 (z_neA' (z_nxs eh_3) k_4) (z_nxs eh_3)
    refine z_aret hb hr (Or.inl ⟨_, rfl⟩) (Or.inr ⟨_, rfl⟩) dJ16_newString_23 ?_
    rw [hQ]
    have hdl : (ch.drop 1).length = 1 + (ch.length - 1) - 1 := by rw [List.length_drop]; omega
    exact ⟨_, rfl, n, rfl, Nat.le_refl _, (Nat.lt_succ_of_lt (Nat.lt_succ_self n)), ⟨n + 1, (z_nxs eh_5), by rw [hdl]; exact k_6, by omega, fun b hb => hs4 b (List.mem_of_mem_drop hb), by omega⟩, z_exW hdm (Nat.le_refl _) eh_5 (z_exW hdm (by omega) eh_3 (z_exN z_ex_r hdm eh_1))⟩
  · exact absurd c_1 (by omega)

set_option maxHeartbeats 1000000 in
theorem m_J18_checkFromToIndex_n {l : Launch} {G : zG} {h : zH} {n : Nat} {p k c : Nat} (hpk : p ≤ k) (hkc : k ≤ c) (hc9 : c < 1000) : z_C l G yJ18_checkFromToIndex 1 0 0 [.int (nI p), .int (nI k), .int (nI c), .null] h n (z_rv (.int (nI p)) h n) := by
  refine z_start zk_J18_checkFromToIndex zpl_RJ18 (Nat.le_of_ble_eq_true rfl) ?_
  intro hn0 M hl hG ho hb hN hr hm hH hrm hQ
  subst hl hG
  have ho : zm_o M = RJ18 := ho
  show z_V M h n 0 0 0 [(0, .int (nI p)), (1, .int (nI k)), (2, .int (nI c)), (3, .null)] []
  refine z_iload_n hb dJ18_checkFromToIndex_0 rfl ?_
  refine z_if_ltN (tgt := 14) hb dJ18_checkFromToIndex_1 (by decide) (by omega) ?_
  refine z_iload_n hb dJ18_checkFromToIndex_4 rfl ?_
  refine z_iload_n hb dJ18_checkFromToIndex_5 rfl ?_
  refine z_icmp_gtN (tgt := 14) hb dJ18_checkFromToIndex_6 (by decide) (by omega) (by omega) (fun c_6 => ?_) (fun c_6 => ?_)
  · exact absurd c_6 (by omega)
  · refine z_iload_n hb dJ18_checkFromToIndex_9 rfl ?_
    refine z_iload_n hb dJ18_checkFromToIndex_10 rfl ?_
    refine z_icmp_leN (tgt := 22) hb dJ18_checkFromToIndex_11 (by decide) (by omega) (by omega) (fun c_11 => ?_) (fun c_11 => ?_)
    · refine z_iload_n hb dJ18_checkFromToIndex_22 rfl ?_
      refine z_iret hb hr dJ18_checkFromToIndex_23 ?_
      rw [hQ]
      exact ⟨rfl, rfl, rfl⟩
    · exact absurd c_11 (by omega)

set_option maxHeartbeats 1000000 in
theorem m_J18_checkFromToIndex_r {l : Launch} {G : zG} {h : zH} {n : Nat} {p k c : Nat} {t9 : Nat} (hpk : p ≤ k) (hkc : k ≤ c) (hc9 : c < 1000) : z_C l G yJ18_checkFromToIndex 1 0 0 [.int (nI p), .int (nI k), .int (nI c), .ref t9] h n (z_rv (.int (nI p)) h n) := by
  refine z_start zk_J18_checkFromToIndex zpl_RJ18 (Nat.le_of_ble_eq_true rfl) ?_
  intro hn0 M hl hG ho hb hN hr hm hH hrm hQ
  subst hl hG
  have ho : zm_o M = RJ18 := ho
  show z_V M h n 0 0 0 [(0, .int (nI p)), (1, .int (nI k)), (2, .int (nI c)), (3, .ref t9)] []
  refine z_iload_n hb dJ18_checkFromToIndex_0 rfl ?_
  refine z_if_ltN (tgt := 14) hb dJ18_checkFromToIndex_1 (by decide) (by omega) ?_
  refine z_iload_n hb dJ18_checkFromToIndex_4 rfl ?_
  refine z_iload_n hb dJ18_checkFromToIndex_5 rfl ?_
  refine z_icmp_gtN (tgt := 14) hb dJ18_checkFromToIndex_6 (by decide) (by omega) (by omega) (fun c_6 => ?_) (fun c_6 => ?_)
  · exact absurd c_6 (by omega)
  · refine z_iload_n hb dJ18_checkFromToIndex_9 rfl ?_
    refine z_iload_n hb dJ18_checkFromToIndex_10 rfl ?_
    refine z_icmp_leN (tgt := 22) hb dJ18_checkFromToIndex_11 (by decide) (by omega) (by omega) (fun c_11 => ?_) (fun c_11 => ?_)
    · refine z_iload_n hb dJ18_checkFromToIndex_22 rfl ?_
      refine z_iret hb hr dJ18_checkFromToIndex_23 ?_
      rw [hQ]
      exact ⟨rfl, rfl, rfl⟩
    · exact absurd c_11 (by omega)

set_option maxHeartbeats 1000000 in
theorem m_J6_checkBoundsBeginEnd {l : Launch} {G : zG} {h : zH} {n : Nat} {p k c : Nat} (hpk : p ≤ k) (hkc : k ≤ c) (hc9 : c < 1000) : z_C l G yJ6_checkBoundsBeginEnd 2 0 0 [.int (nI p), .int (nI k), .int (nI c)] h n (z_r0 h n) := by
  refine z_start zk_J6_checkBoundsBeginEnd zpl_RJ6 (Nat.le_of_ble_eq_true rfl) ?_
  intro hn0 M hl hG ho hb hN hr hm hH hrm hQ
  subst hl hG
  have ho : zm_o M = RJ6 := ho
  show z_V M h n 0 0 0 [(0, .int (nI p)), (1, .int (nI k)), (2, .int (nI c))] []
  refine z_iload_n hb dJ6_checkBoundsBeginEnd_0 rfl ?_
  refine z_iload_n hb dJ6_checkBoundsBeginEnd_1 rfl ?_
  refine z_iload_n hb dJ6_checkBoundsBeginEnd_2 rfl ?_
  refine z_gets (i := 10) hb ho rfl (zf_RJ6_1053 _) dJ6_checkBoundsBeginEnd_3 ?_
  rcases z_nr_c ((zm_G M).2.2.1 1007) with hz9 | ⟨t9, hz9⟩
  · refine z_top9 (y := .null) hz9 ?_
    refine z_call1 (b' := 0) (f' := 0) (rest := []) (av := [.int (nI p), .int (nI k), .int (nI c), .null]) (z_siteS hb ho q959 q960 q118 ⟨_, _, _, _, zk_J18_checkFromToIndex⟩ zy_J18_checkFromToIndex zl_J18_checkFromToIndex dJ6_checkBoundsBeginEnd_6 : z_Site M _ _ _ _ _ ([.int (nI p), .int (nI k), .int (nI c), .null].reverse ++ []) [] _) zk_J18_checkFromToIndex q118 hrm (m_J18_checkFromToIndex_n hpk hkc hc9) (by omega) (by decide) (Nat.le_of_ble_eq_true rfl) (by omega) (by omega) ?_
    refine z_pop hb dJ6_checkBoundsBeginEnd_9 rfl ?_
    refine z_vret hb hr dJ6_checkBoundsBeginEnd_10 ?_
    rw [hQ]
    exact ⟨rfl, rfl, rfl⟩
  · refine z_top9 (y := .ref t9) hz9 ?_
    refine z_call1 (b' := 0) (f' := 0) (rest := []) (av := [.int (nI p), .int (nI k), .int (nI c), .ref t9]) (z_siteS hb ho q959 q960 q118 ⟨_, _, _, _, zk_J18_checkFromToIndex⟩ zy_J18_checkFromToIndex zl_J18_checkFromToIndex dJ6_checkBoundsBeginEnd_6 : z_Site M _ _ _ _ _ ([.int (nI p), .int (nI k), .int (nI c), .ref t9].reverse ++ []) [] _) zk_J18_checkFromToIndex q118 hrm (m_J18_checkFromToIndex_r hpk hkc hc9) (by omega) (by decide) (Nat.le_of_ble_eq_true rfl) (by omega) (by omega) ?_
    refine z_pop hb dJ6_checkBoundsBeginEnd_9 rfl ?_
    refine z_vret hb hr dJ6_checkBoundsBeginEnd_10 ?_
    rw [hQ]
    exact ⟨rfl, rfl, rfl⟩

set_option maxHeartbeats 1000000 in
theorem m_J6_substring_2 {l : Launch} {G : zG} {h : zH} {n : Nat} {s : Nat} {ch : List Nat} {hs9 : Int32} (hSg : z_Sg G h s ch hs9) (hl : 2 ≤ ch.length ∧ ch.length ≤ 100) : z_C l G yJ6_substring_2 5 2 304 [.ref s, .int (nI 1), .int (nI ch.length)] h n (z_q1 (fun r9 h9 n9 => ∃ s, r9 = .ref s ∧ n ≤ s ∧ s < n9 ∧ z_Sf G h9 s (ch.drop 1) (nI 0) ∧ z_ex h h9)) := by
  refine z_start zk_J6_substring_2 zpl_RJ6 (Nat.le_of_ble_eq_true rfl) ?_
  intro hn0 M hl hG ho hb hN hr hm hH hrm hQ
  subst hl hG
  have ho : zm_o M = RJ6 := ho
  obtain ⟨es, hz, a1, a2, a3, a4⟩ := id hSg
  show z_V M h n 2 304 0 [(0, .ref s), (1, .int (nI 1)), (2, .int (nI ch.length))] []
  refine z_dom (fun hD0 => ?_)
  refine z_aload_n hb dJ6_substring_2_0 rfl ?_
  refine z_callN1 (b' := 2) (f' := 304) (rest := []) (av := [.ref s]) (z_siteV hb ho zc23 a1 q1419 q966 q967 ⟨_, _, _, _, zk_J6_length⟩ zy_J6_length zl_J6_length dJ6_substring_2_1 : z_Site M _ _ _ _ _ ([].reverse ++ .ref s :: []) [] _) zk_J6_length q102 hrm (m_J6_length hSg) (by omega) (by decide) (Nat.le_of_ble_eq_true rfl) (by omega) (by omega) (fun n_1 hn_1 => ?_)
  refine z_istore_n (lv' := [(3, .int (nI ch.length)), (0, .ref s), (1, .int (nI 1)), (2, .int (nI ch.length))]) hb dJ6_substring_2_4 (by rw [hN]; decide) rfl ?_
  refine z_iload_n hb dJ6_substring_2_5 rfl ?_
  refine z_iload_n hb dJ6_substring_2_6 rfl ?_
  refine z_iload_n hb dJ6_substring_2_7 rfl ?_
  refine z_call0 (b' := 2) (f' := 304) (rest := []) (av := [.int (nI 1), .int (nI ch.length), .int (nI ch.length)]) (z_siteS hb ho q2361 q955 q102 ⟨_, _, _, _, zk_J6_checkBoundsBeginEnd⟩ zy_J6_checkBoundsBeginEnd zl_J6_checkBoundsBeginEnd dJ6_substring_2_8 : z_Site M _ _ _ _ _ ([.int (nI 1), .int (nI ch.length), .int (nI ch.length)].reverse ++ []) [] _) zk_J6_checkBoundsBeginEnd q102 hrm (m_J6_checkBoundsBeginEnd (by omega) (Nat.le_refl _) (by omega)) (by omega) (by decide) (Nat.le_of_ble_eq_true rfl) (by omega) (by omega) ?_
  refine z_iload_n hb dJ6_substring_2_11 rfl ?_
  refine z_if_neN (tgt := 22) hb dJ6_substring_2_12 (by decide) (by omega) (fun c_12 => ?_) (fun c_12 => ?_)
  · refine z_iload_n hb dJ6_substring_2_22 rfl ?_
    refine z_iload_n hb dJ6_substring_2_23 rfl ?_
    refine z_isub hb dJ6_substring_2_24 ?_
    refine z_toI (y := nI (ch.length - 1)) (pk_sub (by omega)) ?_
    refine z_toI (y := nI (ch.length - 1)) rfl ?_
    refine z_istore (lv' := [(4, .int (nI (ch.length - 1))), (3, .int (nI ch.length)), (0, .ref s), (1, .int (nI 1)), (2, .int (nI ch.length))]) hb dJ6_substring_2_25 (by rw [hN]; decide) rfl ?_
    refine z_aload_n hb dJ6_substring_2_27 rfl ?_
    refine z_callN1 (b' := 2) (f' := 304) (rest := []) (av := [.ref s]) (z_siteV hb ho zc23 a1 q844 q845 q846 ⟨_, _, _, _, zk_J6_isLatin1⟩ zy_J6_isLatin1 zl_J6_isLatin1 dJ6_substring_2_28 : z_Site M _ _ _ _ _ ([].reverse ++ .ref s :: []) [] _) zk_J6_isLatin1 q102 hrm (m_J6_isLatin1 hSg) (by omega) (by decide) (Nat.le_of_ble_eq_true rfl) (by omega) (by omega) (fun n_2 hn_2 => ?_)
    refine z_if_eqN (tgt := 47) hb dJ6_substring_2_31 (by decide) (by omega) (fun c_31 => ?_) (fun c_31 => ?_)
    · exact absurd c_31 (by omega)
    · refine z_aload_n hb dJ6_substring_2_34 rfl ?_
      refine z_get (k := 0) (C := RJ6) (T := TJ6) (N := 4) hb ho zc23 in_J6 (zf_RJ6_9 _) dJ6_substring_2_35 a1 (by decide) rfl ?_
      refine z_iload_n hb dJ6_substring_2_38 rfl ?_
      refine z_iload hb dJ6_substring_2_39 rfl ?_
      refine z_callQ1 (b' := 0) (f' := 0) (rest := []) (av := [.ref es, .int (nI 1), .int (nI (ch.length - 1))]) (z_siteS hb ho q2362 q2363 q116 ⟨_, _, _, _, zk_J16_newString⟩ zy_J16_newString zl_J16_newString dJ6_substring_2_41 : z_Site M _ _ _ _ _ ([.ref es, .int (nI 1), .int (nI (ch.length - 1))].reverse ++ []) [] _) zk_J16_newString q116 hrm (m_J16_newString_g a2 hl a4) (by omega) (by decide) (Nat.le_of_ble_eq_true rfl) (by omega) (by omega) (fun rhq9 h9 n9 hq9 hn9 => ?_)
      obtain ⟨s9, rfl, hq9⟩ := hq9
      obtain ⟨hns, hnn, hsg, hex⟩ := hq9
      refine z_goto (tgt := 57) hb dJ6_substring_2_44 (by decide) ?_
      refine z_aret hb hr (Or.inl ⟨_, rfl⟩) (Or.inr ⟨_, rfl⟩) dJ6_substring_2_57 ?_
      rw [hQ]
      exact ⟨_, rfl, s9, rfl, by omega, hnn, hsg, hex⟩
  · exact absurd c_12 (by omega)

set_option maxHeartbeats 1000000 in
theorem m_J6_substring {l : Launch} {G : zG} {h : zH} {n : Nat} {s : Nat} {ch : List Nat} {hs9 : Int32} (hSg : z_Sg G h s ch hs9) (hl : 2 ≤ ch.length ∧ ch.length ≤ 100) : z_C l G yJ6_substring 6 2 304 [.ref s, .int (nI 1)] h n (z_q1 (fun r9 h9 n9 => ∃ s, r9 = .ref s ∧ n ≤ s ∧ s < n9 ∧ z_Sf G h9 s (ch.drop 1) (nI 0) ∧ z_ex h h9)) := by
  refine z_start zk_J6_substring zpl_RJ6 (Nat.le_of_ble_eq_true rfl) ?_
  intro hn0 M hl hG ho hb hN hr hm hH hrm hQ
  subst hl hG
  have ho : zm_o M = RJ6 := ho
  obtain ⟨es, hz, a1, a2, a3, a4⟩ := id hSg
  show z_V M h n 2 304 0 [(0, .ref s), (1, .int (nI 1))] []
  refine z_dom (fun hD0 => ?_)
  refine z_aload_n hb dJ6_substring_0 rfl ?_
  refine z_iload_n hb dJ6_substring_1 rfl ?_
  refine z_aload_n hb dJ6_substring_2 rfl ?_
  refine z_callN1 (b' := 2) (f' := 304) (rest := [.int (nI 1), .ref s]) (av := [.ref s]) (z_siteV hb ho zc23 a1 q1419 q966 q967 ⟨_, _, _, _, zk_J6_length⟩ zy_J6_length zl_J6_length dJ6_substring_3 : z_Site M _ _ _ _ _ ([].reverse ++ .ref s :: [.int (nI 1), .ref s]) [.int (nI 1), .ref s] _) zk_J6_length q102 hrm (m_J6_length hSg) (by omega) (by decide) (Nat.le_of_ble_eq_true rfl) (by omega) (by omega) (fun n_1 hn_1 => ?_)
  refine z_callQ1 (b' := 0) (f' := 0) (rest := []) (av := [.ref s, .int (nI 1), .int (nI ch.length)]) (z_siteV hb ho zc23 a1 q2357 q2358 q2359 ⟨_, _, _, _, zk_J6_substring_2⟩ zy_J6_substring_2 zl_J6_substring_2 dJ6_substring_6 : z_Site M _ _ _ _ _ ([.int (nI 1), .int (nI ch.length)].reverse ++ .ref s :: []) [] _) zk_J6_substring_2 q102 hrm (m_J6_substring_2 hSg hl) (by omega) (by decide) (Nat.le_of_ble_eq_true rfl) (by omega) (by omega) (fun rhq9 h9 n9 hq9 hn9 => ?_)
  obtain ⟨s9, rfl, hq9⟩ := hq9
  obtain ⟨hns, hnn, hsg, hex⟩ := hq9
  refine z_aret hb hr (Or.inl ⟨_, rfl⟩) (Or.inr ⟨_, rfl⟩) dJ6_substring_9 ?_
  rw [hQ]
  exact ⟨_, rfl, s9, rfl, by omega, hnn, hsg, hex⟩

