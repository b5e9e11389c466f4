theorem z_dmup {h h2 : zH} {n t : Nat} {c : va_E} (d : z_dm h n) (e : h2 = z_up h t c) (ht : t < n) : z_dm h2 n := fun a x q => by
  by_cases z : a = t
  · omega
  · rw [e, z_up_n z] at q; exact d a x q

set_option maxHeartbeats 1000000 in
theorem m_J15_checkLength {l : Launch} {G : zG} {h : zH} {n : Nat} {p k : Nat} (hpk : p ≤ k) (hk9 : k < 1000) : z_C l G yJ15_checkLength 1 0 0 [.int (nI p), .int (nI k)] h n (z_r0 h n) := by
  refine z_start zk_J15_checkLength zpl_RJ15 (Nat.le_of_ble_eq_true rfl) ?_
  intro hn0 M hl hG ho hb hN hr hm hH hrm hQ
  subst hl hG
  have ho : zm_o M = RJ15 := ho
  show z_V M h n 0 0 0 [(0, .int (nI p)), (1, .int (nI k))] []
  refine z_iload_n hb dJ15_checkLength_0 rfl ?_
  refine z_iload_n hb dJ15_checkLength_1 rfl ?_
  refine z_icmp_geN (tgt := 37) hb dJ15_checkLength_2 (by decide) (by omega) (by omega) (fun c_2 => ?_) (fun c_2 => ?_)
  · refine z_vret hb hr dJ15_checkLength_37 ?_
    rw [hQ]
    exact ⟨rfl, rfl, rfl⟩
  · exact absurd c_2 (by omega)

set_option maxHeartbeats 1000000 in
theorem m_J15_copyOfRangeByte {l : Launch} {G : zG} {h : zH} {n : Nat} {e N p k : Nat} {f : Nat → Int32} (hA : h e = some (z_ab G N f)) (he0 : z_n0 G ≤ e) (hen : e < n) (hpk : p ≤ k) (hkN : k ≤ N) (hN9 : N < 1000) (hfb : z_fB f N) : z_C l G yJ15_copyOfRangeByte 2 1 (k - p) [.ref e, .int (nI p), .int (nI k)] h n (z_rv (.ref n) (z_up h n (z_ab G (k - p) (va_cpy f (fun _ => 0) p 0 (k - p)))) (n + 1)) := by
  refine z_start zk_J15_copyOfRangeByte zpl_RJ15 (Nat.le_of_ble_eq_true rfl) ?_
  intro hn0 M hl hG ho hb hN hr hm hH hrm hQ
  subst hl hG
  have ho : zm_o M = RJ15 := ho
  show z_V M h n 1 (k - p) 0 [(0, .ref e), (1, .int (nI p)), (2, .int (nI k))] []
  refine z_iload_n hb dJ15_copyOfRangeByte_0 rfl ?_
  refine z_iload_n hb dJ15_copyOfRangeByte_1 rfl ?_
  refine z_call0 (b' := 1) (f' := k - p) (rest := []) (av := [.int (nI p), .int (nI k)]) (z_siteS hb ho q1065 q1066 q112 ⟨_, _, _, _, zk_J15_checkLength⟩ zy_J15_checkLength zl_J15_checkLength dJ15_copyOfRangeByte_2 : z_Site M _ _ _ _ _ ([.int (nI p), .int (nI k)].reverse ++ []) [] _) zk_J15_checkLength q112 hrm (m_J15_checkLength hpk (by omega)) (by omega) (by decide) (Nat.le_of_ble_eq_true rfl) (by omega) (by omega) ?_
  refine z_iload_n hb dJ15_copyOfRangeByte_5 rfl ?_
  refine z_iload_n hb dJ15_copyOfRangeByte_6 rfl ?_
  refine z_isub hb dJ15_copyOfRangeByte_7 ?_
  refine z_toI (y := nI (k - p)) (pk_sub (by omega)) ?_
  refine z_istore_n (lv' := [(3, .int (nI (k - p))), (0, .ref e), (1, .int (nI p)), (2, .int (nI k))]) hb dJ15_copyOfRangeByte_8 (by rw [hN]; decide) rfl ?_
  refine z_iload_n hb dJ15_copyOfRangeByte_9 rfl ?_
  refine z_newb (N := k - p) (b' := 0) (f' := (k - p) - (k - p)) hb q284 dJ15_copyOfRangeByte_10 rfl (by omega) (by omega) (by omega) ?_
  refine z_hn (fun h_1 eh_1 => ?_)
  have eh_1 : h_1 = z_up h n (.inl ((zm_G M).2.1 3, k - p, .inl (fun _ => 0))) := eh_1
  have k_2 : h_1 e = some (.inl ((zm_G M).2.1 3, N, .inl f)) := z_nx eh_1 (Nat.ne_of_lt hen) hA
  refine z_astore (lv' := [(4, .ref n), (3, .int (nI (k - p))), (0, .ref e), (1, .int (nI p)), (2, .int (nI k))]) hb dJ15_copyOfRangeByte_12 (by rw [hN]; decide) rfl ?_
  refine z_aload_n hb dJ15_copyOfRangeByte_14 rfl ?_
  refine z_iload_n hb dJ15_copyOfRangeByte_15 rfl ?_
  refine z_aload hb dJ15_copyOfRangeByte_16 rfl ?_
  refine z_iconst (x := nI 0) hb dJ15_copyOfRangeByte_18 (by decide) ?_
  refine z_aload_n hb dJ15_copyOfRangeByte_19 rfl ?_
  refine z_alen (kk := 3) hb rfl dJ15_copyOfRangeByte_20 k_2 ?_
  refine z_iload_n hb dJ15_copyOfRangeByte_21 rfl ?_
  refine z_isub hb dJ15_copyOfRangeByte_22 ?_
  refine z_toI (y := nI (N - p)) (pk_sub (by omega)) ?_
  refine z_iload_n hb dJ15_copyOfRangeByte_23 rfl ?_
  refine z_mmin hb ho hrm (by omega) q552 q553 q111 q554 dJ15_copyOfRangeByte_24 (Nat.le_of_ble_eq_true rfl) ?_
  refine z_toI (y := nI (k - p)) (by rw [z_minN (by omega) (by omega), Nat.min_eq_right (by omega)]) ?_
  refine z_copyb hb ho hrm (by omega) q555 q557 q556 q113 dJ15_copyOfRangeByte_27 k_2 (z_nxs eh_1) (by omega) rfl rfl rfl (by omega) (by omega) (by omega) (by omega) (fun i hi => hfb _ (by omega)) (Nat.le_of_ble_eq_true rfl) ?_
  refine z_hn (fun h_3 eh_3 => ?_)
  have eh_3 : h_3 = z_up h_1 n (.inl ((zm_G M).2.1 3, k - p, .inl (va_cpy f (fun _ => 0) p 0 (k - p)))) := eh_3
  refine z_aload hb dJ15_copyOfRangeByte_30 rfl ?_
  refine z_aret hb hr (Or.inr ⟨_, rfl⟩) (Or.inr ⟨_, rfl⟩) dJ15_copyOfRangeByte_32 ?_
  rw [hQ]
  exact ⟨rfl, (by rw [eh_3, eh_1] <;> simp only [z_up_up]), rfl⟩

set_option maxHeartbeats 1000000 in
theorem m_J15_copyOfRange_p {l : Launch} {G : zG} {h : zH} {n : Nat} {e N p k : Nat} {f : Nat → Int32} (hA : h e = some (z_ab G N f)) (he0 : z_n0 G ≤ e) (hen : e < n) (hpk : p ≤ k) (hkN : k ≤ N) (hN9 : N < 1000) (hfb : z_fB f N) (hc : 0 < p ∨ k < N) : z_C l G yJ15_copyOfRange 3 1 (k - p) [.ref e, .int (nI p), .int (nI k)] h n (z_rv (.ref n) (z_up h n (z_ab G (k - p) (va_cpy f (fun _ => 0) p 0 (k - p)))) (n + 1)) := by
  refine z_start zk_J15_copyOfRange zpl_RJ15 (Nat.le_of_ble_eq_true rfl) ?_
  intro hn0 M hl hG ho hb hN hr hm hH hrm hQ
  subst hl hG
  have ho : zm_o M = RJ15 := ho
  show z_V M h n 1 (k - p) 0 [(0, .ref e), (1, .int (nI p)), (2, .int (nI k))] []
  refine z_iload_n hb dJ15_copyOfRange_0 rfl ?_
  refine z_if_neN (tgt := 10) hb dJ15_copyOfRange_1 (by decide) (by omega) (fun c_1 => ?_) (fun c_1 => ?_)
  · refine z_aload_n hb dJ15_copyOfRange_10 rfl ?_
    refine z_iload_n hb dJ15_copyOfRange_11 rfl ?_
    refine z_iload_n hb dJ15_copyOfRange_12 rfl ?_
    refine z_call1 (b' := 0) (f' := 0) (rest := []) (av := [.ref e, .int (nI p), .int (nI k)]) (z_siteS hb ho q1062 q1063 q112 ⟨_, _, _, _, zk_J15_copyOfRangeByte⟩ zy_J15_copyOfRangeByte zl_J15_copyOfRangeByte dJ15_copyOfRange_13 : z_Site M _ _ _ _ _ ([.ref e, .int (nI p), .int (nI k)].reverse ++ []) [] _) zk_J15_copyOfRangeByte q112 hrm (m_J15_copyOfRangeByte hA he0 hen hpk hkN hN9 hfb) (by omega) (by decide) (Nat.le_of_ble_eq_true rfl) (by omega) (by omega) ?_
    refine z_hn (fun h_1 eh_1 => ?_)
    have eh_1 : h_1 = z_up h n (.inl ((zm_G M).2.1 3, k - p, .inl (va_cpy f (fun _ => 0) p 0 (k - p)))) := eh_1
    have k_2 : h_1 e = some (.inl ((zm_G M).2.1 3, N, .inl f)) := z_nx eh_1 (Nat.ne_of_lt hen) hA
    refine z_aret hb hr (Or.inr ⟨_, rfl⟩) (Or.inr ⟨_, rfl⟩) dJ15_copyOfRange_16 ?_
    rw [hQ]
    exact ⟨rfl, (by rw [eh_1] <;> simp only [z_up_up]), rfl⟩
  · refine z_iload_n hb dJ15_copyOfRange_4 rfl ?_
    refine z_aload_n hb dJ15_copyOfRange_5 rfl ?_
    refine z_alen (kk := 3) hb rfl dJ15_copyOfRange_6 hA ?_
    refine z_icmp_eqN (tgt := 17) hb dJ15_copyOfRange_7 (by decide) (by omega) (by omega) (fun c_7 => ?_) (fun c_7 => ?_)
    · exact absurd c_7 (by omega)
    · refine z_aload_n hb dJ15_copyOfRange_10 rfl ?_
      refine z_iload_n hb dJ15_copyOfRange_11 rfl ?_
      refine z_iload_n hb dJ15_copyOfRange_12 rfl ?_
      refine z_call1 (b' := 0) (f' := 0) (rest := []) (av := [.ref e, .int (nI p), .int (nI k)]) (z_siteS hb ho q1062 q1063 q112 ⟨_, _, _, _, zk_J15_copyOfRangeByte⟩ zy_J15_copyOfRangeByte zl_J15_copyOfRangeByte dJ15_copyOfRange_13 : z_Site M _ _ _ _ _ ([.ref e, .int (nI p), .int (nI k)].reverse ++ []) [] _) zk_J15_copyOfRangeByte q112 hrm (m_J15_copyOfRangeByte hA he0 hen hpk hkN hN9 hfb) (by omega) (by decide) (Nat.le_of_ble_eq_true rfl) (by omega) (by omega) ?_
      refine z_hn (fun h_3 eh_3 => ?_)
      have eh_3 : h_3 = z_up h n (.inl ((zm_G M).2.1 3, k - p, .inl (va_cpy f (fun _ => 0) p 0 (k - p)))) := eh_3
      have k_4 : h_3 e = some (.inl ((zm_G M).2.1 3, N, .inl f)) := z_nx eh_3 (Nat.ne_of_lt hen) hA
      refine z_aret hb hr (Or.inr ⟨_, rfl⟩) (Or.inr ⟨_, rfl⟩) dJ15_copyOfRange_16 ?_
      rw [hQ]
      exact ⟨rfl, (by rw [eh_3] <;> simp only [z_up_up]), rfl⟩

set_option maxHeartbeats 1000000 in
theorem m_J15_copyOfRange_f {l : Launch} {G : zG} {h : zH} {n : Nat} {e N : Nat} {f : Nat → Int32} (hA : h e = some (z_ab G N f)) (he0 : z_n0 G ≤ e) (hen : e < n) (hN9 : N < 1000) (hfb : z_fB f N) : z_C l G yJ15_copyOfRange 3 1 N [.ref e, .int (nI 0), .int (nI N)] h n (z_rv (.ref n) (z_up h n (z_ab G N f)) (n + 1)) := by
  refine z_start zk_J15_copyOfRange zpl_RJ15 (Nat.le_of_ble_eq_true rfl) ?_
  intro hn0 M hl hG ho hb hN hr hm hH hrm hQ
  subst hl hG
  have ho : zm_o M = RJ15 := ho
  show z_V M h n 1 N 0 [(0, .ref e), (1, .int (nI 0)), (2, .int (nI N))] []
  refine z_iload_n hb dJ15_copyOfRange_0 rfl ?_
  refine z_if_neN (tgt := 10) hb dJ15_copyOfRange_1 (by decide) (by omega) (fun c_1 => ?_) (fun c_1 => ?_)
  · exact absurd c_1 (by omega)
  · refine z_iload_n hb dJ15_copyOfRange_4 rfl ?_
    refine z_aload_n hb dJ15_copyOfRange_5 rfl ?_
    refine z_alen (kk := 3) hb rfl dJ15_copyOfRange_6 hA ?_
    refine z_icmp_eqN (tgt := 17) hb dJ15_copyOfRange_7 (by decide) (by omega) (by omega) (fun c_7 => ?_) (fun c_7 => ?_)
    · refine z_aload_n hb dJ15_copyOfRange_17 rfl ?_
      refine z_cloneb (b' := 0) (f' := N - N) hb ho hrm (by omega) q936 dJ15_copyOfRange_18 hA he0 hfb (by decide) (by omega) (by omega) ?_
      refine z_hn (fun h_1 eh_1 => ?_)
      have eh_1 : h_1 = z_up h n (.inl ((zm_G M).2.1 3, N, .inl f)) := eh_1
      have k_2 : h_1 e = some (.inl ((zm_G M).2.1 3, N, .inl f)) := z_nx eh_1 (Nat.ne_of_lt hen) hA
      refine z_castB hb ho (z_nxs eh_1) (by omega) q942 dJ15_copyOfRange_21 ?_
      refine z_aret hb hr (Or.inr ⟨_, rfl⟩) (Or.inr ⟨_, rfl⟩) dJ15_copyOfRange_24 ?_
      rw [hQ]
      exact ⟨rfl, (by rw [eh_1] <;> simp only [z_up_up]), rfl⟩
    · exact absurd rfl c_7

set_option maxHeartbeats 1000000 in
theorem m_J4_getValue {l : Launch} {G : zG} {h : zH} {n : Nat} {b e cd k : Nat} {ml : Bool} (hB : h b = some (z_sb e cd ml k)) : z_C l G yJ4_getValue 1 0 0 [.ref b] h n (z_rv (.ref e) h n) := by
  refine z_start zk_J4_getValue zpl_RJ4 (Nat.le_of_ble_eq_true rfl) ?_
  intro hn0 M hl hG ho hb hN hr hm hH hrm hQ
  subst hl hG
  have ho : zm_o M = RJ4 := ho
  show z_V M h n 0 0 0 [(0, .ref b)] []
  refine z_aload_n hb dJ4_getValue_0 rfl ?_
  refine z_get (k := 0) (C := RJ5) (T := TJ5) (N := 4) hb ho zc22 in_J5 (zf_RJ4_15 _) dJ4_getValue_1 hB (by decide) rfl ?_
  refine z_aret hb hr (Or.inr ⟨_, rfl⟩) (Or.inr ⟨_, rfl⟩) dJ4_getValue_4 ?_
  rw [hQ]
  exact ⟨rfl, rfl, rfl⟩

theorem z_by_of {f : Nat → Int32} {cs : List Nat} (hf : ∀ j, j < cs.length → cs.getD j 0 < 256 ∧ f j = z_bt (cs.getD j 0)) (hc : ∀ b ∈ cs, b < 128) : ∀ j, j < cs.length → f j = z_by cs j := fun j hj => by
  rw [(hf j hj).2]
  refine z_bt_lo ?_
  rw [List.getD_eq_getElem?_getD, List.getElem?_eq_getElem hj]
  exact hc _ (List.getElem_mem hj)

set_option maxHeartbeats 1000000 in
theorem m_J6_init_2_p {l : Launch} {G : zG} {h : zH} {n : Nat} {t b e N : Nat} {ml : Bool} {f : Nat → Int32} {cs : List Nat} (ht9 : h t = some (.inr (23, [.null, .int (nI 0), .int (nI 0), .int (nI 0)]))) (hnt : z_n0 G ≤ t) (hB : h b = some (z_sb e 0 ml cs.length)) (hA : h e = some (z_ab G N f)) (he0 : z_n0 G ≤ e) (hkN : cs.length ≤ N) (hN9 : N < 1000) (hfb : z_fB f N) (hl9 : cs.length ≤ 100) (hbf : ∀ j, j < cs.length → f j = z_by cs j) (hcs : ∀ b ∈ cs, b < 128) (hc : cs.length < N) : z_C l G yJ6_init_2 4 1 300 [.ref t, .ref b, .null] h n (z_q0 (fun h9 n9 => z_Sg G h9 t cs (nI 0) ∧ z_fr (fun y => y = t) h h9)) := by
  refine z_start zk_J6_init_2 zpl_RJ6 (Nat.le_of_ble_eq_true rfl) ?_
  intro hn0 M hl hG ho hb hN hr hm hH hrm hQ
  subst hl hG
  have ho : zm_o M = RJ6 := ho
  refine z_dom (fun hdm => ?_)
  have htn := hdm _ _ ht9
  have hbn := hdm _ _ hB
  have hen := hdm _ _ hA
  show z_V M h n 1 300 0 [(0, .ref t), (1, .ref b), (2, .null)] []
  refine z_aload_n hb dJ6_init_2_0 rfl ?_
  refine z_oinit hb ho hrm (by omega) q1044 q155 q156 (by decide) dJ6_init_2_1 ?_
  refine z_aload_n hb dJ6_init_2_4 rfl ?_
  refine z_call1 (b' := 1) (f' := 300) (rest := []) (av := [.ref b]) (z_siteV hb ho zc22 hB q1045 q1046 q1048 ⟨_, _, _, _, zk_J4_getValue⟩ zy_J4_getValue zl_J4_getValue dJ6_init_2_5 : z_Site M _ _ _ _ _ ([].reverse ++ .ref b :: []) [] _) zk_J4_getValue q100 hrm (m_J4_getValue hB) (by omega) (by decide) (Nat.le_of_ble_eq_true rfl) (by omega) (by omega) ?_
  refine z_astore_n (lv' := [(3, .ref e), (0, .ref t), (1, .ref b), (2, .null)]) hb dJ6_init_2_8 (by rw [hN]; decide) rfl ?_
  refine z_aload_n hb dJ6_init_2_9 rfl ?_
  refine z_call1 (b' := 1) (f' := 300) (rest := []) (av := [.ref b]) (z_siteU hb ho zc22 hB q1050 q1052 (Or.inr ⟨q1051, _, _, _, _, zk_J4_length⟩) q1054 q1053 ⟨by decide +kernel, by decide +kernel⟩ (by show _ = some 0; decide +kernel) dJ6_init_2_10 : z_Site M _ _ _ _ _ ([].reverse ++ .ref b :: []) [] _) zk_J5_length q101 hrm (m_J5_length_0 hB) (by omega) (by decide) (Nat.le_of_ble_eq_true rfl) (by omega) (by omega) ?_
  refine z_istore (lv' := [(4, .int (nI cs.length)), (3, .ref e), (0, .ref t), (1, .ref b), (2, .null)]) hb dJ6_init_2_13 (by rw [hN]; decide) rfl ?_
  refine z_aload_n hb dJ6_init_2_15 rfl ?_
  refine z_call1 (b' := 1) (f' := 300) (rest := []) (av := [.ref b]) (z_siteV hb ho zc22 hB q1058 q944 q946 ⟨_, _, _, _, zk_J4_isLatin1⟩ zy_J4_isLatin1 zl_J4_isLatin1 dJ6_init_2_16 : z_Site M _ _ _ _ _ ([].reverse ++ .ref b :: []) [] _) zk_J4_isLatin1 q100 hrm (m_J4_isLatin1_0 hB) (by omega) (by decide) (Nat.le_of_ble_eq_true rfl) (by omega) (by omega) ?_
  refine z_if_eqN (tgt := 41) hb dJ6_init_2_19 (by decide) (by omega) (fun c_19 => ?_) (fun c_19 => ?_)
  · exact absurd c_19 (by omega)
  · refine z_aload_n hb dJ6_init_2_22 rfl ?_
    refine z_iconst (x := nI 0) hb dJ6_init_2_23 (by decide) ?_
    refine z_put (k := 1) (C := RJ6) (T := TJ6) (N := 4) hb ho zc23 in_J6 tyJ6_ok nmJ6 (zf_RJ6_15 _) dJ6_init_2_24 ht9 hnt (by decide) (Or.inr ⟨hm, rfl⟩) rfl rfl rfl (Nat.le_of_ble_eq_true rfl) ?_
    refine z_hn (fun h_1 eh_1 => ?_)
    have eh_1 : h_1 = z_up h t (.inr (23, [.null, .int (nI 0), .int (nI 0), .int (nI 0)])) := eh_1
    have k_2 : h_1 b = some (.inr (22, [.ref e, .int (nI 0), .int (z_b ml), .int (nI cs.length)])) := z_nx eh_1 (z_neO hB ht9 rfl) hB
    have k_3 : h_1 e = some (.inl ((zm_G M).2.1 3, N, .inl f)) := z_nx eh_1 (z_neA' hA ht9) hA
    refine z_aload_n hb dJ6_init_2_27 rfl ?_
    refine z_aload_n hb dJ6_init_2_28 rfl ?_
    refine z_iconst (x := nI 0) hb dJ6_init_2_29 (by decide) ?_
    refine z_iload hb dJ6_init_2_30 rfl ?_
    refine z_call1 (b' := 0) (f' := 0) (rest := [.ref t]) (av := [.ref e, .int (nI 0), .int (nI cs.length)]) (z_siteS hb ho q1059 q1060 q112 ⟨_, _, _, _, zk_J15_copyOfRange⟩ zy_J15_copyOfRange zl_J15_copyOfRange dJ6_init_2_32 : z_Site M _ _ _ _ _ ([.ref e, .int (nI 0), .int (nI cs.length)].reverse ++ [.ref t]) [.ref t] _) zk_J15_copyOfRange q112 hrm (m_J15_copyOfRange_p (p := 0) k_3 he0 hen (Nat.zero_le _) hkN hN9 hfb (Or.inr hc)) (by omega) (by decide) (Nat.le_of_ble_eq_true rfl) (by omega) (by omega) ?_
    refine z_arU (N := cs.length) (x := (va_cpy f (fun _ => 0) 0 0 (cs.length - 0))) (y := z_by cs) (t := n) rfl hn0 (fun j hj => (by rw [va_cpy, if_pos (by omega), Nat.zero_add, Nat.sub_zero]; exact hbf j hj)) (fun h_5 eh_5 => ?_)
    have eh_5 : h_5 = z_up h_1 n (z_ab (zm_G M) cs.length (z_by cs)) := eh_5
    have k_6 : h_5 t = some (.inr (23, [.null, .int (nI 0), .int (nI 0), .int (nI 0)])) := z_nx eh_5 (Nat.ne_of_lt htn) (z_nxs eh_1)
    have k_7 : h_5 b = some (.inr (22, [.ref e, .int (nI 0), .int (z_b ml), .int (nI cs.length)])) := z_nx eh_5 (Nat.ne_of_lt hbn) k_2
    have k_8 : h_5 e = some (.inl ((zm_G M).2.1 3, N, .inl f)) := z_nx eh_5 (Nat.ne_of_lt hen) k_3
    refine z_put (k := 0) (C := RJ6) (T := TJ6) (N := 4) hb ho zc23 in_J6 tyJ6_ok nmJ6 (zf_RJ6_9 _) dJ6_init_2_35 k_6 hnt (by decide) (Or.inr ⟨hm, rfl⟩) rfl rfl rfl (Nat.le_of_ble_eq_true rfl) ?_
    refine z_hn (fun h_9 eh_9 => ?_)
    have eh_9 : h_9 = z_up h_5 t (.inr (23, [.ref n, .int (nI 0), .int (nI 0), .int (nI 0)])) := eh_9
    have k_10 : h_9 b = some (.inr (22, [.ref e, .int (nI 0), .int (z_b ml), .int (nI cs.length)])) := z_nx eh_9 (z_neO k_7 k_6 rfl) k_7
    have k_11 : h_9 e = some (.inl ((zm_G M).2.1 3, N, .inl f)) := z_nx eh_9 (z_neA' k_8 k_6) k_8
    have k_12 : h_9 n = some (.inl ((zm_G M).2.1 3, cs.length, .inl (z_by cs))) := z_nx eh_9 (z_neA' (z_nxs eh_5) k_6) (z_nxs eh_5)
    refine z_goto (tgt := 97) hb dJ6_init_2_38 (by decide) ?_
    refine z_vret hb hr dJ6_init_2_97 ?_
    rw [hQ]
    exact ⟨rfl, ⟨n, _, (z_nxs eh_9), k_12, hl9, hcs⟩, ((z_fr_up (P := fun y => y = t) rfl eh_1).t (z_exN z_ex_r (z_dmup hdm eh_1 htn) eh_5).fr).t (z_fr_up (P := fun y => y = t) rfl eh_9)⟩

set_option maxHeartbeats 1000000 in
theorem m_J6_init_2_f {l : Launch} {G : zG} {h : zH} {n : Nat} {t b e : Nat} {ml : Bool} {f : Nat → Int32} {cs : List Nat} (ht9 : h t = some (.inr (23, [.null, .int (nI 0), .int (nI 0), .int (nI 0)]))) (hnt : z_n0 G ≤ t) (hB : h b = some (z_sb e 0 ml cs.length)) (hA : h e = some (z_ab G cs.length f)) (he0 : z_n0 G ≤ e) (hfb : z_fB f cs.length) (hl9 : cs.length ≤ 100) (hbf : ∀ j, j < cs.length → f j = z_by cs j) (hcs : ∀ b ∈ cs, b < 128) (hN9 : cs.length < 1000) : z_C l G yJ6_init_2 4 1 300 [.ref t, .ref b, .null] h n (z_q0 (fun h9 n9 => z_Sg G h9 t cs (nI 0) ∧ z_fr (fun y => y = t) h h9)) := by
  refine z_start zk_J6_init_2 zpl_RJ6 (Nat.le_of_ble_eq_true rfl) ?_
  intro hn0 M hl hG ho hb hN hr hm hH hrm hQ
  subst hl hG
  have ho : zm_o M = RJ6 := ho
  refine z_dom (fun hdm => ?_)
  have htn := hdm _ _ ht9
  have hbn := hdm _ _ hB
  have hen := hdm _ _ hA
  show z_V M h n 1 300 0 [(0, .ref t), (1, .ref b), (2, .null)] []
  refine z_aload_n hb dJ6_init_2_0 rfl ?_
  refine z_oinit hb ho hrm (by omega) q1044 q155 q156 (by decide) dJ6_init_2_1 ?_
  refine z_aload_n hb dJ6_init_2_4 rfl ?_
  refine z_call1 (b' := 1) (f' := 300) (rest := []) (av := [.ref b]) (z_siteV hb ho zc22 hB q1045 q1046 q1048 ⟨_, _, _, _, zk_J4_getValue⟩ zy_J4_getValue zl_J4_getValue dJ6_init_2_5 : z_Site M _ _ _ _ _ ([].reverse ++ .ref b :: []) [] _) zk_J4_getValue q100 hrm (m_J4_getValue hB) (by omega) (by decide) (Nat.le_of_ble_eq_true rfl) (by omega) (by omega) ?_
  refine z_astore_n (lv' := [(3, .ref e), (0, .ref t), (1, .ref b), (2, .null)]) hb dJ6_init_2_8 (by rw [hN]; decide) rfl ?_
  refine z_aload_n hb dJ6_init_2_9 rfl ?_
  refine z_call1 (b' := 1) (f' := 300) (rest := []) (av := [.ref b]) (z_siteU hb ho zc22 hB q1050 q1052 (Or.inr ⟨q1051, _, _, _, _, zk_J4_length⟩) q1054 q1053 ⟨by decide +kernel, by decide +kernel⟩ (by show _ = some 0; decide +kernel) dJ6_init_2_10 : z_Site M _ _ _ _ _ ([].reverse ++ .ref b :: []) [] _) zk_J5_length q101 hrm (m_J5_length_0 hB) (by omega) (by decide) (Nat.le_of_ble_eq_true rfl) (by omega) (by omega) ?_
  refine z_istore (lv' := [(4, .int (nI cs.length)), (3, .ref e), (0, .ref t), (1, .ref b), (2, .null)]) hb dJ6_init_2_13 (by rw [hN]; decide) rfl ?_
  refine z_aload_n hb dJ6_init_2_15 rfl ?_
  refine z_call1 (b' := 1) (f' := 300) (rest := []) (av := [.ref b]) (z_siteV hb ho zc22 hB q1058 q944 q946 ⟨_, _, _, _, zk_J4_isLatin1⟩ zy_J4_isLatin1 zl_J4_isLatin1 dJ6_init_2_16 : z_Site M _ _ _ _ _ ([].reverse ++ .ref b :: []) [] _) zk_J4_isLatin1 q100 hrm (m_J4_isLatin1_0 hB) (by omega) (by decide) (Nat.le_of_ble_eq_true rfl) (by omega) (by omega) ?_
  refine z_if_eqN (tgt := 41) hb dJ6_init_2_19 (by decide) (by omega) (fun c_19 => ?_) (fun c_19 => ?_)
  · exact absurd c_19 (by omega)
  · refine z_aload_n hb dJ6_init_2_22 rfl ?_
    refine z_iconst (x := nI 0) hb dJ6_init_2_23 (by decide) ?_
    refine z_put (k := 1) (C := RJ6) (T := TJ6) (N := 4) hb ho zc23 in_J6 tyJ6_ok nmJ6 (zf_RJ6_15 _) dJ6_init_2_24 ht9 hnt (by decide) (Or.inr ⟨hm, rfl⟩) rfl rfl rfl (Nat.le_of_ble_eq_true rfl) ?_
    refine z_hn (fun h_1 eh_1 => ?_)
    have eh_1 : h_1 = z_up h t (.inr (23, [.null, .int (nI 0), .int (nI 0), .int (nI 0)])) := eh_1
    have k_2 : h_1 b = some (.inr (22, [.ref e, .int (nI 0), .int (z_b ml), .int (nI cs.length)])) := z_nx eh_1 (z_neO hB ht9 rfl) hB
    have k_3 : h_1 e = some (.inl ((zm_G M).2.1 3, cs.length, .inl f)) := z_nx eh_1 (z_neA' hA ht9) hA
    refine z_aload_n hb dJ6_init_2_27 rfl ?_
    refine z_aload_n hb dJ6_init_2_28 rfl ?_
    refine z_iconst (x := nI 0) hb dJ6_init_2_29 (by decide) ?_
    refine z_iload hb dJ6_init_2_30 rfl ?_
    refine z_call1 (b' := 0) (f' := 0) (rest := [.ref t]) (av := [.ref e, .int (nI 0), .int (nI cs.length)]) (z_siteS hb ho q1059 q1060 q112 ⟨_, _, _, _, zk_J15_copyOfRange⟩ zy_J15_copyOfRange zl_J15_copyOfRange dJ6_init_2_32 : z_Site M _ _ _ _ _ ([.ref e, .int (nI 0), .int (nI cs.length)].reverse ++ [.ref t]) [.ref t] _) zk_J15_copyOfRange q112 hrm (m_J15_copyOfRange_f k_3 he0 hen hN9 hfb) (by omega) (by decide) (Nat.le_of_ble_eq_true rfl) (by omega) (by omega) ?_
    refine z_arU (N := cs.length) (x := f) (y := z_by cs) (t := n) rfl hn0 (fun j hj => hbf j hj) (fun h_5 eh_5 => ?_)
    have eh_5 : h_5 = z_up h_1 n (z_ab (zm_G M) cs.length (z_by cs)) := eh_5
    have k_6 : h_5 t = some (.inr (23, [.null, .int (nI 0), .int (nI 0), .int (nI 0)])) := z_nx eh_5 (Nat.ne_of_lt htn) (z_nxs eh_1)
    have k_7 : h_5 b = some (.inr (22, [.ref e, .int (nI 0), .int (z_b ml), .int (nI cs.length)])) := z_nx eh_5 (Nat.ne_of_lt hbn) k_2
    have k_8 : h_5 e = some (.inl ((zm_G M).2.1 3, cs.length, .inl f)) := z_nx eh_5 (Nat.ne_of_lt hen) k_3
    refine z_put (k := 0) (C := RJ6) (T := TJ6) (N := 4) hb ho zc23 in_J6 tyJ6_ok nmJ6 (zf_RJ6_9 _) dJ6_init_2_35 k_6 hnt (by decide) (Or.inr ⟨hm, rfl⟩) rfl rfl rfl (Nat.le_of_ble_eq_true rfl) ?_
    refine z_hn (fun h_9 eh_9 => ?_)
    have eh_9 : h_9 = z_up h_5 t (.inr (23, [.ref n, .int (nI 0), .int (nI 0), .int (nI 0)])) := eh_9
    have k_10 : h_9 b = some (.inr (22, [.ref e, .int (nI 0), .int (z_b ml), .int (nI cs.length)])) := z_nx eh_9 (z_neO k_7 k_6 rfl) k_7
    have k_11 : h_9 e = some (.inl ((zm_G M).2.1 3, cs.length, .inl f)) := z_nx eh_9 (z_neA' k_8 k_6) k_8
    have k_12 : h_9 n = some (.inl ((zm_G M).2.1 3, cs.length, .inl (z_by cs))) := z_nx eh_9 (z_neA' (z_nxs eh_5) k_6) (z_nxs eh_5)
    refine z_goto (tgt := 97) hb dJ6_init_2_38 (by decide) ?_
    refine z_vret hb hr dJ6_init_2_97 ?_
    rw [hQ]
    exact ⟨rfl, ⟨n, _, (z_nxs eh_9), k_12, hl9, hcs⟩, ((z_fr_up (P := fun y => y = t) rfl eh_1).t (z_exN z_ex_r (z_dmup hdm eh_1 htn) eh_5).fr).t (z_fr_up (P := fun y => y = t) rfl eh_9)⟩

theorem m_J6_init_2_s {l : Launch} {G : zG} {h : zH} {n t b e : Nat} {cs : List Nat} (ht9 : h t = some (.inr (23, [.null, .int (nI 0), .int (nI 0), .int (nI 0)]))) (hnt : z_n0 G ≤ t) (hBF : z_BF G h b e 0 cs) (hl9 : cs.length ≤ 100) (hcs : ∀ b ∈ cs, b < 128) : z_C l G yJ6_init_2 4 1 300 [.ref t, .ref b, .null] h n (z_q0 (fun h9 n9 => z_Sg G h9 t cs (nI 0) ∧ z_fr (fun y => y = t) h h9)) := by
  obtain ⟨N, f, ml, q1, q2, q3, q4, q5, q6, q7, q8⟩ := hBF
  rcases q8 with ⟨-, q9, q10⟩ | ⟨q8, -⟩
  · by_cases hc : cs.length < N
    · exact m_J6_init_2_p ht9 hnt q1 q2 q4 q9 (by omega) q7 hl9 (z_by_of q10 hcs) hcs hc
    · obtain rfl : N = cs.length := by omega
      exact m_J6_init_2_f ht9 hnt q1 q2 q4 q7 hl9 (z_by_of q10 hcs) hcs (by omega)
  · exact absurd q8 (by decide)

set_option maxHeartbeats 1000000 in
theorem m_J6_init {l : Launch} {G : zG} {h : zH} {n : Nat} {t b e : Nat} {cs : List Nat} (ht9 : h t = some (.inr (23, [.null, .int (nI 0), .int (nI 0), .int (nI 0)]))) (hnt : z_n0 G ≤ t) (hBF : z_BF G h b e 0 cs) (hl9 : cs.length ≤ 100) (hcs : ∀ b ∈ cs, b < 128) : z_C l G yJ6_init 5 1 300 [.ref t, .ref b] h n (z_q0 (fun h9 n9 => z_Sg G h9 t cs (nI 0) ∧ z_fr (fun y => y = t) h h9)) := by
  refine z_start zk_J6_init zpl_RJ6 (Nat.le_of_ble_eq_true rfl) ?_
  intro hn0 M hl hG ho hb hN hr hm hH hrm hQ
  subst hl hG
  have ho : zm_o M = RJ6 := ho
  show z_V M h n 1 300 0 [(0, .ref t), (1, .ref b)] []
  refine z_aload_n hb dJ6_init_0 rfl ?_
  refine z_aload_n hb dJ6_init_1 rfl ?_
  refine z_null hb dJ6_init_2 ?_
  refine z_callQ0 (b' := 0) (f' := 0) (rest := []) (av := [.ref t, .ref b, .null]) (z_siteI hb ho q1041 q1042 q1043 rfl zy_J6_init_2 zl_J6_init_2 dJ6_init_3 : z_Site M _ _ _ _ _ ([.ref b, .null].reverse ++ .ref t :: []) [] _) zk_J6_init_2 q102 hrm (m_J6_init_2_s ht9 hnt hBF hl9 hcs) (by omega) (by decide) (Nat.le_of_ble_eq_true rfl) (by omega) (by omega) (fun h3 n3 hq3 hn3 => ?_)
  refine z_vret hb hr dJ6_init_6 ?_
  rw [hQ]
  exact ⟨rfl, hq3⟩

theorem z_BF.exx {G : zG} {h h2 : zH} {b e cd : Nat} {cs : List Nat} (q : z_BF G h b e cd cs) (x : z_ex h h2) : z_BF G h2 b e cd cs := by
  obtain ⟨N, f, ml, q1, q2, q3⟩ := q
  exact ⟨N, f, ml, x _ _ q1, x _ _ q2, q3⟩

set_option maxHeartbeats 1000000 in
theorem m_J5_toString {l : Launch} {G : zG} {h : zH} {n : Nat} {b e : Nat} {cs : List Nat} (hBF : z_BF G h b e 0 cs) (hl9 : cs.length ≤ 100) (hcs : ∀ b ∈ cs, b < 128) : z_C l G yJ5_toString 6 2 304 [.ref b] h n (z_q1 (fun r9 h9 n9 => r9 = .ref n ∧ n < n9 ∧ z_Sg G h9 n cs (nI 0) ∧ z_ex h h9)) := by
  refine z_start zk_J5_toString zpl_RJ5 (Nat.le_of_ble_eq_true rfl) ?_
  intro hn0 M hl hG ho hb hN hr hm hH hrm hQ
  subst hl hG
  have ho : zm_o M = RJ5 := ho
  refine z_dom (fun hdm => ?_)
  show z_V M h n 2 304 0 [(0, .ref b)] []
  refine z_new (N0 := 4) (b' := 1) (f' := 300) (fs := [.null, .int (nI 0), .int (nI 0), .int (nI 0)]) (C := RJ6) (T := TJ6) (N := 4) hb ho zc23 in_J6 tyJ6_ok q1036 q1037 q102 dJ5_toString_0 (zdf_J6) (by omega) (by omega) ?_
  refine z_hn (fun h_1 eh_1 => ?_)
  have eh_1 : h_1 = z_up h n (.inr (23, [.null, .int (nI 0), .int (nI 0), .int (nI 0)])) := eh_1
  refine z_dup hb dJ5_toString_3 rfl ?_
  refine z_aload_n hb dJ5_toString_4 rfl ?_
  refine z_callQ0 (b' := 0) (f' := 0) (rest := [.ref n]) (av := [.ref n, .ref b]) (z_siteI hb ho q1038 q1039 q1040 rfl zy_J6_init zl_J6_init dJ5_toString_5 : z_Site M _ _ _ _ _ ([.ref b].reverse ++ .ref n :: [.ref n]) [.ref n] _) zk_J6_init q102 hrm (m_J6_init (z_nxs eh_1) hn0 (hBF.exx (z_exN z_ex_r hdm eh_1)) hl9 hcs) (by omega) (by decide) (Nat.le_of_ble_eq_true rfl) (by omega) (by omega) (fun h5 n5 hq5 hn5 => ?_)
  refine z_aret hb hr (Or.inl ⟨_, rfl⟩) (Or.inr ⟨_, rfl⟩) dJ5_toString_8 ?_
  rw [hQ]
  exact ⟨_, rfl, rfl, by omega, hq5.1, z_exT hdm (Nat.le_refl _) (z_exN z_ex_r hdm eh_1) hq5.2⟩

