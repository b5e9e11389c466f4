theorem m_J4_append_c {l : Launch} {G : zG} {h : zH} {n b e cd c : Nat} {cs : List Nat} (hBF : z_BF G h b e cd cs) (hc16 : c < 65536) (hk9 : cs.length ≤ 65) : z_C l G yJ4_append_3 7 2 900 [.ref b, .int (nI c)] h n (z_q1 (fun r9 h9 n9 => r9 = .ref b ∧ ∃ e9 cd9, z_BF G h9 b e9 cd9 (cs ++ [c]) ∧ (cd9 = 0 ∨ cd9 = 1) ∧ (e9 = e ∨ n ≤ e9) ∧ (cd = 0 → c < 256 → cd9 = 0) ∧ z_fr (fun y => y = b ∨ y = e) h h9)) := by
  obtain ⟨N, f, ml, q1, q2, q3, q4, q5, q6, q7, q8⟩ := hBF
  rcases q8 with ⟨rfl, q9, q10⟩ | ⟨rfl, q9, q10, q11⟩
  · refine (m_J4_append_c0 q1 q2 q3 q4 q5 (by omega) q7 q9 q10 hc16 hk9).mono fun o h' n' ⟨w, e1, e2, e9, cd9, z1, z2, z3, z4, z5⟩ => ⟨w, e1, e2, e9, cd9, z1, z2, z3, fun _ => z4, z5⟩
  · refine (m_J4_append_c1 q1 q2 q3 q4 q5 (by omega) q7 q9 q10 q11 hc16 hk9).mono fun o h' n' ⟨w, e1, e2, e9, cd9, z1, z2, z3, z5⟩ => ⟨w, e1, e2, e9, cd9, z1, z2, z3, fun q => absurd q (by decide), z5⟩

set_option maxHeartbeats 1000000 in
theorem m_J5_append_c {l : Launch} {G : zG} {h : zH} {n : Nat} {b e cd : Nat} {cs : List Nat} {c : Nat} (hBF : z_BF G h b e cd cs) (hc16 : c < 65536) (hk9 : cs.length ≤ 65) : z_C l G yJ5_append_3 8 2 900 [.ref b, .int (nI c)] h n (z_q1 (fun r9 h9 n9 => r9 = .ref b ∧ ∃ e9 cd9, z_BF G h9 b e9 cd9 (cs ++ [c]) ∧ (cd9 = 0 ∨ cd9 = 1) ∧ (e9 = e ∨ n ≤ e9) ∧ (cd = 0 → c < 256 → cd9 = 0) ∧ z_fr (fun y => y = b ∨ y = e) h h9)) := by
  refine z_start zk_J5_append_3 zpl_RJ5 (Nat.le_of_ble_eq_true rfl) ?_
  intro hn0 M hl hG ho hb hN hr hm hH hrm hQ
  subst hl hG
  have ho : zm_o M = RJ5 := ho
  obtain ⟨N, f, ml, hB, hA, hb9, he0, hN16, hN3, hfb, hct⟩ := id hBF
  show z_V M h n 2 900 0 [(0, .ref b), (1, .int (nI c))] []
  refine z_aload_n hb dJ5_append_3_0 rfl ?_
  refine z_iload_n hb dJ5_append_3_1 rfl ?_
  refine z_callQ1 (b' := 0) (f' := 0) (rest := []) (av := [.ref b, .int (nI c)]) (z_siteP hb ho zc22 hB q2229 q3288 q2230 q283 ⟨_, _, _, _, zk_J4_append_3⟩ (by decide) zl_J4_append_3 dJ5_append_3_2 : z_Site M _ _ _ _ _ ([.int (nI c)].reverse ++ .ref b :: []) [] _) zk_J4_append_3 q100 hrm (m_J4_append_c hBF hc16 hk9) (by omega) (by decide) (Nat.le_of_ble_eq_true rfl) (by omega) (by omega) (fun rhq2 h2 n2 hq2 hn2 => ?_)
  obtain ⟨rfl, hq2⟩ := hq2
  have hz2 := hq2
  refine z_pop hb dJ5_append_3_5 rfl ?_
  refine z_aload_n hb dJ5_append_3_6 rfl ?_
  refine z_aret hb hr (Or.inl ⟨_, rfl⟩) (Or.inr ⟨_, rfl⟩) dJ5_append_3_7 ?_
  rw [hQ]
  exact ⟨_, rfl, rfl, hz2⟩

set_option maxHeartbeats 1000000 in
theorem m_J4_setLength_0 {l : Launch} {G : zG} {h : zH} {n : Nat} {b e N : Nat} {ml : Bool} {f : Nat → Int32} {cs : List Nat} (hB : h b = some (z_sb e 0 ml cs.length)) (hA : h e = some (z_ab G N f)) (hb9 : z_n0 G ≤ b) (he0 : z_n0 G ≤ e) (hN16 : 16 ≤ N) (hN3 : N ≤ 300) (hfb : z_fB f N) (hk9 : cs.length ≤ 65) : z_C l G yJ4_setLength 5 1 300 [.ref b, .int (nI 0)] h n (z_q0 (fun h9 n9 => ∃ e9, z_BF G h9 b e9 0 [] ∧ (e9 = e ∨ n ≤ e9) ∧ z_fr (fun y => y = b ∨ y = e) h h9)) := by
  refine z_start zk_J4_setLength zpl_RJ4 (Nat.le_of_ble_eq_true rfl) ?_
  intro hn0 M hl hG ho hb hN hr hm hH hrm hQ
  subst hl hG
  have ho : zm_o M = RJ4 := ho
  show z_V M h n 1 300 0 [(0, .ref b), (1, .int (nI 0))] []
  refine z_iload_n hb dJ4_setLength_0 rfl ?_
  refine z_if_geN (tgt := 13) hb dJ4_setLength_1 (by decide) (by omega) ?_
  refine z_aload_n hb dJ4_setLength_13 rfl ?_
  refine z_iload_n hb dJ4_setLength_14 rfl ?_
  refine z_callQ0 (b' := 0) (f' := 0) (rest := []) (av := [.ref b, .int (nI 0)]) (z_siteQ hb ho zc22 hB q923 q925 q924 q3278 ⟨_, _, _, _, zk_J4_ensureCapacityInternal⟩ zy_J4_ensureCapacityInternal zl_J4_ensureCapacityInternal dJ4_setLength_15 : z_Site M _ _ _ _ _ ([.int (nI 0)].reverse ++ .ref b :: []) [] _) zk_J4_ensureCapacityInternal q100 hrm (m_J4_ensureCapacity_0 hB hA hb9 he0 (by omega) hN3 (Or.inr rfl) hfb) (by omega) (by decide) (Nat.le_of_ble_eq_true rfl) (by omega) (by omega) (fun h15 n15 hq15 hn15 => ?_)
  obtain ⟨e2, N2, f2, hB2, hA2, he2, hcap, hNN, hN2, hev2, hfp, hfb2, hee, hfr1⟩ := hq15
  refine z_aload_n hb dJ4_setLength_18 rfl ?_
  refine z_get (k := 3) (C := RJ5) (T := TJ5) (N := 4) hb ho zc22 in_J5 (zf_RJ4_79 _) dJ4_setLength_19 hB2 (by decide) rfl ?_
  refine z_iload_n hb dJ4_setLength_22 rfl ?_
  refine z_icmp_geN (tgt := 63) hb dJ4_setLength_23 (by decide) (by omega) (by omega) (fun c_23 => ?_) (fun c_23 => ?_)
  · refine z_aload_n hb dJ4_setLength_63 rfl ?_
    refine z_get (k := 3) (C := RJ5) (T := TJ5) (N := 4) hb ho zc22 in_J5 (zf_RJ4_79 _) dJ4_setLength_64 hB2 (by decide) rfl ?_
    refine z_iload_n hb dJ4_setLength_67 rfl ?_
    refine z_icmp_leN (tgt := 76) hb dJ4_setLength_68 (by decide) (by omega) (by omega) (fun c_68 => ?_) (fun c_68 => ?_)
    · refine z_aload_n hb dJ4_setLength_76 rfl ?_
      refine z_iload_n hb dJ4_setLength_77 rfl ?_
      refine z_put (k := 3) (C := RJ5) (T := TJ5) (N := 4) hb ho zc22 in_J5 tyJ5_ok nmJ5 (zf_RJ4_79 _) dJ4_setLength_78 hB2 hb9 (by decide) (Or.inl rfl) rfl rfl rfl (Nat.le_of_ble_eq_true rfl) ?_
      refine z_hn (fun h_1 eh_1 => ?_)
      have eh_1 : h_1 = z_up h15 b (.inr (22, [.ref e2, .int (nI 0), .int (z_b ml), .int (nI 0)])) := eh_1
      have k_2 : h_1 e2 = some (.inl ((zm_G M).2.1 3, N2, .inl f2)) := z_nx eh_1 (z_neA' hA2 hB2) hA2
      refine z_vret hb hr dJ4_setLength_81 ?_
      rw [hQ]
      exact ⟨rfl, e2, ⟨N2, f2, ml, (z_nxs eh_1), k_2, hb9, he2, by omega, hN2, hfb2, Or.inl ⟨rfl, Nat.zero_le _, fun j hj => absurd hj (Nat.not_lt_zero _)⟩⟩, hee, (hfr1.t (z_fr_up (P := fun y => y = b) rfl eh_1)).w (fun y q => Or.inl q)⟩
    · refine z_aload_n hb dJ4_setLength_71 rfl ?_
      refine z_iconst (x := nI 1) hb dJ4_setLength_72 (by decide) ?_
      refine z_toI (y := z_b true) (by decide) ?_
      refine z_put (k := 2) (C := RJ5) (T := TJ5) (N := 4) hb ho zc22 in_J5 tyJ5_ok nmJ5 (zf_RJ4_73 _) dJ4_setLength_73 hB2 hb9 (by decide) (Or.inl rfl) rfl (z_bnar _) rfl (Nat.le_of_ble_eq_true rfl) ?_
      refine z_hn (fun h_3 eh_3 => ?_)
      have eh_3 : h_3 = z_up h15 b (.inr (22, [.ref e2, .int (nI 0), .int (z_b true), .int (nI cs.length)])) := eh_3
      have k_4 : h_3 e2 = some (.inl ((zm_G M).2.1 3, N2, .inl f2)) := z_nx eh_3 (z_neA' hA2 hB2) hA2
      refine z_aload_n hb dJ4_setLength_76 rfl ?_
      refine z_iload_n hb dJ4_setLength_77 rfl ?_
      refine z_put (k := 3) (C := RJ5) (T := TJ5) (N := 4) hb ho zc22 in_J5 tyJ5_ok nmJ5 (zf_RJ4_79 _) dJ4_setLength_78 (z_nxs eh_3) hb9 (by decide) (Or.inl rfl) rfl rfl rfl (Nat.le_of_ble_eq_true rfl) ?_
      refine z_hn (fun h_5 eh_5 => ?_)
      have eh_5 : h_5 = z_up h_3 b (.inr (22, [.ref e2, .int (nI 0), .int (z_b true), .int (nI 0)])) := eh_5
      have k_6 : h_5 e2 = some (.inl ((zm_G M).2.1 3, N2, .inl f2)) := z_nx eh_5 (z_neA' k_4 (z_nxs eh_3)) k_4
      refine z_vret hb hr dJ4_setLength_81 ?_
      rw [hQ]
      exact ⟨rfl, e2, ⟨N2, f2, true, (z_nxs eh_5), k_6, hb9, he2, by omega, hN2, hfb2, Or.inl ⟨rfl, Nat.zero_le _, fun j hj => absurd hj (Nat.not_lt_zero _)⟩⟩, hee, ((hfr1.t (z_fr_up (P := fun y => y = b) rfl eh_3)).t (z_fr_up (P := fun y => y = b) rfl eh_5)).w (fun y q => Or.inl q)⟩
  · exact absurd c_23 (by omega)

set_option maxHeartbeats 1000000 in
theorem m_J4_setLength_1 {l : Launch} {G : zG} {h : zH} {n : Nat} {b e N : Nat} {ml : Bool} {f : Nat → Int32} {cs : List Nat} (hB : h b = some (z_sb e 1 ml cs.length)) (hA : h e = some (z_ab G N f)) (hb9 : z_n0 G ≤ b) (he0 : z_n0 G ≤ e) (hN16 : 16 ≤ N) (hN3 : N ≤ 600) (hfb : z_fB f N) (hev : N % 2 = 0) (hk9 : cs.length ≤ 65) : z_C l G yJ4_setLength 5 1 300 [.ref b, .int (nI 0)] h n (z_q0 (fun h9 n9 => ∃ e9, z_BF G h9 b e9 1 [] ∧ (e9 = e ∨ n ≤ e9) ∧ z_fr (fun y => y = b ∨ y = e) h h9)) := by
  refine z_start zk_J4_setLength zpl_RJ4 (Nat.le_of_ble_eq_true rfl) ?_
  intro hn0 M hl hG ho hb hN hr hm hH hrm hQ
  subst hl hG
  have ho : zm_o M = RJ4 := ho
  show z_V M h n 1 300 0 [(0, .ref b), (1, .int (nI 0))] []
  refine z_iload_n hb dJ4_setLength_0 rfl ?_
  refine z_if_geN (tgt := 13) hb dJ4_setLength_1 (by decide) (by omega) ?_
  refine z_aload_n hb dJ4_setLength_13 rfl ?_
  refine z_iload_n hb dJ4_setLength_14 rfl ?_
  refine z_callQ0 (b' := 0) (f' := 0) (rest := []) (av := [.ref b, .int (nI 0)]) (z_siteQ hb ho zc22 hB q923 q925 q924 q3278 ⟨_, _, _, _, zk_J4_ensureCapacityInternal⟩ zy_J4_ensureCapacityInternal zl_J4_ensureCapacityInternal dJ4_setLength_15 : z_Site M _ _ _ _ _ ([.int (nI 0)].reverse ++ .ref b :: []) [] _) zk_J4_ensureCapacityInternal q100 hrm (m_J4_ensureCapacity_1 hB hA hb9 he0 (by omega) hN3 (Or.inl hev) hfb) (by omega) (by decide) (Nat.le_of_ble_eq_true rfl) (by omega) (by omega) (fun h15 n15 hq15 hn15 => ?_)
  obtain ⟨e2, N2, f2, hB2, hA2, he2, hcap, hNN, hN2, hev2, hfp, hfb2, hee, hfr1⟩ := hq15
  refine z_aload_n hb dJ4_setLength_18 rfl ?_
  refine z_get (k := 3) (C := RJ5) (T := TJ5) (N := 4) hb ho zc22 in_J5 (zf_RJ4_79 _) dJ4_setLength_19 hB2 (by decide) rfl ?_
  refine z_iload_n hb dJ4_setLength_22 rfl ?_
  refine z_icmp_geN (tgt := 63) hb dJ4_setLength_23 (by decide) (by omega) (by omega) (fun c_23 => ?_) (fun c_23 => ?_)
  · refine z_aload_n hb dJ4_setLength_63 rfl ?_
    refine z_get (k := 3) (C := RJ5) (T := TJ5) (N := 4) hb ho zc22 in_J5 (zf_RJ4_79 _) dJ4_setLength_64 hB2 (by decide) rfl ?_
    refine z_iload_n hb dJ4_setLength_67 rfl ?_
    refine z_icmp_leN (tgt := 76) hb dJ4_setLength_68 (by decide) (by omega) (by omega) (fun c_68 => ?_) (fun c_68 => ?_)
    · refine z_aload_n hb dJ4_setLength_76 rfl ?_
      refine z_iload_n hb dJ4_setLength_77 rfl ?_
      refine z_put (k := 3) (C := RJ5) (T := TJ5) (N := 4) hb ho zc22 in_J5 tyJ5_ok nmJ5 (zf_RJ4_79 _) dJ4_setLength_78 hB2 hb9 (by decide) (Or.inl rfl) rfl rfl rfl (Nat.le_of_ble_eq_true rfl) ?_
      refine z_hn (fun h_1 eh_1 => ?_)
      have eh_1 : h_1 = z_up h15 b (.inr (22, [.ref e2, .int (nI 1), .int (z_b ml), .int (nI 0)])) := eh_1
      have k_2 : h_1 e2 = some (.inl ((zm_G M).2.1 3, N2, .inl f2)) := z_nx eh_1 (z_neA' hA2 hB2) hA2
      refine z_vret hb hr dJ4_setLength_81 ?_
      rw [hQ]
      exact ⟨rfl, e2, ⟨N2, f2, ml, (z_nxs eh_1), k_2, hb9, he2, by omega, hN2, hfb2, Or.inr ⟨rfl, by omega, Nat.zero_le _, fun j hj => absurd hj (Nat.not_lt_zero _)⟩⟩, hee, (hfr1.t (z_fr_up (P := fun y => y = b) rfl eh_1)).w (fun y q => Or.inl q)⟩
    · refine z_aload_n hb dJ4_setLength_71 rfl ?_
      refine z_iconst (x := nI 1) hb dJ4_setLength_72 (by decide) ?_
      refine z_toI (y := z_b true) (by decide) ?_
      refine z_put (k := 2) (C := RJ5) (T := TJ5) (N := 4) hb ho zc22 in_J5 tyJ5_ok nmJ5 (zf_RJ4_73 _) dJ4_setLength_73 hB2 hb9 (by decide) (Or.inl rfl) rfl (z_bnar _) rfl (Nat.le_of_ble_eq_true rfl) ?_
      refine z_hn (fun h_3 eh_3 => ?_)
      have eh_3 : h_3 = z_up h15 b (.inr (22, [.ref e2, .int (nI 1), .int (z_b true), .int (nI cs.length)])) := eh_3
      have k_4 : h_3 e2 = some (.inl ((zm_G M).2.1 3, N2, .inl f2)) := z_nx eh_3 (z_neA' hA2 hB2) hA2
      refine z_aload_n hb dJ4_setLength_76 rfl ?_
      refine z_iload_n hb dJ4_setLength_77 rfl ?_
      refine z_put (k := 3) (C := RJ5) (T := TJ5) (N := 4) hb ho zc22 in_J5 tyJ5_ok nmJ5 (zf_RJ4_79 _) dJ4_setLength_78 (z_nxs eh_3) hb9 (by decide) (Or.inl rfl) rfl rfl rfl (Nat.le_of_ble_eq_true rfl) ?_
      refine z_hn (fun h_5 eh_5 => ?_)
      have eh_5 : h_5 = z_up h_3 b (.inr (22, [.ref e2, .int (nI 1), .int (z_b true), .int (nI 0)])) := eh_5
      have k_6 : h_5 e2 = some (.inl ((zm_G M).2.1 3, N2, .inl f2)) := z_nx eh_5 (z_neA' k_4 (z_nxs eh_3)) k_4
      refine z_vret hb hr dJ4_setLength_81 ?_
      rw [hQ]
      exact ⟨rfl, e2, ⟨N2, f2, true, (z_nxs eh_5), k_6, hb9, he2, by omega, hN2, hfb2, Or.inr ⟨rfl, by omega, Nat.zero_le _, fun j hj => absurd hj (Nat.not_lt_zero _)⟩⟩, hee, ((hfr1.t (z_fr_up (P := fun y => y = b) rfl eh_3)).t (z_fr_up (P := fun y => y = b) rfl eh_5)).w (fun y q => Or.inl q)⟩
  · exact absurd c_23 (by omega)

theorem m_J4_setLength {l : Launch} {G : zG} {h : zH} {n b e cd : Nat} {cs : List Nat} (hBF : z_BF G h b e cd cs) (hk9 : cs.length ≤ 65) : z_C l G yJ4_setLength 5 1 300 [.ref b, .int (nI 0)] h n (z_q0 (fun h9 n9 => ∃ e9, z_BF G h9 b e9 cd [] ∧ (e9 = e ∨ n ≤ e9) ∧ z_fr (fun y => y = b ∨ y = e) h h9)) := by
  obtain ⟨N, f, ml, q1, q2, q3, q4, q5, q6, q7, q8⟩ := hBF
  rcases q8 with ⟨rfl, q9, q10⟩ | ⟨rfl, q9, q10, q11⟩
  · exact m_J4_setLength_0 q1 q2 q3 q4 q5 (by omega) q7 hk9
  · exact m_J4_setLength_1 q1 q2 q3 q4 q5 (by omega) q7 q9 hk9

set_option maxHeartbeats 1000000 in
theorem m_J5_setLength {l : Launch} {G : zG} {h : zH} {n : Nat} {b e cd : Nat} {cs : List Nat} (hBF : z_BF G h b e cd cs) (hk9 : cs.length ≤ 65) : z_C l G yJ5_setLength 6 1 300 [.ref b, .int (nI 0)] h n (z_q0 (fun h9 n9 => ∃ e9, z_BF G h9 b e9 cd [] ∧ (e9 = e ∨ n ≤ e9) ∧ z_fr (fun y => y = b ∨ y = e) h h9)) := by
  refine z_start zk_J5_setLength zpl_RJ5 (Nat.le_of_ble_eq_true rfl) ?_
  intro hn0 M hl hG ho hb hN hr hm hH hrm hQ
  subst hl hG
  have ho : zm_o M = RJ5 := ho
  obtain ⟨N, f, ml, hB, hA, hb9, he0, hN16, hN3, hfb, hct⟩ := id hBF
  show z_V M h n 1 300 0 [(0, .ref b), (1, .int (nI 0))] []
  refine z_aload_n hb dJ5_setLength_0 rfl ?_
  refine z_iload_n hb dJ5_setLength_1 rfl ?_
  refine z_callQ0 (b' := 0) (f' := 0) (rest := []) (av := [.ref b, .int (nI 0)]) (z_siteP hb ho zc22 hB q2414 q3290 q2415 q283 ⟨_, _, _, _, zk_J4_setLength⟩ (by decide) zl_J4_setLength dJ5_setLength_2 : z_Site M _ _ _ _ _ ([.int (nI 0)].reverse ++ .ref b :: []) [] _) zk_J4_setLength q100 hrm (m_J4_setLength hBF hk9) (by omega) (by decide) (Nat.le_of_ble_eq_true rfl) (by omega) (by omega) (fun h2 n2 hq2 hn2 => ?_)
  have hz2 := hq2
  refine z_vret hb hr dJ5_setLength_5 ?_
  rw [hQ]
  exact ⟨rfl, hz2⟩

set_option maxHeartbeats 1000000 in
theorem m_J4_charAt_0 {l : Launch} {G : zG} {h : zH} {n : Nat} {b e N i : Nat} {ml : Bool} {f : Nat → Int32} {cs : List Nat} (hB : h b = some (z_sb e 0 ml cs.length)) (hA : h e = some (z_ab G N f)) (hN3 : N ≤ 300) (hkN : cs.length ≤ N) (hf : ∀ j, j < cs.length → cs.getD j 0 < 256 ∧ f j = z_bt (cs.getD j 0)) (hi : i < cs.length) : z_C l G yJ4_charAt 3 0 0 [.ref b, .int (nI i)] h n (z_rv (.int (nI (cs.getD i 0))) h n) := by
  refine z_start zk_J4_charAt zpl_RJ4 (Nat.le_of_ble_eq_true rfl) ?_
  intro hn0 M hl hG ho hb hN hr hm hH hrm hQ
  subst hl hG
  have ho : zm_o M = RJ4 := ho
  have hfi := hf i hi
  show z_V M h n 0 0 0 [(0, .ref b), (1, .int (nI i))] []
  refine z_aload_n hb dJ4_charAt_0 rfl ?_
  refine z_get (k := 1) (C := RJ5) (T := TJ5) (N := 4) hb ho zc22 in_J5 (zf_RJ4_22 _) dJ4_charAt_1 hB (by decide) rfl ?_
  refine z_istore_n (lv' := [(2, .int (nI 0)), (0, .ref b), (1, .int (nI i))]) hb dJ4_charAt_4 (by rw [hN]; decide) rfl ?_
  refine z_aload_n hb dJ4_charAt_5 rfl ?_
  refine z_get (k := 0) (C := RJ5) (T := TJ5) (N := 4) hb ho zc22 in_J5 (zf_RJ4_15 _) dJ4_charAt_6 hB (by decide) rfl ?_
  refine z_astore_n (lv' := [(3, .ref e), (2, .int (nI 0)), (0, .ref b), (1, .int (nI i))]) hb dJ4_charAt_9 (by rw [hN]; decide) rfl ?_
  refine z_aload_n hb dJ4_charAt_10 rfl ?_
  refine z_get (k := 3) (C := RJ5) (T := TJ5) (N := 4) hb ho zc22 in_J5 (zf_RJ4_79 _) dJ4_charAt_11 hB (by decide) rfl ?_
  refine z_aload_n hb dJ4_charAt_14 rfl ?_
  refine z_alen (kk := 3) hb rfl dJ4_charAt_15 hA ?_
  refine z_iload_n hb dJ4_charAt_16 rfl ?_
  refine z_ishr hb dJ4_charAt_17 ?_
  refine z_toI (y := nI N) (z_shr0 _) ?_
  refine z_mmin hb ho hrm (by omega) q2325 q553 q111 q554 dJ4_charAt_18 (Nat.le_of_ble_eq_true rfl) ?_
  refine z_toI (y := nI cs.length) (by rw [z_minN (by omega) (by omega), Nat.min_eq_left (by omega)]) ?_
  refine z_istore (lv' := [(4, .int (nI cs.length)), (3, .ref e), (2, .int (nI 0)), (0, .ref b), (1, .int (nI i))]) hb dJ4_charAt_21 (by rw [hN]; decide) rfl ?_
  refine z_iload_n hb dJ4_charAt_23 rfl ?_
  refine z_iload hb dJ4_charAt_24 rfl ?_
  refine z_call0 (b' := 0) (f' := 0) (rest := []) (av := [.int (nI i), .int (nI cs.length)]) (z_siteS hb ho q2326 q2242 q102 ⟨_, _, _, _, zk_J6_checkIndex⟩ zy_J6_checkIndex zl_J6_checkIndex dJ4_charAt_26 : z_Site M _ _ _ _ _ ([.int (nI i), .int (nI cs.length)].reverse ++ []) [] _) zk_J6_checkIndex q102 hrm (m_J6_checkIndex hi (by omega)) (by omega) (by decide) (Nat.le_of_ble_eq_true rfl) (by omega) (by omega) ?_
  refine z_iload_n hb dJ4_charAt_29 rfl ?_
  refine z_if_neN (tgt := 42) hb dJ4_charAt_30 (by decide) (by omega) (fun c_30 => ?_) (fun c_30 => ?_)
  · exact absurd c_30 (by omega)
  · refine z_aload_n hb dJ4_charAt_33 rfl ?_
    refine z_iload_n hb dJ4_charAt_34 rfl ?_
    refine z_bald (j := i) hb dJ4_charAt_35 hA rfl (by omega) (by omega) ?_
    refine z_toI (y := z_bt (cs.getD i 0)) hfi.2 ?_
    refine z_sipush (x := nI 255) hb dJ4_charAt_36 (by decide) ?_
    refine z_iand hb dJ4_charAt_39 ?_
    refine z_toI (y := nI (cs.getD i 0)) ((z_bt_and (by omega)).trans (congrArg nI (Nat.mod_eq_of_lt hfi.1))) ?_
    refine z_i2c hb dJ4_charAt_40 (z_i2cN (by omega)) ?_
    refine z_zret hb hr (pk_charN (by omega)).1 dJ4_charAt_41 ?_
    rw [hQ]
    exact ⟨rfl, rfl, rfl⟩

set_option maxHeartbeats 1000000 in
theorem m_J4_charAt_1 {l : Launch} {G : zG} {h : zH} {n : Nat} {b e N i : Nat} {ml : Bool} {f : Nat → Int32} {cs : List Nat} (hB : h b = some (z_sb e 1 ml cs.length)) (hA : h e = some (z_ab G N f)) (hN3 : N ≤ 600) (hkN : 2 * cs.length ≤ N) (hf : ∀ j, j < cs.length → cs.getD j 0 < 65536 ∧ f (2 * j) = z_bt (cs.getD j 0) ∧ f (2 * j + 1) = z_bt (cs.getD j 0 / 256)) (hi : i < cs.length) : z_C l G yJ4_charAt 3 0 0 [.ref b, .int (nI i)] h n (z_rv (.int (nI (cs.getD i 0))) h n) := by
  refine z_start zk_J4_charAt zpl_RJ4 (Nat.le_of_ble_eq_true rfl) ?_
  intro hn0 M hl hG ho hb hN hr hm hH hrm hQ
  subst hl hG
  have ho : zm_o M = RJ4 := ho
  have hfi := hf i hi
  show z_V M h n 0 0 0 [(0, .ref b), (1, .int (nI i))] []
  refine z_aload_n hb dJ4_charAt_0 rfl ?_
  refine z_get (k := 1) (C := RJ5) (T := TJ5) (N := 4) hb ho zc22 in_J5 (zf_RJ4_22 _) dJ4_charAt_1 hB (by decide) rfl ?_
  refine z_istore_n (lv' := [(2, .int (nI 1)), (0, .ref b), (1, .int (nI i))]) hb dJ4_charAt_4 (by rw [hN]; decide) rfl ?_
  refine z_aload_n hb dJ4_charAt_5 rfl ?_
  refine z_get (k := 0) (C := RJ5) (T := TJ5) (N := 4) hb ho zc22 in_J5 (zf_RJ4_15 _) dJ4_charAt_6 hB (by decide) rfl ?_
  refine z_astore_n (lv' := [(3, .ref e), (2, .int (nI 1)), (0, .ref b), (1, .int (nI i))]) hb dJ4_charAt_9 (by rw [hN]; decide) rfl ?_
  refine z_aload_n hb dJ4_charAt_10 rfl ?_
  refine z_get (k := 3) (C := RJ5) (T := TJ5) (N := 4) hb ho zc22 in_J5 (zf_RJ4_79 _) dJ4_charAt_11 hB (by decide) rfl ?_
  refine z_aload_n hb dJ4_charAt_14 rfl ?_
  refine z_alen (kk := 3) hb rfl dJ4_charAt_15 hA ?_
  refine z_iload_n hb dJ4_charAt_16 rfl ?_
  refine z_ishr hb dJ4_charAt_17 ?_
  refine z_toI (y := nI (N / 2)) (z_sr1 (by omega)) ?_
  refine z_mmin hb ho hrm (by omega) q2325 q553 q111 q554 dJ4_charAt_18 (Nat.le_of_ble_eq_true rfl) ?_
  refine z_toI (y := nI cs.length) (by rw [z_minN (by omega) (by omega), Nat.min_eq_left (by omega)]) ?_
  refine z_istore (lv' := [(4, .int (nI cs.length)), (3, .ref e), (2, .int (nI 1)), (0, .ref b), (1, .int (nI i))]) hb dJ4_charAt_21 (by rw [hN]; decide) rfl ?_
  refine z_iload_n hb dJ4_charAt_23 rfl ?_
  refine z_iload hb dJ4_charAt_24 rfl ?_
  refine z_call0 (b' := 0) (f' := 0) (rest := []) (av := [.int (nI i), .int (nI cs.length)]) (z_siteS hb ho q2326 q2242 q102 ⟨_, _, _, _, zk_J6_checkIndex⟩ zy_J6_checkIndex zl_J6_checkIndex dJ4_charAt_26 : z_Site M _ _ _ _ _ ([.int (nI i), .int (nI cs.length)].reverse ++ []) [] _) zk_J6_checkIndex q102 hrm (m_J6_checkIndex hi (by omega)) (by omega) (by decide) (Nat.le_of_ble_eq_true rfl) (by omega) (by omega) ?_
  refine z_iload_n hb dJ4_charAt_29 rfl ?_
  refine z_if_neN (tgt := 42) hb dJ4_charAt_30 (by decide) (by omega) (fun c_30 => ?_) (fun c_30 => ?_)
  · refine z_aload_n hb dJ4_charAt_42 rfl ?_
    refine z_iload_n hb dJ4_charAt_43 rfl ?_
    refine z_call1 (b' := 0) (f' := 0) (rest := []) (av := [.ref e, .int (nI i)]) (z_siteS hb ho q2327 q874 q103 ⟨_, _, _, _, zk_J7_getChar⟩ zy_J7_getChar zl_J7_getChar dJ4_charAt_44 : z_Site M _ _ _ _ _ ([.ref e, .int (nI i)].reverse ++ []) [] _) zk_J7_getChar q103 hrm (m_J7_getChar hA (by omega) (by omega) hfi.1 hfi.2.1 hfi.2.2) (by omega) (by decide) (Nat.le_of_ble_eq_true rfl) (by omega) (by omega) ?_
    refine z_zret hb hr (pk_charN (by omega)).1 dJ4_charAt_47 ?_
    rw [hQ]
    exact ⟨rfl, rfl, rfl⟩
  · exact absurd c_30 (by omega)

theorem m_J4_charAt {l : Launch} {G : zG} {h : zH} {n b e cd i : Nat} {cs : List Nat} (hBF : z_BF G h b e cd cs) (hi : i < cs.length) : z_C l G yJ4_charAt 3 0 0 [.ref b, .int (nI i)] h n (z_rv (.int (nI (cs.getD i 0))) h n) := by
  obtain ⟨N, f, ml, q1, q2, q3, q4, q5, q6, q7, q8⟩ := hBF
  rcases q8 with ⟨rfl, q9, q10⟩ | ⟨rfl, q9, q10, q11⟩
  · exact m_J4_charAt_0 q1 q2 (by omega) q9 q10 hi
  · exact m_J4_charAt_1 q1 q2 (by omega) q10 q11 hi

set_option maxHeartbeats 1000000 in
theorem m_J5_charAt {l : Launch} {G : zG} {h : zH} {n : Nat} {b e cd : Nat} {cs : List Nat} {i : Nat} (hBF : z_BF G h b e cd cs) (hi : i < cs.length) (hc9 : cs.getD i 0 < 65536) : z_C l G yJ5_charAt 4 0 0 [.ref b, .int (nI i)] h n (z_rv (.int (nI (cs.getD i 0))) h n) := by
  refine z_start zk_J5_charAt zpl_RJ5 (Nat.le_of_ble_eq_true rfl) ?_
  intro hn0 M hl hG ho hb hN hr hm hH hrm hQ
  subst hl hG
  have ho : zm_o M = RJ5 := ho
  obtain ⟨N, f, ml, hB, hA, hb9, he0, hN16, hN3, hfb, hct⟩ := id hBF
  show z_V M h n 0 0 0 [(0, .ref b), (1, .int (nI i))] []
  refine z_aload_n hb dJ5_charAt_0 rfl ?_
  refine z_iload_n hb dJ5_charAt_1 rfl ?_
  refine z_call1 (b' := 0) (f' := 0) (rest := []) (av := [.ref b, .int (nI i)]) (z_siteP hb ho zc22 hB q2322 q3289 q2323 q283 ⟨_, _, _, _, zk_J4_charAt⟩ (by decide) zl_J4_charAt dJ5_charAt_2 : z_Site M _ _ _ _ _ ([.int (nI i)].reverse ++ .ref b :: []) [] _) zk_J4_charAt q100 hrm (m_J4_charAt hBF hi) (by omega) (by decide) (Nat.le_of_ble_eq_true rfl) (by omega) (by omega) ?_
  refine z_zret hb hr (pk_charN (by omega)).1 dJ5_charAt_5 ?_
  rw [hQ]
  exact ⟨rfl, rfl, rfl⟩

set_option maxHeartbeats 1000000 in
theorem m_J4_length_g {l : Launch} {G : zG} {h : zH} {n : Nat} {b e cd k : Nat} {ml : Bool} (hB : h b = some (z_sb e cd ml k)) : z_C l G yJ4_length 1 0 0 [.ref b] h n (z_rv (.int (nI k)) h n) := by
  refine z_start zk_J4_length zpl_RJ4 (Nat.le_of_ble_eq_true rfl) ?_
  intro hn0 M hl hG ho hb hN hr hm hH hrm hQ
  subst hl hG
  have ho : zm_o M = RJ4 := ho
  show z_V M h n 0 0 0 [(0, .ref b)] []
  refine z_aload_n hb dJ4_length_0 rfl ?_
  refine z_get (k := 3) (C := RJ5) (T := TJ5) (N := 4) hb ho zc22 in_J5 (zf_RJ4_79 _) dJ4_length_1 hB (by decide) rfl ?_
  refine z_iret hb hr dJ4_length_4 ?_
  rw [hQ]
  exact ⟨rfl, rfl, rfl⟩

set_option maxHeartbeats 1000000 in
theorem m_J5_length {l : Launch} {G : zG} {h : zH} {n : Nat} {b e cd : Nat} {cs : List Nat} (hBF : z_BF G h b e cd cs) : z_C l G yJ5_length 2 0 0 [.ref b] h n (z_rv (.int (nI cs.length)) h n) := by
  refine z_start zk_J5_length zpl_RJ5 (Nat.le_of_ble_eq_true rfl) ?_
  intro hn0 M hl hG ho hb hN hr hm hH hrm hQ
  subst hl hG
  have ho : zm_o M = RJ5 := ho
  obtain ⟨N, f, ml, hB, hA, hb9, he0, hN16, hN3, hfb, hct⟩ := id hBF
  show z_V M h n 0 0 0 [(0, .ref b)] []
  refine z_aload_n hb dJ5_length_0 rfl ?_
  refine z_call1 (b' := 0) (f' := 0) (rest := []) (av := [.ref b]) (z_siteP hb ho zc22 hB q1056 q1052 q1051 q283 ⟨_, _, _, _, zk_J4_length⟩ (by decide) zl_J4_length dJ5_length_1 : z_Site M _ _ _ _ _ ([].reverse ++ .ref b :: []) [] _) zk_J4_length q100 hrm (m_J4_length_g hB) (by omega) (by decide) (Nat.le_of_ble_eq_true rfl) (by omega) (by omega) ?_
  refine z_iret hb hr dJ5_length_4 ?_
  rw [hQ]
  exact ⟨rfl, rfl, rfl⟩

