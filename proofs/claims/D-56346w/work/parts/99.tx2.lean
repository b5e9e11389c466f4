theorem z_by_ext {l1 l2 : List Nat} (hl : l1.length = l2.length) (h1 : ∀ b ∈ l1, b < 128) (h2 : ∀ b ∈ l2, b < 128) (h : ∀ j, j < l1.length → z_by l1 j = z_by l2 j) : l1 = l2 := by
  refine List.ext_getElem hl fun j hj1 hj2 => ?_
  have e := h j hj1
  unfold z_by at e
  have e1 : l1.getD j 0 = l1[j] := by rw [List.getD_eq_getElem?_getD, List.getElem?_eq_getElem hj1]; rfl
  have e2 : l2.getD j 0 = l2[j] := by rw [List.getD_eq_getElem?_getD, List.getElem?_eq_getElem hj2]; rfl
  have b1 := h1 _ (List.getElem_mem hj1)
  have b2 := h2 _ (List.getElem_mem hj2)
  rw [e1, e2] at e
  exact (nI_eq (by omega) (by omega)).mp e
theorem z_Sg.inj {G : zG} {h : zH} {s : Nat} {l1 l2 : List Nat} {a b : Int32} (q1 : z_Sg G h s l1 a) (q2 : z_Sg G h s l2 b) : l1 = l2 := by
  obtain ⟨e1, hz1, g1, g2, g3, g4⟩ := q1
  obtain ⟨e2, hz2, k1, k2, k3, k4⟩ := q2
  have e := (z_inj g1 k1).2
  injection e with e _
  injection e with e
  subst e
  rw [g2] at k2
  injection k2 with k2; injection k2 with k2; injection k2 with _ k2; injection k2 with k2 k3
  injection k3 with k3
  exact z_by_ext k2 g4 k4 fun j _ => congrFun k3 j

set_option maxHeartbeats 1000000 in
theorem m_J16_equals {l : Launch} {G : zG} {h : zH} {n : Nat} {e1 e2 : Nat} {c1 c2 : List Nat} (hA1 : h e1 = some (z_ab G c1.length (z_by c1))) (hA2 : h e2 = some (z_ab G c2.length (z_by c2))) (hb1 : ∀ b ∈ c1, b < 128) (hb2 : ∀ b ∈ c2, b < 128) (hl1 : c1.length ≤ 100) (hl2 : c2.length ≤ 100) : z_C l G yJ16_equals 1 0 0 [.ref e1, .ref e2] h n (z_rn (.int (z_b (decide (c1 = c2)))) h) := by
  refine z_start zk_J16_equals zpl_RJ16 (Nat.le_of_ble_eq_true rfl) ?_
  intro hn0 M hl hG ho hb hN hr hm hH hrm hQ
  subst hl hG
  have ho : zm_o M = RJ16 := ho
  show z_V M h n 0 0 0 [(0, .ref e1), (1, .ref e2)] []
  refine z_dom (fun hD0 => ?_)
  refine z_aload_n hb dJ16_equals_0 rfl ?_
  refine z_alen (kk := 3) hb rfl dJ16_equals_1 hA1 ?_
  refine z_aload_n hb dJ16_equals_2 rfl ?_
  refine z_alen (kk := 3) hb rfl dJ16_equals_3 hA2 ?_
  refine z_icmp_neN (tgt := 34) hb dJ16_equals_4 (by decide) (by omega) (by omega) (fun c_4 => ?_) (fun c_4 => ?_)
  · refine z_iconst (x := nI 0) hb dJ16_equals_34 (by decide) ?_
    refine z_zret hb hr rfl dJ16_equals_35 ?_
    rw [hQ]
    exact z_rn_e (by rw [decide_eq_false (fun z => absurd (congrArg List.length z) (by omega))]; rfl)
  · refine z_iconst (x := nI 0) hb dJ16_equals_7 (by decide) ?_
    refine z_istore_n (lv' := [(2, .int (nI 0)), (0, .ref e1), (1, .ref e2)]) hb dJ16_equals_8 (by rw [hN]; decide) rfl ?_
    have lp_9 : ∀ (k9_9 : Nat) (nno : Nat) (j : Nat), c1.length + 1 - j < k9_9 → (n ≤ nno) → (j ≤ c1.length) → (∀ i, i < j → z_by c1 i = z_by c2 i) → z_V M h nno 0 0 9 [(2, .int (nI j)), (0, .ref e1), (1, .ref e2)] [] := by
      intro k9_9
      induction k9_9 with
      | zero => intro nno j hk9_9; exact absurd hk9_9 (Nat.not_lt_zero _)
      | succ k9_9 ih_9 =>
        intro nno j hk9_9 hnno hj hall
        refine z_iload_n hb dJ16_equals_9 rfl ?_
        refine z_aload_n hb dJ16_equals_10 rfl ?_
        refine z_alen (kk := 3) hb rfl dJ16_equals_11 hA1 ?_
        refine z_icmp_geN (tgt := 32) hb dJ16_equals_12 (by decide) (by omega) (by omega) (fun c_12 => ?_) (fun c_12 => ?_)
        · refine z_iconst (x := nI 1) hb dJ16_equals_32 (by decide) ?_
          refine z_zret hb hr rfl dJ16_equals_33 ?_
          rw [hQ]
          exact z_rn_e (by rw [decide_eq_true (z_by_ext (by omega) hb1 hb2 (fun i hi => hall i (by omega)))]; rfl)
        · refine z_aload_n hb dJ16_equals_15 rfl ?_
          refine z_iload_n hb dJ16_equals_16 rfl ?_
          refine z_bald (j := j) hb dJ16_equals_17 hA1 rfl (by omega) (by omega) ?_
          refine z_aload_n hb dJ16_equals_18 rfl ?_
          refine z_iload_n hb dJ16_equals_19 rfl ?_
          refine z_bald (j := j) hb dJ16_equals_20 hA2 rfl (by omega) (by omega) ?_
          refine z_icmp_eq (tgt := 26) hb dJ16_equals_21 (by decide) (fun c_21 => ?_) (fun c_21 => ?_)
          · refine z_iinc (k0 := 0) (lv' := [(2, .int (nI (j + 1))), (0, .ref e1), (1, .ref e2)]) hb dJ16_equals_26 rfl (nI_1 j) (by rw [hN]; decide) rfl ?_
            refine z_goto (tgt := 9) hb dJ16_equals_29 (by decide) ?_
            refine z_lv [0, 1, 2] (lv' := [(2, .int (nI (j + 1))), (0, .ref e1), (1, .ref e2)]) rfl ?_
            exact ih_9 nno (j + 1) (by omega) (by omega) (by omega) (fun i hi => by
              by_cases z : i = j
              · rw [z]; exact c_21
              · exact hall i (by omega))
          · refine z_iconst (x := nI 0) hb dJ16_equals_24 (by decide) ?_
            refine z_zret hb hr rfl dJ16_equals_25 ?_
            rw [hQ]
            exact z_rn_e (by rw [decide_eq_false (fun z => c_21 (by rw [z]))]; rfl)
    refine z_lv [0, 1, 2] (lv' := [(2, .int (nI 0)), (0, .ref e1), (1, .ref e2)]) rfl ?_
    exact lp_9 _ n 0 (Nat.lt_succ_self _) (by omega) (Nat.zero_le _) (fun i hi => absurd hi (Nat.not_lt_zero _))

set_option maxHeartbeats 1000000 in
theorem m_J6_equals {l : Launch} {G : zG} {h : zH} {n : Nat} {s o : Nat} {c1 c2 : List Nat} {a1 a2 : Int32} (hSg1 : z_Sg G h s c1 a1) (hSg2 : z_Sg G h o c2 a2) : z_C l G yJ6_equals 2 0 0 [.ref s, .ref o] h n (z_rn (.int (z_b (decide (c1 = c2)))) h) := by
  refine z_start zk_J6_equals zpl_RJ6 (Nat.le_of_ble_eq_true rfl) ?_
  intro hn0 M hl hG ho hb hN hr hm hH hrm hQ
  subst hl hG
  have ho : zm_o M = RJ6 := ho
  obtain ⟨e1, hz1, s1, s2, s3, s4⟩ := id hSg1
  obtain ⟨e2, hz2, o1, o2, o3, o4⟩ := id hSg2
  show z_V M h n 0 0 0 [(0, .ref s), (1, .ref o)] []
  refine z_dom (fun hD0 => ?_)
  refine z_aload_n hb dJ6_equals_0 rfl ?_
  refine z_aload_n hb dJ6_equals_1 rfl ?_
  refine z_acmp_ne (rx := some s) (ry := some o) (tgt := 7) hb dJ6_equals_2 (by decide) (fun c_2 => ?_) (fun c_2 => ?_)
  · refine z_aload_n hb dJ6_equals_7 rfl ?_
    refine z_instE hb ho zc23 o1 q649 dJ6_equals_8 ?_
    refine z_toI (y := nI 1) rfl ?_
    refine z_if_eqN (tgt := 54) hb dJ6_equals_11 (by decide) (by omega) (fun c_11 => ?_) (fun c_11 => ?_)
    · exact absurd c_11 (by omega)
    · refine z_aload_n hb dJ6_equals_14 rfl ?_
      refine z_cast hb ho zc23 o1 q649 (Or.inl rfl) dJ6_equals_15 ?_
      refine z_astore_n (lv' := [(2, .ref o), (0, .ref s), (1, .ref o)]) hb dJ6_equals_18 (by rw [hN]; decide) rfl ?_
      refine z_gets (i := 0) hb ho rfl (zf_RJ6_38 _) dJ6_equals_19 ?_
      refine z_toI (y := nI 1) rfl ?_
      refine z_if_eqN (tgt := 36) hb dJ6_equals_22 (by decide) (by omega) (fun c_22 => ?_) (fun c_22 => ?_)
      · exact absurd c_22 (by omega)
      · refine z_aload_n hb dJ6_equals_25 rfl ?_
        refine z_get (k := 1) (C := RJ6) (T := TJ6) (N := 4) hb ho zc23 in_J6 (zf_RJ6_15 _) dJ6_equals_26 s1 (by decide) rfl ?_
        refine z_aload_n hb dJ6_equals_29 rfl ?_
        refine z_get (k := 1) (C := RJ6) (T := TJ6) (N := 4) hb ho zc23 in_J6 (zf_RJ6_15 _) dJ6_equals_30 o1 (by decide) rfl ?_
        refine z_icmp_neN (tgt := 54) hb dJ6_equals_33 (by decide) (by omega) (by omega) (fun c_33 => ?_) (fun c_33 => ?_)
        · exact absurd c_33 (by omega)
        · refine z_aload_n hb dJ6_equals_36 rfl ?_
          refine z_get (k := 0) (C := RJ6) (T := TJ6) (N := 4) hb ho zc23 in_J6 (zf_RJ6_9 _) dJ6_equals_37 s1 (by decide) rfl ?_
          refine z_aload_n hb dJ6_equals_40 rfl ?_
          refine z_get (k := 0) (C := RJ6) (T := TJ6) (N := 4) hb ho zc23 in_J6 (zf_RJ6_9 _) dJ6_equals_41 o1 (by decide) rfl ?_
          refine z_callN1 (b' := 0) (f' := 0) (rest := []) (av := [.ref e1, .ref e2]) (z_siteS hb ho q651 q652 q116 ⟨_, _, _, _, zk_J16_equals⟩ zy_J16_equals zl_J16_equals dJ6_equals_44 : z_Site M _ _ _ _ _ ([.ref e1, .ref e2].reverse ++ []) [] _) zk_J16_equals q116 hrm (m_J16_equals s2 o2 s4 o4 s3 o3) (by omega) (by decide) (Nat.le_of_ble_eq_true rfl) (by omega) (by omega) (fun n_1 hn_1 => ?_)
          refine z_ifb_eq (tgt := 54) hb dJ6_equals_47 (by decide) (fun c_47 => ?_) (fun c_47 => ?_)
          · refine z_iconst (x := nI 0) hb dJ6_equals_54 (by decide) ?_
            refine z_zret hb hr rfl dJ6_equals_55 ?_
            rw [hQ]
            exact z_rn_e (by rw [c_47]; rfl)
          · refine z_iconst (x := nI 1) hb dJ6_equals_50 (by decide) ?_
            refine z_goto (tgt := 55) hb dJ6_equals_51 (by decide) ?_
            refine z_zret hb hr rfl dJ6_equals_55 ?_
            rw [hQ]
            exact z_rn_e (by rw [c_47]; rfl)
  · refine z_iconst (x := nI 1) hb dJ6_equals_5 (by decide) ?_
    refine z_zret hb hr rfl dJ6_equals_6 ?_
    rw [hQ]
    exact z_rn_e (by rw [decide_eq_true (z_Sg.inj hSg1 (show z_Sg _ _ s c2 a2 by have z := Option.some.inj c_2; rw [z]; exact hSg2))]; rfl)

set_option maxHeartbeats 1000000 in
theorem m_J6_hashCode_c {l : Launch} {G : zG} {h : zH} {n : Nat} {s : Nat} {ch : List Nat} {hs9 : Int32} (hSg : z_Sg G h s ch hs9) (hnz : hs9 ≠ 0) : z_C l G yJ6_hashCode 5 0 0 [.ref s] h n (z_rn (.int hs9) h) := by
  refine z_start zk_J6_hashCode zpl_RJ6 (Nat.le_of_ble_eq_true rfl) ?_
  intro hn0 M hl hG ho hb hN hr hm hH hrm hQ
  subst hl hG
  have ho : zm_o M = RJ6 := ho
  obtain ⟨e, hz9, hs1, hs2, hs3, hs4⟩ := id hSg
  show z_V M h n 0 0 0 [(0, .ref s)] []
  refine z_dom (fun hD0 => ?_)
  refine z_aload_n hb dJ6_hashCode_0 rfl ?_
  refine z_get (k := 2) (C := RJ6) (T := TJ6) (N := 4) hb ho zc23 in_J6 (zf_RJ6_19 _) dJ6_hashCode_1 hs1 (by decide) rfl ?_
  refine z_istore_n (lv' := [(1, .int hs9), (0, .ref s)]) hb dJ6_hashCode_4 (by rw [hN]; decide) rfl ?_
  refine z_iload_n hb dJ6_hashCode_5 rfl ?_
  refine z_if_ne (tgt := 58) hb dJ6_hashCode_6 (by decide) (fun c_6 => ?_) (fun c_6 => ?_)
  · refine z_iload_n hb dJ6_hashCode_58 rfl ?_
    refine z_iret hb hr dJ6_hashCode_59 ?_
    rw [hQ]
    exact ⟨rfl, rfl⟩
  · exact absurd c_6 hnz

