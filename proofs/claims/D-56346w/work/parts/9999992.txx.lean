theorem z_hs_take {l : List Nat} {j : Nat} (h : j < l.length) : z_hs (l.take (j + 1)) = nI 31 * z_hs (l.take j) + nI (l.getD j 0) := by
  unfold z_hs
  rw [List.take_add_one, List.foldl_append, List.getD_eq_getElem?_getD, List.getElem?_eq_getElem h]
  rfl
theorem z_sw16 {k : Nat} (h : 2 ≤ k) (h2 : k < 1000) : Op.lookupswitch.offset (#[(0, 26), (1, 30)] : Array (Int × Int)).toList 40 (nI k).toInt = 40 := by
  rw [nI_toInt (by omega)]
  show (if (0 : Int) = (k : Int) then (26 : Int) else if (1 : Int) = (k : Int) then 30 else 40) = 40
  rw [if_neg (by omega), if_neg (by omega)]

theorem z_lowD {l : List Nat} (h : ∀ b ∈ l, b < 128) (i : Nat) : l.getD i 0 < 128 := by
  rcases Nat.lt_or_ge i l.length with q | q
  · rw [List.getD_eq_getElem?_getD, List.getElem?_eq_getElem q]; exact h _ (List.getElem_mem q)
  · rw [List.getD_eq_getElem?_getD, List.getElem?_eq_none q]; decide

set_option maxHeartbeats 1000000 in
theorem m_J13_signedHashCode {l : Launch} {G : zG} {h : zH} {n : Nat} {e : Nat} {ch : List Nat} (hA : h e = some (z_ab G ch.length (z_by ch))) (hl : 2 ≤ ch.length ∧ ch.length ≤ 100) (hlo : ∀ b ∈ ch, b < 128) : z_C l G yJ13_signedHashCode 1 0 0 [.int (nI 0), .ref e, .int (nI 0), .int (nI ch.length)] h n (z_rn (.int (z_hs ch)) h) := by
  refine z_start zk_J13_signedHashCode zpl_RJ13 (Nat.le_of_ble_eq_true rfl) ?_
  intro hn0 M hl hG ho hb hN hr hm hH hrm hQ
  subst hl hG
  have ho : zm_o M = RJ13 := ho
  show z_V M h n 0 0 0 [(0, .int (nI 0)), (1, .ref e), (2, .int (nI 0)), (3, .int (nI ch.length))] []
  refine z_dom (fun hD0 => ?_)
  refine z_iload_n hb dJ13_signedHashCode_0 rfl ?_
  refine z_iload_n hb dJ13_signedHashCode_1 rfl ?_
  refine z_iadd hb dJ13_signedHashCode_2 ?_
  refine z_toI (y := nI ch.length) (by rw [nI_add, Nat.zero_add]) ?_
  refine z_istore (lv' := [(4, .int (nI ch.length)), (0, .int (nI 0)), (1, .ref e), (2, .int (nI 0)), (3, .int (nI ch.length))]) hb dJ13_signedHashCode_3 (by rw [hN]; decide) rfl ?_
  refine z_iload_n hb dJ13_signedHashCode_5 rfl ?_
  refine z_istore (lv' := [(5, .int (nI 0)), (4, .int (nI ch.length)), (0, .int (nI 0)), (1, .ref e), (2, .int (nI 0)), (3, .int (nI ch.length))]) hb dJ13_signedHashCode_6 (by rw [hN]; decide) rfl ?_
  have lp_8 : ∀ (k9_8 : Nat) (nno : Nat) (j : Nat), ch.length + 1 - j < k9_8 → (n ≤ nno) → (j ≤ ch.length) → z_V M h nno 0 0 8 [(5, .int (nI j)), (4, .int (nI ch.length)), (0, .int (z_hs (ch.take j))), (1, .ref e), (2, .int (nI 0)), (3, .int (nI ch.length))] [] := by
    intro k9_8
    induction k9_8 with
    | zero => intro nno j hk9_8; exact absurd hk9_8 (Nat.not_lt_zero _)
    | succ k9_8 ih_8 =>
      intro nno j hk9_8 hnno hj
      refine z_iload hb dJ13_signedHashCode_8 rfl ?_
      refine z_iload hb dJ13_signedHashCode_10 rfl ?_
      refine z_icmp_geN (tgt := 35) hb dJ13_signedHashCode_12 (by decide) (by omega) (by omega) (fun c_12 => ?_) (fun c_12 => ?_)
      · refine z_iload_n hb dJ13_signedHashCode_35 rfl ?_
        refine z_iret hb hr dJ13_signedHashCode_36 ?_
        rw [hQ]
        obtain rfl : j = ch.length := by omega
        exact z_rn_e (by rw [List.take_length])
      · refine z_bipush (x := nI 31) hb dJ13_signedHashCode_15 (by decide) ?_
        refine z_iload_n hb dJ13_signedHashCode_17 rfl ?_
        refine z_imul hb dJ13_signedHashCode_18 ?_
        refine z_aload_n hb dJ13_signedHashCode_19 rfl ?_
        refine z_iload hb dJ13_signedHashCode_20 rfl ?_
        refine z_bald (j := j) hb dJ13_signedHashCode_22 hA rfl (by omega) (by omega) ?_
        refine z_toI (y := nI (ch.getD j 0)) rfl ?_
        refine z_sipush (x := nI 255) hb dJ13_signedHashCode_23 (by decide) ?_
        refine z_iand hb dJ13_signedHashCode_26 ?_
        refine z_toI (y := nI (ch.getD j 0)) (z_a255 (z_lowD hlo j)) ?_
        refine z_iadd hb dJ13_signedHashCode_27 ?_
        refine z_toI (y := (z_hs (ch.take (j + 1)))) (z_hs_take (by omega)).symm ?_
        refine z_istore_n (lv' := [(0, .int (z_hs (ch.take (j + 1)))), (5, .int (nI j)), (4, .int (nI ch.length)), (1, .ref e), (2, .int (nI 0)), (3, .int (nI ch.length))]) hb dJ13_signedHashCode_28 (by rw [hN]; decide) rfl ?_
        refine z_iinc (k0 := 1) (lv' := [(5, .int (nI (j + 1))), (0, .int (z_hs (ch.take (j + 1)))), (4, .int (nI ch.length)), (1, .ref e), (2, .int (nI 0)), (3, .int (nI ch.length))]) hb dJ13_signedHashCode_29 rfl (nI_1 j) (by rw [hN]; decide) rfl ?_
        refine z_goto (tgt := 8) hb dJ13_signedHashCode_32 (by decide) ?_
        refine z_lv [0, 2, 1, 3, 4, 5] (lv' := [(5, .int (nI (j + 1))), (4, .int (nI ch.length)), (0, .int (z_hs (ch.take (j + 1)))), (1, .ref e), (2, .int (nI 0)), (3, .int (nI ch.length))]) rfl ?_
        exact ih_8 nno (j + 1) (by omega) (by omega) (by omega)
  refine z_lv [0, 1, 2, 3, 4, 5] (lv' := [(5, .int (nI 0)), (4, .int (nI ch.length)), (0, .int (nI 0)), (1, .ref e), (2, .int (nI 0)), (3, .int (nI ch.length))]) rfl ?_
  exact lp_8 _ n 0 (Nat.lt_succ_self _) (by omega) (Nat.zero_le _)

set_option maxHeartbeats 1000000 in
theorem m_J13_vectorizedHashCode {l : Launch} {G : zG} {h : zH} {n : Nat} {e : Nat} {ch : List Nat} (hA : h e = some (z_ab G ch.length (z_by ch))) (hl : 2 ≤ ch.length ∧ ch.length ≤ 100) (hlo : ∀ b ∈ ch, b < 128) (he0 : z_n0 G ≤ e) : z_C l G yJ13_vectorizedHashCode 2 0 0 [.ref e, .int (nI 0), .int (nI ch.length), .int (nI 0), .int (nI 4)] h n (z_rn (.int (z_hs ch)) h) := by
  refine z_start zk_J13_vectorizedHashCode zpl_RJ13 (Nat.le_of_ble_eq_true rfl) ?_
  intro hn0 M hl hG ho hb hN hr hm hH hrm hQ
  subst hl hG
  have ho : zm_o M = RJ13 := ho
  show z_V M h n 0 0 0 [(0, .ref e), (1, .int (nI 0)), (2, .int (nI ch.length)), (3, .int (nI 0)), (4, .int (nI 4))] []
  refine z_dom (fun hD0 => ?_)
  refine z_iload hb dJ13_vectorizedHashCode_0 rfl ?_
  refine z_tableIn (off := 42) (tgt := 44) hb dJ13_vectorizedHashCode_2 (by decide) (by decide) rfl (by decide) ?_
  refine z_iload_n hb dJ13_vectorizedHashCode_44 rfl ?_
  refine z_aload_n hb dJ13_vectorizedHashCode_45 rfl ?_
  refine z_castB hb ho hA he0 q854 dJ13_vectorizedHashCode_46 ?_
  refine z_iload_n hb dJ13_vectorizedHashCode_49 rfl ?_
  refine z_iload_n hb dJ13_vectorizedHashCode_50 rfl ?_
  refine z_callN1 (b' := 0) (f' := 0) (rest := []) (av := [.int (nI 0), .ref e, .int (nI 0), .int (nI ch.length)]) (z_siteS hb ho q855 q856 q110 ⟨_, _, _, _, zk_J13_signedHashCode⟩ zy_J13_signedHashCode zl_J13_signedHashCode dJ13_vectorizedHashCode_51 : z_Site M _ _ _ _ _ ([.int (nI 0), .ref e, .int (nI 0), .int (nI ch.length)].reverse ++ []) [] _) zk_J13_signedHashCode q110 hrm (m_J13_signedHashCode hA hl hlo) (by omega) (by decide) (Nat.le_of_ble_eq_true rfl) (by omega) (by omega) (fun n_1 hn_1 => ?_)
  refine z_goto (tgt := 157) hb dJ13_vectorizedHashCode_54 (by decide) ?_
  refine z_iret hb hr dJ13_vectorizedHashCode_157 ?_
  rw [hQ]
  exact ⟨rfl, rfl⟩

set_option maxHeartbeats 1000000 in
theorem m_J16_hashCode {l : Launch} {G : zG} {h : zH} {n : Nat} {e : Nat} {ch : List Nat} (hA : h e = some (z_ab G ch.length (z_by ch))) (hl : 2 ≤ ch.length ∧ ch.length ≤ 100) (hlo : ∀ b ∈ ch, b < 128) (he0 : z_n0 G ≤ e) : z_C l G yJ16_hashCode 3 0 0 [.ref e] h n (z_rn (.int (z_hs ch)) h) := by
  refine z_start zk_J16_hashCode zpl_RJ16 (Nat.le_of_ble_eq_true rfl) ?_
  intro hn0 M hl hG ho hb hN hr hm hH hrm hQ
  subst hl hG
  have ho : zm_o M = RJ16 := ho
  show z_V M h n 0 0 0 [(0, .ref e)] []
  refine z_dom (fun hD0 => ?_)
  refine z_aload_n hb dJ16_hashCode_0 rfl ?_
  refine z_alen (kk := 3) hb rfl dJ16_hashCode_1 hA ?_
  refine z_lookup (off := 40) (tgt := 42) hb dJ16_hashCode_2 (by decide) (z_sw16 hl.1 (by omega)) (by decide) ?_
  refine z_aload_n hb dJ16_hashCode_42 rfl ?_
  refine z_iconst (x := nI 0) hb dJ16_hashCode_43 (by decide) ?_
  refine z_aload_n hb dJ16_hashCode_44 rfl ?_
  refine z_alen (kk := 3) hb rfl dJ16_hashCode_45 hA ?_
  refine z_iconst (x := nI 0) hb dJ16_hashCode_46 (by decide) ?_
  refine z_iconst (x := nI 4) hb dJ16_hashCode_47 (by decide) ?_
  refine z_callN1 (b' := 0) (f' := 0) (rest := []) (av := [.ref e, .int (nI 0), .int (nI ch.length), .int (nI 0), .int (nI 4)]) (z_siteS hb ho q851 q852 q110 ⟨_, _, _, _, zk_J13_vectorizedHashCode⟩ zy_J13_vectorizedHashCode zl_J13_vectorizedHashCode dJ16_hashCode_48 : z_Site M _ _ _ _ _ ([.ref e, .int (nI 0), .int (nI ch.length), .int (nI 0), .int (nI 4)].reverse ++ []) [] _) zk_J13_vectorizedHashCode q110 hrm (m_J13_vectorizedHashCode hA hl hlo he0) (by omega) (by decide) (Nat.le_of_ble_eq_true rfl) (by omega) (by omega) (fun n_1 hn_1 => ?_)
  refine z_iret hb hr dJ16_hashCode_51 ?_
  rw [hQ]
  exact ⟨rfl, rfl⟩

/-- of the String at s nothing but the hash field changes -/
def z_hw (h h2 : zH) (s : Nat) (hs : Int32) : Prop := ∃ (e : Nat) (hs1 : Int32), h s = some (.inr (23, [.ref e, .int (nI 0), .int hs1, .int (nI 0)])) ∧ h2 s = some (.inr (23, [.ref e, .int (nI 0), .int hs, .int (nI 0)]))

set_option maxHeartbeats 1000000 in
theorem m_J6_hashCode_0 {l : Launch} {G : zG} {h : zH} {n : Nat} {s : Nat} {ch : List Nat} {hs9 : Int32} (hSf : z_Sf G h s ch (nI 0)) (hs0 : z_n0 G ≤ s) (hl2 : 2 ≤ ch.length) (hnz : z_hs ch ≠ 0) : z_C l G yJ6_hashCode 4 0 0 [.ref s] h n (z_q1 (fun r9 h9 n9 => r9 = .int (z_hs ch) ∧ z_Sf G h9 s ch (z_hs ch) ∧ z_fr (fun y => y = s) h h9 ∧ z_hw h h9 s (z_hs ch))) := by
  refine z_start zk_J6_hashCode zpl_RJ6 (Nat.le_of_ble_eq_true rfl) ?_
  intro hn0 M hl hG ho hb hN hr hm hH hrm hQ
  subst hl hG
  have ho : zm_o M = RJ6 := ho
  obtain ⟨es, a1, a2, a3, a4, a5⟩ := id hSf
  show z_V M h n 0 0 0 [(0, .ref s)] []
  refine z_dom (fun hD0 => ?_)
  refine z_aload_n hb dJ6_hashCode_0 rfl ?_
  refine z_get (k := 2) (C := RJ6) (T := TJ6) (N := 4) hb ho zc23 in_J6 (zf_RJ6_19 _) dJ6_hashCode_1 a1 (by decide) rfl ?_
  refine z_istore_n (lv' := [(1, .int (nI 0)), (0, .ref s)]) hb dJ6_hashCode_4 (by rw [hN]; decide) rfl ?_
  refine z_iload_n hb dJ6_hashCode_5 rfl ?_
  refine z_if_neN (tgt := 58) hb dJ6_hashCode_6 (by decide) (by omega) (fun c_6 => ?_) (fun c_6 => ?_)
  · exact absurd c_6 (by omega)
  · refine z_aload_n hb dJ6_hashCode_9 rfl ?_
    refine z_get (k := 3) (C := RJ6) (T := TJ6) (N := 4) hb ho zc23 in_J6 (zf_RJ6_23 _) dJ6_hashCode_10 a1 (by decide) rfl ?_
    refine z_if_neN (tgt := 58) hb dJ6_hashCode_13 (by decide) (by omega) (fun c_13 => ?_) (fun c_13 => ?_)
    · exact absurd c_13 (by omega)
    · refine z_aload_n hb dJ6_hashCode_16 rfl ?_
      refine z_callN1 (b' := 0) (f' := 0) (rest := []) (av := [.ref s]) (z_siteV hb ho zc23 a1 q844 q845 q846 ⟨_, _, _, _, zk_J6_isLatin1⟩ zy_J6_isLatin1 zl_J6_isLatin1 dJ6_hashCode_17 : z_Site M _ _ _ _ _ ([].reverse ++ .ref s :: []) [] _) zk_J6_isLatin1 q102 hrm (m_J6_isLatin1 hSf.sg) (by omega) (by decide) (Nat.le_of_ble_eq_true rfl) (by omega) (by omega) (fun n_1 hn_1 => ?_)
      refine z_if_eqN (tgt := 33) hb dJ6_hashCode_20 (by decide) (by omega) (fun c_20 => ?_) (fun c_20 => ?_)
      · exact absurd c_20 (by omega)
      · refine z_aload_n hb dJ6_hashCode_23 rfl ?_
        refine z_get (k := 0) (C := RJ6) (T := TJ6) (N := 4) hb ho zc23 in_J6 (zf_RJ6_9 _) dJ6_hashCode_24 a1 (by decide) rfl ?_
        refine z_callN1 (b' := 0) (f' := 0) (rest := []) (av := [.ref es]) (z_siteS hb ho q848 q849 q116 ⟨_, _, _, _, zk_J16_hashCode⟩ zy_J16_hashCode zl_J16_hashCode dJ6_hashCode_27 : z_Site M _ _ _ _ _ ([.ref es].reverse ++ []) [] _) zk_J16_hashCode q116 hrm (m_J16_hashCode a2 ⟨hl2, a3⟩ a4 a5) (by omega) (by decide) (Nat.le_of_ble_eq_true rfl) (by omega) (by omega) (fun n_2 hn_2 => ?_)
        refine z_goto (tgt := 40) hb dJ6_hashCode_30 (by decide) ?_
        refine z_istore_n (lv' := [(1, .int (z_hs ch)), (0, .ref s)]) hb dJ6_hashCode_40 (by rw [hN]; decide) rfl ?_
        refine z_iload_n hb dJ6_hashCode_41 rfl ?_
        refine z_if_ne (tgt := 53) hb dJ6_hashCode_42 (by decide) (fun c_42 => ?_) (fun c_42 => ?_)
        · refine z_aload_n hb dJ6_hashCode_53 rfl ?_
          refine z_iload_n hb dJ6_hashCode_54 rfl ?_
          refine z_put (k := 2) (C := RJ6) (T := TJ6) (N := 4) hb ho zc23 in_J6 tyJ6_ok nmJ6 (zf_RJ6_19 _) dJ6_hashCode_55 a1 hs0 (by decide) (Or.inl rfl) rfl rfl rfl (Nat.le_of_ble_eq_true rfl) ?_
          refine z_hn (fun h_3 eh_3 => ?_)
          have eh_3 : h_3 = z_up h s (.inr (23, [.ref es, .int (nI 0), .int (z_hs ch), .int (nI 0)])) := eh_3
          have k_4 : h_3 es = some (.inl ((zm_G M).2.1 3, ch.length, .inl (z_by ch))) := z_nx eh_3 (z_neA' a2 a1) a2
          refine z_iload_n hb dJ6_hashCode_58 rfl ?_
          refine z_iret hb hr dJ6_hashCode_59 ?_
          rw [hQ]
          exact ⟨_, rfl, rfl, ⟨es, (z_nxs eh_3), k_4, a3, a4, a5⟩, z_fr_up (P := fun y => y = s) rfl eh_3, ⟨es, _, a1, (z_nxs eh_3)⟩⟩
        · exact absurd c_42 hnz

