/-! strings of Latin letters -/
def z_by (l : List Nat) : Nat → Int32 := fun j => nI (l.getD j 0)
def z_hs (l : List Nat) : Int32 := l.foldl (fun a b => nI 31 * a + nI b) (nI 0)
/-- the String at s has the letters l, its hash field holds hs -/
def z_Sg (G : zG) (h : zH) (s : Nat) (l : List Nat) (hs : Int32) : Prop := ∃ (e : Nat) (hz : Int32), h s = some (.inr (23, [.ref e, .int (nI 0), .int hs, .int hz])) ∧ h e = some (z_ab G l.length (z_by l)) ∧ l.length ≤ 100 ∧ ∀ b ∈ l, b < 128
def z_ixF (f : Nat → Int32) (x : Int32) (k : Nat) : Nat → Option Nat
  | 0 => none
  | d + 1 => if f k = x then some k else z_ixF f x (k + 1) d
/-- indexOf of the sign c -/
def z_ix (l : List Nat) (c : Nat) : Option Nat := if c ≤ 255 then z_ixF (z_by l) (nI c).toInt8.toInt32 0 l.length else none
theorem z_ixF_none {f : Nat → Int32} {x : Int32} : ∀ {d k : Nat}, (∀ j, k ≤ j → j < k + d → f j ≠ x) → z_ixF f x k d = none
  | 0, k, _ => rfl
  | d + 1, k, h => by rw [z_ixF, if_neg (h k (Nat.le_refl _) (by omega)), z_ixF_none fun j h1 h2 => h j (by omega) (by omega)]
theorem z_ixF_some {f : Nat → Int32} {x : Int32} {i : Nat} : ∀ {d k : Nat}, (∀ j, k ≤ j → j < i → f j ≠ x) → k ≤ i → i < k + d → f i = x → z_ixF f x k d = some i
  | 0, k, _, h1, h2, _ => by omega
  | d + 1, k, h, h1, h2, h3 => by
    rw [z_ixF]
    by_cases q : k = i
    · rw [q, if_pos h3]
    · rw [if_neg (h k (Nat.le_refl _) (by omega)), z_ixF_some (fun j g1 g2 => h j (by omega) g2) (by omega) (by omega) h3]
theorem z_shr0 (n : Nat) : nI n >>> (nI 0 &&& 31) = nI n := by rw [show nI 0 &&& 31 = 0 from by decide]; exact Int32.shiftRight_zero
theorem z_minN {a b : Nat} (ha : a < 2 ^ 31) (hb : b < 2 ^ 31) : (if nI b < nI a then nI b else nI a) = nI (min a b) := by
  by_cases h : b < a
  · rw [if_pos ((nI_ltI hb ha).mpr h), Nat.min_eq_right (Nat.le_of_lt h)]
  · rw [if_neg (fun q => h ((nI_ltI hb ha).mp q)), Nat.min_eq_left (Nat.not_lt.mp h)]

set_option maxHeartbeats 1000000 in
theorem m_J6_isLatin1 {l : Launch} {G : zG} {h : zH} {n : Nat} {s : Nat} {ch : List Nat} {hs9 : Int32}  (hSg : z_Sg G h s ch hs9) : z_C l G yJ6_isLatin1 1 0 0 [.ref s] h n (z_rn (.int (nI 1)) h) := by
  refine z_start zk_J6_isLatin1 zpl_RJ6 (Nat.le_of_ble_eq_true rfl) ?_
  intro hn0 M hl hG ho hb hN hr hm hH hrm hQ
  subst hl hG
  have ho : zm_o M = RJ6 := ho
  obtain ⟨e, hz9, hs1, hs2, hs3, hs4⟩ := id hSg
  show z_V M h n 0 0 0 [(0, .ref s)] []
  refine z_dom (fun hD0 => ?_)
  refine z_gets (i := 0) hb ho rfl (zf_RJ6_38 _) dJ6_isLatin1_0 ?_
  refine z_toI (y := nI 1) rfl ?_
  refine z_if_eqN (tgt := 17) hb dJ6_isLatin1_3 (by decide) (by omega) (fun c_3 => ?_) (fun c_3 => ?_)
  · exact absurd c_3 (by omega)
  · refine z_aload_n hb dJ6_isLatin1_6 rfl ?_
    refine z_get (k := 1) (C := RJ6) (T := TJ6) (N := 4) hb ho zc23 in_J6 (zf_RJ6_15 _) dJ6_isLatin1_7 hs1 (by decide) rfl ?_
    refine z_if_neN (tgt := 17) hb dJ6_isLatin1_10 (by decide) (by omega) (fun c_10 => ?_) (fun c_10 => ?_)
    · exact absurd c_10 (by omega)
    · refine z_iconst (x := nI 1) hb dJ6_isLatin1_13 (by decide) ?_
      refine z_goto (tgt := 18) hb dJ6_isLatin1_14 (by decide) ?_
      refine z_zret hb hr rfl dJ6_isLatin1_18 ?_
      rw [hQ]
      exact ⟨rfl, rfl⟩

set_option maxHeartbeats 1000000 in
theorem m_J6_coder {l : Launch} {G : zG} {h : zH} {n : Nat} {s : Nat} {ch : List Nat} {hs9 : Int32}  (hSg : z_Sg G h s ch hs9) : z_C l G yJ6_coder 1 0 0 [.ref s] h n (z_rn (.int (nI 0)) h) := by
  refine z_start zk_J6_coder zpl_RJ6 (Nat.le_of_ble_eq_true rfl) ?_
  intro hn0 M hl hG ho hb hN hr hm hH hrm hQ
  subst hl hG
  have ho : zm_o M = RJ6 := ho
  obtain ⟨e, hz9, hs1, hs2, hs3, hs4⟩ := id hSg
  show z_V M h n 0 0 0 [(0, .ref s)] []
  refine z_dom (fun hD0 => ?_)
  refine z_gets (i := 0) hb ho rfl (zf_RJ6_38 _) dJ6_coder_0 ?_
  refine z_toI (y := nI 1) rfl ?_
  refine z_if_eqN (tgt := 13) hb dJ6_coder_3 (by decide) (by omega) (fun c_3 => ?_) (fun c_3 => ?_)
  · exact absurd c_3 (by omega)
  · refine z_aload_n hb dJ6_coder_6 rfl ?_
    refine z_get (k := 1) (C := RJ6) (T := TJ6) (N := 4) hb ho zc23 in_J6 (zf_RJ6_15 _) dJ6_coder_7 hs1 (by decide) rfl ?_
    refine z_goto (tgt := 14) hb dJ6_coder_10 (by decide) ?_
    refine z_zret hb hr rfl dJ6_coder_14 ?_
    rw [hQ]
    exact ⟨rfl, rfl⟩

set_option maxHeartbeats 1000000 in
theorem m_J6_length {l : Launch} {G : zG} {h : zH} {n : Nat} {s : Nat} {ch : List Nat} {hs9 : Int32}  (hSg : z_Sg G h s ch hs9) : z_C l G yJ6_length 2 0 0 [.ref s] h n (z_rn (.int (nI ch.length)) h) := by
  refine z_start zk_J6_length zpl_RJ6 (Nat.le_of_ble_eq_true rfl) ?_
  intro hn0 M hl hG ho hb hN hr hm hH hrm hQ
  subst hl hG
  have ho : zm_o M = RJ6 := ho
  obtain ⟨e, hz9, hs1, hs2, hs3, hs4⟩ := id hSg
  show z_V M h n 0 0 0 [(0, .ref s)] []
  refine z_dom (fun hD0 => ?_)
  refine z_aload_n hb dJ6_length_0 rfl ?_
  refine z_get (k := 0) (C := RJ6) (T := TJ6) (N := 4) hb ho zc23 in_J6 (zf_RJ6_9 _) dJ6_length_1 hs1 (by decide) rfl ?_
  refine z_alen (kk := 3) hb rfl dJ6_length_4 hs2 ?_
  refine z_aload_n hb dJ6_length_5 rfl ?_
  refine z_callN1 (b' := 0) (f' := 0) (rest := [.int (nI ch.length)]) (av := [.ref s]) (z_siteV hb ho zc23 hs1 q969 q970 q971 ⟨_, _, _, _, zk_J6_coder⟩ zy_J6_coder zl_J6_coder dJ6_length_6 : z_Site M _ _ _ _ _ ([].reverse ++ .ref s :: [.int (nI ch.length)]) [.int (nI ch.length)] _) zk_J6_coder q102 hrm (m_J6_coder hSg) (by omega) (by decide) (Nat.le_of_ble_eq_true rfl) (by omega) (by omega) (fun n_1 hn_1 => ?_)
  refine z_ishr hb dJ6_length_9 ?_
  refine z_toI (y := nI ch.length) (z_shr0 _) ?_
  refine z_iret hb hr dJ6_length_10 ?_
  rw [hQ]
  exact ⟨rfl, rfl⟩

set_option maxHeartbeats 1000000 in
theorem m_J16_canEncode {l : Launch} {G : zG} {h : zH} {n : Nat} {c : Nat} (hc16 : c < 65536) : z_C l G yJ16_canEncode 1 0 0 [.int (nI c)] h n (z_rn (.int (z_b (decide (c ≤ 255)))) h) := by
  refine z_start zk_J16_canEncode zpl_RJ16 (Nat.le_of_ble_eq_true rfl) ?_
  intro hn0 M hl hG ho hb hN hr hm hH hrm hQ
  subst hl hG
  have ho : zm_o M = RJ16 := ho
  show z_V M h n 0 0 0 [(0, .int (nI c))] []
  refine z_dom (fun hD0 => ?_)
  refine z_iload_n hb dJ16_canEncode_0 rfl ?_
  refine z_if_ltN (tgt := 15) hb dJ16_canEncode_1 (by decide) (by omega) ?_
  refine z_iload_n hb dJ16_canEncode_4 rfl ?_
  refine z_sipush (x := nI 255) hb dJ16_canEncode_5 (by decide) ?_
  refine z_icmp_gtN (tgt := 15) hb dJ16_canEncode_8 (by decide) (by omega) (by omega) (fun c_8 => ?_) (fun c_8 => ?_)
  · refine z_iconst (x := nI 0) hb dJ16_canEncode_15 (by decide) ?_
    refine z_zret hb hr rfl dJ16_canEncode_16 ?_
    rw [hQ]
    exact z_rn_e (by rw [decide_eq_false (by omega)]; rfl)
  · refine z_iconst (x := nI 1) hb dJ16_canEncode_11 (by decide) ?_
    refine z_goto (tgt := 16) hb dJ16_canEncode_12 (by decide) ?_
    refine z_zret hb hr rfl dJ16_canEncode_16 ?_
    rw [hQ]
    exact z_rn_e (by rw [decide_eq_true (by omega)]; rfl)

set_option maxHeartbeats 1000000 in
theorem m_J16_indexOfChar {l : Launch} {G : zG} {h : zH} {n : Nat} {e L c k : Nat} {f : Nat → Int32} (hA : h e = some (z_ab G L f)) (hL9 : L ≤ 1000) (hc16 : c < 65536) (hkL : k ≤ L) : z_C l G yJ16_indexOfChar 1 0 0 [.ref e, .int (nI c), .int (nI k), .int (nI L)] h n (z_rn (.int (z_o (z_ixF f (nI c).toInt8.toInt32 k (L - k)))) h) := by
  refine z_start zk_J16_indexOfChar zpl_RJ16 (Nat.le_of_ble_eq_true rfl) ?_
  intro hn0 M hl hG ho hb hN hr hm hH hrm hQ
  subst hl hG
  have ho : zm_o M = RJ16 := ho
  show z_V M h n 0 0 0 [(0, .ref e), (1, .int (nI c)), (2, .int (nI k)), (3, .int (nI L))] []
  refine z_dom (fun hD0 => ?_)
  refine z_iload_n hb dJ16_indexOfChar_0 rfl ?_
  refine z_i2b hb dJ16_indexOfChar_1 rfl ?_
  refine z_istore (lv' := [(4, .int ((nI c).toInt8.toInt32)), (0, .ref e), (1, .int (nI c)), (2, .int (nI k)), (3, .int (nI L))]) hb dJ16_indexOfChar_2 (by rw [hN]; decide) rfl ?_
  refine z_iload_n hb dJ16_indexOfChar_4 rfl ?_
  refine z_istore (lv' := [(5, .int (nI k)), (4, .int ((nI c).toInt8.toInt32)), (0, .ref e), (1, .int (nI c)), (2, .int (nI k)), (3, .int (nI L))]) hb dJ16_indexOfChar_5 (by rw [hN]; decide) rfl ?_
  have lp_7 : ∀ (k9_7 : Nat) (nno : Nat) (j : Nat), L + 1 - j < k9_7 → (n ≤ nno) → (k ≤ j ∧ j ≤ L) → (∀ i, k ≤ i → i < j → f i ≠ (nI c).toInt8.toInt32) → z_V M h nno 0 0 7 [(5, .int (nI j)), (4, .int ((nI c).toInt8.toInt32)), (0, .ref e), (1, .int (nI c)), (2, .int (nI k)), (3, .int (nI L))] [] := by
    intro k9_7
    induction k9_7 with
    | zero => intro nno j hk9_7; exact absurd hk9_7 (Nat.not_lt_zero _)
    | succ k9_7 ih_7 =>
      intro nno j hk9_7 hnno hj hno
      refine z_iload hb dJ16_indexOfChar_7 rfl ?_
      refine z_iload_n hb dJ16_indexOfChar_9 rfl ?_
      refine z_icmp_geN (tgt := 31) hb dJ16_indexOfChar_10 (by decide) (by omega) (by omega) (fun c_10 => ?_) (fun c_10 => ?_)
      · refine z_iconst (x := (-1)) hb dJ16_indexOfChar_31 (by decide) ?_
        refine z_iret hb hr dJ16_indexOfChar_32 ?_
        rw [hQ]
        exact z_rn_e (by rw [z_ixF_none (fun i h1 h2 => hno i h1 (by omega))]; rfl)
      · refine z_aload_n hb dJ16_indexOfChar_13 rfl ?_
        refine z_iload hb dJ16_indexOfChar_14 rfl ?_
        refine z_bald (j := j) hb dJ16_indexOfChar_16 hA rfl (by omega) (by omega) ?_
        refine z_iload hb dJ16_indexOfChar_17 rfl ?_
        refine z_icmp_ne (tgt := 25) hb dJ16_indexOfChar_19 (by decide) (fun c_19 => ?_) (fun c_19 => ?_)
        · refine z_iinc (k0 := 0) (lv' := [(5, .int (nI (j + 1))), (4, .int ((nI c).toInt8.toInt32)), (0, .ref e), (1, .int (nI c)), (2, .int (nI k)), (3, .int (nI L))]) hb dJ16_indexOfChar_25 rfl (nI_1 j) (by rw [hN]; decide) rfl ?_
          refine z_goto (tgt := 7) hb dJ16_indexOfChar_28 (by decide) ?_
          refine z_lv [0, 1, 2, 3, 4, 5] (lv' := [(5, .int (nI (j + 1))), (4, .int ((nI c).toInt8.toInt32)), (0, .ref e), (1, .int (nI c)), (2, .int (nI k)), (3, .int (nI L))]) rfl ?_
          exact ih_7 nno (j + 1) (by omega) (by omega) (by omega) (fun i h1 h2 => by
            by_cases z : i = j
            · rw [z]; exact c_19
            · exact hno i h1 (by omega))
        · refine z_iload hb dJ16_indexOfChar_22 rfl ?_
          refine z_iret hb hr dJ16_indexOfChar_24 ?_
          rw [hQ]
          exact z_rn_e (by rw [z_ixF_some (i := j) (fun i h1 h2 => hno i h1 h2) hj.1 (by omega) c_19]; rfl)
  refine z_lv [0, 1, 2, 3, 4, 5] (lv' := [(5, .int (nI k)), (4, .int ((nI c).toInt8.toInt32)), (0, .ref e), (1, .int (nI c)), (2, .int (nI k)), (3, .int (nI L))]) rfl ?_
  exact lp_7 _ n k (Nat.lt_succ_self _) (by omega) ⟨Nat.le_refl _, hkL⟩ (fun i h1 h2 => by omega)

set_option maxHeartbeats 1000000 in
theorem m_J16_indexOf {l : Launch} {G : zG} {h : zH} {n : Nat} {e L c : Nat} {f : Nat → Int32} (hA : h e = some (z_ab G L f)) (hL9 : L ≤ 1000) (hc16 : c < 65536) : z_C l G yJ16_indexOf 2 0 0 [.ref e, .int (nI c), .int (nI 0), .int (nI L)] h n (z_rn (.int (z_o (if c ≤ 255 then z_ixF f (nI c).toInt8.toInt32 0 L else none))) h) := by
  refine z_start zk_J16_indexOf zpl_RJ16 (Nat.le_of_ble_eq_true rfl) ?_
  intro hn0 M hl hG ho hb hN hr hm hH hrm hQ
  subst hl hG
  have ho : zm_o M = RJ16 := ho
  show z_V M h n 0 0 0 [(0, .ref e), (1, .int (nI c)), (2, .int (nI 0)), (3, .int (nI L))] []
  refine z_dom (fun hD0 => ?_)
  refine z_iload_n hb dJ16_indexOf_0 rfl ?_
  refine z_callN1 (b' := 0) (f' := 0) (rest := []) (av := [.int (nI c)]) (z_siteS hb ho q1423 q1424 q116 ⟨_, _, _, _, zk_J16_canEncode⟩ zy_J16_canEncode zl_J16_canEncode dJ16_indexOf_1 : z_Site M _ _ _ _ _ ([.int (nI c)].reverse ++ []) [] _) zk_J16_canEncode q116 hrm (m_J16_canEncode (c := c) (by omega)) (by omega) (by decide) (Nat.le_of_ble_eq_true rfl) (by omega) (by omega) (fun n_1 hn_1 => ?_)
  refine z_ifb_ne (tgt := 9) hb dJ16_indexOf_4 (by decide) (fun c_4 => ?_) (fun c_4 => ?_)
  · refine z_iload_n hb dJ16_indexOf_9 rfl ?_
    refine z_iconst (x := nI 0) hb dJ16_indexOf_10 (by decide) ?_
    refine z_mmax hb ho hrm (by omega) q1426 q499 q111 q500 dJ16_indexOf_11 (Nat.le_of_ble_eq_true rfl) ?_
    refine z_toI (y := nI 0) (by rw [z_maxN (by omega) (by omega)]; rfl) ?_
    refine z_istore_n (lv' := [(2, .int (nI 0)), (0, .ref e), (1, .int (nI c)), (3, .int (nI L))]) hb dJ16_indexOf_14 (by rw [hN]; decide) rfl ?_
    refine z_iload_n hb dJ16_indexOf_15 rfl ?_
    refine z_aload_n hb dJ16_indexOf_16 rfl ?_
    refine z_alen (kk := 3) hb rfl dJ16_indexOf_17 hA ?_
    refine z_mmin hb ho hrm (by omega) q1427 q553 q111 q554 dJ16_indexOf_18 (Nat.le_of_ble_eq_true rfl) ?_
    refine z_toI (y := nI L) (by rw [z_minN (by omega) (by omega), Nat.min_self]) ?_
    refine z_istore_n (lv' := [(3, .int (nI L)), (2, .int (nI 0)), (0, .ref e), (1, .int (nI c))]) hb dJ16_indexOf_21 (by rw [hN]; decide) rfl ?_
    refine z_iload_n hb dJ16_indexOf_22 rfl ?_
    refine z_iload_n hb dJ16_indexOf_23 rfl ?_
    refine z_icmp_ltN (tgt := 29) hb dJ16_indexOf_24 (by decide) (by omega) (by omega) (fun c_24 => ?_) (fun c_24 => ?_)
    · refine z_aload_n hb dJ16_indexOf_29 rfl ?_
      refine z_iload_n hb dJ16_indexOf_30 rfl ?_
      refine z_iload_n hb dJ16_indexOf_31 rfl ?_
      refine z_iload_n hb dJ16_indexOf_32 rfl ?_
      refine z_callN1 (b' := 0) (f' := 0) (rest := []) (av := [.ref e, .int (nI c), .int (nI 0), .int (nI L)]) (z_siteS hb ho q1428 q1429 q116 ⟨_, _, _, _, zk_J16_indexOfChar⟩ zy_J16_indexOfChar zl_J16_indexOfChar dJ16_indexOf_33 : z_Site M _ _ _ _ _ ([.ref e, .int (nI c), .int (nI 0), .int (nI L)].reverse ++ []) [] _) zk_J16_indexOfChar q116 hrm (m_J16_indexOfChar hA hL9 hc16 (Nat.zero_le _)) (by omega) (by decide) (Nat.le_of_ble_eq_true rfl) (by omega) (by omega) (fun n_2 hn_2 => ?_)
      refine z_iret hb hr dJ16_indexOf_36 ?_
      rw [hQ]
      exact z_rn_e (by rw [if_pos (of_decide_eq_true c_4), Nat.sub_zero])
    · refine z_iconst (x := (-1)) hb dJ16_indexOf_27 (by decide) ?_
      refine z_iret hb hr dJ16_indexOf_28 ?_
      rw [hQ]
      exact z_rn_e (by rw [show L = 0 by omega, z_ixF]; split <;> rfl)
  · refine z_iconst (x := (-1)) hb dJ16_indexOf_7 (by decide) ?_
    refine z_iret hb hr dJ16_indexOf_8 ?_
    rw [hQ]
    exact z_rn_e (by rw [if_neg (of_decide_eq_false c_4)]; rfl)

set_option maxHeartbeats 1000000 in
theorem m_J6_indexOf_2 {l : Launch} {G : zG} {h : zH} {n : Nat} {s : Nat} {ch : List Nat} {hs9 : Int32} {c : Nat} (hSg : z_Sg G h s ch hs9) (hc16 : c < 65536) : z_C l G yJ6_indexOf_2 3 0 0 [.ref s, .int (nI c), .int (nI 0)] h n (z_rn (.int (z_o (z_ix ch c))) h) := by
  refine z_start zk_J6_indexOf_2 zpl_RJ6 (Nat.le_of_ble_eq_true rfl) ?_
  intro hn0 M hl hG ho hb hN hr hm hH hrm hQ
  subst hl hG
  have ho : zm_o M = RJ6 := ho
  obtain ⟨e, hz9, hs1, hs2, hs3, hs4⟩ := id hSg
  show z_V M h n 0 0 0 [(0, .ref s), (1, .int (nI c)), (2, .int (nI 0))] []
  refine z_dom (fun hD0 => ?_)
  refine z_aload_n hb dJ6_indexOf_2_0 rfl ?_
  refine z_callN1 (b' := 0) (f' := 0) (rest := []) (av := [.ref s]) (z_siteV hb ho zc23 hs1 q844 q845 q846 ⟨_, _, _, _, zk_J6_isLatin1⟩ zy_J6_isLatin1 zl_J6_isLatin1 dJ6_indexOf_2_1 : z_Site M _ _ _ _ _ ([].reverse ++ .ref s :: []) [] _) zk_J6_isLatin1 q102 hrm (m_J6_isLatin1 hSg) (by omega) (by decide) (Nat.le_of_ble_eq_true rfl) (by omega) (by omega) (fun n_1 hn_1 => ?_)
  refine z_if_eqN (tgt := 23) hb dJ6_indexOf_2_4 (by decide) (by omega) (fun c_4 => ?_) (fun c_4 => ?_)
  · exact absurd c_4 (by omega)
  · refine z_aload_n hb dJ6_indexOf_2_7 rfl ?_
    refine z_get (k := 0) (C := RJ6) (T := TJ6) (N := 4) hb ho zc23 in_J6 (zf_RJ6_9 _) dJ6_indexOf_2_8 hs1 (by decide) rfl ?_
    refine z_iload_n hb dJ6_indexOf_2_11 rfl ?_
    refine z_iload_n hb dJ6_indexOf_2_12 rfl ?_
    refine z_aload_n hb dJ6_indexOf_2_13 rfl ?_
    refine z_callN1 (b' := 0) (f' := 0) (rest := [.int (nI 0), .int (nI c), .ref e]) (av := [.ref s]) (z_siteV hb ho zc23 hs1 q1419 q966 q967 ⟨_, _, _, _, zk_J6_length⟩ zy_J6_length zl_J6_length dJ6_indexOf_2_14 : z_Site M _ _ _ _ _ ([].reverse ++ .ref s :: [.int (nI 0), .int (nI c), .ref e]) [.int (nI 0), .int (nI c), .ref e] _) zk_J6_length q102 hrm (m_J6_length hSg) (by omega) (by decide) (Nat.le_of_ble_eq_true rfl) (by omega) (by omega) (fun n_2 hn_2 => ?_)
    refine z_callN1 (b' := 0) (f' := 0) (rest := []) (av := [.ref e, .int (nI c), .int (nI 0), .int (nI ch.length)]) (z_siteS hb ho q1420 q1421 q116 ⟨_, _, _, _, zk_J16_indexOf⟩ zy_J16_indexOf zl_J16_indexOf dJ6_indexOf_2_17 : z_Site M _ _ _ _ _ ([.ref e, .int (nI c), .int (nI 0), .int (nI ch.length)].reverse ++ []) [] _) zk_J16_indexOf q116 hrm (m_J16_indexOf hs2 (by omega) hc16) (by omega) (by decide) (Nat.le_of_ble_eq_true rfl) (by omega) (by omega) (fun n_3 hn_3 => ?_)
    refine z_goto (tgt := 36) hb dJ6_indexOf_2_20 (by decide) ?_
    refine z_iret hb hr dJ6_indexOf_2_36 ?_
    rw [hQ]
    exact ⟨rfl, rfl⟩

set_option maxHeartbeats 1000000 in
theorem m_J6_indexOf {l : Launch} {G : zG} {h : zH} {n : Nat} {s : Nat} {ch : List Nat} {hs9 : Int32} {c : Nat} (hSg : z_Sg G h s ch hs9) (hc16 : c < 65536) : z_C l G yJ6_indexOf 4 0 0 [.ref s, .int (nI c)] h n (z_rn (.int (z_o (z_ix ch c))) h) := by
  refine z_start zk_J6_indexOf zpl_RJ6 (Nat.le_of_ble_eq_true rfl) ?_
  intro hn0 M hl hG ho hb hN hr hm hH hrm hQ
  subst hl hG
  have ho : zm_o M = RJ6 := ho
  obtain ⟨e, hz9, hs1, hs2, hs3, hs4⟩ := id hSg
  show z_V M h n 0 0 0 [(0, .ref s), (1, .int (nI c))] []
  refine z_dom (fun hD0 => ?_)
  refine z_aload_n hb dJ6_indexOf_0 rfl ?_
  refine z_iload_n hb dJ6_indexOf_1 rfl ?_
  refine z_iconst (x := nI 0) hb dJ6_indexOf_2 (by decide) ?_
  refine z_callN1 (b' := 0) (f' := 0) (rest := []) (av := [.ref s, .int (nI c), .int (nI 0)]) (z_siteV hb ho zc23 hs1 q1415 q1416 q1417 ⟨_, _, _, _, zk_J6_indexOf_2⟩ zy_J6_indexOf_2 zl_J6_indexOf_2 dJ6_indexOf_3 : z_Site M _ _ _ _ _ ([.int (nI c), .int (nI 0)].reverse ++ .ref s :: []) [] _) zk_J6_indexOf_2 q102 hrm (m_J6_indexOf_2 hSg hc16) (by omega) (by decide) (Nat.le_of_ble_eq_true rfl) (by omega) (by omega) (fun n_1 hn_1 => ?_)
  refine z_iret hb hr dJ6_indexOf_6 ?_
  rw [hQ]
  exact ⟨rfl, rfl⟩

