/-- the digits of a, i of them -/
def z_dg (a : Nat) : Nat → List Int32
  | 0 => []
  | i + 1 => nI (48 + a / 10 ^ i % 10) :: z_dg a i
def tw_pw : Nat → Nat
  | 0 => 0
  | i + 1 => 10 ^ i
def z_lg : Nat → Nat → Nat
  | 0, _ => 0
  | f + 1, a => if a < 10 then 0 else z_lg f (a / 10) + 1
theorem z_lg_ok : ∀ {f a : Nat}, a < 10 ^ (f + 1) → (z_lg f a = 0 ∨ 10 ^ z_lg f a ≤ a) ∧ a < 10 ^ (z_lg f a + 1) ∧ z_lg f a ≤ f
  | 0, a, h => ⟨Or.inl rfl, h, Nat.le_refl _⟩
  | f + 1, a, h => by
    rw [z_lg]
    by_cases h1 : a < 10
    · rw [if_pos h1]; exact ⟨Or.inl rfl, h1, Nat.zero_le _⟩
    · rw [if_neg h1]
      have h2 : a / 10 < 10 ^ (f + 1) := by rw [Nat.pow_succ] at h; omega
      have ⟨q1, q2, q3⟩ := z_lg_ok h2
      refine ⟨Or.inr ?_, ?_, by omega⟩
      · rw [Nat.pow_succ]
        rcases q1 with q1 | q1
        · rw [q1]; omega
        · omega
      · rw [Nat.pow_succ]; omega
theorem z_dgA {a k K : Nat} (h : a / 10 ^ k ≤ 9) (hk : k ≤ K) (h1 : K = 0 ∨ 10 ^ K ≤ a) : k = K := by
  rcases Nat.lt_or_ge k K with q | q
  · exfalso
    have h2 : 10 ^ (k + 1) ≤ 10 ^ K := Nat.pow_le_pow_right (by omega) q
    have h3 : 10 ^ (k + 1) ≤ a := by omega
    rw [Nat.pow_succ, Nat.mul_comm] at h3
    have := (Nat.le_div_iff_mul_le (Nat.pow_pos (by omega : 0 < 10))).mpr h3
    omega
  · omega
theorem z_dgB {a k K : Nat} (h : 9 < a / 10 ^ k) (h2 : a < 10 ^ (K + 1)) : k + 1 ≤ K := by
  have h3 : 10 ≤ a / 10 ^ k := h
  have h4 := (Nat.le_div_iff_mul_le (Nat.pow_pos (by omega : 0 < 10))).mp h3
  rcases Nat.lt_or_ge k K with q | q
  · exact q
  · have h5 : 10 ^ (K + 1) ≤ 10 ^ (k + 1) := Nat.pow_le_pow_right (by omega) (by omega)
    rw [Nat.pow_succ 10 k] at h5
    omega
/-- the line with signs behind place L -/
def tw_wl (w : Nat → Int32) (L : Nat) : List Int32 → (Nat → Int32)
  | [] => w
  | c :: cs => tw_wl (va_up w L c) (L + 1) cs
theorem tw_wl_append (w : Nat → Int32) (L : Nat) : ∀ (A B : List Int32), tw_wl w L (A ++ B) = tw_wl (tw_wl w L A) (L + A.length) B := by
  intro A
  induction A generalizing w L with
  | nil => intro B; rfl
  | cons c A ih => intro B; rw [List.cons_append, tw_wl, tw_wl, ih, List.length_cons]; congr 1; omega
/-- a number's signs -/
def tw_chs (v : Int64) : List Int32 := if v < 0 then nI 45 :: z_dg v.toInt.natAbs (z_lg 12 v.toInt.natAbs + 1) else z_dg v.toInt.natAbs (z_lg 12 v.toInt.natAbs + 1)
theorem z_dg_len (a : Nat) : ∀ i, (z_dg a i).length = i
  | 0 => rfl
  | i + 1 => by rw [z_dg, List.length_cons, z_dg_len]
theorem tw_chs_len {v : Int64} (h : v.toInt.natAbs < 10 ^ 13) : (tw_chs v).length ≤ 14 := by
  have := (z_lg_ok (f := 12) h).2.2
  unfold tw_chs
  split
  · rw [List.length_cons, z_dg_len]; omega
  · rw [z_dg_len]; omega
theorem z_p13 {k : Nat} (h : k ≤ 13) : 10 ^ k ≤ 10 ^ 13 := Nat.pow_le_pow_right (by omega) h
theorem z_pne {k : Nat} (h : k ≤ 13) : ¬ lN (10 ^ k) = 0 := by
  have h1 := z_p13 h
  have h2 := Nat.pow_pos (n := k) (by omega : 0 < 10)
  intro e
  have := (pk_lEQ (b := 0) (by omega) (by omega)).mp e
  omega
theorem z_pw10 (i : Nat) : lN (10 ^ i) / 10 = lN (tw_pw i) ∨ 13 < i := by
  rcases Nat.lt_or_ge 13 i with q | q
  · exact Or.inr q
  · left
    have h1 := z_p13 q
    rw [show (10 : Int64) = lN 10 from rfl, pk_lDiv (by omega) (by omega) (by omega)]
    cases i with
    | zero => rfl
    | succ i => rw [tw_pw, Nat.pow_succ, Nat.mul_div_cancel _ (by omega)]

set_option maxHeartbeats 1000000 in
theorem m_X3_write {l : Launch} {G : zG} {h : zH} {n : Nat} {t : Nat} {w0 : Nat → Int32} {w1 : Nat → Int32} {w2 : Nat → Int32} {w3 : Nat → Int32} {w4 : Nat → Int32} {w5 : Nat → Int64} {w6 : Nat → Int64} {w7 : Nat → Int64} {w8 : Nat → Int64} {w9 : Nat → Int64} {w10 : Nat → Int64} {w11 : Nat → Int64} {w12 : Int32} {w13 : Int32} {w14 : Int32} {w15 : Int32} {w16 : Int32} {w17 : Int32} {w18 : Bool} {w19 : Nat → Int32} {w20 : Int32} {w21 : Nat → Int32} {w22 : Nat → Int32} {w23 : Nat → Int32} {w24 : Int32} {w25 : Int32} {w26 : Int32} {w27 : Int32} {w28 : Bool} {L : Nat} (c : Int32)  (ht : z_n0 G ≤ t) (hL : L < 120) : z_C l G yX3_write 1 0 0 [.ref t, .int c] (z_tw G t w0 w1 w2 w3 w4 w5 w6 w7 w8 w9 w10 w11 w12 w13 w14 w15 w16 w17 w18 w19 (nI L) w21 w22 w23 w24 w25 w26 w27 w28 h) n (z_r0 (z_tw G t w0 w1 w2 w3 w4 w5 w6 w7 w8 w9 w10 w11 w12 w13 w14 w15 w16 w17 w18 (va_up w19 L c) (nI (L + 1)) w21 w22 w23 w24 w25 w26 w27 w28 h) n) := by
  refine z_start zk_X3_write zpl_RX3 (Nat.le_of_ble_eq_true rfl) ?_
  intro hn0 M hl hG ho hb hN hr hm hH hrm hQ
  subst hl hG
  have ho : zm_o M = RX3 := ho
  show z_V M (z_tw (zm_G M) t w0 w1 w2 w3 w4 w5 w6 w7 w8 w9 w10 w11 w12 w13 w14 w15 w16 w17 w18 w19 (nI L) w21 w22 w23 w24 w25 w26 w27 w28 h) n 0 0 0 [(0, .ref t), (1, .int c)] []
  refine z_aload_n hb dX3_write_0 rfl ?_
  refine z_get (k := 19) (C := RX3) (T := TX3) (N := 29) hb ho zc2 in_X3 (zf_RX3_70 _) dX3_write_1 z_tw_o (by decide) rfl ?_
  refine z_aload_n hb dX3_write_4 rfl ?_
  refine z_get (k := 20) (C := RX3) (T := TX3) (N := 29) hb ho zc2 in_X3 (zf_RX3_73 _) dX3_write_5 z_tw_o (by decide) rfl ?_
  refine z_iload_n hb dX3_write_8 rfl ?_
  refine z_iast (j := L) hb dX3_write_9 z_tw_r19 (by omega) rfl (by omega) (by omega) ?_
  refine z_hh z_tw_u19 ?_
  refine z_aload_n hb dX3_write_10 rfl ?_
  refine z_dup hb dX3_write_11 rfl ?_
  refine z_get (k := 20) (C := RX3) (T := TX3) (N := 29) hb ho zc2 in_X3 (zf_RX3_73 _) dX3_write_12 z_tw_o (by decide) rfl ?_
  refine z_iconst (x := nI 1) hb dX3_write_15 (by decide) ?_
  refine z_iadd hb dX3_write_16 ?_
  refine z_toI (y := nI (L + 1)) (nI_add L 1) ?_
  refine z_put (k := 20) (C := RX3) (T := TX3) (N := 29) hb ho zc2 in_X3 tyX3_ok nmX3 (zf_RX3_73 _) dX3_write_17 z_tw_o ht (by decide) (Or.inl rfl) rfl rfl rfl (Nat.le_of_ble_eq_true rfl) ?_
  refine z_hh z_tw_u20 ?_
  refine z_vret hb hr dX3_write_20 ?_
  rw [hQ]
  exact ⟨rfl, rfl, rfl⟩

set_option maxHeartbeats 1000000 in
theorem m_X3_writeNumber_pos {l : Launch} {G : zG} {h : zH} {n : Nat} {t : Nat} {w0 : Nat → Int32} {w1 : Nat → Int32} {w2 : Nat → Int32} {w3 : Nat → Int32} {w4 : Nat → Int32} {w5 : Nat → Int64} {w6 : Nat → Int64} {w7 : Nat → Int64} {w8 : Nat → Int64} {w9 : Nat → Int64} {w10 : Nat → Int64} {w11 : Nat → Int64} {w12 : Int32} {w13 : Int32} {w14 : Int32} {w15 : Int32} {w16 : Int32} {w17 : Int32} {w18 : Bool} {w19 : Nat → Int32} {w20 : Int32} {w21 : Nat → Int32} {w22 : Nat → Int32} {w23 : Nat → Int32} {w24 : Int32} {w25 : Int32} {w26 : Int32} {w27 : Int32} {w28 : Bool} {L a K : Nat}  (ht : z_n0 G ≤ t) (hL : L + (K + 1) ≤ 120) (ha : a < 10 ^ 13) (hK1 : K = 0 ∨ 10 ^ K ≤ a) (hK2 : a < 10 ^ (K + 1)) (hK3 : K ≤ 12) (hneg : ¬ ¬ (0 : Int64) ≤ lN a) : z_C l G yX3_writeNumber 2 0 0 [.ref t, .long (lN a)] (z_tw G t w0 w1 w2 w3 w4 w5 w6 w7 w8 w9 w10 w11 w12 w13 w14 w15 w16 w17 w18 w19 (nI L) w21 w22 w23 w24 w25 w26 w27 w28 h) n (z_r0 (z_tw G t w0 w1 w2 w3 w4 w5 w6 w7 w8 w9 w10 w11 w12 w13 w14 w15 w16 w17 w18 (tw_wl w19 L (z_dg a (K + 1))) (nI (L + (K + 1))) w21 w22 w23 w24 w25 w26 w27 w28 h) n) := by
  refine z_start zk_X3_writeNumber zpl_RX3 (Nat.le_of_ble_eq_true rfl) ?_
  intro hn0 M hl hG ho hb hN hr hm hH hrm hQ
  subst hl hG
  have ho : zm_o M = RX3 := ho
  show z_V M (z_tw (zm_G M) t w0 w1 w2 w3 w4 w5 w6 w7 w8 w9 w10 w11 w12 w13 w14 w15 w16 w17 w18 w19 (nI L) w21 w22 w23 w24 w25 w26 w27 w28 h) n 0 0 0 [(0, .ref t), (1, .long (lN a))] []
  refine z_lload_n hb dX3_writeNumber_0 rfl ?_
  refine z_lconst (x := 0) hb dX3_writeNumber_1 rfl ?_
  refine z_lif_ge (tgt := 11) hb dX3_writeNumber_2 dX3_writeNumber_3 (by decide) (fun c_3 => ?_) (fun c_3 => ?_)
  · refine z_lload_n hb dX3_writeNumber_11 rfl ?_
    refine z_lstore_n (lv' := [(3, .long (lN a)), (0, .ref t), (1, .long (lN a))]) hb dX3_writeNumber_12 (by rw [hN]; decide) rfl ?_
    refine z_lconst (x := 1) hb dX3_writeNumber_13 rfl ?_
    refine z_lstore (lv' := [(5, .long 1), (3, .long (lN a)), (0, .ref t), (1, .long (lN a))]) hb dX3_writeNumber_14 (by rw [hN]; decide) rfl ?_
    refine z_lload_n hb dX3_writeNumber_16 rfl ?_
    refine z_lconst (x := 0) hb dX3_writeNumber_17 rfl ?_
    refine z_lif_ge (tgt := 28) hb dX3_writeNumber_18 dX3_writeNumber_19 (by decide) (fun c_19 => ?_) (fun c_19 => ?_)
    · have lp_28 : ∀ (k9_28 : Nat) (k : Nat), K + 1 - k < k9_28 → (k ≤ K) → z_V M (z_tw (zm_G M) t w0 w1 w2 w3 w4 w5 w6 w7 w8 w9 w10 w11 w12 w13 w14 w15 w16 w17 w18 w19 (nI L) w21 w22 w23 w24 w25 w26 w27 w28 h) n 0 0 28 [(5, .long (lN (10 ^ k))), (3, .long (lN a)), (0, .ref t), (1, .long (lN a))] [] := by
        intro k9_28
        induction k9_28 with
        | zero => intro k hk9_28; exact absurd hk9_28 (Nat.not_lt_zero _)
        | succ k9_28 ih_28 =>
          intro k hk9_28 hk
          have h10 := z_p13 (k := k) (by omega)
          have hp1 := Nat.pow_pos (n := k) (by omega : 0 < 10)
          have hdl := Nat.div_le_self a (10 ^ k)
          refine z_lload_n hb dX3_writeNumber_28 rfl ?_
          refine z_lload hb dX3_writeNumber_29 rfl ?_
          refine z_ldiv hb dX3_writeNumber_31 (z_pne (by omega)) ?_
          refine z_toL (y := lN (a / 10 ^ k)) (pk_lDiv (by omega) hp1 (by omega)) ?_
          refine z_ldc2 hb ho q3175 dX3_writeNumber_32 ?_
          refine z_lif_le (tgt := 50) hb dX3_writeNumber_35 dX3_writeNumber_36 (by decide) (fun c_36 => ?_) (fun c_36 => ?_)
          · have lp_50 : ∀ (k9_50 : Nat) (i : Nat) (w : Nat → Int32) (L2 : Nat), i < k9_50 → (i ≤ K + 1) → (tw_wl w L2 (z_dg a i) = tw_wl w19 L (z_dg a (K + 1))) → (L2 + i = L + (K + 1)) → z_V M (z_tw (zm_G M) t w0 w1 w2 w3 w4 w5 w6 w7 w8 w9 w10 w11 w12 w13 w14 w15 w16 w17 w18 w (nI L2) w21 w22 w23 w24 w25 w26 w27 w28 h) n 0 0 50 [(5, .long (lN (tw_pw i))), (3, .long (lN a)), (0, .ref t), (1, .long (lN a))] [] := by
              intro k9_50
              induction k9_50 with
              | zero => intro i w L2 hk9_50; exact absurd hk9_50 (Nat.not_lt_zero _)
              | succ k9_50 ih_50 =>
                intro i w L2 hk9_50 hi hw9 hL2
                refine z_lload hb dX3_writeNumber_50 rfl ?_
                refine z_lconst (x := 0) hb dX3_writeNumber_52 rfl ?_
                refine z_lif_le (tgt := 84) hb dX3_writeNumber_53 dX3_writeNumber_54 (by decide) (fun c_54 => ?_) (fun c_54 => ?_)
                · refine z_vret hb hr dX3_writeNumber_84 ?_
                  rw [hQ]
                  obtain rfl : i = 0 := by
                    cases i with
                    | zero => rfl
                    | succ i2 => exact absurd ((pk_lLE (b := 0) (by have := z_p13 (k := i2) (by omega); show 10 ^ i2 < 2 ^ 63; omega) (by omega)).mp c_54) (by have := Nat.pow_pos (n := i2) (by omega : 0 < 10); show ¬ 10 ^ i2 ≤ 0; omega)
                  rw [← hw9, ← hL2]
                  exact ⟨rfl, rfl, rfl⟩
                · obtain ⟨i2, rfl⟩ : ∃ i2, i = i2 + 1 := by
                    cases i with
                    | zero => exact absurd (by decide) c_54
                    | succ i2 => exact ⟨i2, rfl⟩
                  have hi2 : i2 ≤ 12 := by omega
                  have h10 := z_p13 (k := i2) (by omega)
                  have hp2 := Nat.pow_pos (n := i2) (by omega : 0 < 10)
                  show z_V _ (z_tw (zm_G M) t w0 w1 w2 w3 w4 w5 w6 w7 w8 w9 w10 w11 w12 w13 w14 w15 w16 w17 w18 w (nI L2) w21 w22 w23 w24 w25 w26 w27 w28 h) _ _ _ _ [(5, .long (lN (10 ^ i2))), (3, .long (lN a)), (0, .ref t), (1, .long (lN a))] _
                  refine z_aload_n hb dX3_writeNumber_57 rfl ?_
                  refine z_bipush (x := nI 48) hb dX3_writeNumber_58 (by decide) ?_
                  refine z_lload_n hb dX3_writeNumber_60 rfl ?_
                  refine z_lload hb dX3_writeNumber_61 rfl ?_
                  refine z_ldiv hb dX3_writeNumber_63 (z_pne (by omega)) ?_
                  refine z_toL (y := lN (a / 10 ^ i2)) (pk_lDiv (by omega) hp2 (by omega)) ?_
                  refine z_ldc2 hb ho q3176 dX3_writeNumber_64 ?_
                  refine z_lrem hb dX3_writeNumber_67 (by decide) ?_
                  refine z_toL (y := lN (a / 10 ^ i2 % 10)) (pk_lRem (b := 10) (by have := Nat.div_le_self a (10 ^ i2); omega) (by omega) (by omega)) ?_
                  refine z_l2i (v := (lN (a / 10 ^ i2 % 10)).toInt32) hb dX3_writeNumber_68 rfl ?_
                  refine z_toI (y := nI (a / 10 ^ i2 % 10)) (lN_i _) ?_
                  refine z_iadd hb dX3_writeNumber_69 ?_
                  refine z_toI (y := nI (48 + (a / 10 ^ i2 % 10))) (nI_add 48 (a / 10 ^ i2 % 10)) ?_
                  refine z_call0 (b' := 0) (f' := 0) (rest := []) (av := [.ref t, .int (nI (48 + (a / 10 ^ i2 % 10)))]) (z_siteV hb ho zc2 z_tw_o q3171 q3173 qs79 ⟨_, _, _, _, zk_X3_write⟩ zy_X3_write zl_X3_write dX3_writeNumber_70 : z_Site M _ _ _ _ _ ([.int (nI (48 + (a / 10 ^ i2 % 10)))].reverse ++ .ref t :: []) [] _) zk_X3_write q104 hrm (m_X3_write (w20 := 0) (L := L2) (nI (48 + (a / 10 ^ i2 % 10))) ht (by omega)) (by omega) (by decide) (Nat.le_of_ble_eq_true rfl) (by omega) (by omega) ?_
                  refine z_lload hb dX3_writeNumber_73 rfl ?_
                  refine z_ldc2 hb ho q3176 dX3_writeNumber_75 ?_
                  refine z_ldiv hb dX3_writeNumber_78 (by decide) ?_
                  refine z_toL (y := lN (tw_pw i2)) ((z_pw10 i2).resolve_right (by omega)) ?_
                  refine z_lstore (lv' := [(5, .long (lN (tw_pw i2))), (3, .long (lN a)), (0, .ref t), (1, .long (lN a))]) hb dX3_writeNumber_79 (by rw [hN]; decide) rfl ?_
                  refine z_goto (tgt := 50) hb dX3_writeNumber_81 (by decide) ?_
                  refine z_lv [0, 1, 2, 3] (lv' := [(5, .long (lN (tw_pw i2))), (3, .long (lN a)), (0, .ref t), (1, .long (lN a))]) rfl ?_
                  exact ih_50 i2 _ _ (by omega) (by omega) (by rw [← hw9]; rfl) (by omega)
            have hkK : k = K := z_dgA ((pk_lLE (b := 9) (by omega) (by omega)).mp c_36) hk hK1
            subst hkK
            show z_V _ (z_tw (zm_G M) t w0 w1 w2 w3 w4 w5 w6 w7 w8 w9 w10 w11 w12 w13 w14 w15 w16 w17 w18 w19 (nI L) w21 w22 w23 w24 w25 w26 w27 w28 h) _ _ _ _ [(5, .long (lN (tw_pw (k + 1)))), (3, .long (lN a)), (0, .ref t), (1, .long (lN a))] _
            refine z_lv [0, 1, 2, 3] (lv' := [(5, .long (lN (tw_pw (k + 1)))), (3, .long (lN a)), (0, .ref t), (1, .long (lN a))]) rfl ?_
            exact lp_50 _ (k + 1) _ _ (Nat.lt_succ_self _) (Nat.le_refl _) rfl (by omega)
          · refine z_lload hb dX3_writeNumber_39 rfl ?_
            refine z_ldc2 hb ho q3176 dX3_writeNumber_41 ?_
            refine z_lmul hb dX3_writeNumber_44 ?_
            refine z_toL (y := lN (10 ^ (k + 1))) ((lN_mul _ 10).trans (by rw [Nat.pow_succ])) ?_
            refine z_lstore (lv' := [(5, .long (lN (10 ^ (k + 1)))), (3, .long (lN a)), (0, .ref t), (1, .long (lN a))]) hb dX3_writeNumber_45 (by rw [hN]; decide) rfl ?_
            refine z_goto (tgt := 28) hb dX3_writeNumber_47 (by decide) ?_
            refine z_lv [0, 1, 2, 3] (lv' := [(5, .long (lN (10 ^ (k + 1)))), (3, .long (lN a)), (0, .ref t), (1, .long (lN a))]) rfl ?_
            exact ih_28 (k + 1) (by omega) (z_dgB ((pk_lLT (a := 9) (by omega) (by omega)).mp (Int64.not_le.mp c_36)) hK2)
      refine z_lv [0, 1, 2, 3] (lv' := [(5, .long 1), (3, .long (lN a)), (0, .ref t), (1, .long (lN a))]) rfl ?_
      exact lp_28 _ 0 (Nat.lt_succ_self _) (Nat.zero_le _)
    · exact absurd c_19 hneg
  · exact absurd c_3 hneg

set_option maxHeartbeats 1000000 in
theorem m_X3_writeNumber_neg {l : Launch} {G : zG} {h : zH} {n : Nat} {t : Nat} {w0 : Nat → Int32} {w1 : Nat → Int32} {w2 : Nat → Int32} {w3 : Nat → Int32} {w4 : Nat → Int32} {w5 : Nat → Int64} {w6 : Nat → Int64} {w7 : Nat → Int64} {w8 : Nat → Int64} {w9 : Nat → Int64} {w10 : Nat → Int64} {w11 : Nat → Int64} {w12 : Int32} {w13 : Int32} {w14 : Int32} {w15 : Int32} {w16 : Int32} {w17 : Int32} {w18 : Bool} {w19 : Nat → Int32} {w20 : Int32} {w21 : Nat → Int32} {w22 : Nat → Int32} {w23 : Nat → Int32} {w24 : Int32} {w25 : Int32} {w26 : Int32} {w27 : Int32} {w28 : Bool} {L a K : Nat}  (ht : z_n0 G ≤ t) (hL : L + 1 + (K + 1) ≤ 120) (ha : a < 10 ^ 13) (hK1 : K = 0 ∨ 10 ^ K ≤ a) (hK2 : a < 10 ^ (K + 1)) (hK3 : K ≤ 12) (hneg : ¬ (0 : Int64) ≤ -lN a) : z_C l G yX3_writeNumber 2 0 0 [.ref t, .long (-lN a)] (z_tw G t w0 w1 w2 w3 w4 w5 w6 w7 w8 w9 w10 w11 w12 w13 w14 w15 w16 w17 w18 w19 (nI L) w21 w22 w23 w24 w25 w26 w27 w28 h) n (z_r0 (z_tw G t w0 w1 w2 w3 w4 w5 w6 w7 w8 w9 w10 w11 w12 w13 w14 w15 w16 w17 w18 (tw_wl w19 L (nI 45 :: z_dg a (K + 1))) (nI (L + 1 + (K + 1))) w21 w22 w23 w24 w25 w26 w27 w28 h) n) := by
  refine z_start zk_X3_writeNumber zpl_RX3 (Nat.le_of_ble_eq_true rfl) ?_
  intro hn0 M hl hG ho hb hN hr hm hH hrm hQ
  subst hl hG
  have ho : zm_o M = RX3 := ho
  show z_V M (z_tw (zm_G M) t w0 w1 w2 w3 w4 w5 w6 w7 w8 w9 w10 w11 w12 w13 w14 w15 w16 w17 w18 w19 (nI L) w21 w22 w23 w24 w25 w26 w27 w28 h) n 0 0 0 [(0, .ref t), (1, .long (-lN a))] []
  refine z_lload_n hb dX3_writeNumber_0 rfl ?_
  refine z_lconst (x := 0) hb dX3_writeNumber_1 rfl ?_
  refine z_lif_ge (tgt := 11) hb dX3_writeNumber_2 dX3_writeNumber_3 (by decide) (fun c_3 => ?_) (fun c_3 => ?_)
  · exact absurd c_3 hneg
  · refine z_lload_n hb dX3_writeNumber_6 rfl ?_
    refine z_lneg hb dX3_writeNumber_7 ?_
    refine z_toL (y := lN a) (Int64.neg_neg) ?_
    refine z_goto (tgt := 12) hb dX3_writeNumber_8 (by decide) ?_
    refine z_lstore_n (lv' := [(3, .long (lN a)), (0, .ref t), (1, .long (-lN a))]) hb dX3_writeNumber_12 (by rw [hN]; decide) rfl ?_
    refine z_lconst (x := 1) hb dX3_writeNumber_13 rfl ?_
    refine z_lstore (lv' := [(5, .long 1), (3, .long (lN a)), (0, .ref t), (1, .long (-lN a))]) hb dX3_writeNumber_14 (by rw [hN]; decide) rfl ?_
    refine z_lload_n hb dX3_writeNumber_16 rfl ?_
    refine z_lconst (x := 0) hb dX3_writeNumber_17 rfl ?_
    refine z_lif_ge (tgt := 28) hb dX3_writeNumber_18 dX3_writeNumber_19 (by decide) (fun c_19 => ?_) (fun c_19 => ?_)
    · exact absurd c_19 hneg
    · refine z_aload_n hb dX3_writeNumber_22 rfl ?_
      refine z_bipush (x := nI 45) hb dX3_writeNumber_23 (by decide) ?_
      refine z_call0 (b' := 0) (f' := 0) (rest := []) (av := [.ref t, .int (nI 45)]) (z_siteV hb ho zc2 z_tw_o q3171 q3173 qs79 ⟨_, _, _, _, zk_X3_write⟩ zy_X3_write zl_X3_write dX3_writeNumber_25 : z_Site M _ _ _ _ _ ([.int (nI 45)].reverse ++ .ref t :: []) [] _) zk_X3_write q104 hrm (m_X3_write (w20 := 0) (L := L) (nI 45) ht (by omega)) (by omega) (by decide) (Nat.le_of_ble_eq_true rfl) (by omega) (by omega) ?_
      have lp_28 : ∀ (k9_28 : Nat) (k : Nat), K + 1 - k < k9_28 → (k ≤ K) → z_V M (z_tw (zm_G M) t w0 w1 w2 w3 w4 w5 w6 w7 w8 w9 w10 w11 w12 w13 w14 w15 w16 w17 w18 (va_up w19 L (nI 45)) (nI (L + 1)) w21 w22 w23 w24 w25 w26 w27 w28 h) n 0 0 28 [(5, .long (lN (10 ^ k))), (3, .long (lN a)), (0, .ref t), (1, .long (-lN a))] [] := by
        intro k9_28
        induction k9_28 with
        | zero => intro k hk9_28; exact absurd hk9_28 (Nat.not_lt_zero _)
        | succ k9_28 ih_28 =>
          intro k hk9_28 hk
          have h10 := z_p13 (k := k) (by omega)
          have hp1 := Nat.pow_pos (n := k) (by omega : 0 < 10)
          have hdl := Nat.div_le_self a (10 ^ k)
          refine z_lload_n hb dX3_writeNumber_28 rfl ?_
          refine z_lload hb dX3_writeNumber_29 rfl ?_
          refine z_ldiv hb dX3_writeNumber_31 (z_pne (by omega)) ?_
          refine z_toL (y := lN (a / 10 ^ k)) (pk_lDiv (by omega) hp1 (by omega)) ?_
          refine z_ldc2 hb ho q3175 dX3_writeNumber_32 ?_
          refine z_lif_le (tgt := 50) hb dX3_writeNumber_35 dX3_writeNumber_36 (by decide) (fun c_36 => ?_) (fun c_36 => ?_)
          · have lp_50 : ∀ (k9_50 : Nat) (i : Nat) (w : Nat → Int32) (L2 : Nat), i < k9_50 → (i ≤ K + 1) → (tw_wl w L2 (z_dg a i) = tw_wl w19 L (nI 45 :: z_dg a (K + 1))) → (L2 + i = L + 1 + (K + 1)) → z_V M (z_tw (zm_G M) t w0 w1 w2 w3 w4 w5 w6 w7 w8 w9 w10 w11 w12 w13 w14 w15 w16 w17 w18 w (nI L2) w21 w22 w23 w24 w25 w26 w27 w28 h) n 0 0 50 [(5, .long (lN (tw_pw i))), (3, .long (lN a)), (0, .ref t), (1, .long (-lN a))] [] := by
              intro k9_50
              induction k9_50 with
              | zero => intro i w L2 hk9_50; exact absurd hk9_50 (Nat.not_lt_zero _)
              | succ k9_50 ih_50 =>
                intro i w L2 hk9_50 hi hw9 hL2
                refine z_lload hb dX3_writeNumber_50 rfl ?_
                refine z_lconst (x := 0) hb dX3_writeNumber_52 rfl ?_
                refine z_lif_le (tgt := 84) hb dX3_writeNumber_53 dX3_writeNumber_54 (by decide) (fun c_54 => ?_) (fun c_54 => ?_)
                · refine z_vret hb hr dX3_writeNumber_84 ?_
                  rw [hQ]
                  obtain rfl : i = 0 := by
                    cases i with
                    | zero => rfl
                    | succ i2 => exact absurd ((pk_lLE (b := 0) (by have := z_p13 (k := i2) (by omega); show 10 ^ i2 < 2 ^ 63; omega) (by omega)).mp c_54) (by have := Nat.pow_pos (n := i2) (by omega : 0 < 10); show ¬ 10 ^ i2 ≤ 0; omega)
                  rw [← hw9, ← hL2]
                  exact ⟨rfl, rfl, rfl⟩
                · obtain ⟨i2, rfl⟩ : ∃ i2, i = i2 + 1 := by
                    cases i with
                    | zero => exact absurd (by decide) c_54
                    | succ i2 => exact ⟨i2, rfl⟩
                  have hi2 : i2 ≤ 12 := by omega
                  have h10 := z_p13 (k := i2) (by omega)
                  have hp2 := Nat.pow_pos (n := i2) (by omega : 0 < 10)
                  show z_V _ (z_tw (zm_G M) t w0 w1 w2 w3 w4 w5 w6 w7 w8 w9 w10 w11 w12 w13 w14 w15 w16 w17 w18 w (nI L2) w21 w22 w23 w24 w25 w26 w27 w28 h) _ _ _ _ [(5, .long (lN (10 ^ i2))), (3, .long (lN a)), (0, .ref t), (1, .long (-lN a))] _
                  refine z_aload_n hb dX3_writeNumber_57 rfl ?_
                  refine z_bipush (x := nI 48) hb dX3_writeNumber_58 (by decide) ?_
                  refine z_lload_n hb dX3_writeNumber_60 rfl ?_
                  refine z_lload hb dX3_writeNumber_61 rfl ?_
                  refine z_ldiv hb dX3_writeNumber_63 (z_pne (by omega)) ?_
                  refine z_toL (y := lN (a / 10 ^ i2)) (pk_lDiv (by omega) hp2 (by omega)) ?_
                  refine z_ldc2 hb ho q3176 dX3_writeNumber_64 ?_
                  refine z_lrem hb dX3_writeNumber_67 (by decide) ?_
                  refine z_toL (y := lN (a / 10 ^ i2 % 10)) (pk_lRem (b := 10) (by have := Nat.div_le_self a (10 ^ i2); omega) (by omega) (by omega)) ?_
                  refine z_l2i (v := (lN (a / 10 ^ i2 % 10)).toInt32) hb dX3_writeNumber_68 rfl ?_
                  refine z_toI (y := nI (a / 10 ^ i2 % 10)) (lN_i _) ?_
                  refine z_iadd hb dX3_writeNumber_69 ?_
                  refine z_toI (y := nI (48 + (a / 10 ^ i2 % 10))) (nI_add 48 (a / 10 ^ i2 % 10)) ?_
                  refine z_call0 (b' := 0) (f' := 0) (rest := []) (av := [.ref t, .int (nI (48 + (a / 10 ^ i2 % 10)))]) (z_siteV hb ho zc2 z_tw_o q3171 q3173 qs79 ⟨_, _, _, _, zk_X3_write⟩ zy_X3_write zl_X3_write dX3_writeNumber_70 : z_Site M _ _ _ _ _ ([.int (nI (48 + (a / 10 ^ i2 % 10)))].reverse ++ .ref t :: []) [] _) zk_X3_write q104 hrm (m_X3_write (w20 := 0) (L := L2) (nI (48 + (a / 10 ^ i2 % 10))) ht (by omega)) (by omega) (by decide) (Nat.le_of_ble_eq_true rfl) (by omega) (by omega) ?_
                  refine z_lload hb dX3_writeNumber_73 rfl ?_
                  refine z_ldc2 hb ho q3176 dX3_writeNumber_75 ?_
                  refine z_ldiv hb dX3_writeNumber_78 (by decide) ?_
                  refine z_toL (y := lN (tw_pw i2)) ((z_pw10 i2).resolve_right (by omega)) ?_
                  refine z_lstore (lv' := [(5, .long (lN (tw_pw i2))), (3, .long (lN a)), (0, .ref t), (1, .long (-lN a))]) hb dX3_writeNumber_79 (by rw [hN]; decide) rfl ?_
                  refine z_goto (tgt := 50) hb dX3_writeNumber_81 (by decide) ?_
                  refine z_lv [0, 1, 2, 3] (lv' := [(5, .long (lN (tw_pw i2))), (3, .long (lN a)), (0, .ref t), (1, .long (-lN a))]) rfl ?_
                  exact ih_50 i2 _ _ (by omega) (by omega) (by rw [← hw9]; rfl) (by omega)
            have hkK : k = K := z_dgA ((pk_lLE (b := 9) (by omega) (by omega)).mp c_36) hk hK1
            subst hkK
            show z_V _ (z_tw (zm_G M) t w0 w1 w2 w3 w4 w5 w6 w7 w8 w9 w10 w11 w12 w13 w14 w15 w16 w17 w18 (va_up w19 L (nI 45)) (nI (L + 1)) w21 w22 w23 w24 w25 w26 w27 w28 h) _ _ _ _ [(5, .long (lN (tw_pw (k + 1)))), (3, .long (lN a)), (0, .ref t), (1, .long (-lN a))] _
            refine z_lv [0, 1, 2, 3] (lv' := [(5, .long (lN (tw_pw (k + 1)))), (3, .long (lN a)), (0, .ref t), (1, .long (-lN a))]) rfl ?_
            exact lp_50 _ (k + 1) _ _ (Nat.lt_succ_self _) (Nat.le_refl _) rfl (by omega)
          · refine z_lload hb dX3_writeNumber_39 rfl ?_
            refine z_ldc2 hb ho q3176 dX3_writeNumber_41 ?_
            refine z_lmul hb dX3_writeNumber_44 ?_
            refine z_toL (y := lN (10 ^ (k + 1))) ((lN_mul _ 10).trans (by rw [Nat.pow_succ])) ?_
            refine z_lstore (lv' := [(5, .long (lN (10 ^ (k + 1)))), (3, .long (lN a)), (0, .ref t), (1, .long (-lN a))]) hb dX3_writeNumber_45 (by rw [hN]; decide) rfl ?_
            refine z_goto (tgt := 28) hb dX3_writeNumber_47 (by decide) ?_
            refine z_lv [0, 1, 2, 3] (lv' := [(5, .long (lN (10 ^ (k + 1)))), (3, .long (lN a)), (0, .ref t), (1, .long (-lN a))]) rfl ?_
            exact ih_28 (k + 1) (by omega) (z_dgB ((pk_lLT (a := 9) (by omega) (by omega)).mp (Int64.not_le.mp c_36)) hK2)
      refine z_lv [0, 1, 2, 3] (lv' := [(5, .long 1), (3, .long (lN a)), (0, .ref t), (1, .long (-lN a))]) rfl ?_
      exact lp_28 _ 0 (Nat.lt_succ_self _) (Nat.zero_le _)

theorem m_X3_writeNumber {l : Launch} {G : zG} {h : zH} {n : Nat} {t : Nat} {w0 : Nat → Int32} {w1 : Nat → Int32} {w2 : Nat → Int32} {w3 : Nat → Int32} {w4 : Nat → Int32} {w5 : Nat → Int64} {w6 : Nat → Int64} {w7 : Nat → Int64} {w8 : Nat → Int64} {w9 : Nat → Int64} {w10 : Nat → Int64} {w11 : Nat → Int64} {w12 : Int32} {w13 : Int32} {w14 : Int32} {w15 : Int32} {w16 : Int32} {w17 : Int32} {w18 : Bool} {w19 : Nat → Int32} {w20 : Int32} {w21 : Nat → Int32} {w22 : Nat → Int32} {w23 : Nat → Int32} {w24 : Int32} {w25 : Int32} {w26 : Int32} {w27 : Int32} {w28 : Bool} {L : Nat} (v : Int64) (ht : z_n0 G ≤ t) (hv : v.toInt.natAbs < 10 ^ 13) (hL : L + (tw_chs v).length ≤ 120) : z_C l G yX3_writeNumber 2 0 0 [.ref t, .long v] (z_tw G t w0 w1 w2 w3 w4 w5 w6 w7 w8 w9 w10 w11 w12 w13 w14 w15 w16 w17 w18 w19 (nI L) w21 w22 w23 w24 w25 w26 w27 w28 h) n (z_r0 (z_tw G t w0 w1 w2 w3 w4 w5 w6 w7 w8 w9 w10 w11 w12 w13 w14 w15 w16 w17 w18 (tw_wl w19 L (tw_chs v)) (nI (L + (tw_chs v).length)) w21 w22 w23 w24 w25 w26 w27 w28 h) n) := by
  have ⟨q1, q2, q3⟩ := z_lg_ok (f := 12) hv
  by_cases hneg : v < 0
  · have e : v = -lN v.toInt.natAbs := by
      apply Int64.toInt_inj.mp
      rw [Int64.lt_iff_toInt_lt, Int64.toInt_zero] at hneg
      rw [Int64.toInt_neg, pk_lT (by omega), Int.bmod_eq_of_le (by omega) (by omega)]
      omega
    unfold tw_chs at hL ⊢
    rw [if_pos hneg] at hL ⊢
    rw [List.length_cons, z_dg_len] at hL ⊢
    have := m_X3_writeNumber_neg (l := l) (G := G) (h := h) (n := n) (w0 := w0) (w1 := w1) (w2 := w2) (w3 := w3) (w4 := w4) (w5 := w5) (w6 := w6) (w7 := w7) (w8 := w8) (w9 := w9) (w10 := w10) (w11 := w11) (w12 := w12) (w13 := w13) (w14 := w14) (w15 := w15) (w16 := w16) (w17 := w17) (w18 := w18) (w19 := w19) (w20 := 0) (w21 := w21) (w22 := w22) (w23 := w23) (w24 := w24) (w25 := w25) (w26 := w26) (w27 := w27) (w28 := w28) (L := L) ht (by omega) hv q1 q2 q3 (by rw [← e]; exact Int64.not_le.mpr hneg)
    rw [← e, show L + 1 + (z_lg 12 v.toInt.natAbs + 1) = L + (z_lg 12 v.toInt.natAbs + 1 + 1) by omega] at this
    exact this
  · have e : v = lN v.toInt.natAbs := by
      apply Int64.toInt_inj.mp
      rw [pk_lT (by omega)]
      rw [Int64.lt_iff_toInt_lt, Int64.toInt_zero] at hneg; omega
    unfold tw_chs at hL ⊢
    rw [if_neg hneg] at hL ⊢
    rw [z_dg_len] at hL ⊢
    have := m_X3_writeNumber_pos (l := l) (G := G) (h := h) (n := n) (w0 := w0) (w1 := w1) (w2 := w2) (w3 := w3) (w4 := w4) (w5 := w5) (w6 := w6) (w7 := w7) (w8 := w8) (w9 := w9) (w10 := w10) (w11 := w11) (w12 := w12) (w13 := w13) (w14 := w14) (w15 := w15) (w16 := w16) (w17 := w17) (w18 := w18) (w19 := w19) (w20 := 0) (w21 := w21) (w22 := w22) (w23 := w23) (w24 := w24) (w25 := w25) (w26 := w26) (w27 := w27) (w28 := w28) (L := L) ht (by omega) hv q1 q2 q3 (by rw [← e]; intro q; exact q (Int64.not_lt.mp hneg))
    rw [← e] at this
    exact this

