theorem z_b_or (a c : Bool) : z_b a ||| z_b c = z_b (a || c) := by cases a <;> cases c <;> decide
theorem z_up_self {h : zH} {a : Nat} {e : va_E} (ha : h a = some e) : z_up h a e = h := by
  funext x
  by_cases hx : x = a
  · rw [hx, z_up_s, ha]
  · rw [z_up_n hx]
theorem z_up_up {h : zH} {a : Nat} {e e' : va_E} : z_up (z_up h a e) a e' = z_up h a e' := by
  funext x
  by_cases hx : x = a
  · rw [hx, z_up_s, z_up_s]
  · rw [z_up_n hx, z_up_n hx, z_up_n hx]
theorem z_cpy0 {α : Type} (f g : Nat → α) (sp dp : Nat) : va_cpy f g sp dp 0 = g := by
  funext k
  exact if_neg (by omega)
theorem z_cpyS {α : Type} (f g : Nat → α) (sp dp k : Nat) : va_up (va_cpy f g sp dp k) (dp + k) (f (sp + k)) = va_cpy f g sp dp (k + 1) := by
  funext j
  by_cases hj : j = dp + k
  · subst hj
    simp [va_up, va_cpy]
  · simp only [va_up, va_cpy, if_neg hj]
    by_cases h1 : dp ≤ j ∧ j < dp + k
    · rw [if_pos h1, if_pos (by omega)]
    · rw [if_neg h1, if_neg (by omega)]
/-- the twin's numbers, as its methods see them -/
def tw_f (w0 : Nat → Int32) (k : Nat) : Nat := (w0 (176 + 4 * k + 2)).toNatClampNeg
def tw_s (w0 : Nat → Int32) (k : Nat) : Nat := (w0 (176 + 4 * k + 3)).toNatClampNeg
/-- R rows, S steps, today D; the inputs are steps -/
def z_ok (w0 : Nat → Int32) (R S D : Nat) : Prop := w0 1 = nI R ∧ R ≤ 40 ∧ w0 3 = nI S ∧ S ≤ 8 ∧ w0 0 = nI D ∧ D ≤ 6 ∧ ∀ k, k < S → w0 (176 + 4 * k + 2) = nI (tw_f w0 k) ∧ tw_f w0 k < 8 ∧ w0 (176 + 4 * k + 3) = nI (tw_s w0 k) ∧ tw_s w0 k < 8
def tw_rowF (w0 : Nat → Int32) (x : Int32) (k : Nat) : Nat → Option Nat
  | 0 => none
  | d + 1 => if w0 (16 + 4 * k) = x then some k else tw_rowF w0 x (k + 1) d
def z_o (o : Option Nat) : Int32 := match o with
  | none => -1
  | some k => nI k
def tw_row (w0 : Nat → Int32) (R : Nat) (x : Int32) : Option Nat := tw_rowF w0 x 0 R
def tw_st (w0 : Nat → Int32) (k d : Nat) : Bool := decide (w0 (208 + 7 * k + d) = nI 1)
def tw_base (w0 : Nat → Int32) (k : Nat) : Bool := decide (w0 (176 + 4 * k) = nI 115) || (decide (w0 (176 + 4 * k) = nI 110) || decide (w0 (176 + 4 * k) = nI 120))
def tw_cnt (w0 : Nat → Int32) (p k : Nat) (d g : Int32) : Bool := decide (w0 (16 + 4 * p + 1) = d) && (decide (w0 (16 + 4 * p + 2) = g) && decide (w0 (176 + 4 * k + 1) ≤ w0 (16 + 4 * p + 3)))

set_option maxHeartbeats 1000000 in
theorem m_X3_thrown {l : Launch} {G : zG} {h : zH} {n : Nat} {t : Nat} {w0 : Nat → Int32} {w1 : Nat → Int32} {w2 : Nat → Int32} {w3 : Nat → Int32} {w4 : Nat → Int32} {w5 : Nat → Int64} {w6 : Nat → Int64} {w7 : Nat → Int64} {w8 : Nat → Int64} {w9 : Nat → Int64} {w10 : Nat → Int64} {w11 : Nat → Int64} {w12 : Int32} {w13 : Int32} {w14 : Int32} {w15 : Int32} {w16 : Int32} {w17 : Int32} {w18 : Bool} {w19 : Nat → Int32} {w20 : Int32} {w21 : Nat → Int32} {w22 : Nat → Int32} {w23 : Nat → Int32} {w24 : Int32} {w25 : Int32} {w26 : Int32} {w27 : Int32} {w28 : Bool}   (ht : z_n0 G ≤ t) : z_C l G yX3_thrown 1 0 0 [.ref t] (z_tw G t w0 w1 w2 w3 w4 w5 w6 w7 w8 w9 w10 w11 w12 w13 w14 w15 w16 w17 w18 w19 w20 w21 w22 w23 w24 w25 w26 w27 w28 h) n (z_rv (.int w12) (z_tw G t w0 w1 w2 w3 w4 w5 w6 w7 w8 w9 w10 w11 w12 w13 w14 w15 w16 w17 w18 w19 w20 w21 w22 w23 w24 w25 w26 w27 w28 h) n) := by
  refine z_start zk_X3_thrown zpl_RX3 (Nat.le_of_ble_eq_true rfl) ?_
  intro hn0 M hl hG ho hb hN hr hm hH hrm hQ
  subst hl hG
  have ho : zm_o M = RX3 := ho
  show z_V M (z_tw (zm_G M) t w0 w1 w2 w3 w4 w5 w6 w7 w8 w9 w10 w11 w12 w13 w14 w15 w16 w17 w18 w19 w20 w21 w22 w23 w24 w25 w26 w27 w28 h) n 0 0 0 [(0, .ref t)] []
  refine z_aload_n hb dX3_thrown_0 rfl ?_
  refine z_get (k := 12) (C := RX3) (T := TX3) (N := 29) hb ho zc2 in_X3 (zf_RX3_47 _) dX3_thrown_1 z_tw_o (by decide) rfl ?_
  refine z_iret hb hr dX3_thrown_4 ?_
  rw [hQ]
  exact ⟨rfl, rfl, rfl⟩

set_option maxHeartbeats 1000000 in
theorem m_X3_in {l : Launch} {G : zG} {h : zH} {n : Nat} {t : Nat} {w0 : Nat → Int32} {w1 : Nat → Int32} {w2 : Nat → Int32} {w3 : Nat → Int32} {w4 : Nat → Int32} {w5 : Nat → Int64} {w6 : Nat → Int64} {w7 : Nat → Int64} {w8 : Nat → Int64} {w9 : Nat → Int64} {w10 : Nat → Int64} {w11 : Nat → Int64} {w12 : Int32} {w13 : Int32} {w14 : Int32} {w15 : Int32} {w16 : Int32} {w17 : Int32} {w18 : Bool} {w19 : Nat → Int32} {w20 : Int32} {w21 : Nat → Int32} {w22 : Nat → Int32} {w23 : Nat → Int32} {w24 : Int32} {w25 : Int32} {w26 : Int32} {w27 : Int32} {w28 : Bool}  (v : Int32) (lo : Int32) (hi : Int32) (ht : z_n0 G ≤ t) : z_C l G yX3_in 1 0 0 [.int v, .int lo, .int hi] (z_tw G t w0 w1 w2 w3 w4 w5 w6 w7 w8 w9 w10 w11 w12 w13 w14 w15 w16 w17 w18 w19 w20 w21 w22 w23 w24 w25 w26 w27 w28 h) n (z_rv (.int (z_b (decide (lo ≤ v ∧ v ≤ hi)))) (z_tw G t w0 w1 w2 w3 w4 w5 w6 w7 w8 w9 w10 w11 w12 w13 w14 w15 w16 w17 w18 w19 w20 w21 w22 w23 w24 w25 w26 w27 w28 h) n) := by
  refine z_start zk_X3_in zpl_RX3 (Nat.le_of_ble_eq_true rfl) ?_
  intro hn0 M hl hG ho hb hN hr hm hH hrm hQ
  subst hl hG
  have ho : zm_o M = RX3 := ho
  show z_V M (z_tw (zm_G M) t w0 w1 w2 w3 w4 w5 w6 w7 w8 w9 w10 w11 w12 w13 w14 w15 w16 w17 w18 w19 w20 w21 w22 w23 w24 w25 w26 w27 w28 h) n 0 0 0 [(0, .int v), (1, .int lo), (2, .int hi)] []
  refine z_iload_n hb dX3_in_0 rfl ?_
  refine z_iload_n hb dX3_in_1 rfl ?_
  refine z_icmp_lt (tgt := 14) hb dX3_in_2 (by decide) (fun c_2 => ?_) (fun c_2 => ?_)
  · refine z_iconst (x := nI 0) hb dX3_in_14 (by decide) ?_
    refine z_zret hb hr rfl dX3_in_15 ?_
    rw [hQ]
    exact z_rvb0 (decide_eq_false (by simp only [Int32.lt_iff_toInt_lt, Int32.le_iff_toInt_le] at *; omega))
  · refine z_iload_n hb dX3_in_5 rfl ?_
    refine z_iload_n hb dX3_in_6 rfl ?_
    refine z_icmp_gt (tgt := 14) hb dX3_in_7 (by decide) (fun c_7 => ?_) (fun c_7 => ?_)
    · refine z_iconst (x := nI 0) hb dX3_in_14 (by decide) ?_
      refine z_zret hb hr rfl dX3_in_15 ?_
      rw [hQ]
      exact z_rvb0 (decide_eq_false (by simp only [Int32.lt_iff_toInt_lt, Int32.le_iff_toInt_le] at *; omega))
    · refine z_iconst (x := nI 1) hb dX3_in_10 (by decide) ?_
      refine z_goto (tgt := 15) hb dX3_in_11 (by decide) ?_
      refine z_zret hb hr rfl dX3_in_15 ?_
      rw [hQ]
      exact z_rvb1 (decide_eq_true (by simp only [Int32.lt_iff_toInt_lt, Int32.le_iff_toInt_le] at *; omega))

set_option maxHeartbeats 1000000 in
theorem m_X3_fail {l : Launch} {G : zG} {h : zH} {n : Nat} {t : Nat} {w0 : Nat → Int32} {w1 : Nat → Int32} {w2 : Nat → Int32} {w3 : Nat → Int32} {w4 : Nat → Int32} {w5 : Nat → Int64} {w6 : Nat → Int64} {w7 : Nat → Int64} {w8 : Nat → Int64} {w9 : Nat → Int64} {w10 : Nat → Int64} {w11 : Nat → Int64} {w12 : Int32} {w13 : Int32} {w14 : Int32} {w15 : Int32} {w16 : Int32} {w17 : Int32} {w18 : Bool} {w19 : Nat → Int32} {w20 : Int32} {w21 : Nat → Int32} {w22 : Nat → Int32} {w23 : Nat → Int32} {w24 : Int32} {w25 : Int32} {w26 : Int32} {w27 : Int32} {w28 : Bool}  (v : Int32) (ht : z_n0 G ≤ t) : z_C l G yX3_fail 1 0 0 [.ref t, .int v] (z_tw G t w0 w1 w2 w3 w4 w5 w6 w7 w8 w9 w10 w11 w12 w13 w14 w15 w16 w17 w18 w19 w20 w21 w22 w23 w24 w25 w26 w27 w28 h) n (z_rv (.int (nI 0)) (z_tw G t w0 w1 w2 w3 w4 w5 w6 w7 w8 w9 w10 w11 v w13 w14 w15 w16 w17 w18 w19 w20 w21 w22 w23 w24 w25 w26 w27 w28 h) n) := by
  refine z_start zk_X3_fail zpl_RX3 (Nat.le_of_ble_eq_true rfl) ?_
  intro hn0 M hl hG ho hb hN hr hm hH hrm hQ
  subst hl hG
  have ho : zm_o M = RX3 := ho
  show z_V M (z_tw (zm_G M) t w0 w1 w2 w3 w4 w5 w6 w7 w8 w9 w10 w11 w12 w13 w14 w15 w16 w17 w18 w19 w20 w21 w22 w23 w24 w25 w26 w27 w28 h) n 0 0 0 [(0, .ref t), (1, .int v)] []
  refine z_aload_n hb dX3_fail_0 rfl ?_
  refine z_iload_n hb dX3_fail_1 rfl ?_
  refine z_put (k := 12) (C := RX3) (T := TX3) (N := 29) hb ho zc2 in_X3 tyX3_ok nmX3 (zf_RX3_47 _) dX3_fail_2 z_tw_o ht (by decide) (Or.inl rfl) rfl rfl rfl (Nat.le_of_ble_eq_true rfl) ?_
  refine z_hh z_tw_u12 ?_
  refine z_iconst (x := nI 0) hb dX3_fail_5 (by decide) ?_
  refine z_iret hb hr dX3_fail_6 ?_
  rw [hQ]
  exact ⟨rfl, rfl, rfl⟩

set_option maxHeartbeats 1000000 in
theorem m_X3_plain {l : Launch} {G : zG} {h : zH} {n : Nat} {t : Nat} {w0 : Nat → Int32} {w1 : Nat → Int32} {w2 : Nat → Int32} {w3 : Nat → Int32} {w4 : Nat → Int32} {w5 : Nat → Int64} {w6 : Nat → Int64} {w7 : Nat → Int64} {w8 : Nat → Int64} {w9 : Nat → Int64} {w10 : Nat → Int64} {w11 : Nat → Int64} {w12 : Int32} {w13 : Int32} {w14 : Int32} {w15 : Int32} {w16 : Int32} {w17 : Int32} {w18 : Bool} {w19 : Nat → Int32} {w20 : Int32} {w21 : Nat → Int32} {w22 : Nat → Int32} {w23 : Nat → Int32} {w24 : Int32} {w25 : Int32} {w26 : Int32} {w27 : Int32} {w28 : Bool}  (v : Int32) (ht : z_n0 G ≤ t) : z_C l G yX3_plain 1 0 0 [.ref t, .int v] (z_tw G t w0 w1 w2 w3 w4 w5 w6 w7 w8 w9 w10 w11 w12 w13 w14 w15 w16 w17 w18 w19 w20 w21 w22 w23 w24 w25 w26 w27 w28 h) n (z_rv (.int v) (z_tw G t w0 w1 w2 w3 w4 w5 w6 w7 w8 w9 w10 w11 (nI 0) w13 w14 w15 w16 w17 w18 w19 w20 w21 w22 w23 w24 w25 w26 w27 w28 h) n) := by
  refine z_start zk_X3_plain zpl_RX3 (Nat.le_of_ble_eq_true rfl) ?_
  intro hn0 M hl hG ho hb hN hr hm hH hrm hQ
  subst hl hG
  have ho : zm_o M = RX3 := ho
  show z_V M (z_tw (zm_G M) t w0 w1 w2 w3 w4 w5 w6 w7 w8 w9 w10 w11 w12 w13 w14 w15 w16 w17 w18 w19 w20 w21 w22 w23 w24 w25 w26 w27 w28 h) n 0 0 0 [(0, .ref t), (1, .int v)] []
  refine z_aload_n hb dX3_plain_0 rfl ?_
  refine z_iconst (x := nI 0) hb dX3_plain_1 (by decide) ?_
  refine z_put (k := 12) (C := RX3) (T := TX3) (N := 29) hb ho zc2 in_X3 tyX3_ok nmX3 (zf_RX3_47 _) dX3_plain_2 z_tw_o ht (by decide) (Or.inl rfl) rfl rfl rfl (Nat.le_of_ble_eq_true rfl) ?_
  refine z_hh z_tw_u12 ?_
  refine z_iload_n hb dX3_plain_5 rfl ?_
  refine z_iret hb hr dX3_plain_6 ?_
  rw [hQ]
  exact ⟨rfl, rfl, rfl⟩

set_option maxHeartbeats 1000000 in
theorem m_X3_checked {l : Launch} {G : zG} {h : zH} {n : Nat} {t : Nat} {w0 : Nat → Int32} {w1 : Nat → Int32} {w2 : Nat → Int32} {w3 : Nat → Int32} {w4 : Nat → Int32} {w5 : Nat → Int64} {w6 : Nat → Int64} {w7 : Nat → Int64} {w8 : Nat → Int64} {w9 : Nat → Int64} {w10 : Nat → Int64} {w11 : Nat → Int64} {w12 : Int32} {w13 : Int32} {w14 : Int32} {w15 : Int32} {w16 : Int32} {w17 : Int32} {w18 : Bool} {w19 : Nat → Int32} {w20 : Int32} {w21 : Nat → Int32} {w22 : Nat → Int32} {w23 : Nat → Int32} {w24 : Int32} {w25 : Int32} {w26 : Int32} {w27 : Int32} {w28 : Bool}  (c : Bool) (ht : z_n0 G ≤ t) : z_C l G yX3_checked 1 0 0 [.ref t, .int (z_b c)] (z_tw G t w0 w1 w2 w3 w4 w5 w6 w7 w8 w9 w10 w11 w12 w13 w14 w15 w16 w17 w18 w19 w20 w21 w22 w23 w24 w25 w26 w27 w28 h) n (z_rv (.int (z_b (!c))) (z_tw G t w0 w1 w2 w3 w4 w5 w6 w7 w8 w9 w10 w11 (z_b (!c)) w13 w14 w15 w16 w17 w18 w19 w20 w21 w22 w23 w24 w25 w26 w27 w28 h) n) := by
  refine z_start zk_X3_checked zpl_RX3 (Nat.le_of_ble_eq_true rfl) ?_
  intro hn0 M hl hG ho hb hN hr hm hH hrm hQ
  subst hl hG
  have ho : zm_o M = RX3 := ho
  show z_V M (z_tw (zm_G M) t w0 w1 w2 w3 w4 w5 w6 w7 w8 w9 w10 w11 w12 w13 w14 w15 w16 w17 w18 w19 w20 w21 w22 w23 w24 w25 w26 w27 w28 h) n 0 0 0 [(0, .ref t), (1, .int (z_b c))] []
  refine z_aload_n hb dX3_checked_0 rfl ?_
  refine z_iload_n hb dX3_checked_1 rfl ?_
  refine z_ifb_eq (tgt := 9) hb dX3_checked_2 (by decide) (fun c_2 => ?_) (fun c_2 => ?_)
  · refine z_iconst (x := nI 1) hb dX3_checked_9 (by decide) ?_
    refine z_put (k := 12) (C := RX3) (T := TX3) (N := 29) hb ho zc2 in_X3 tyX3_ok nmX3 (zf_RX3_47 _) dX3_checked_10 z_tw_o ht (by decide) (Or.inl rfl) rfl rfl rfl (Nat.le_of_ble_eq_true rfl) ?_
    refine z_hh z_tw_u12 ?_
    refine z_aload_n hb dX3_checked_13 rfl ?_
    refine z_get (k := 12) (C := RX3) (T := TX3) (N := 29) hb ho zc2 in_X3 (zf_RX3_47 _) dX3_checked_14 z_tw_o (by decide) rfl ?_
    refine z_iret hb hr dX3_checked_17 ?_
    rw [hQ]
    subst c_2; exact ⟨rfl, rfl, rfl⟩
  · refine z_iconst (x := nI 0) hb dX3_checked_5 (by decide) ?_
    refine z_goto (tgt := 10) hb dX3_checked_6 (by decide) ?_
    refine z_put (k := 12) (C := RX3) (T := TX3) (N := 29) hb ho zc2 in_X3 tyX3_ok nmX3 (zf_RX3_47 _) dX3_checked_10 z_tw_o ht (by decide) (Or.inl rfl) rfl rfl rfl (Nat.le_of_ble_eq_true rfl) ?_
    refine z_hh z_tw_u12 ?_
    refine z_aload_n hb dX3_checked_13 rfl ?_
    refine z_get (k := 12) (C := RX3) (T := TX3) (N := 29) hb ho zc2 in_X3 (zf_RX3_47 _) dX3_checked_14 z_tw_o (by decide) rfl ?_
    refine z_iret hb hr dX3_checked_17 ?_
    rw [hQ]
    subst c_2; exact ⟨rfl, rfl, rfl⟩

set_option maxHeartbeats 1000000 in
theorem m_X3_deny {l : Launch} {G : zG} {h : zH} {n : Nat} {t : Nat} {w0 : Nat → Int32} {w1 : Nat → Int32} {w2 : Nat → Int32} {w3 : Nat → Int32} {w4 : Nat → Int32} {w5 : Nat → Int64} {w6 : Nat → Int64} {w7 : Nat → Int64} {w8 : Nat → Int64} {w9 : Nat → Int64} {w10 : Nat → Int64} {w11 : Nat → Int64} {w12 : Int32} {w13 : Int32} {w14 : Int32} {w15 : Int32} {w16 : Int32} {w17 : Int32} {w18 : Bool} {w19 : Nat → Int32} {w20 : Int32} {w21 : Nat → Int32} {w22 : Nat → Int32} {w23 : Nat → Int32} {w24 : Int32} {w25 : Int32} {w26 : Int32} {w27 : Int32} {w28 : Bool}  (a : Int32) (c : Int32) (d : Int32) (ht : z_n0 G ≤ t) : z_C l G yX3_deny 1 0 0 [.ref t, .int a, .int c, .int d] (z_tw G t w0 w1 w2 w3 w4 w5 w6 w7 w8 w9 w10 w11 w12 w13 w14 w15 w16 w17 w18 w19 w20 w21 w22 w23 w24 w25 w26 w27 w28 h) n (z_rv (.int d) (z_tw G t w0 w1 w2 w3 w4 w5 w6 w7 w8 w9 w10 w11 w12 w13 w14 a c (nI 0) w18 w19 w20 w21 w22 w23 w24 w25 w26 w27 w28 h) n) := by
  refine z_start zk_X3_deny zpl_RX3 (Nat.le_of_ble_eq_true rfl) ?_
  intro hn0 M hl hG ho hb hN hr hm hH hrm hQ
  subst hl hG
  have ho : zm_o M = RX3 := ho
  show z_V M (z_tw (zm_G M) t w0 w1 w2 w3 w4 w5 w6 w7 w8 w9 w10 w11 w12 w13 w14 w15 w16 w17 w18 w19 w20 w21 w22 w23 w24 w25 w26 w27 w28 h) n 0 0 0 [(0, .ref t), (1, .int a), (2, .int c), (3, .int d)] []
  refine z_aload_n hb dX3_deny_0 rfl ?_
  refine z_iload_n hb dX3_deny_1 rfl ?_
  refine z_put (k := 15) (C := RX3) (T := TX3) (N := 29) hb ho zc2 in_X3 tyX3_ok nmX3 (zf_RX3_57 _) dX3_deny_2 z_tw_o ht (by decide) (Or.inl rfl) rfl rfl rfl (Nat.le_of_ble_eq_true rfl) ?_
  refine z_hh z_tw_u15 ?_
  refine z_aload_n hb dX3_deny_5 rfl ?_
  refine z_iload_n hb dX3_deny_6 rfl ?_
  refine z_put (k := 16) (C := RX3) (T := TX3) (N := 29) hb ho zc2 in_X3 tyX3_ok nmX3 (zf_RX3_60 _) dX3_deny_7 z_tw_o ht (by decide) (Or.inl rfl) rfl rfl rfl (Nat.le_of_ble_eq_true rfl) ?_
  refine z_hh z_tw_u16 ?_
  refine z_aload_n hb dX3_deny_10 rfl ?_
  refine z_iconst (x := nI 0) hb dX3_deny_11 (by decide) ?_
  refine z_put (k := 17) (C := RX3) (T := TX3) (N := 29) hb ho zc2 in_X3 tyX3_ok nmX3 (zf_RX3_63 _) dX3_deny_12 z_tw_o ht (by decide) (Or.inl rfl) rfl rfl rfl (Nat.le_of_ble_eq_true rfl) ?_
  refine z_hh z_tw_u17 ?_
  refine z_iload_n hb dX3_deny_15 rfl ?_
  refine z_iret hb hr dX3_deny_16 ?_
  rw [hQ]
  exact ⟨rfl, rfl, rfl⟩

set_option maxHeartbeats 1000000 in
theorem m_X3_r {l : Launch} {G : zG} {h : zH} {n : Nat} {t : Nat} {w0 : Nat → Int32} {w1 : Nat → Int32} {w2 : Nat → Int32} {w3 : Nat → Int32} {w4 : Nat → Int32} {w5 : Nat → Int64} {w6 : Nat → Int64} {w7 : Nat → Int64} {w8 : Nat → Int64} {w9 : Nat → Int64} {w10 : Nat → Int64} {w11 : Nat → Int64} {w12 : Int32} {w13 : Int32} {w14 : Int32} {w15 : Int32} {w16 : Int32} {w17 : Int32} {w18 : Bool} {w19 : Nat → Int32} {w20 : Int32} {w21 : Nat → Int32} {w22 : Nat → Int32} {w23 : Nat → Int32} {w24 : Int32} {w25 : Int32} {w26 : Int32} {w27 : Int32} {w28 : Bool}  (p : Nat) (o : Nat) (ht : z_n0 G ≤ t) (hp : 16 + 4 * p + o < 272) : z_C l G yX3_r 1 0 0 [.ref t, .int (nI p), .int (nI o)] (z_tw G t w0 w1 w2 w3 w4 w5 w6 w7 w8 w9 w10 w11 w12 w13 w14 w15 w16 w17 w18 w19 w20 w21 w22 w23 w24 w25 w26 w27 w28 h) n (z_rv (.int (w0 (16 + 4 * p + o))) (z_tw G t w0 w1 w2 w3 w4 w5 w6 w7 w8 w9 w10 w11 w12 w13 w14 w15 w16 w17 w18 w19 w20 w21 w22 w23 w24 w25 w26 w27 w28 h) n) := by
  refine z_start zk_X3_r zpl_RX3 (Nat.le_of_ble_eq_true rfl) ?_
  intro hn0 M hl hG ho hb hN hr hm hH hrm hQ
  subst hl hG
  have ho : zm_o M = RX3 := ho
  show z_V M (z_tw (zm_G M) t w0 w1 w2 w3 w4 w5 w6 w7 w8 w9 w10 w11 w12 w13 w14 w15 w16 w17 w18 w19 w20 w21 w22 w23 w24 w25 w26 w27 w28 h) n 0 0 0 [(0, .ref t), (1, .int (nI p)), (2, .int (nI o))] []
  refine z_aload_n hb dX3_r_0 rfl ?_
  refine z_get (k := 0) (C := RX3) (T := TX3) (N := 29) hb ho zc2 in_X3 (zf_RX3_7 _) dX3_r_1 z_tw_o (by decide) rfl ?_
  refine z_bipush (x := nI 16) hb dX3_r_4 (by decide) ?_
  refine z_iconst (x := nI 4) hb dX3_r_6 (by decide) ?_
  refine z_iload_n hb dX3_r_7 rfl ?_
  refine z_imul hb dX3_r_8 ?_
  refine z_toI (y := nI (4 * p)) (pk_mul 4 p) ?_
  refine z_iadd hb dX3_r_9 ?_
  refine z_toI (y := nI (16 + (4 * p))) (nI_add 16 (4 * p)) ?_
  refine z_iload_n hb dX3_r_10 rfl ?_
  refine z_iadd hb dX3_r_11 ?_
  refine z_toI (y := nI (16 + (4 * p) + o)) (nI_add (16 + (4 * p)) o) ?_
  refine z_iald (j := 16 + (4 * p) + o) hb dX3_r_12 z_tw_r0 rfl (by omega) (by omega) ?_
  refine z_iret hb hr dX3_r_13 ?_
  rw [hQ]
  exact ⟨rfl, rfl, rfl⟩

set_option maxHeartbeats 1000000 in
theorem m_X3_s {l : Launch} {G : zG} {h : zH} {n : Nat} {t : Nat} {w0 : Nat → Int32} {w1 : Nat → Int32} {w2 : Nat → Int32} {w3 : Nat → Int32} {w4 : Nat → Int32} {w5 : Nat → Int64} {w6 : Nat → Int64} {w7 : Nat → Int64} {w8 : Nat → Int64} {w9 : Nat → Int64} {w10 : Nat → Int64} {w11 : Nat → Int64} {w12 : Int32} {w13 : Int32} {w14 : Int32} {w15 : Int32} {w16 : Int32} {w17 : Int32} {w18 : Bool} {w19 : Nat → Int32} {w20 : Int32} {w21 : Nat → Int32} {w22 : Nat → Int32} {w23 : Nat → Int32} {w24 : Int32} {w25 : Int32} {w26 : Int32} {w27 : Int32} {w28 : Bool}  (p : Nat) (o : Nat) (ht : z_n0 G ≤ t) (hp : 176 + 4 * p + o < 272) : z_C l G yX3_s 1 0 0 [.ref t, .int (nI p), .int (nI o)] (z_tw G t w0 w1 w2 w3 w4 w5 w6 w7 w8 w9 w10 w11 w12 w13 w14 w15 w16 w17 w18 w19 w20 w21 w22 w23 w24 w25 w26 w27 w28 h) n (z_rv (.int (w0 (176 + 4 * p + o))) (z_tw G t w0 w1 w2 w3 w4 w5 w6 w7 w8 w9 w10 w11 w12 w13 w14 w15 w16 w17 w18 w19 w20 w21 w22 w23 w24 w25 w26 w27 w28 h) n) := by
  refine z_start zk_X3_s zpl_RX3 (Nat.le_of_ble_eq_true rfl) ?_
  intro hn0 M hl hG ho hb hN hr hm hH hrm hQ
  subst hl hG
  have ho : zm_o M = RX3 := ho
  show z_V M (z_tw (zm_G M) t w0 w1 w2 w3 w4 w5 w6 w7 w8 w9 w10 w11 w12 w13 w14 w15 w16 w17 w18 w19 w20 w21 w22 w23 w24 w25 w26 w27 w28 h) n 0 0 0 [(0, .ref t), (1, .int (nI p)), (2, .int (nI o))] []
  refine z_aload_n hb dX3_s_0 rfl ?_
  refine z_get (k := 0) (C := RX3) (T := TX3) (N := 29) hb ho zc2 in_X3 (zf_RX3_7 _) dX3_s_1 z_tw_o (by decide) rfl ?_
  refine z_sipush (x := nI 176) hb dX3_s_4 (by decide) ?_
  refine z_iconst (x := nI 4) hb dX3_s_7 (by decide) ?_
  refine z_iload_n hb dX3_s_8 rfl ?_
  refine z_imul hb dX3_s_9 ?_
  refine z_toI (y := nI (4 * p)) (pk_mul 4 p) ?_
  refine z_iadd hb dX3_s_10 ?_
  refine z_toI (y := nI (176 + (4 * p))) (nI_add 176 (4 * p)) ?_
  refine z_iload_n hb dX3_s_11 rfl ?_
  refine z_iadd hb dX3_s_12 ?_
  refine z_toI (y := nI (176 + (4 * p) + o)) (nI_add (176 + (4 * p)) o) ?_
  refine z_iald (j := 176 + (4 * p) + o) hb dX3_s_13 z_tw_r0 rfl (by omega) (by omega) ?_
  refine z_iret hb hr dX3_s_14 ?_
  rw [hQ]
  exact ⟨rfl, rfl, rfl⟩

set_option maxHeartbeats 1000000 in
theorem m_X3_isGroup {l : Launch} {G : zG} {h : zH} {n : Nat} {t : Nat} {w0 : Nat → Int32} {w1 : Nat → Int32} {w2 : Nat → Int32} {w3 : Nat → Int32} {w4 : Nat → Int32} {w5 : Nat → Int64} {w6 : Nat → Int64} {w7 : Nat → Int64} {w8 : Nat → Int64} {w9 : Nat → Int64} {w10 : Nat → Int64} {w11 : Nat → Int64} {w12 : Int32} {w13 : Int32} {w14 : Int32} {w15 : Int32} {w16 : Int32} {w17 : Int32} {w18 : Bool} {w19 : Nat → Int32} {w20 : Int32} {w21 : Nat → Int32} {w22 : Nat → Int32} {w23 : Nat → Int32} {w24 : Int32} {w25 : Int32} {w26 : Int32} {w27 : Int32} {w28 : Bool}  (c : Int32) (ht : z_n0 G ≤ t) : z_C l G yX3_isGroup 2 0 0 [.int c] (z_tw G t w0 w1 w2 w3 w4 w5 w6 w7 w8 w9 w10 w11 w12 w13 w14 w15 w16 w17 w18 w19 w20 w21 w22 w23 w24 w25 w26 w27 w28 h) n (z_rv (.int (z_b (decide (nI 97 ≤ c ∧ c ≤ nI 101)))) (z_tw G t w0 w1 w2 w3 w4 w5 w6 w7 w8 w9 w10 w11 w12 w13 w14 w15 w16 w17 w18 w19 w20 w21 w22 w23 w24 w25 w26 w27 w28 h) n) := by
  refine z_start zk_X3_isGroup zpl_RX3 (Nat.le_of_ble_eq_true rfl) ?_
  intro hn0 M hl hG ho hb hN hr hm hH hrm hQ
  subst hl hG
  have ho : zm_o M = RX3 := ho
  show z_V M (z_tw (zm_G M) t w0 w1 w2 w3 w4 w5 w6 w7 w8 w9 w10 w11 w12 w13 w14 w15 w16 w17 w18 w19 w20 w21 w22 w23 w24 w25 w26 w27 w28 h) n 0 0 0 [(0, .int c)] []
  refine z_iload_n hb dX3_isGroup_0 rfl ?_
  refine z_bipush (x := nI 97) hb dX3_isGroup_1 (by decide) ?_
  refine z_bipush (x := nI 101) hb dX3_isGroup_3 (by decide) ?_
  refine z_call1 (b' := 0) (f' := 0) (rest := []) (av := [.int c, .int (nI 97), .int (nI 101)]) (z_siteS hb ho q2809 q2810 q104 ⟨_, _, _, _, zk_X3_in⟩ zy_X3_in zl_X3_in dX3_isGroup_5 : z_Site M _ _ _ _ _ ([.int c, .int (nI 97), .int (nI 101)].reverse ++ []) [] _) zk_X3_in q104 hrm (m_X3_in c (nI 97) (nI 101) ht) (by omega) (by decide) (Nat.le_of_ble_eq_true rfl) (by omega) (by omega) ?_
  refine z_zret hb hr (z_bnar _) dX3_isGroup_8 ?_
  rw [hQ]
  exact ⟨rfl, rfl, rfl⟩

set_option maxHeartbeats 1000000 in
theorem m_X3_isStep {l : Launch} {G : zG} {h : zH} {n : Nat} {t : Nat} {w0 : Nat → Int32} {w1 : Nat → Int32} {w2 : Nat → Int32} {w3 : Nat → Int32} {w4 : Nat → Int32} {w5 : Nat → Int64} {w6 : Nat → Int64} {w7 : Nat → Int64} {w8 : Nat → Int64} {w9 : Nat → Int64} {w10 : Nat → Int64} {w11 : Nat → Int64} {w12 : Int32} {w13 : Int32} {w14 : Int32} {w15 : Int32} {w16 : Int32} {w17 : Int32} {w18 : Bool} {w19 : Nat → Int32} {w20 : Int32} {w21 : Nat → Int32} {w22 : Nat → Int32} {w23 : Nat → Int32} {w24 : Int32} {w25 : Int32} {w26 : Int32} {w27 : Int32} {w28 : Bool} {R S D : Nat}  (x : Int32) (ht : z_n0 G ≤ t) (hw : z_ok w0 R S D) : z_C l G yX3_isStep 2 0 0 [.ref t, .int x] (z_tw G t w0 w1 w2 w3 w4 w5 w6 w7 w8 w9 w10 w11 w12 w13 w14 w15 w16 w17 w18 w19 w20 w21 w22 w23 w24 w25 w26 w27 w28 h) n (z_rv (.int (z_b (decide (nI 0 ≤ x ∧ x ≤ nI S - nI 1)))) (z_tw G t w0 w1 w2 w3 w4 w5 w6 w7 w8 w9 w10 w11 w12 w13 w14 w15 w16 w17 w18 w19 w20 w21 w22 w23 w24 w25 w26 w27 w28 h) n) := by
  refine z_start zk_X3_isStep zpl_RX3 (Nat.le_of_ble_eq_true rfl) ?_
  intro hn0 M hl hG ho hb hN hr hm hH hrm hQ
  subst hl hG
  have ho : zm_o M = RX3 := ho
  obtain ⟨hR, hR4, hS, hS8, hD, hD6, hF⟩ := id hw
  show z_V M (z_tw (zm_G M) t w0 w1 w2 w3 w4 w5 w6 w7 w8 w9 w10 w11 w12 w13 w14 w15 w16 w17 w18 w19 w20 w21 w22 w23 w24 w25 w26 w27 w28 h) n 0 0 0 [(0, .ref t), (1, .int x)] []
  refine z_iload_n hb dX3_isStep_0 rfl ?_
  refine z_iconst (x := nI 0) hb dX3_isStep_1 (by decide) ?_
  refine z_aload_n hb dX3_isStep_2 rfl ?_
  refine z_get (k := 0) (C := RX3) (T := TX3) (N := 29) hb ho zc2 in_X3 (zf_RX3_7 _) dX3_isStep_3 z_tw_o (by decide) rfl ?_
  refine z_iconst (x := nI 3) hb dX3_isStep_6 (by decide) ?_
  refine z_iald (j := 3) hb dX3_isStep_7 z_tw_r0 rfl (by omega) (by omega) ?_
  refine z_toI (y := nI S) hS ?_
  refine z_iconst (x := nI 1) hb dX3_isStep_8 (by decide) ?_
  refine z_isub hb dX3_isStep_9 ?_
  refine z_call1 (b' := 0) (f' := 0) (rest := []) (av := [.int x, .int (nI 0), .int ((nI S) - (nI 1))]) (z_siteS hb ho q2809 q2810 q104 ⟨_, _, _, _, zk_X3_in⟩ zy_X3_in zl_X3_in dX3_isStep_10 : z_Site M _ _ _ _ _ ([.int x, .int (nI 0), .int ((nI S) - (nI 1))].reverse ++ []) [] _) zk_X3_in q104 hrm (m_X3_in x (nI 0) ((nI S) - (nI 1)) ht) (by omega) (by decide) (Nat.le_of_ble_eq_true rfl) (by omega) (by omega) ?_
  refine z_zret hb hr (z_bnar _) dX3_isStep_13 ?_
  rw [hQ]
  exact ⟨rfl, rfl, rfl⟩

set_option maxHeartbeats 1000000 in
theorem m_X3_isDay {l : Launch} {G : zG} {h : zH} {n : Nat} {t : Nat} {w0 : Nat → Int32} {w1 : Nat → Int32} {w2 : Nat → Int32} {w3 : Nat → Int32} {w4 : Nat → Int32} {w5 : Nat → Int64} {w6 : Nat → Int64} {w7 : Nat → Int64} {w8 : Nat → Int64} {w9 : Nat → Int64} {w10 : Nat → Int64} {w11 : Nat → Int64} {w12 : Int32} {w13 : Int32} {w14 : Int32} {w15 : Int32} {w16 : Int32} {w17 : Int32} {w18 : Bool} {w19 : Nat → Int32} {w20 : Int32} {w21 : Nat → Int32} {w22 : Nat → Int32} {w23 : Nat → Int32} {w24 : Int32} {w25 : Int32} {w26 : Int32} {w27 : Int32} {w28 : Bool} {R S D : Nat}  (x : Int32) (ht : z_n0 G ≤ t) (hw : z_ok w0 R S D) : z_C l G yX3_isDay 2 0 0 [.ref t, .int x] (z_tw G t w0 w1 w2 w3 w4 w5 w6 w7 w8 w9 w10 w11 w12 w13 w14 w15 w16 w17 w18 w19 w20 w21 w22 w23 w24 w25 w26 w27 w28 h) n (z_rv (.int (z_b (decide (nI 0 ≤ x ∧ x ≤ nI D)))) (z_tw G t w0 w1 w2 w3 w4 w5 w6 w7 w8 w9 w10 w11 w12 w13 w14 w15 w16 w17 w18 w19 w20 w21 w22 w23 w24 w25 w26 w27 w28 h) n) := by
  refine z_start zk_X3_isDay zpl_RX3 (Nat.le_of_ble_eq_true rfl) ?_
  intro hn0 M hl hG ho hb hN hr hm hH hrm hQ
  subst hl hG
  have ho : zm_o M = RX3 := ho
  obtain ⟨hR, hR4, hS, hS8, hD, hD6, hF⟩ := id hw
  show z_V M (z_tw (zm_G M) t w0 w1 w2 w3 w4 w5 w6 w7 w8 w9 w10 w11 w12 w13 w14 w15 w16 w17 w18 w19 w20 w21 w22 w23 w24 w25 w26 w27 w28 h) n 0 0 0 [(0, .ref t), (1, .int x)] []
  refine z_iload_n hb dX3_isDay_0 rfl ?_
  refine z_iconst (x := nI 0) hb dX3_isDay_1 (by decide) ?_
  refine z_aload_n hb dX3_isDay_2 rfl ?_
  refine z_get (k := 0) (C := RX3) (T := TX3) (N := 29) hb ho zc2 in_X3 (zf_RX3_7 _) dX3_isDay_3 z_tw_o (by decide) rfl ?_
  refine z_iconst (x := nI 0) hb dX3_isDay_6 (by decide) ?_
  refine z_iald (j := 0) hb dX3_isDay_7 z_tw_r0 rfl (by omega) (by omega) ?_
  refine z_toI (y := nI D) hD ?_
  refine z_call1 (b' := 0) (f' := 0) (rest := []) (av := [.int x, .int (nI 0), .int (nI D)]) (z_siteS hb ho q2809 q2810 q104 ⟨_, _, _, _, zk_X3_in⟩ zy_X3_in zl_X3_in dX3_isDay_8 : z_Site M _ _ _ _ _ ([.int x, .int (nI 0), .int (nI D)].reverse ++ []) [] _) zk_X3_in q104 hrm (m_X3_in x (nI 0) (nI D) ht) (by omega) (by decide) (Nat.le_of_ble_eq_true rfl) (by omega) (by omega) ?_
  refine z_zret hb hr (z_bnar _) dX3_isDay_11 ?_
  rw [hQ]
  exact ⟨rfl, rfl, rfl⟩

set_option maxHeartbeats 1000000 in
theorem m_X3_isBase {l : Launch} {G : zG} {h : zH} {n : Nat} {t : Nat} {w0 : Nat → Int32} {w1 : Nat → Int32} {w2 : Nat → Int32} {w3 : Nat → Int32} {w4 : Nat → Int32} {w5 : Nat → Int64} {w6 : Nat → Int64} {w7 : Nat → Int64} {w8 : Nat → Int64} {w9 : Nat → Int64} {w10 : Nat → Int64} {w11 : Nat → Int64} {w12 : Int32} {w13 : Int32} {w14 : Int32} {w15 : Int32} {w16 : Int32} {w17 : Int32} {w18 : Bool} {w19 : Nat → Int32} {w20 : Int32} {w21 : Nat → Int32} {w22 : Nat → Int32} {w23 : Nat → Int32} {w24 : Int32} {w25 : Int32} {w26 : Int32} {w27 : Int32} {w28 : Bool}  (k : Nat) (ht : z_n0 G ≤ t) (hk : k < 8) : z_C l G yX3_isBase 2 0 0 [.ref t, .int (nI k)] (z_tw G t w0 w1 w2 w3 w4 w5 w6 w7 w8 w9 w10 w11 w12 w13 w14 w15 w16 w17 w18 w19 w20 w21 w22 w23 w24 w25 w26 w27 w28 h) n (z_rv (.int (z_b (tw_base w0 k))) (z_tw G t w0 w1 w2 w3 w4 w5 w6 w7 w8 w9 w10 w11 w12 w13 w14 w15 w16 w17 w18 w19 w20 w21 w22 w23 w24 w25 w26 w27 w28 h) n) := by
  refine z_start zk_X3_isBase zpl_RX3 (Nat.le_of_ble_eq_true rfl) ?_
  intro hn0 M hl hG ho hb hN hr hm hH hrm hQ
  subst hl hG
  have ho : zm_o M = RX3 := ho
  show z_V M (z_tw (zm_G M) t w0 w1 w2 w3 w4 w5 w6 w7 w8 w9 w10 w11 w12 w13 w14 w15 w16 w17 w18 w19 w20 w21 w22 w23 w24 w25 w26 w27 w28 h) n 0 0 0 [(0, .ref t), (1, .int (nI k))] []
  refine z_aload_n hb dX3_isBase_0 rfl ?_
  refine z_iload_n hb dX3_isBase_1 rfl ?_
  refine z_iconst (x := nI 0) hb dX3_isBase_2 (by decide) ?_
  refine z_call1 (b' := 0) (f' := 0) (rest := []) (av := [.ref t, .int (nI k), .int (nI 0)]) (z_siteV hb ho zc2 z_tw_o q2847 q2849 qs40 ⟨_, _, _, _, zk_X3_s⟩ zy_X3_s zl_X3_s dX3_isBase_3 : z_Site M _ _ _ _ _ ([.int (nI k), .int (nI 0)].reverse ++ .ref t :: []) [] _) zk_X3_s q104 hrm (m_X3_s k 0 ht (by omega)) (by omega) (by decide) (Nat.le_of_ble_eq_true rfl) (by omega) (by omega) ?_
  refine z_toI (y := w0 (176 + 4 * k)) rfl ?_
  refine z_bipush (x := nI 115) hb dX3_isBase_6 (by decide) ?_
  refine z_icmp_eq (tgt := 33) hb dX3_isBase_8 (by decide) (fun c_8 => ?_) (fun c_8 => ?_)
  · refine z_iconst (x := nI 1) hb dX3_isBase_33 (by decide) ?_
    refine z_goto (tgt := 38) hb dX3_isBase_34 (by decide) ?_
    refine z_zret hb hr rfl dX3_isBase_38 ?_
    rw [hQ]
    exact z_rvb1 (by simp only [tw_base, Nat.add_zero] at *; simp [c_8])
  · refine z_aload_n hb dX3_isBase_11 rfl ?_
    refine z_iload_n hb dX3_isBase_12 rfl ?_
    refine z_iconst (x := nI 0) hb dX3_isBase_13 (by decide) ?_
    refine z_call1 (b' := 0) (f' := 0) (rest := []) (av := [.ref t, .int (nI k), .int (nI 0)]) (z_siteV hb ho zc2 z_tw_o q2847 q2849 qs40 ⟨_, _, _, _, zk_X3_s⟩ zy_X3_s zl_X3_s dX3_isBase_14 : z_Site M _ _ _ _ _ ([.int (nI k), .int (nI 0)].reverse ++ .ref t :: []) [] _) zk_X3_s q104 hrm (m_X3_s k 0 ht (by omega)) (by omega) (by decide) (Nat.le_of_ble_eq_true rfl) (by omega) (by omega) ?_
    refine z_toI (y := w0 (176 + 4 * k)) rfl ?_
    refine z_bipush (x := nI 110) hb dX3_isBase_17 (by decide) ?_
    refine z_icmp_eq (tgt := 33) hb dX3_isBase_19 (by decide) (fun c_19 => ?_) (fun c_19 => ?_)
    · refine z_iconst (x := nI 1) hb dX3_isBase_33 (by decide) ?_
      refine z_goto (tgt := 38) hb dX3_isBase_34 (by decide) ?_
      refine z_zret hb hr rfl dX3_isBase_38 ?_
      rw [hQ]
      exact z_rvb1 (by simp only [tw_base, Nat.add_zero] at *; simp [c_8, c_19])
    · refine z_aload_n hb dX3_isBase_22 rfl ?_
      refine z_iload_n hb dX3_isBase_23 rfl ?_
      refine z_iconst (x := nI 0) hb dX3_isBase_24 (by decide) ?_
      refine z_call1 (b' := 0) (f' := 0) (rest := []) (av := [.ref t, .int (nI k), .int (nI 0)]) (z_siteV hb ho zc2 z_tw_o q2847 q2849 qs40 ⟨_, _, _, _, zk_X3_s⟩ zy_X3_s zl_X3_s dX3_isBase_25 : z_Site M _ _ _ _ _ ([.int (nI k), .int (nI 0)].reverse ++ .ref t :: []) [] _) zk_X3_s q104 hrm (m_X3_s k 0 ht (by omega)) (by omega) (by decide) (Nat.le_of_ble_eq_true rfl) (by omega) (by omega) ?_
      refine z_toI (y := w0 (176 + 4 * k)) rfl ?_
      refine z_bipush (x := nI 120) hb dX3_isBase_28 (by decide) ?_
      refine z_icmp_ne (tgt := 37) hb dX3_isBase_30 (by decide) (fun c_30 => ?_) (fun c_30 => ?_)
      · refine z_iconst (x := nI 0) hb dX3_isBase_37 (by decide) ?_
        refine z_zret hb hr rfl dX3_isBase_38 ?_
        rw [hQ]
        exact z_rvb0 (by simp only [tw_base, Nat.add_zero] at *; simp [c_8, c_19, c_30])
      · refine z_iconst (x := nI 1) hb dX3_isBase_33 (by decide) ?_
        refine z_goto (tgt := 38) hb dX3_isBase_34 (by decide) ?_
        refine z_zret hb hr rfl dX3_isBase_38 ?_
        rw [hQ]
        exact z_rvb1 (by simp only [tw_base, Nat.add_zero] at *; simp [c_8, c_19, c_30])

set_option maxHeartbeats 1000000 in
theorem m_X3_isStaleNow {l : Launch} {G : zG} {h : zH} {n : Nat} {t : Nat} {w0 : Nat → Int32} {w1 : Nat → Int32} {w2 : Nat → Int32} {w3 : Nat → Int32} {w4 : Nat → Int32} {w5 : Nat → Int64} {w6 : Nat → Int64} {w7 : Nat → Int64} {w8 : Nat → Int64} {w9 : Nat → Int64} {w10 : Nat → Int64} {w11 : Nat → Int64} {w12 : Int32} {w13 : Int32} {w14 : Int32} {w15 : Int32} {w16 : Int32} {w17 : Int32} {w18 : Bool} {w19 : Nat → Int32} {w20 : Int32} {w21 : Nat → Int32} {w22 : Nat → Int32} {w23 : Nat → Int32} {w24 : Int32} {w25 : Int32} {w26 : Int32} {w27 : Int32} {w28 : Bool}  (k : Nat) (d : Nat) (ht : z_n0 G ≤ t) (hk : k < 8) (hd : d ≤ 6) : z_C l G yX3_isStaleNow 1 0 0 [.ref t, .int (nI k), .int (nI d)] (z_tw G t w0 w1 w2 w3 w4 w5 w6 w7 w8 w9 w10 w11 w12 w13 w14 w15 w16 w17 w18 w19 w20 w21 w22 w23 w24 w25 w26 w27 w28 h) n (z_rv (.int (z_b (tw_st w0 k d))) (z_tw G t w0 w1 w2 w3 w4 w5 w6 w7 w8 w9 w10 w11 w12 w13 w14 w15 w16 w17 w18 w19 w20 w21 w22 w23 w24 w25 w26 w27 w28 h) n) := by
  refine z_start zk_X3_isStaleNow zpl_RX3 (Nat.le_of_ble_eq_true rfl) ?_
  intro hn0 M hl hG ho hb hN hr hm hH hrm hQ
  subst hl hG
  have ho : zm_o M = RX3 := ho
  show z_V M (z_tw (zm_G M) t w0 w1 w2 w3 w4 w5 w6 w7 w8 w9 w10 w11 w12 w13 w14 w15 w16 w17 w18 w19 w20 w21 w22 w23 w24 w25 w26 w27 w28 h) n 0 0 0 [(0, .ref t), (1, .int (nI k)), (2, .int (nI d))] []
  refine z_aload_n hb dX3_isStaleNow_0 rfl ?_
  refine z_get (k := 0) (C := RX3) (T := TX3) (N := 29) hb ho zc2 in_X3 (zf_RX3_7 _) dX3_isStaleNow_1 z_tw_o (by decide) rfl ?_
  refine z_sipush (x := nI 208) hb dX3_isStaleNow_4 (by decide) ?_
  refine z_bipush (x := nI 7) hb dX3_isStaleNow_7 (by decide) ?_
  refine z_iload_n hb dX3_isStaleNow_9 rfl ?_
  refine z_imul hb dX3_isStaleNow_10 ?_
  refine z_toI (y := nI (7 * k)) (pk_mul 7 k) ?_
  refine z_iadd hb dX3_isStaleNow_11 ?_
  refine z_toI (y := nI (208 + (7 * k))) (nI_add 208 (7 * k)) ?_
  refine z_iload_n hb dX3_isStaleNow_12 rfl ?_
  refine z_iadd hb dX3_isStaleNow_13 ?_
  refine z_toI (y := nI (208 + (7 * k) + d)) (nI_add (208 + (7 * k)) d) ?_
  refine z_iald (j := 208 + (7 * k) + d) hb dX3_isStaleNow_14 z_tw_r0 rfl (by omega) (by omega) ?_
  refine z_iconst (x := nI 1) hb dX3_isStaleNow_15 (by decide) ?_
  refine z_icmp_ne (tgt := 23) hb dX3_isStaleNow_16 (by decide) (fun c_16 => ?_) (fun c_16 => ?_)
  · refine z_iconst (x := nI 0) hb dX3_isStaleNow_23 (by decide) ?_
    refine z_zret hb hr rfl dX3_isStaleNow_24 ?_
    rw [hQ]
    exact z_rvb0 (decide_eq_false c_16)
  · refine z_iconst (x := nI 1) hb dX3_isStaleNow_19 (by decide) ?_
    refine z_goto (tgt := 24) hb dX3_isStaleNow_20 (by decide) ?_
    refine z_zret hb hr rfl dX3_isStaleNow_24 ?_
    rw [hQ]
    exact z_rvb1 (decide_eq_true c_16)

set_option maxHeartbeats 1000000 in
theorem m_X3_mark {l : Launch} {G : zG} {h : zH} {n : Nat} {t : Nat} {w0 : Nat → Int32} {w1 : Nat → Int32} {w2 : Nat → Int32} {w3 : Nat → Int32} {w4 : Nat → Int32} {w5 : Nat → Int64} {w6 : Nat → Int64} {w7 : Nat → Int64} {w8 : Nat → Int64} {w9 : Nat → Int64} {w10 : Nat → Int64} {w11 : Nat → Int64} {w12 : Int32} {w13 : Int32} {w14 : Int32} {w15 : Int32} {w16 : Int32} {w17 : Int32} {w18 : Bool} {w19 : Nat → Int32} {w20 : Int32} {w21 : Nat → Int32} {w22 : Nat → Int32} {w23 : Nat → Int32} {w24 : Int32} {w25 : Int32} {w26 : Int32} {w27 : Int32} {w28 : Bool}  (k : Nat) (d : Nat) (c : Bool) (ht : z_n0 G ≤ t) (hk : k < 8) (hd : d ≤ 6) : z_C l G yX3_mark 1 0 0 [.ref t, .int (nI k), .int (nI d), .int (z_b c)] (z_tw G t w0 w1 w2 w3 w4 w5 w6 w7 w8 w9 w10 w11 w12 w13 w14 w15 w16 w17 w18 w19 w20 w21 w22 w23 w24 w25 w26 w27 w28 h) n (z_r0 (z_tw G t (va_up w0 (208 + 7 * k + d) (z_b c)) w1 w2 w3 w4 w5 w6 w7 w8 w9 w10 w11 w12 w13 w14 w15 w16 w17 w18 w19 w20 w21 w22 w23 w24 w25 w26 w27 w28 h) n) := by
  refine z_start zk_X3_mark zpl_RX3 (Nat.le_of_ble_eq_true rfl) ?_
  intro hn0 M hl hG ho hb hN hr hm hH hrm hQ
  subst hl hG
  have ho : zm_o M = RX3 := ho
  show z_V M (z_tw (zm_G M) t w0 w1 w2 w3 w4 w5 w6 w7 w8 w9 w10 w11 w12 w13 w14 w15 w16 w17 w18 w19 w20 w21 w22 w23 w24 w25 w26 w27 w28 h) n 0 0 0 [(0, .ref t), (1, .int (nI k)), (2, .int (nI d)), (3, .int (z_b c))] []
  refine z_aload_n hb dX3_mark_0 rfl ?_
  refine z_get (k := 0) (C := RX3) (T := TX3) (N := 29) hb ho zc2 in_X3 (zf_RX3_7 _) dX3_mark_1 z_tw_o (by decide) rfl ?_
  refine z_sipush (x := nI 208) hb dX3_mark_4 (by decide) ?_
  refine z_bipush (x := nI 7) hb dX3_mark_7 (by decide) ?_
  refine z_iload_n hb dX3_mark_9 rfl ?_
  refine z_imul hb dX3_mark_10 ?_
  refine z_toI (y := nI (7 * k)) (pk_mul 7 k) ?_
  refine z_iadd hb dX3_mark_11 ?_
  refine z_toI (y := nI (208 + (7 * k))) (nI_add 208 (7 * k)) ?_
  refine z_iload_n hb dX3_mark_12 rfl ?_
  refine z_iadd hb dX3_mark_13 ?_
  refine z_toI (y := nI (208 + (7 * k) + d)) (nI_add (208 + (7 * k)) d) ?_
  refine z_iload_n hb dX3_mark_14 rfl ?_
  refine z_ifb_eq (tgt := 22) hb dX3_mark_15 (by decide) (fun c_15 => ?_) (fun c_15 => ?_)
  · refine z_iconst (x := nI 0) hb dX3_mark_22 (by decide) ?_
    refine z_iast (j := 208 + (7 * k) + d) hb dX3_mark_23 z_tw_r0 (by omega) rfl (by omega) (by omega) ?_
    refine z_hh z_tw_u0 ?_
    refine z_vret hb hr dX3_mark_24 ?_
    rw [hQ]
    subst c_15; exact ⟨rfl, rfl, rfl⟩
  · refine z_iconst (x := nI 1) hb dX3_mark_18 (by decide) ?_
    refine z_goto (tgt := 23) hb dX3_mark_19 (by decide) ?_
    refine z_iast (j := 208 + (7 * k) + d) hb dX3_mark_23 z_tw_r0 (by omega) rfl (by omega) (by omega) ?_
    refine z_hh z_tw_u0 ?_
    refine z_vret hb hr dX3_mark_24 ?_
    rw [hQ]
    subst c_15; exact ⟨rfl, rfl, rfl⟩

set_option maxHeartbeats 1000000 in
theorem m_X3_at {l : Launch} {G : zG} {h : zH} {n : Nat} {t : Nat} {w0 : Nat → Int32} {w1 : Nat → Int32} {w2 : Nat → Int32} {w3 : Nat → Int32} {w4 : Nat → Int32} {w5 : Nat → Int64} {w6 : Nat → Int64} {w7 : Nat → Int64} {w8 : Nat → Int64} {w9 : Nat → Int64} {w10 : Nat → Int64} {w11 : Nat → Int64} {w12 : Int32} {w13 : Int32} {w14 : Int32} {w15 : Int32} {w16 : Int32} {w17 : Int32} {w18 : Bool} {w19 : Nat → Int32} {w20 : Int32} {w21 : Nat → Int32} {w22 : Nat → Int32} {w23 : Nat → Int32} {w24 : Int32} {w25 : Int32} {w26 : Int32} {w27 : Int32} {w28 : Bool}  (k : Nat) (d : Nat) (g : Nat) (ht : z_n0 G ≤ t) : z_C l G yX3_at 1 0 0 [.int (nI k), .int (nI d), .int (nI g)] (z_tw G t w0 w1 w2 w3 w4 w5 w6 w7 w8 w9 w10 w11 w12 w13 w14 w15 w16 w17 w18 w19 w20 w21 w22 w23 w24 w25 w26 w27 w28 h) n (z_rv (.int (nI (5 * (7 * k + d) + g))) (z_tw G t w0 w1 w2 w3 w4 w5 w6 w7 w8 w9 w10 w11 w12 w13 w14 w15 w16 w17 w18 w19 w20 w21 w22 w23 w24 w25 w26 w27 w28 h) n) := by
  refine z_start zk_X3_at zpl_RX3 (Nat.le_of_ble_eq_true rfl) ?_
  intro hn0 M hl hG ho hb hN hr hm hH hrm hQ
  subst hl hG
  have ho : zm_o M = RX3 := ho
  show z_V M (z_tw (zm_G M) t w0 w1 w2 w3 w4 w5 w6 w7 w8 w9 w10 w11 w12 w13 w14 w15 w16 w17 w18 w19 w20 w21 w22 w23 w24 w25 w26 w27 w28 h) n 0 0 0 [(0, .int (nI k)), (1, .int (nI d)), (2, .int (nI g))] []
  refine z_iconst (x := nI 5) hb dX3_at_0 (by decide) ?_
  refine z_bipush (x := nI 7) hb dX3_at_1 (by decide) ?_
  refine z_iload_n hb dX3_at_3 rfl ?_
  refine z_imul hb dX3_at_4 ?_
  refine z_toI (y := nI (7 * k)) (pk_mul 7 k) ?_
  refine z_iload_n hb dX3_at_5 rfl ?_
  refine z_iadd hb dX3_at_6 ?_
  refine z_toI (y := nI (7 * k + d)) (nI_add (7 * k) d) ?_
  refine z_imul hb dX3_at_7 ?_
  refine z_toI (y := nI (5 * (7 * k + d))) (pk_mul 5 (7 * k + d)) ?_
  refine z_iload_n hb dX3_at_8 rfl ?_
  refine z_iadd hb dX3_at_9 ?_
  refine z_toI (y := nI (5 * (7 * k + d) + g)) (nI_add (5 * (7 * k + d)) g) ?_
  refine z_iret hb hr dX3_at_10 ?_
  rw [hQ]
  exact ⟨rfl, rfl, rfl⟩

set_option maxHeartbeats 1000000 in
theorem m_X3_counts {l : Launch} {G : zG} {h : zH} {n : Nat} {t : Nat} {w0 : Nat → Int32} {w1 : Nat → Int32} {w2 : Nat → Int32} {w3 : Nat → Int32} {w4 : Nat → Int32} {w5 : Nat → Int64} {w6 : Nat → Int64} {w7 : Nat → Int64} {w8 : Nat → Int64} {w9 : Nat → Int64} {w10 : Nat → Int64} {w11 : Nat → Int64} {w12 : Int32} {w13 : Int32} {w14 : Int32} {w15 : Int32} {w16 : Int32} {w17 : Int32} {w18 : Bool} {w19 : Nat → Int32} {w20 : Int32} {w21 : Nat → Int32} {w22 : Nat → Int32} {w23 : Nat → Int32} {w24 : Int32} {w25 : Int32} {w26 : Int32} {w27 : Int32} {w28 : Bool}  (p : Nat) (k : Nat) (d : Int32) (g : Int32) (ht : z_n0 G ≤ t) (hp : p < 40) (hk : k < 8) : z_C l G yX3_counts 2 0 0 [.ref t, .int (nI p), .int (nI k), .int d, .int g] (z_tw G t w0 w1 w2 w3 w4 w5 w6 w7 w8 w9 w10 w11 w12 w13 w14 w15 w16 w17 w18 w19 w20 w21 w22 w23 w24 w25 w26 w27 w28 h) n (z_rv (.int (z_b (tw_cnt w0 p k d g))) (z_tw G t w0 w1 w2 w3 w4 w5 w6 w7 w8 w9 w10 w11 w12 w13 w14 w15 w16 w17 w18 w19 w20 w21 w22 w23 w24 w25 w26 w27 w28 h) n) := by
  refine z_start zk_X3_counts zpl_RX3 (Nat.le_of_ble_eq_true rfl) ?_
  intro hn0 M hl hG ho hb hN hr hm hH hrm hQ
  subst hl hG
  have ho : zm_o M = RX3 := ho
  show z_V M (z_tw (zm_G M) t w0 w1 w2 w3 w4 w5 w6 w7 w8 w9 w10 w11 w12 w13 w14 w15 w16 w17 w18 w19 w20 w21 w22 w23 w24 w25 w26 w27 w28 h) n 0 0 0 [(0, .ref t), (1, .int (nI p)), (2, .int (nI k)), (3, .int d), (4, .int g)] []
  refine z_aload_n hb dX3_counts_0 rfl ?_
  refine z_iload_n hb dX3_counts_1 rfl ?_
  refine z_iconst (x := nI 1) hb dX3_counts_2 (by decide) ?_
  refine z_call1 (b' := 0) (f' := 0) (rest := []) (av := [.ref t, .int (nI p), .int (nI 1)]) (z_siteV hb ho zc2 z_tw_o q2859 q2861 qs43 ⟨_, _, _, _, zk_X3_r⟩ zy_X3_r zl_X3_r dX3_counts_3 : z_Site M _ _ _ _ _ ([.int (nI p), .int (nI 1)].reverse ++ .ref t :: []) [] _) zk_X3_r q104 hrm (m_X3_r p 1 ht (by omega)) (by omega) (by decide) (Nat.le_of_ble_eq_true rfl) (by omega) (by omega) ?_
  refine z_iload_n hb dX3_counts_6 rfl ?_
  refine z_icmp_ne (tgt := 40) hb dX3_counts_7 (by decide) (fun c_7 => ?_) (fun c_7 => ?_)
  · refine z_iconst (x := nI 0) hb dX3_counts_40 (by decide) ?_
    refine z_zret hb hr rfl dX3_counts_41 ?_
    rw [hQ]
    exact z_rvb0 (by simp only [tw_cnt]; simp [Int32.not_lt, c_7])
  · refine z_aload_n hb dX3_counts_10 rfl ?_
    refine z_iload_n hb dX3_counts_11 rfl ?_
    refine z_iconst (x := nI 2) hb dX3_counts_12 (by decide) ?_
    refine z_call1 (b' := 0) (f' := 0) (rest := []) (av := [.ref t, .int (nI p), .int (nI 2)]) (z_siteV hb ho zc2 z_tw_o q2859 q2861 qs43 ⟨_, _, _, _, zk_X3_r⟩ zy_X3_r zl_X3_r dX3_counts_13 : z_Site M _ _ _ _ _ ([.int (nI p), .int (nI 2)].reverse ++ .ref t :: []) [] _) zk_X3_r q104 hrm (m_X3_r p 2 ht (by omega)) (by omega) (by decide) (Nat.le_of_ble_eq_true rfl) (by omega) (by omega) ?_
    refine z_iload hb dX3_counts_16 rfl ?_
    refine z_icmp_ne (tgt := 40) hb dX3_counts_18 (by decide) (fun c_18 => ?_) (fun c_18 => ?_)
    · refine z_iconst (x := nI 0) hb dX3_counts_40 (by decide) ?_
      refine z_zret hb hr rfl dX3_counts_41 ?_
      rw [hQ]
      exact z_rvb0 (by simp only [tw_cnt]; simp [Int32.not_lt, c_7, c_18])
    · refine z_aload_n hb dX3_counts_21 rfl ?_
      refine z_iload_n hb dX3_counts_22 rfl ?_
      refine z_iconst (x := nI 3) hb dX3_counts_23 (by decide) ?_
      refine z_call1 (b' := 0) (f' := 0) (rest := []) (av := [.ref t, .int (nI p), .int (nI 3)]) (z_siteV hb ho zc2 z_tw_o q2859 q2861 qs43 ⟨_, _, _, _, zk_X3_r⟩ zy_X3_r zl_X3_r dX3_counts_24 : z_Site M _ _ _ _ _ ([.int (nI p), .int (nI 3)].reverse ++ .ref t :: []) [] _) zk_X3_r q104 hrm (m_X3_r p 3 ht (by omega)) (by omega) (by decide) (Nat.le_of_ble_eq_true rfl) (by omega) (by omega) ?_
      refine z_aload_n hb dX3_counts_27 rfl ?_
      refine z_iload_n hb dX3_counts_28 rfl ?_
      refine z_iconst (x := nI 1) hb dX3_counts_29 (by decide) ?_
      refine z_call1 (b' := 0) (f' := 0) (rest := [.int (w0 (16 + 4 * p + 3))]) (av := [.ref t, .int (nI k), .int (nI 1)]) (z_siteV hb ho zc2 z_tw_o q2847 q2849 qs40 ⟨_, _, _, _, zk_X3_s⟩ zy_X3_s zl_X3_s dX3_counts_30 : z_Site M _ _ _ _ _ ([.int (nI k), .int (nI 1)].reverse ++ .ref t :: [.int (w0 (16 + 4 * p + 3))]) [.int (w0 (16 + 4 * p + 3))] _) zk_X3_s q104 hrm (m_X3_s k 1 ht (by omega)) (by omega) (by decide) (Nat.le_of_ble_eq_true rfl) (by omega) (by omega) ?_
      refine z_icmp_lt (tgt := 40) hb dX3_counts_33 (by decide) (fun c_33 => ?_) (fun c_33 => ?_)
      · refine z_iconst (x := nI 0) hb dX3_counts_40 (by decide) ?_
        refine z_zret hb hr rfl dX3_counts_41 ?_
        rw [hQ]
        exact z_rvb0 (by simp only [tw_cnt]; simp [Int32.not_lt, c_7, c_18, Int32.not_le.mpr c_33])
      · refine z_iconst (x := nI 1) hb dX3_counts_36 (by decide) ?_
        refine z_goto (tgt := 41) hb dX3_counts_37 (by decide) ?_
        refine z_zret hb hr rfl dX3_counts_41 ?_
        rw [hQ]
        exact z_rvb1 (by simp only [tw_cnt]; simp [Int32.not_lt, c_7, c_18, Int32.not_lt.mp c_33])

def tw_of (w0 : Nat → Int32) (k : Nat) (d g : Int32) : Nat → Int64
  | 0 => 0
  | p + 1 => if tw_cnt w0 p k d g then (if w0 (176 + 4 * k) = nI 120 then (if tw_of w0 k d g p < (w0 (16 + 4 * p + 3)).toInt64 then (w0 (16 + 4 * p + 3)).toInt64 else tw_of w0 k d g p) else tw_of w0 k d g p + (if w0 (176 + 4 * k) = nI 115 then (w0 (16 + 4 * p + 3)).toInt64 else 1)) else tw_of w0 k d g p
theorem tw_of_n {w0 : Nat → Int32} {k p : Nat} {d g : Int32} (h : tw_cnt w0 p k d g = false) : tw_of w0 k d g (p + 1) = tw_of w0 k d g p := by simp [tw_of, h]

set_option maxHeartbeats 1000000 in
theorem m_X3_row {l : Launch} {G : zG} {h : zH} {n : Nat} {t : Nat} {w0 : Nat → Int32} {w1 : Nat → Int32} {w2 : Nat → Int32} {w3 : Nat → Int32} {w4 : Nat → Int32} {w5 : Nat → Int64} {w6 : Nat → Int64} {w7 : Nat → Int64} {w8 : Nat → Int64} {w9 : Nat → Int64} {w10 : Nat → Int64} {w11 : Nat → Int64} {w12 : Int32} {w13 : Int32} {w14 : Int32} {w15 : Int32} {w16 : Int32} {w17 : Int32} {w18 : Bool} {w19 : Nat → Int32} {w20 : Int32} {w21 : Nat → Int32} {w22 : Nat → Int32} {w23 : Nat → Int32} {w24 : Int32} {w25 : Int32} {w26 : Int32} {w27 : Int32} {w28 : Bool} {R S D : Nat}  (x : Int32) (ht : z_n0 G ≤ t) (hw : z_ok w0 R S D) : z_C l G yX3_row 2 0 0 [.ref t, .int x] (z_tw G t w0 w1 w2 w3 w4 w5 w6 w7 w8 w9 w10 w11 w12 w13 w14 w15 w16 w17 w18 w19 w20 w21 w22 w23 w24 w25 w26 w27 w28 h) n (z_rv (.int (z_o (tw_row w0 R x))) (z_tw G t w0 w1 w2 w3 w4 w5 w6 w7 w8 w9 w10 w11 w12 w13 w14 w15 w16 w17 w18 w19 w20 w21 w22 w23 w24 w25 w26 w27 w28 h) n) := by
  refine z_start zk_X3_row zpl_RX3 (Nat.le_of_ble_eq_true rfl) ?_
  intro hn0 M hl hG ho hb hN hr hm hH hrm hQ
  subst hl hG
  have ho : zm_o M = RX3 := ho
  obtain ⟨hR, hR4, hS, hS8, hD, hD6, hF⟩ := id hw
  show z_V M (z_tw (zm_G M) t w0 w1 w2 w3 w4 w5 w6 w7 w8 w9 w10 w11 w12 w13 w14 w15 w16 w17 w18 w19 w20 w21 w22 w23 w24 w25 w26 w27 w28 h) n 0 0 0 [(0, .ref t), (1, .int x)] []
  refine z_iconst (x := nI 0) hb dX3_row_0 (by decide) ?_
  refine z_istore_n (lv' := [(2, .int (nI 0)), (0, .ref t), (1, .int x)]) hb dX3_row_1 (by rw [hN]; decide) rfl ?_
  have lp_2 : ∀ (k9_2 : Nat) (k : Nat), R - k < k9_2 → (k ≤ R) → (tw_rowF w0 x k (R - k) = tw_row w0 R x) → z_V M (z_tw (zm_G M) t w0 w1 w2 w3 w4 w5 w6 w7 w8 w9 w10 w11 w12 w13 w14 w15 w16 w17 w18 w19 w20 w21 w22 w23 w24 w25 w26 w27 w28 h) n 0 0 2 [(2, .int (nI k)), (0, .ref t), (1, .int x)] [] := by
    intro k9_2
    induction k9_2 with
    | zero => intro k hk9_2; exact absurd hk9_2 (Nat.not_lt_zero _)
    | succ k9_2 ih_2 =>
      intro k hk9_2 hk he
      refine z_iload_n hb dX3_row_2 rfl ?_
      refine z_aload_n hb dX3_row_3 rfl ?_
      refine z_get (k := 0) (C := RX3) (T := TX3) (N := 29) hb ho zc2 in_X3 (zf_RX3_7 _) dX3_row_4 z_tw_o (by decide) rfl ?_
      refine z_iconst (x := nI 1) hb dX3_row_7 (by decide) ?_
      refine z_iald (j := 1) hb dX3_row_8 z_tw_r0 rfl (by omega) (by omega) ?_
      refine z_toI (y := nI R) hR ?_
      refine z_icmp_geN (tgt := 30) hb dX3_row_9 (by decide) (by omega) (by omega) (fun c_9 => ?_) (fun c_9 => ?_)
      · refine z_iconst (x := (-1)) hb dX3_row_30 (by decide) ?_
        refine z_iret hb hr dX3_row_31 ?_
        rw [hQ]
        exact z_rve (by rw [← he, show R - k = 0 by omega]; rfl)
      · refine z_aload_n hb dX3_row_12 rfl ?_
        refine z_iload_n hb dX3_row_13 rfl ?_
        refine z_iconst (x := nI 0) hb dX3_row_14 (by decide) ?_
        refine z_call1 (b' := 0) (f' := 0) (rest := []) (av := [.ref t, .int (nI k), .int (nI 0)]) (z_siteV hb ho zc2 z_tw_o q2859 q2861 qs43 ⟨_, _, _, _, zk_X3_r⟩ zy_X3_r zl_X3_r dX3_row_15 : z_Site M _ _ _ _ _ ([.int (nI k), .int (nI 0)].reverse ++ .ref t :: []) [] _) zk_X3_r q104 hrm (m_X3_r k 0 ht (by omega)) (by omega) (by decide) (Nat.le_of_ble_eq_true rfl) (by omega) (by omega) ?_
        refine z_toI (y := w0 (16 + 4 * k)) rfl ?_
        refine z_iload_n hb dX3_row_18 rfl ?_
        refine z_icmp_ne (tgt := 24) hb dX3_row_19 (by decide) (fun c_19 => ?_) (fun c_19 => ?_)
        · refine z_iinc (k0 := 0) (lv' := [(2, .int (nI (k + 1))), (0, .ref t), (1, .int x)]) hb dX3_row_24 rfl (nI_1 k) (by rw [hN]; decide) rfl ?_
          refine z_goto (tgt := 2) hb dX3_row_27 (by decide) ?_
          refine z_lv [0, 1, 2] (lv' := [(2, .int (nI (k + 1))), (0, .ref t), (1, .int x)]) rfl ?_
          exact ih_2 (k + 1) (by omega) (by omega) (by rw [← he, show R - k = (R - (k + 1)) + 1 by omega, tw_rowF, if_neg c_19])
        · refine z_iload_n hb dX3_row_22 rfl ?_
          refine z_iret hb hr dX3_row_23 ?_
          rw [hQ]
          exact z_rve (by rw [← he, show R - k = (R - (k + 1)) + 1 by omega, tw_rowF, if_pos c_19]; rfl)
  refine z_lv [0, 1, 2] (lv' := [(2, .int (nI 0)), (0, .ref t), (1, .int x)]) rfl ?_
  exact lp_2 _ 0 (Nat.lt_succ_self _) (Nat.zero_le _) rfl

set_option maxHeartbeats 1000000 in
theorem m_X3_ofRows {l : Launch} {G : zG} {h : zH} {n : Nat} {t : Nat} {w0 : Nat → Int32} {w1 : Nat → Int32} {w2 : Nat → Int32} {w3 : Nat → Int32} {w4 : Nat → Int32} {w5 : Nat → Int64} {w6 : Nat → Int64} {w7 : Nat → Int64} {w8 : Nat → Int64} {w9 : Nat → Int64} {w10 : Nat → Int64} {w11 : Nat → Int64} {w12 : Int32} {w13 : Int32} {w14 : Int32} {w15 : Int32} {w16 : Int32} {w17 : Int32} {w18 : Bool} {w19 : Nat → Int32} {w20 : Int32} {w21 : Nat → Int32} {w22 : Nat → Int32} {w23 : Nat → Int32} {w24 : Int32} {w25 : Int32} {w26 : Int32} {w27 : Int32} {w28 : Bool} {R S D : Nat}  (k : Nat) (d : Int32) (g : Int32) (ht : z_n0 G ≤ t) (hw : z_ok w0 R S D) (hk : k < 8) : z_C l G yX3_ofRows 3 0 0 [.ref t, .int (nI k), .int d, .int g] (z_tw G t w0 w1 w2 w3 w4 w5 w6 w7 w8 w9 w10 w11 w12 w13 w14 w15 w16 w17 w18 w19 w20 w21 w22 w23 w24 w25 w26 w27 w28 h) n (z_rv (.long (tw_of w0 k d g R)) (z_tw G t w0 w1 w2 w3 w4 w5 w6 w7 w8 w9 w10 w11 w12 w13 w14 w15 w16 w17 w18 w19 w20 w21 w22 w23 w24 w25 w26 w27 w28 h) n) := by
  refine z_start zk_X3_ofRows zpl_RX3 (Nat.le_of_ble_eq_true rfl) ?_
  intro hn0 M hl hG ho hb hN hr hm hH hrm hQ
  subst hl hG
  have ho : zm_o M = RX3 := ho
  obtain ⟨hR, hR4, hS, hS8, hD, hD6, hF⟩ := id hw
  show z_V M (z_tw (zm_G M) t w0 w1 w2 w3 w4 w5 w6 w7 w8 w9 w10 w11 w12 w13 w14 w15 w16 w17 w18 w19 w20 w21 w22 w23 w24 w25 w26 w27 w28 h) n 0 0 0 [(0, .ref t), (1, .int (nI k)), (2, .int d), (3, .int g)] []
  refine z_lconst (x := 0) hb dX3_ofRows_0 rfl ?_
  refine z_lstore (lv' := [(4, .long 0), (0, .ref t), (1, .int (nI k)), (2, .int d), (3, .int g)]) hb dX3_ofRows_1 (by rw [hN]; decide) rfl ?_
  refine z_iconst (x := nI 0) hb dX3_ofRows_3 (by decide) ?_
  refine z_istore (lv' := [(6, .int (nI 0)), (4, .long 0), (0, .ref t), (1, .int (nI k)), (2, .int d), (3, .int g)]) hb dX3_ofRows_4 (by rw [hN]; decide) rfl ?_
  have lp_6 : ∀ (k9_6 : Nat) (p : Nat) (v : Int64), R - p < k9_6 → (p ≤ R) → (v = tw_of w0 k d g p) → z_V M (z_tw (zm_G M) t w0 w1 w2 w3 w4 w5 w6 w7 w8 w9 w10 w11 w12 w13 w14 w15 w16 w17 w18 w19 w20 w21 w22 w23 w24 w25 w26 w27 w28 h) n 0 0 6 [(6, .int (nI p)), (4, .long v), (0, .ref t), (1, .int (nI k)), (2, .int d), (3, .int g)] [] := by
    intro k9_6
    induction k9_6 with
    | zero => intro p v hk9_6; exact absurd hk9_6 (Nat.not_lt_zero _)
    | succ k9_6 ih_6 =>
      intro p v hk9_6 hp hv
      refine z_iload hb dX3_ofRows_6 rfl ?_
      refine z_aload_n hb dX3_ofRows_8 rfl ?_
      refine z_get (k := 0) (C := RX3) (T := TX3) (N := 29) hb ho zc2 in_X3 (zf_RX3_7 _) dX3_ofRows_9 z_tw_o (by decide) rfl ?_
      refine z_iconst (x := nI 1) hb dX3_ofRows_12 (by decide) ?_
      refine z_iald (j := 1) hb dX3_ofRows_13 z_tw_r0 rfl (by omega) (by omega) ?_
      refine z_toI (y := nI R) hR ?_
      refine z_icmp_geN (tgt := 101) hb dX3_ofRows_14 (by decide) (by omega) (by omega) (fun c_14 => ?_) (fun c_14 => ?_)
      · refine z_lload hb dX3_ofRows_101 rfl ?_
        refine z_lret hb hr dX3_ofRows_103 ?_
        rw [hQ]
        exact z_rve (by rw [hv, show p = R by omega])
      · refine z_aload_n hb dX3_ofRows_17 rfl ?_
        refine z_iload hb dX3_ofRows_18 rfl ?_
        refine z_iload_n hb dX3_ofRows_20 rfl ?_
        refine z_iload_n hb dX3_ofRows_21 rfl ?_
        refine z_iload_n hb dX3_ofRows_22 rfl ?_
        refine z_call1 (b' := 0) (f' := 0) (rest := []) (av := [.ref t, .int (nI p), .int (nI k), .int d, .int g]) (z_siteV hb ho zc2 z_tw_o q2855 q2857 qs42 ⟨_, _, _, _, zk_X3_counts⟩ zy_X3_counts zl_X3_counts dX3_ofRows_23 : z_Site M _ _ _ _ _ ([.int (nI p), .int (nI k), .int d, .int g].reverse ++ .ref t :: []) [] _) zk_X3_counts q104 hrm (m_X3_counts p k d g ht (by omega) (by omega)) (by omega) (by decide) (Nat.le_of_ble_eq_true rfl) (by omega) (by omega) ?_
        refine z_ifb_ne (tgt := 32) hb dX3_ofRows_26 (by decide) (fun c_26 => ?_) (fun c_26 => ?_)
        · refine z_aload_n hb dX3_ofRows_32 rfl ?_
          refine z_iload hb dX3_ofRows_33 rfl ?_
          refine z_iconst (x := nI 3) hb dX3_ofRows_35 (by decide) ?_
          refine z_call1 (b' := 0) (f' := 0) (rest := []) (av := [.ref t, .int (nI p), .int (nI 3)]) (z_siteV hb ho zc2 z_tw_o q2859 q2861 qs43 ⟨_, _, _, _, zk_X3_r⟩ zy_X3_r zl_X3_r dX3_ofRows_36 : z_Site M _ _ _ _ _ ([.int (nI p), .int (nI 3)].reverse ++ .ref t :: []) [] _) zk_X3_r q104 hrm (m_X3_r p 3 ht (by omega)) (by omega) (by decide) (Nat.le_of_ble_eq_true rfl) (by omega) (by omega) ?_
          refine z_i2l (v := (w0 (16 + 4 * p + 3)).toInt64) hb dX3_ofRows_39 rfl ?_
          refine z_lstore (lv' := [(7, .long ((w0 (16 + 4 * p + 3)).toInt64)), (6, .int (nI p)), (4, .long v), (0, .ref t), (1, .int (nI k)), (2, .int d), (3, .int g)]) hb dX3_ofRows_40 (by rw [hN]; decide) rfl ?_
          refine z_aload_n hb dX3_ofRows_42 rfl ?_
          refine z_iload_n hb dX3_ofRows_43 rfl ?_
          refine z_iconst (x := nI 0) hb dX3_ofRows_44 (by decide) ?_
          refine z_call1 (b' := 0) (f' := 0) (rest := []) (av := [.ref t, .int (nI k), .int (nI 0)]) (z_siteV hb ho zc2 z_tw_o q2847 q2849 qs40 ⟨_, _, _, _, zk_X3_s⟩ zy_X3_s zl_X3_s dX3_ofRows_45 : z_Site M _ _ _ _ _ ([.int (nI k), .int (nI 0)].reverse ++ .ref t :: []) [] _) zk_X3_s q104 hrm (m_X3_s k 0 ht (by omega)) (by omega) (by decide) (Nat.le_of_ble_eq_true rfl) (by omega) (by omega) ?_
          refine z_toI (y := w0 (176 + 4 * k)) rfl ?_
          refine z_bipush (x := nI 120) hb dX3_ofRows_48 (by decide) ?_
          refine z_icmp_ne (tgt := 73) hb dX3_ofRows_50 (by decide) (fun c_50 => ?_) (fun c_50 => ?_)
          · refine z_lload hb dX3_ofRows_73 rfl ?_
            refine z_aload_n hb dX3_ofRows_75 rfl ?_
            refine z_iload_n hb dX3_ofRows_76 rfl ?_
            refine z_iconst (x := nI 0) hb dX3_ofRows_77 (by decide) ?_
            refine z_call1 (b' := 0) (f' := 0) (rest := [.long v]) (av := [.ref t, .int (nI k), .int (nI 0)]) (z_siteV hb ho zc2 z_tw_o q2847 q2849 qs40 ⟨_, _, _, _, zk_X3_s⟩ zy_X3_s zl_X3_s dX3_ofRows_78 : z_Site M _ _ _ _ _ ([.int (nI k), .int (nI 0)].reverse ++ .ref t :: [.long v]) [.long v] _) zk_X3_s q104 hrm (m_X3_s k 0 ht (by omega)) (by omega) (by decide) (Nat.le_of_ble_eq_true rfl) (by omega) (by omega) ?_
            refine z_toI (y := w0 (176 + 4 * k)) rfl ?_
            refine z_bipush (x := nI 115) hb dX3_ofRows_81 (by decide) ?_
            refine z_icmp_ne (tgt := 91) hb dX3_ofRows_83 (by decide) (fun c_83 => ?_) (fun c_83 => ?_)
            · refine z_lconst (x := 1) hb dX3_ofRows_91 rfl ?_
              refine z_ladd hb dX3_ofRows_92 ?_
              refine z_lstore (lv' := [(4, .long (v + 1)), (7, .long ((w0 (16 + 4 * p + 3)).toInt64)), (6, .int (nI p)), (0, .ref t), (1, .int (nI k)), (2, .int d), (3, .int g)]) hb dX3_ofRows_93 (by rw [hN]; decide) rfl ?_
              refine z_iinc (k0 := 2) (lv' := [(6, .int (nI (p + 1))), (4, .long (v + 1)), (7, .long ((w0 (16 + 4 * p + 3)).toInt64)), (0, .ref t), (1, .int (nI k)), (2, .int d), (3, .int g)]) hb dX3_ofRows_95 rfl (nI_1 p) (by rw [hN]; decide) rfl ?_
              refine z_goto (tgt := 6) hb dX3_ofRows_98 (by decide) ?_
              refine z_lv [0, 1, 3, 4, 5, 6] (lv' := [(6, .int (nI (p + 1))), (4, .long (v + 1)), (0, .ref t), (1, .int (nI k)), (2, .int d), (3, .int g)]) rfl ?_
              exact ih_6 (p + 1) _ (by omega) (by omega) (by rw [hv] at *; rw [tw_of, if_pos c_26, if_neg c_50, if_neg c_83])
            · refine z_lload hb dX3_ofRows_86 rfl ?_
              refine z_goto (tgt := 92) hb dX3_ofRows_88 (by decide) ?_
              refine z_ladd hb dX3_ofRows_92 ?_
              refine z_lstore (lv' := [(4, .long (v + ((w0 (16 + 4 * p + 3)).toInt64))), (7, .long ((w0 (16 + 4 * p + 3)).toInt64)), (6, .int (nI p)), (0, .ref t), (1, .int (nI k)), (2, .int d), (3, .int g)]) hb dX3_ofRows_93 (by rw [hN]; decide) rfl ?_
              refine z_iinc (k0 := 2) (lv' := [(6, .int (nI (p + 1))), (4, .long (v + ((w0 (16 + 4 * p + 3)).toInt64))), (7, .long ((w0 (16 + 4 * p + 3)).toInt64)), (0, .ref t), (1, .int (nI k)), (2, .int d), (3, .int g)]) hb dX3_ofRows_95 rfl (nI_1 p) (by rw [hN]; decide) rfl ?_
              refine z_goto (tgt := 6) hb dX3_ofRows_98 (by decide) ?_
              refine z_lv [0, 1, 3, 4, 5, 6] (lv' := [(6, .int (nI (p + 1))), (4, .long (v + ((w0 (16 + 4 * p + 3)).toInt64))), (0, .ref t), (1, .int (nI k)), (2, .int d), (3, .int g)]) rfl ?_
              exact ih_6 (p + 1) _ (by omega) (by omega) (by rw [hv] at *; rw [tw_of, if_pos c_26, if_neg c_50, if_pos c_83])
          · refine z_lload hb dX3_ofRows_53 rfl ?_
            refine z_lload hb dX3_ofRows_55 rfl ?_
            refine z_lif_le (tgt := 66) hb dX3_ofRows_57 dX3_ofRows_58 (by decide) (fun c_58 => ?_) (fun c_58 => ?_)
            · refine z_lload hb dX3_ofRows_66 rfl ?_
              refine z_lstore (lv' := [(4, .long v), (7, .long ((w0 (16 + 4 * p + 3)).toInt64)), (6, .int (nI p)), (0, .ref t), (1, .int (nI k)), (2, .int d), (3, .int g)]) hb dX3_ofRows_68 (by rw [hN]; decide) rfl ?_
              refine z_goto (tgt := 95) hb dX3_ofRows_70 (by decide) ?_
              refine z_iinc (k0 := 2) (lv' := [(6, .int (nI (p + 1))), (4, .long v), (7, .long ((w0 (16 + 4 * p + 3)).toInt64)), (0, .ref t), (1, .int (nI k)), (2, .int d), (3, .int g)]) hb dX3_ofRows_95 rfl (nI_1 p) (by rw [hN]; decide) rfl ?_
              refine z_goto (tgt := 6) hb dX3_ofRows_98 (by decide) ?_
              refine z_lv [0, 1, 3, 4, 5, 6] (lv' := [(6, .int (nI (p + 1))), (4, .long v), (0, .ref t), (1, .int (nI k)), (2, .int d), (3, .int g)]) rfl ?_
              exact ih_6 (p + 1) _ (by omega) (by omega) (by rw [hv] at *; rw [tw_of, if_pos c_26, if_pos c_50, if_neg (Int64.not_lt.mpr c_58)])
            · refine z_lload hb dX3_ofRows_61 rfl ?_
              refine z_goto (tgt := 68) hb dX3_ofRows_63 (by decide) ?_
              refine z_lstore (lv' := [(4, .long ((w0 (16 + 4 * p + 3)).toInt64)), (7, .long ((w0 (16 + 4 * p + 3)).toInt64)), (6, .int (nI p)), (0, .ref t), (1, .int (nI k)), (2, .int d), (3, .int g)]) hb dX3_ofRows_68 (by rw [hN]; decide) rfl ?_
              refine z_goto (tgt := 95) hb dX3_ofRows_70 (by decide) ?_
              refine z_iinc (k0 := 2) (lv' := [(6, .int (nI (p + 1))), (4, .long ((w0 (16 + 4 * p + 3)).toInt64)), (7, .long ((w0 (16 + 4 * p + 3)).toInt64)), (0, .ref t), (1, .int (nI k)), (2, .int d), (3, .int g)]) hb dX3_ofRows_95 rfl (nI_1 p) (by rw [hN]; decide) rfl ?_
              refine z_goto (tgt := 6) hb dX3_ofRows_98 (by decide) ?_
              refine z_lv [0, 1, 3, 4, 5, 6] (lv' := [(6, .int (nI (p + 1))), (4, .long ((w0 (16 + 4 * p + 3)).toInt64)), (0, .ref t), (1, .int (nI k)), (2, .int d), (3, .int g)]) rfl ?_
              exact ih_6 (p + 1) _ (by omega) (by omega) (by rw [hv] at *; rw [tw_of, if_pos c_26, if_pos c_50, if_pos (Int64.not_le.mp c_58)])
        · refine z_goto (tgt := 95) hb dX3_ofRows_29 (by decide) ?_
          refine z_iinc (k0 := 0) (lv' := [(6, .int (nI (p + 1))), (4, .long v), (0, .ref t), (1, .int (nI k)), (2, .int d), (3, .int g)]) hb dX3_ofRows_95 rfl (nI_1 p) (by rw [hN]; decide) rfl ?_
          refine z_goto (tgt := 6) hb dX3_ofRows_98 (by decide) ?_
          refine z_lv [0, 1, 2, 3, 4, 5] (lv' := [(6, .int (nI (p + 1))), (4, .long v), (0, .ref t), (1, .int (nI k)), (2, .int d), (3, .int g)]) rfl ?_
          exact ih_6 (p + 1) _ (by omega) (by omega) (by rw [hv] at *; exact (tw_of_n c_26).symm)
  refine z_lv [0, 1, 2, 3, 4, 5] (lv' := [(6, .int (nI 0)), (4, .long 0), (0, .ref t), (1, .int (nI k)), (2, .int d), (3, .int g)]) rfl ?_
  exact lp_6 _ 0 0 (Nat.lt_succ_self _) (Nat.zero_le _) rfl

