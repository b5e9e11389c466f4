abbrev tN (x : Int32) : Nat := x.toNatClampNeg
/-- why a command (its kind and three numbers) is denied -/
def tC_why (w0 : Nat → Int32) (R S D : Nat) : Nat → Int32 → Int32 → Int32 → Nat × Option (Nat × Nat)
  | 0, c, d, a => tw_cRow R D c d a
  | 1, x, _, _ => match tw_row w0 R x with
    | none => (1, none)
    | some _ => (0, none)
  | 2, _, _, _ => tw_cBegin D
  | 3, c, b, _ => tw_cBase S c b
  | 4, c, x, y => tw_cPair S c x y
  | 5, x, _, _ => tw_cRun S x
  | 6, x, b, _ => tw_cKeep S x b
  | 7, x, _, _ => if tw_isS S x then tw_cCut w0 S (tN x) else (1, none)
  | _, x, _, _ => if decide (nI 0 ≤ x ∧ x ≤ nI D) then tw_cRep w0 S (tN x) else (1, none)
abbrev tG := (Nat → Int32) × (Nat → Int64) × Int32 × Nat × Nat × Nat
/-- what comes of rows w (R of them), when the row of day d is new or gone -/
def tw_tch (w : Nat → Int32) (f : Nat → Int64) (v : Int32) (R S D d : Nat) : tG :=
  if d = D then (w, tw_tt w R D f S, v, R, S, D) else (tw_sp (va_up w 5 (w 5 + nI 1)) d D S, f, v, R, S, D)
def tw_new (w0 : Nat → Int32) (f : Nat → Int64) (R S D : Nat) (kd b : Int32) (a c : Nat) : tG :=
  (tw_ns0 (tw_nst w0 S kd b a c) S (D + 1), tw_ns5 (tw_nst w0 S kd b a c) R S f (D + 1), nI S, R, S + 1, D)
def tC_go (w0 : Nat → Int32) (f : Nat → Int64) (R S D : Nat) : Nat → Int32 → Int32 → Int32 → tG
  | 0, c, d, a => tw_tch (tw_nrow w0 R (tN c - 97) (tN d) (tN a)) f (w0 2) (R + 1) S D (tN d)
  | 1, x, _, _ => match tw_row w0 R x with
    | none => (w0, f, 0, R, S, D)
    | some p => tw_tch (tw_gone w0 R p) f (w0 (16 + 4 * p + 3)) (R - 1) S D (tN (w0 (16 + 4 * p + 1)))
  | 2, _, _, _ => (tw_bg0 (va_up w0 0 (nI (D + 1))) (D + 1) S, tw_bg5 (va_up w0 0 (nI (D + 1))) R (D + 1) f S, nI (tw_bgc (va_up w0 0 (nI (D + 1))) (D + 1) S), R, S, D + 1)
  | 3, c, b, _ => tw_new w0 f R S D c b 0 0
  | 4, c, x, y => tw_new w0 f R S D c (nI 0) (tN x) (tN y)
  | 5, x, _, _ => tw_new w0 f R S D (nI 114) (nI 0) (tN x) (tN x)
  | 6, x, b, _ => tw_new w0 f R S D (nI 107) b (tN x) (tN x)
  | 7, x, _, _ => (tw_cut w0 S (tN x), tw_cut5 f S (tN x), nI (S - 1), R, S - 1, D)
  | _, x, _, _ => (tw_rep w0 S (tN x), tw_rp5 w0 R (tN x) f S, nI (tw_rpc w0 (tN x) S), R, S, D)
theorem tC_why8 {w0 : Nat → Int32} {R S D : Nat} {x u v : Int32} : tC_why w0 R S D 8 x u v = if decide (nI 0 ≤ x ∧ x ≤ nI D) then tw_cRep w0 S (tN x) else (1, none) := rfl
theorem tC_go8 {w0 : Nat → Int32} {f : Nat → Int64} {R S D : Nat} {x u v : Int32} : tC_go w0 f R S D 8 x u v = (tw_rep w0 S (tN x), tw_rp5 w0 R (tN x) f S, nI (tw_rpc w0 (tN x) S), R, S, D) := rfl
/-- the rows' days, groups and amounts are within their bounds -/
def z_rows (w0 : Nat → Int32) (R D : Nat) : Prop := ∀ p, p < R → ∃ d g a, w0 (16 + 4 * p + 1) = nI d ∧ d ≤ D ∧ w0 (16 + 4 * p + 2) = nI g ∧ g < 5 ∧ w0 (16 + 4 * p + 3) = nI a ∧ a ≤ 99
theorem z_btw {x : Int32} {lo hi : Nat} (hh : hi < 2 ^ 31) (hl : lo < 2 ^ 31) (h : decide (nI lo ≤ x ∧ x ≤ nI hi) = true) : ∃ k, lo ≤ k ∧ k ≤ hi ∧ x = nI k := by
  have h1 := of_decide_eq_true h
  obtain ⟨j, hj, rfl⟩ := nI_of (x := x) (by
    have h2 := h1.1
    rw [Int32.le_iff_toInt_le, nI_toInt hl] at h2
    rw [Int32.lt_iff_toInt_lt, Int32.toInt_zero]
    omega)
  exact ⟨j, (nI_leI hl hj).mp h1.1, (nI_leI hj hh).mp h1.2, rfl⟩
theorem tw_cRow0 {R D : Nat} {c d a : Int32} (hD6 : D ≤ 6) (hR : R ≤ 40) (h : (tw_cRow R D c d a).1 = 0) : tw_cRow R D c d a = (0, none) ∧ ∃ g d' a', g < 5 ∧ d' ≤ D ∧ a' ≤ 99 ∧ R < 40 ∧ c = nI (97 + g) ∧ d = nI d' ∧ a = nI a' := by
  unfold tw_cRow at h ⊢
  by_cases h1 : (decide (nI 97 ≤ c ∧ c ≤ nI 101) && (decide (nI 0 ≤ d ∧ d ≤ nI 6) && decide (nI 0 ≤ a ∧ a ≤ nI 99))) = false
  · rw [if_pos h1] at h; cases h
  rw [if_neg h1] at h ⊢
  by_cases h2 : nI D < d
  · rw [if_pos h2] at h; cases h
  rw [if_neg h2] at h ⊢
  by_cases h3 : R = 40
  · rw [if_pos h3] at h; cases h
  rw [if_neg h3]
  refine ⟨rfl, ?_⟩
  simp only [Bool.and_eq_false_iff, not_or, Bool.not_eq_false] at h1
  obtain ⟨g, hg1, hg2, rfl⟩ := z_btw (by omega) (by omega) h1.1
  obtain ⟨d', hd1, hd2, rfl⟩ := z_btw (by omega) (by omega) h1.2.1
  obtain ⟨a', ha1, ha2, rfl⟩ := z_btw (by omega) (by omega) h1.2.2
  rw [nI_ltI (by omega) (by omega)] at h2
  exact ⟨g - 97, d', a', by omega, by omega, ha2, by omega, by rw [show 97 + (g - 97) = g by omega], rfl, rfl⟩
theorem tw_cStep0 {S c : Nat} (hS8 : S ≤ 8) (hc : c ≠ 0) (h : (tw_cStep S c).1 = 0) : tw_cStep S c = (0, none) ∧ S < 8 := by
  unfold tw_cStep at h ⊢
  by_cases h1 : S = 8
  · rw [if_pos h1] at h; exact absurd h hc
  · rw [if_neg h1]; exact ⟨rfl, by omega⟩
theorem tw_cBase0 {S : Nat} {c b : Int32} (hS8 : S ≤ 8) (h : (tw_cBase S c b).1 = 0) : tw_cBase S c b = (0, none) ∧ S < 8 ∧ tw_isK c = true ∧ ∃ b', b' ≤ 99 ∧ b = nI b' := by
  unfold tw_cBase at h ⊢
  by_cases h1 : (tw_isK c && decide (nI 0 ≤ b ∧ b ≤ nI 99)) = false
  · rw [if_pos h1] at h; cases h
  rw [if_neg h1] at h ⊢
  have := tw_cStep0 hS8 (by decide) h
  simp only [Bool.and_eq_false_iff, not_or, Bool.not_eq_false] at h1
  obtain ⟨k, hk, hk2⟩ := z_inN_of (by omega) h1.2
  exact ⟨this.1, this.2, h1.1, k, hk, hk2⟩
theorem tw_cPair0 {S : Nat} {c x y : Int32} (hS8 : S ≤ 8) (h : (tw_cPair S c x y).1 = 0) : tw_cPair S c x y = (0, none) ∧ S < 8 ∧ (c = nI 43 ∨ c = nI 45) ∧ ∃ i j, i < S ∧ j < S ∧ x = nI i ∧ y = nI j := by
  unfold tw_cPair at h ⊢
  by_cases h1 : (decide (c = nI 43) || decide (c = nI 45)) = false
  · rw [if_pos h1] at h; cases h
  rw [if_neg h1] at h ⊢
  by_cases h2 : (tw_isS S x && tw_isS S y) = false
  · rw [if_pos h2] at h; cases h
  rw [if_neg h2] at h ⊢
  have := tw_cStep0 hS8 (by decide) h
  simp only [Bool.and_eq_false_iff, not_or, Bool.not_eq_false] at h2
  obtain ⟨i, hi, hi2⟩ := z_isS_of hS8 h2.1
  obtain ⟨j, hj, hj2⟩ := z_isS_of hS8 h2.2
  refine ⟨this.1, this.2, ?_, i, j, hi, hj, hi2, hj2⟩
  simp at h1; exact Decidable.or_iff_not_imp_left.mpr h1
theorem tw_cRun0 {S : Nat} {x : Int32} (hS8 : S ≤ 8) (h : (tw_cRun S x).1 = 0) : tw_cRun S x = (0, none) ∧ S < 8 ∧ ∃ i, i < S ∧ x = nI i := by
  unfold tw_cRun at h ⊢
  by_cases h1 : tw_isS S x = false
  · rw [if_pos h1] at h; cases h
  rw [if_neg h1] at h ⊢
  have := tw_cStep0 hS8 (by decide) h
  obtain ⟨i, hi, hi2⟩ := z_isS_of hS8 (by simpa using h1)
  exact ⟨this.1, this.2, i, hi, hi2⟩
theorem tw_cKeep0 {S : Nat} {x b : Int32} (hS8 : S ≤ 8) (h : (tw_cKeep S x b).1 = 0) : tw_cKeep S x b = (0, none) ∧ S < 8 ∧ ∃ i b', i < S ∧ b' ≤ 99 ∧ x = nI i ∧ b = nI b' := by
  unfold tw_cKeep at h ⊢
  by_cases h1 : tw_isS S x = false
  · rw [if_pos h1] at h; cases h
  rw [if_neg h1] at h ⊢
  by_cases h2 : decide (nI 0 ≤ b ∧ b ≤ nI 99) = false
  · rw [if_pos h2] at h; cases h
  rw [if_neg h2] at h ⊢
  have := tw_cStep0 hS8 (by decide) h
  obtain ⟨i, hi, hi2⟩ := z_isS_of hS8 (by simpa using h1)
  obtain ⟨k, hk, hk2⟩ := z_inN_of (c := 99) (by omega) (by simpa using h2)
  exact ⟨this.1, this.2, i, k, hi, hk, hi2, hk2⟩
theorem tw_cBegin0 {D : Nat} (hD6 : D ≤ 6) (h : (tw_cBegin D).1 = 0) : tw_cBegin D = (0, none) ∧ D < 6 := by
  unfold tw_cBegin at h ⊢
  by_cases h1 : D = 6
  · rw [if_pos h1] at h; cases h
  · rw [if_neg h1]; exact ⟨rfl, by omega⟩
theorem tw_cCut0 {w0 : Nat → Int32} {S k : Nat} (h : (tw_cCut w0 S k).1 = 0) : tw_cCut w0 S k = (0, none) := by
  unfold tw_cCut at h ⊢
  split at h
  · simp only [*]
  · cases h
theorem tw_cRep0 {w0 : Nat → Int32} {S k : Nat} (h : (tw_cRep w0 S k).1 = 0) : tw_cRep w0 S k = (0, none) := by
  unfold tw_cRep at h ⊢
  split at h
  · simp only [*]
  · cases h
theorem tC_why0 {k : Nat} {a b c : Int32} {w0 : Nat → Int32} {R S D : Nat} (hw : z_ok w0 R S D) (h : (tC_why w0 R S D k a b c).1 = 0) : tC_why w0 R S D k a b c = (0, none) := by
  obtain ⟨hR, hR4, hS, hS8, hD, hD6, hF⟩ := id hw
  unfold tC_why at h ⊢
  split at h
  · exact (tw_cRow0 hD6 hR4 h).1
  · split at h
    · cases h
    · simp only [*]
  · exact (tw_cBegin0 hD6 h).1
  · exact (tw_cBase0 hS8 h).1
  · exact (tw_cPair0 hS8 h).1
  · exact (tw_cRun0 hS8 h).1
  · exact (tw_cKeep0 hS8 h).1
  · split at h
    · rw [if_pos (by assumption)]; exact tw_cCut0 h
    · cases h
  · split at h
    · rw [if_pos (by assumption)]; exact tw_cRep0 h
    · cases h

theorem m_do_row {l : Launch} {G : zG} {h : zH} {n : Nat} {t : Nat} {w0 : Nat → Int32} {w1 : Nat → Int32} {w2 : Nat → Int32} {w3 : Nat → Int32} {w4 : Nat → Int32} {w5 : Nat → Int64} {w6 : Nat → Int64} {w7 : Nat → Int64} {w8 : Nat → Int64} {w9 : Nat → Int64} {w10 : Nat → Int64} {w11 : Nat → Int64} {w12 : Int32} {w13 : Int32} {w14 : Int32} {w15 : Int32} {w16 : Int32} {w17 : Int32} {w18 : Bool} {w19 : Nat → Int32} {w20 : Int32} {w21 : Nat → Int32} {w22 : Nat → Int32} {w23 : Nat → Int32} {w24 : Int32} {w25 : Int32} {w26 : Int32} {w27 : Int32} {w28 : Bool} {R S D : Nat} {u v u2 : Int32} {c d a : Int32} (ht : z_n0 G ≤ t) (hw : z_ok w0 R S D) (hrw : z_rows w0 R D) (h0 : (tC_why w0 R S D 0 c d a).1 = 0) : z_C l G yX3_newRow 7 0 0 [.ref t, .int (c - nI 97), .int d, .int a] (z_tw G t w0 w1 w2 w3 w4 w5 w6 w7 w8 w9 w10 w11 w12 w13 w14 w15 w16 w17 w18 w19 w20 w21 w22 w23 w24 w25 w26 w27 w28 h) n (z_rv (.int ((tC_go w0 w5 R S D 0 c d a).2.2.1)) (z_tw G t ((tC_go w0 w5 R S D 0 c d a).1) w1 w2 w3 w4 ((tC_go w0 w5 R S D 0 c d a).2.1) w6 w7 w8 w9 w10 w11 w12 w13 w14 w15 w16 w17 w18 w19 w20 w21 w22 w23 w24 w25 w26 w27 w28 h) n) := by
  obtain ⟨hR, hR4, hS, hS8, hD, hD6, hF⟩ := id hw
  obtain ⟨-, g, d', a', hg, hd', ha', hR40, rfl, rfl, rfl⟩ := tw_cRow0 hD6 hR4 h0
  have e : tC_go w0 w5 R S D 0 (nI (97 + g)) (nI d') (nI a') = tw_tch (tw_nrow w0 R g d' a') w5 (w0 2) (R + 1) S D d' := by
    rw [tC_go, tN, tN, tN, z_nIc (by omega), z_nIc (by omega), z_nIc (by omega), show 97 + g - 97 = g by omega]
  rw [e, pk_sub (by omega), show 97 + g - 97 = g by omega]
  unfold tw_tch
  by_cases q : d' = D
  · rw [if_pos q, q]; exact m_X3_newRow_now ht hw hR40
  · rw [if_neg q]; exact m_X3_newRow_past ht hw hR40 (by omega)

theorem m_do_gone {l : Launch} {G : zG} {h : zH} {n : Nat} {t : Nat} {w0 : Nat → Int32} {w1 : Nat → Int32} {w2 : Nat → Int32} {w3 : Nat → Int32} {w4 : Nat → Int32} {w5 : Nat → Int64} {w6 : Nat → Int64} {w7 : Nat → Int64} {w8 : Nat → Int64} {w9 : Nat → Int64} {w10 : Nat → Int64} {w11 : Nat → Int64} {w12 : Int32} {w13 : Int32} {w14 : Int32} {w15 : Int32} {w16 : Int32} {w17 : Int32} {w18 : Bool} {w19 : Nat → Int32} {w20 : Int32} {w21 : Nat → Int32} {w22 : Nat → Int32} {w23 : Nat → Int32} {w24 : Int32} {w25 : Int32} {w26 : Int32} {w27 : Int32} {w28 : Bool} {R S D : Nat} {u v u2 : Int32} {x : Int32} (ht : z_n0 G ≤ t) (hw : z_ok w0 R S D) (hrw : z_rows w0 R D) (h0 : (tC_why w0 R S D 1 x u v).1 = 0) : z_C l G yX3_goneRow 7 0 0 [.ref t, .int x] (z_tw G t w0 w1 w2 w3 w4 w5 w6 w7 w8 w9 w10 w11 w12 w13 w14 w15 w16 w17 w18 w19 w20 w21 w22 w23 w24 w25 w26 w27 w28 h) n (z_rv (.int ((tC_go w0 w5 R S D 1 x u v).2.2.1)) (z_tw G t ((tC_go w0 w5 R S D 1 x u v).1) w1 w2 w3 w4 ((tC_go w0 w5 R S D 1 x u v).2.1) w6 w7 w8 w9 w10 w11 w12 w13 w14 w15 w16 w17 w18 w19 w20 w21 w22 w23 w24 w25 w26 w27 w28 h) n) := by
  obtain ⟨hR, hR4, hS, hS8, hD, hD6, hF⟩ := id hw
  cases hp : tw_row w0 R x with
  | none => rw [tC_why, hp] at h0; cases h0
  | some p =>
    obtain ⟨d, g, a, h1, hd, -⟩ := hrw p (tw_row_lt hp)
    have e : tC_go w0 w5 R S D 1 x u v = tw_tch (tw_gone w0 R p) w5 (w0 (16 + 4 * p + 3)) (R - 1) S D d := by
      rw [tC_go, hp]; simp only [h1, tN]; rw [z_nIc (by omega)]
    rw [e]
    unfold tw_tch
    by_cases q : d = D
    · rw [if_pos q]; exact m_X3_goneRow_now (d := 0) ht hw hp (by rw [h1, q])
    · rw [if_neg q]; exact m_X3_goneRow_past ht hw hp h1 (by omega)

theorem m_do_next {l : Launch} {G : zG} {h : zH} {n : Nat} {t : Nat} {w0 : Nat → Int32} {w1 : Nat → Int32} {w2 : Nat → Int32} {w3 : Nat → Int32} {w4 : Nat → Int32} {w5 : Nat → Int64} {w6 : Nat → Int64} {w7 : Nat → Int64} {w8 : Nat → Int64} {w9 : Nat → Int64} {w10 : Nat → Int64} {w11 : Nat → Int64} {w12 : Int32} {w13 : Int32} {w14 : Int32} {w15 : Int32} {w16 : Int32} {w17 : Int32} {w18 : Bool} {w19 : Nat → Int32} {w20 : Int32} {w21 : Nat → Int32} {w22 : Nat → Int32} {w23 : Nat → Int32} {w24 : Int32} {w25 : Int32} {w26 : Int32} {w27 : Int32} {w28 : Bool} {R S D : Nat} {u v u2 : Int32}  (ht : z_n0 G ≤ t) (hw : z_ok w0 R S D) (hrw : z_rows w0 R D) (h0 : (tC_why w0 R S D 2 u v u2).1 = 0) : z_C l G yX3_begins 7 0 0 [.ref t] (z_tw G t w0 w1 w2 w3 w4 w5 w6 w7 w8 w9 w10 w11 w12 w13 w14 w15 w16 w17 w18 w19 w20 w21 w22 w23 w24 w25 w26 w27 w28 h) n (z_rv (.int ((tC_go w0 w5 R S D 2 u v u2).2.2.1)) (z_tw G t ((tC_go w0 w5 R S D 2 u v u2).1) w1 w2 w3 w4 ((tC_go w0 w5 R S D 2 u v u2).2.1) w6 w7 w8 w9 w10 w11 w12 w13 w14 w15 w16 w17 w18 w19 w20 w21 w22 w23 w24 w25 w26 w27 w28 h) n) := by
  obtain ⟨hR, hR4, hS, hS8, hD, hD6, hF⟩ := id hw
  exact m_X3_begins ht hw (tw_cBegin0 hD6 h0).2

theorem m_do_base {l : Launch} {G : zG} {h : zH} {n : Nat} {t : Nat} {w0 : Nat → Int32} {w1 : Nat → Int32} {w2 : Nat → Int32} {w3 : Nat → Int32} {w4 : Nat → Int32} {w5 : Nat → Int64} {w6 : Nat → Int64} {w7 : Nat → Int64} {w8 : Nat → Int64} {w9 : Nat → Int64} {w10 : Nat → Int64} {w11 : Nat → Int64} {w12 : Int32} {w13 : Int32} {w14 : Int32} {w15 : Int32} {w16 : Int32} {w17 : Int32} {w18 : Bool} {w19 : Nat → Int32} {w20 : Int32} {w21 : Nat → Int32} {w22 : Nat → Int32} {w23 : Nat → Int32} {w24 : Int32} {w25 : Int32} {w26 : Int32} {w27 : Int32} {w28 : Bool} {R S D : Nat} {u v u2 : Int32} {c b : Int32} (ht : z_n0 G ≤ t) (hw : z_ok w0 R S D) (hrw : z_rows w0 R D) (h0 : (tC_why w0 R S D 3 c b u).1 = 0) : z_C l G yX3_newStep 7 0 0 [.ref t, .int c, .int b, .int (nI 0), .int (nI 0)] (z_tw G t w0 w1 w2 w3 w4 w5 w6 w7 w8 w9 w10 w11 w12 w13 w14 w15 w16 w17 w18 w19 w20 w21 w22 w23 w24 w25 w26 w27 w28 h) n (z_rv (.int ((tC_go w0 w5 R S D 3 c b u).2.2.1)) (z_tw G t ((tC_go w0 w5 R S D 3 c b u).1) w1 w2 w3 w4 ((tC_go w0 w5 R S D 3 c b u).2.1) w6 w7 w8 w9 w10 w11 w12 w13 w14 w15 w16 w17 w18 w19 w20 w21 w22 w23 w24 w25 w26 w27 w28 h) n) := by
  obtain ⟨hR, hR4, hS, hS8, hD, hD6, hF⟩ := id hw
  exact m_X3_newStep ht hw (tw_cBase0 hS8 h0).2.1 (by omega) (by omega)

theorem m_do_pair {l : Launch} {G : zG} {h : zH} {n : Nat} {t : Nat} {w0 : Nat → Int32} {w1 : Nat → Int32} {w2 : Nat → Int32} {w3 : Nat → Int32} {w4 : Nat → Int32} {w5 : Nat → Int64} {w6 : Nat → Int64} {w7 : Nat → Int64} {w8 : Nat → Int64} {w9 : Nat → Int64} {w10 : Nat → Int64} {w11 : Nat → Int64} {w12 : Int32} {w13 : Int32} {w14 : Int32} {w15 : Int32} {w16 : Int32} {w17 : Int32} {w18 : Bool} {w19 : Nat → Int32} {w20 : Int32} {w21 : Nat → Int32} {w22 : Nat → Int32} {w23 : Nat → Int32} {w24 : Int32} {w25 : Int32} {w26 : Int32} {w27 : Int32} {w28 : Bool} {R S D : Nat} {u v u2 : Int32} {c x y : Int32} (ht : z_n0 G ≤ t) (hw : z_ok w0 R S D) (hrw : z_rows w0 R D) (h0 : (tC_why w0 R S D 4 c x y).1 = 0) : z_C l G yX3_newStep 7 0 0 [.ref t, .int c, .int (nI 0), .int x, .int y] (z_tw G t w0 w1 w2 w3 w4 w5 w6 w7 w8 w9 w10 w11 w12 w13 w14 w15 w16 w17 w18 w19 w20 w21 w22 w23 w24 w25 w26 w27 w28 h) n (z_rv (.int ((tC_go w0 w5 R S D 4 c x y).2.2.1)) (z_tw G t ((tC_go w0 w5 R S D 4 c x y).1) w1 w2 w3 w4 ((tC_go w0 w5 R S D 4 c x y).2.1) w6 w7 w8 w9 w10 w11 w12 w13 w14 w15 w16 w17 w18 w19 w20 w21 w22 w23 w24 w25 w26 w27 w28 h) n) := by
  obtain ⟨hR, hR4, hS, hS8, hD, hD6, hF⟩ := id hw
  obtain ⟨-, hS7, -, i, j, hi, hj, rfl, rfl⟩ := tw_cPair0 hS8 h0
  rw [show tC_go w0 w5 R S D 4 c (nI i) (nI j) = tw_new w0 w5 R S D c (nI 0) i j by rw [tC_go, tN, tN, z_nIc (by omega), z_nIc (by omega)]]
  exact m_X3_newStep ht hw hS7 (by omega) (by omega)

theorem m_do_run {l : Launch} {G : zG} {h : zH} {n : Nat} {t : Nat} {w0 : Nat → Int32} {w1 : Nat → Int32} {w2 : Nat → Int32} {w3 : Nat → Int32} {w4 : Nat → Int32} {w5 : Nat → Int64} {w6 : Nat → Int64} {w7 : Nat → Int64} {w8 : Nat → Int64} {w9 : Nat → Int64} {w10 : Nat → Int64} {w11 : Nat → Int64} {w12 : Int32} {w13 : Int32} {w14 : Int32} {w15 : Int32} {w16 : Int32} {w17 : Int32} {w18 : Bool} {w19 : Nat → Int32} {w20 : Int32} {w21 : Nat → Int32} {w22 : Nat → Int32} {w23 : Nat → Int32} {w24 : Int32} {w25 : Int32} {w26 : Int32} {w27 : Int32} {w28 : Bool} {R S D : Nat} {u v u2 : Int32} {x : Int32} (ht : z_n0 G ≤ t) (hw : z_ok w0 R S D) (hrw : z_rows w0 R D) (h0 : (tC_why w0 R S D 5 x u v).1 = 0) : z_C l G yX3_newStep 7 0 0 [.ref t, .int (nI 114), .int (nI 0), .int x, .int x] (z_tw G t w0 w1 w2 w3 w4 w5 w6 w7 w8 w9 w10 w11 w12 w13 w14 w15 w16 w17 w18 w19 w20 w21 w22 w23 w24 w25 w26 w27 w28 h) n (z_rv (.int ((tC_go w0 w5 R S D 5 x u v).2.2.1)) (z_tw G t ((tC_go w0 w5 R S D 5 x u v).1) w1 w2 w3 w4 ((tC_go w0 w5 R S D 5 x u v).2.1) w6 w7 w8 w9 w10 w11 w12 w13 w14 w15 w16 w17 w18 w19 w20 w21 w22 w23 w24 w25 w26 w27 w28 h) n) := by
  obtain ⟨hR, hR4, hS, hS8, hD, hD6, hF⟩ := id hw
  obtain ⟨-, hS7, i, hi, rfl⟩ := tw_cRun0 hS8 h0
  rw [show tC_go w0 w5 R S D 5 (nI i) u v = tw_new w0 w5 R S D (nI 114) (nI 0) i i by rw [tC_go, tN, z_nIc (by omega)]]
  exact m_X3_newStep ht hw hS7 (by omega) (by omega)

theorem m_do_keep {l : Launch} {G : zG} {h : zH} {n : Nat} {t : Nat} {w0 : Nat → Int32} {w1 : Nat → Int32} {w2 : Nat → Int32} {w3 : Nat → Int32} {w4 : Nat → Int32} {w5 : Nat → Int64} {w6 : Nat → Int64} {w7 : Nat → Int64} {w8 : Nat → Int64} {w9 : Nat → Int64} {w10 : Nat → Int64} {w11 : Nat → Int64} {w12 : Int32} {w13 : Int32} {w14 : Int32} {w15 : Int32} {w16 : Int32} {w17 : Int32} {w18 : Bool} {w19 : Nat → Int32} {w20 : Int32} {w21 : Nat → Int32} {w22 : Nat → Int32} {w23 : Nat → Int32} {w24 : Int32} {w25 : Int32} {w26 : Int32} {w27 : Int32} {w28 : Bool} {R S D : Nat} {u v u2 : Int32} {x b : Int32} (ht : z_n0 G ≤ t) (hw : z_ok w0 R S D) (hrw : z_rows w0 R D) (h0 : (tC_why w0 R S D 6 x b u).1 = 0) : z_C l G yX3_newStep 7 0 0 [.ref t, .int (nI 107), .int b, .int x, .int x] (z_tw G t w0 w1 w2 w3 w4 w5 w6 w7 w8 w9 w10 w11 w12 w13 w14 w15 w16 w17 w18 w19 w20 w21 w22 w23 w24 w25 w26 w27 w28 h) n (z_rv (.int ((tC_go w0 w5 R S D 6 x b u).2.2.1)) (z_tw G t ((tC_go w0 w5 R S D 6 x b u).1) w1 w2 w3 w4 ((tC_go w0 w5 R S D 6 x b u).2.1) w6 w7 w8 w9 w10 w11 w12 w13 w14 w15 w16 w17 w18 w19 w20 w21 w22 w23 w24 w25 w26 w27 w28 h) n) := by
  obtain ⟨hR, hR4, hS, hS8, hD, hD6, hF⟩ := id hw
  obtain ⟨-, hS7, i, b', hi, hb', rfl, rfl⟩ := tw_cKeep0 hS8 h0
  rw [show tC_go w0 w5 R S D 6 (nI i) (nI b') u = tw_new w0 w5 R S D (nI 107) (nI b') i i by rw [tC_go, tN, z_nIc (by omega)]]
  exact m_X3_newStep ht hw hS7 (by omega) (by omega)

theorem m_do_cut {l : Launch} {G : zG} {h : zH} {n : Nat} {t : Nat} {w0 : Nat → Int32} {w1 : Nat → Int32} {w2 : Nat → Int32} {w3 : Nat → Int32} {w4 : Nat → Int32} {w5 : Nat → Int64} {w6 : Nat → Int64} {w7 : Nat → Int64} {w8 : Nat → Int64} {w9 : Nat → Int64} {w10 : Nat → Int64} {w11 : Nat → Int64} {w12 : Int32} {w13 : Int32} {w14 : Int32} {w15 : Int32} {w16 : Int32} {w17 : Int32} {w18 : Bool} {w19 : Nat → Int32} {w20 : Int32} {w21 : Nat → Int32} {w22 : Nat → Int32} {w23 : Nat → Int32} {w24 : Int32} {w25 : Int32} {w26 : Int32} {w27 : Int32} {w28 : Bool} {R S D : Nat} {u v u2 : Int32} {x : Int32} (ht : z_n0 G ≤ t) (hw : z_ok w0 R S D) (hrw : z_rows w0 R D) (h0 : (tC_why w0 R S D 7 x u v).1 = 0) : z_C l G yX3_cut 2 0 0 [.ref t, .int x] (z_tw G t w0 w1 w2 w3 w4 w5 w6 w7 w8 w9 w10 w11 w12 w13 w14 w15 w16 w17 w18 w19 w20 w21 w22 w23 w24 w25 w26 w27 w28 h) n (z_rv (.int ((tC_go w0 w5 R S D 7 x u v).2.2.1)) (z_tw G t ((tC_go w0 w5 R S D 7 x u v).1) w1 w2 w3 w4 ((tC_go w0 w5 R S D 7 x u v).2.1) w6 w7 w8 w9 w10 w11 w12 w13 w14 w15 w16 w17 w18 w19 w20 w21 w22 w23 w24 w25 w26 w27 w28 h) n) := by
  obtain ⟨hR, hR4, hS, hS8, hD, hD6, hF⟩ := id hw
  cases hx : tw_isS S x with
  | false => rw [tC_why, hx] at h0; cases h0
  | true =>
    obtain ⟨k, hk, rfl⟩ := z_isS_of hS8 hx
    rw [show tC_go w0 w5 R S D 7 (nI k) u v = (tw_cut w0 S k, tw_cut5 w5 S k, nI (S - 1), R, S - 1, D) by rw [tC_go, tN, z_nIc (by omega)]]
    exact m_X3_cut ht hw hk

theorem m_do_rep {l : Launch} {G : zG} {h : zH} {n : Nat} {t : Nat} {w0 : Nat → Int32} {w1 : Nat → Int32} {w2 : Nat → Int32} {w3 : Nat → Int32} {w4 : Nat → Int32} {w5 : Nat → Int64} {w6 : Nat → Int64} {w7 : Nat → Int64} {w8 : Nat → Int64} {w9 : Nat → Int64} {w10 : Nat → Int64} {w11 : Nat → Int64} {w12 : Int32} {w13 : Int32} {w14 : Int32} {w15 : Int32} {w16 : Int32} {w17 : Int32} {w18 : Bool} {w19 : Nat → Int32} {w20 : Int32} {w21 : Nat → Int32} {w22 : Nat → Int32} {w23 : Nat → Int32} {w24 : Int32} {w25 : Int32} {w26 : Int32} {w27 : Int32} {w28 : Bool} {R S D : Nat} {u v u2 : Int32} {x : Int32} (ht : z_n0 G ≤ t) (hw : z_ok w0 R S D) (hrw : z_rows w0 R D) (h0 : (tC_why w0 R S D 8 x u v).1 = 0) : z_C l G yX3_repairs 6 0 0 [.ref t, .int x] (z_tw G t w0 w1 w2 w3 w4 w5 w6 w7 w8 w9 w10 w11 w12 w13 w14 w15 w16 w17 w18 w19 w20 w21 w22 w23 w24 w25 w26 w27 w28 h) n (z_rv (.int ((tC_go w0 w5 R S D 8 x u v).2.2.1)) (z_tw G t ((tC_go w0 w5 R S D 8 x u v).1) w1 w2 w3 w4 ((tC_go w0 w5 R S D 8 x u v).2.1) w6 w7 w8 w9 w10 w11 w12 w13 w14 w15 w16 w17 w18 w19 w20 w21 w22 w23 w24 w25 w26 w27 w28 h) n) := by
  obtain ⟨hR, hR4, hS, hS8, hD, hD6, hF⟩ := id hw
  cases hx : decide (nI 0 ≤ x ∧ x ≤ nI D) with
  | false => rw [tC_why8, hx] at h0; cases h0
  | true =>
    obtain ⟨k, hk, rfl⟩ := z_inN_of (by omega) hx
    rw [show tC_go w0 w5 R S D 8 (nI k) u v = (tw_rep w0 S k, tw_rp5 w0 R k w5 S, nI (tw_rpc w0 k S), R, S, D) by rw [tC_go8, tN, z_nIc (by omega)]]
    exact m_X3_repairs k ht hw hk

theorem m_why_cut {l : Launch} {G : zG} {h : zH} {n : Nat} {t : Nat} {w0 : Nat → Int32} {w1 : Nat → Int32} {w2 : Nat → Int32} {w3 : Nat → Int32} {w4 : Nat → Int32} {w5 : Nat → Int64} {w6 : Nat → Int64} {w7 : Nat → Int64} {w8 : Nat → Int64} {w9 : Nat → Int64} {w10 : Nat → Int64} {w11 : Nat → Int64} {w12 : Int32} {w13 : Int32} {w14 : Int32} {w15 : Int32} {w16 : Int32} {w17 : Int32} {w18 : Bool} {w19 : Nat → Int32} {w20 : Int32} {w21 : Nat → Int32} {w22 : Nat → Int32} {w23 : Nat → Int32} {w24 : Int32} {w25 : Int32} {w26 : Int32} {w27 : Int32} {w28 : Bool} {R S D : Nat} {u v : Int32} (x : Int32) (ht : z_n0 G ≤ t) (hw : z_ok w0 R S D) : z_C l G yX3_cannotCut 4 0 0 [.ref t, .int x] (z_tw G t w0 w1 w2 w3 w4 w5 w6 w7 w8 w9 w10 w11 w12 w13 w14 w15 w16 w17 w18 w19 w20 w21 w22 w23 w24 w25 w26 w27 w28 h) n (z_rv (.int (nI ((tC_why w0 R S D 7 x u v).1))) (z_tw G t w0 w1 w2 w3 w4 w5 w6 w7 w8 w9 w10 w11 w12 w13 w14 (tw_d15 (tC_why w0 R S D 7 x u v).2 w15) (tw_d16 (tC_why w0 R S D 7 x u v).2 w16) (tw_d17 (tC_why w0 R S D 7 x u v).2 w17) w18 w19 w20 w21 w22 w23 w24 w25 w26 w27 w28 h) n) := by
  obtain ⟨hR, hR4, hS, hS8, hD, hD6, hF⟩ := id hw
  cases hx : tw_isS S x with
  | false => rw [tC_why, hx]; exact m_X3_cannotCut_no ht hw hx
  | true =>
    obtain ⟨k, hk, rfl⟩ := z_isS_of hS8 hx
    rw [show tC_why w0 R S D 7 (nI k) u v = tw_cCut w0 S k by rw [tC_why, if_pos hx, tN, z_nIc (by omega)]]
    exact m_X3_cannotCut ht hw hk

theorem m_why_rep {l : Launch} {G : zG} {h : zH} {n : Nat} {t : Nat} {w0 : Nat → Int32} {w1 : Nat → Int32} {w2 : Nat → Int32} {w3 : Nat → Int32} {w4 : Nat → Int32} {w5 : Nat → Int64} {w6 : Nat → Int64} {w7 : Nat → Int64} {w8 : Nat → Int64} {w9 : Nat → Int64} {w10 : Nat → Int64} {w11 : Nat → Int64} {w12 : Int32} {w13 : Int32} {w14 : Int32} {w15 : Int32} {w16 : Int32} {w17 : Int32} {w18 : Bool} {w19 : Nat → Int32} {w20 : Int32} {w21 : Nat → Int32} {w22 : Nat → Int32} {w23 : Nat → Int32} {w24 : Int32} {w25 : Int32} {w26 : Int32} {w27 : Int32} {w28 : Bool} {R S D : Nat} {u v : Int32} (x : Int32) (ht : z_n0 G ≤ t) (hw : z_ok w0 R S D) : z_C l G yX3_cannotRepair 4 0 0 [.ref t, .int x] (z_tw G t w0 w1 w2 w3 w4 w5 w6 w7 w8 w9 w10 w11 w12 w13 w14 w15 w16 w17 w18 w19 w20 w21 w22 w23 w24 w25 w26 w27 w28 h) n (z_rv (.int (nI ((tC_why w0 R S D 8 x u v).1))) (z_tw G t w0 w1 w2 w3 w4 w5 w6 w7 w8 w9 w10 w11 w12 w13 w14 (tw_d15 (tC_why w0 R S D 8 x u v).2 w15) (tw_d16 (tC_why w0 R S D 8 x u v).2 w16) (tw_d17 (tC_why w0 R S D 8 x u v).2 w17) w18 w19 w20 w21 w22 w23 w24 w25 w26 w27 w28 h) n) := by
  obtain ⟨hR, hR4, hS, hS8, hD, hD6, hF⟩ := id hw
  cases hx : decide (nI 0 ≤ x ∧ x ≤ nI D) with
  | false => rw [tC_why8, hx]; exact m_X3_cannotRepair_no ht hw hx
  | true =>
    obtain ⟨k, hk, rfl⟩ := z_inN_of (by omega) hx
    rw [show tC_why w0 R S D 8 (nI k) u v = tw_cRep w0 S k by rw [tC_why8, if_pos hx, tN, z_nIc (by omega)]]
    exact m_X3_cannotRepair ht hw hk

