/-! costs: what a plan costs doesn't depend on what lay there before -/
section ZCI
variable {w : Nat → Int32} {S R : Nat}
theorem z_cw_cg {k : Nat} {C C' : Nat → Int64} (hi : z_inp w S) (hk : k < S) (h : ∀ j, j < k → C j = C' j) : z_cw w R k C = z_cw w R k C' := by
  unfold z_cw
  cases hb : tw_base w k
  · obtain ⟨h1, h2⟩ := hi.lt hk hb
    rw [h _ h1, h _ h2]
  · rfl
theorem z_lc1_w {k : Nat} {x : Int32} {C : Nat → Int64} : tw_lc1 w R x C k = if tw_pl x k then 1 else z_cw w R k C := rfl
theorem z_lc_ind {x : Int32} {C C' : Nat → Int64} (hi : z_inp w S) : ∀ K, K ≤ S → ∀ j, j < K → tw_lc w R x C K j = tw_lc w R x C' K j
  | 0, _, j, hj => absurd hj (Nat.not_lt_zero _)
  | K + 1, hK, j, hj => by
    show va_up (tw_lc w R x C K) K (tw_lc1 w R x (tw_lc w R x C K) K) j = va_up (tw_lc w R x C' K) K (tw_lc1 w R x (tw_lc w R x C' K) K) j
    unfold va_up
    by_cases q : j = K
    · rw [if_pos q, if_pos q, z_lc1_w, z_lc1_w, z_cw_cg (C' := tw_lc w R x C' K) hi (by omega) (z_lc_ind hi K (by omega))]
    · rw [if_neg q, if_neg q]
      exact z_lc_ind hi K (by omega) j (by omega)
theorem z_wh_ind {x : Int32} (C C' : Nat → Int64) (hi : z_inp w S) : tw_wh w R S x C = tw_wh w R S x C' := z_sum8_c fun j hj => z_lc_ind hi S (Nat.le_refl _) j hj
def z_W (w : Nat → Int32) (R S : Nat) (q : Nat) : Int64 := tw_wh w R S (nI q) (fun _ => 0)
/-- the best plans of both -/
theorem z_bs_bp {x : Int32} {u : Nat → Int64} (hi : z_inp w S) : ∀ n, (tw_bs w R S x u n).1 = (z_bp (z_W w R S) x n).1 ∧ z_W w R S (z_bp (z_W w R S) x n).1 = (z_bp (z_W w R S) x n).2
  | 0 => ⟨rfl, rfl⟩
  | n + 1 => by
    obtain ⟨h1, h2⟩ := z_bs_bp (x := x) (u := u) hi n
    have e1 : ∀ q C, tw_wh w R S (nI q) C = z_W w R S q := fun q C => z_wh_ind C _ hi
    show (tw_bs1 w R S x (n + 1) (tw_bs w R S x u n)).1 = (z_bp1 (z_W w R S) x n (z_bp (z_W w R S) x n)).1 ∧ z_W w R S (z_bp1 (z_W w R S) x n (z_bp (z_W w R S) x n)).1 = (z_bp1 (z_W w R S) x n (z_bp (z_W w R S) x n)).2
    unfold tw_bs1 z_bp1 z_bpc
    by_cases q : x < tw_many (nI (n + 1)) 8
    · rw [if_pos q, if_pos q]
      have hirr : ¬ (z_bp (z_W w R S) x n).2 < (z_bp (z_W w R S) x n).2 := fun e => Int64.lt_irrefl e
      show _ = (if (z_bp (z_W w R S) x n).2 < (z_bp (z_W w R S) x n).2 then n + 1 else (z_bp (z_W w R S) x n).1) ∧ z_W w R S (if (z_bp (z_W w R S) x n).2 < (z_bp (z_W w R S) x n).2 then n + 1 else (z_bp (z_W w R S) x n).1) = (if (z_bp (z_W w R S) x n).2 < (z_bp (z_W w R S) x n).2 then (z_bp (z_W w R S) x n).2 else (z_bp (z_W w R S) x n).2)
      rw [if_neg hirr, if_neg hirr]
      exact ⟨h1, h2⟩
    · rw [if_neg q, if_neg q]
      show (if tw_wh w R S (nI (n + 1)) (tw_bs w R S x u n).2 < tw_wh w R S (nI (tw_bs w R S x u n).1) (tw_lc w R (nI (n + 1)) (tw_bs w R S x u n).2 S) then n + 1 else (tw_bs w R S x u n).1) = (if z_W w R S (n + 1) < (z_bp (z_W w R S) x n).2 then n + 1 else (z_bp (z_W w R S) x n).1) ∧ z_W w R S (if z_W w R S (n + 1) < (z_bp (z_W w R S) x n).2 then n + 1 else (z_bp (z_W w R S) x n).1) = (if z_W w R S (n + 1) < (z_bp (z_W w R S) x n).2 then z_W w R S (n + 1) else (z_bp (z_W w R S) x n).2)
      rw [e1, e1, h1, h2]
      by_cases z : z_W w R S (n + 1) < (z_bp (z_W w R S) x n).2
      · rw [if_pos z, if_pos z]; exact ⟨rfl, rfl⟩
      · rw [if_neg z, if_neg z]; exact ⟨rfl, h2⟩
end ZCI
/-! costs as natural numbers -/
def z_nw1 (w : Nat → Int32) (R k : Nat) (c : Nat → Nat) : Nat := 1 + (if tw_base w k then R else if w (176 + 4 * k) = nI 107 then c (tw_f w k) else if w (176 + 4 * k) = nI 114 then 7 * c (tw_f w k) else c (tw_f w k) + c (tw_s w k))
def z_nc (w : Nat → Int32) (R q : Nat) : Nat → (Nat → Nat)
  | 0 => fun _ => 0
  | k + 1 => va_up (z_nc w R q k) k (if q.testBit k then 1 else z_nw1 w R k (z_nc w R q k))
def z_sn (c : Nat → Nat) : Nat → Nat
  | 0 => 0
  | k + 1 => z_sn c k + c k
section ZNC
variable {w : Nat → Int32} {S R : Nat}
theorem z_sn_cg {c c' : Nat → Nat} : ∀ n, (∀ j, j < n → c j = c' j) → z_sn c n = z_sn c' n
  | 0, _ => rfl
  | n + 1, h => by rw [z_sn, z_sn, z_sn_cg n fun j hj => h j (by omega), h n (by omega)]
theorem z_nw1_cg {k : Nat} {c c' : Nat → Nat} (hi : z_inp w S) (hk : k < S) (h : ∀ j, j < k → c j = c' j) : z_nw1 w R k c = z_nw1 w R k c' := by
  unfold z_nw1
  cases hb : tw_base w k
  · obtain ⟨h1, h2⟩ := hi.lt hk hb
    rw [h _ h1, h _ h2]
  · rfl
theorem z_nc_lo {q K j : Nat} (hj : j < K) : z_nc w R q (K + 1) j = z_nc w R q K j := by
  show va_up (z_nc w R q K) K _ j = _
  unfold va_up; rw [if_neg (by omega)]
theorem z_nc_at {q K : Nat} : z_nc w R q (K + 1) K = if q.testBit K then 1 else z_nw1 w R K (z_nc w R q K) := by
  show va_up (z_nc w R q K) K _ K = _
  unfold va_up; rw [if_pos rfl]
theorem z_nc_le {q : Nat} (hi : z_inp w S) (hR : R ≤ 40) : ∀ K, K ≤ S → ∀ j, j < K → 1 ≤ z_nc w R q K j ∧ z_nc w R q K j ≤ 41 * 8 ^ j
  | 0, _, j, hj => absurd hj (Nat.not_lt_zero _)
  | K + 1, hK, j, hj => by
    by_cases z : j = K
    · subst z
      rw [z_nc_at]
      have h8 : 1 ≤ 8 ^ j := Nat.one_le_pow _ _ (by decide)
      by_cases hq : q.testBit j
      · rw [if_pos hq]; omega
      · rw [if_neg hq]
        unfold z_nw1
        cases hb : tw_base w j
        · obtain ⟨h1, h2⟩ := hi.lt (by omega) hb
          obtain ⟨f1, f2⟩ := z_nc_le hi hR j (by omega) _ h1 (q := q)
          obtain ⟨s1, s2⟩ := z_nc_le hi hR j (by omega) _ h2 (q := q)
          have p1 : 8 * 8 ^ tw_f w j ≤ 8 ^ j := by
            have := Nat.pow_le_pow_right (n := 8) (by decide) (show tw_f w j + 1 ≤ j by omega)
            rw [Nat.pow_succ] at this; omega
          have p2 : 8 * 8 ^ tw_s w j ≤ 8 ^ j := by
            have := Nat.pow_le_pow_right (n := 8) (by decide) (show tw_s w j + 1 ≤ j by omega)
            rw [Nat.pow_succ] at this; omega
          rw [if_neg Bool.false_ne_true]
          split
          · omega
          · split <;> omega
        · rw [if_pos rfl]; omega
    · rw [z_nc_lo (by omega)]
      exact z_nc_le hi hR K (by omega) j (by omega)
theorem z_sn_b {c : Nat → Nat} {B : Nat} : ∀ n, (∀ j, j < n → c j ≤ B) → z_sn c n ≤ n * B
  | 0, _ => Nat.zero_le _
  | n + 1, h => by
    have := z_sn_b n fun j hj => h j (by omega)
    have := h n (by omega)
    rw [z_sn, Nat.succ_mul]; omega
theorem z_sn_lt {q : Nat} (hi : z_inp w S) (hS : S ≤ 8) (hR : R ≤ 40) {K : Nat} (hK : K ≤ S) : z_sn (z_nc w R q K) K < 2 ^ 30 := by
  have h := z_sn_b (c := z_nc w R q K) (B := 41 * 8 ^ 7) K fun j hj => by
    have := (z_nc_le hi hR K hK j hj (q := q)).2
    have p := Nat.pow_le_pow_right (n := 8) (by decide) (show j ≤ 7 by omega)
    exact Nat.le_trans this (Nat.mul_le_mul_left 41 p)
  have : K * (41 * 8 ^ 7) ≤ 8 * (41 * 8 ^ 7) := Nat.mul_le_mul_right _ (by omega)
  omega
theorem z_lNad (a b : Nat) : lN a + lN b = lN (a + b) := (Int64.ofNat_add a b).symm
theorem z_i2lN {R : Nat} (h : R ≤ 40) : (nI R).toInt64 = lN R := by
  have : ∀ R, R ≤ 40 → (nI R).toInt64 = lN R := by decide +kernel
  exact this R h
theorem z_cw_n {k : Nat} {C : Nat → Int64} {c : Nat → Nat} (hi : z_inp w S) (hk : k < S) (hR : R ≤ 40) (h : ∀ j, j < k → C j = lN (c j)) : z_cw w R k C = lN (z_nw1 w R k c) := by
  unfold z_cw z_nw1
  rw [← z_lNad]
  congr 1
  cases hb : tw_base w k
  · obtain ⟨h1, h2⟩ := hi.lt hk hb
    rw [h _ h1, h _ h2, if_neg Bool.false_ne_true, if_neg Bool.false_ne_true]
    split
    · rfl
    · split
      · exact (Int64.ofNat_mul 7 _).symm
      · exact z_lNad _ _
  · rw [if_pos rfl, if_pos rfl]; exact z_i2lN hR
theorem z_lc_n {q : Nat} {C : Nat → Int64} (hi : z_inp w S) (hS : S ≤ 8) (hR : R ≤ 40) : ∀ K, K ≤ S → ∀ j, j < K → tw_lc w R (nI q) C K j = lN (z_nc w R q K j)
  | 0, _, j, hj => absurd hj (Nat.not_lt_zero _)
  | K + 1, hK, j, hj => by
    show va_up (tw_lc w R (nI q) C K) K (tw_lc1 w R (nI q) (tw_lc w R (nI q) C K) K) j = _
    unfold va_up
    by_cases z : j = K
    · subst z
      rw [if_pos rfl, z_lc1_w, z_nc_at, z_pl_bt (by omega), z_bt_nI (by omega)]
      cases q.testBit j
      · rw [if_neg Bool.false_ne_true, if_neg Bool.false_ne_true]
        exact z_cw_n hi (by omega) hR (z_lc_n hi hS hR j (by omega))
      · rfl
    · rw [if_neg z, z_nc_lo (by omega)]
      exact z_lc_n hi hS hR K (by omega) j (by omega)
theorem z_sum8_n {C : Nat → Int64} {c : Nat → Nat} : ∀ n, (∀ j, j < n → C j = lN (c j)) → tw_sum8 C n = lN (z_sn c n)
  | 0, _ => rfl
  | n + 1, h => by rw [tw_sum8, z_sn, z_sum8_n n fun j hj => h j (by omega), h n (by omega), z_lNad]
theorem z_W_n {q : Nat} (hi : z_inp w S) (hS : S ≤ 8) (hR : R ≤ 40) : z_W w R S q = lN (z_sn (z_nc w R q S) S) := z_sum8_n S (z_lc_n hi hS hR S (Nat.le_refl _))
/-- the costs of the first steps depend on the first bits -/
theorem z_nc_pre {p q : Nat} (hi : z_inp w S) : ∀ K, K ≤ S → (∀ i, i < K → p.testBit i = q.testBit i) → ∀ j, j < K → z_nc w R p K j = z_nc w R q K j
  | 0, _, _, j, hj => absurd hj (Nat.not_lt_zero _)
  | K + 1, hK, h, j, hj => by
    have ih := z_nc_pre (p := p) (q := q) hi K (by omega) (fun i hi2 => h i (by omega))
    by_cases z : j = K
    · subst z
      rw [z_nc_at, z_nc_at, h j (by omega), z_nw1_cg hi (by omega) ih]
    · rw [z_nc_lo (by omega), z_nc_lo (by omega)]
      exact ih j (by omega)
end ZNC

