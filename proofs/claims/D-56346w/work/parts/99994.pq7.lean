/-! the decider finds the best plan -/
def z_cb (q s : Nat) : Nat → Nat
  | 0 => 0
  | n + 1 => z_cb q s n + (q.testBit (s + n)).toNat
theorem z_cb_s {q s : Nat} : ∀ n, z_cb q s (n + 1) = (q.testBit s).toNat + z_cb q (s + 1) n
  | 0 => by simp [z_cb]
  | n + 1 => by
    rw [z_cb, z_cb_s n, z_cb, show s + (n + 1) = s + 1 + n by omega]
    omega
def z_T (S s p lf q : Nat) : Prop := q < 2 ^ S ∧ q % 2 ^ s = p ∧ z_cb q s (S - s) ≤ lf
def z_le2 (L b L' b' : Nat) : Prop := L < L' ∨ (L = L' ∧ b ≤ b')
theorem z_le2_t {a b c d e f : Nat} (h : z_le2 a b c d) (h2 : z_le2 c d e f) : z_le2 a b e f := by unfold z_le2 at *; omega
def z_Re (N : Nat → Nat) (T : Nat → Prop) (b L b' L' : Nat) : Prop := ((b' = b ∧ L' = L) ∨ (T b' ∧ L' = N b')) ∧ (∀ q, T q → z_le2 L' b' (N q) q) ∧ z_le2 L' b' L b
theorem z_Re_c {N : Nat → Nat} {T1 T2 T : Nat → Prop} {b L b1 L1 b2 L2 : Nat} (h1 : z_Re N T1 b L b1 L1) (h2 : z_Re N T2 b1 L1 b2 L2) (hT : ∀ q, T q ↔ T1 q ∨ T2 q) : z_Re N T b L b2 L2 := by
  obtain ⟨a1, a2, a3⟩ := h1
  obtain ⟨c1, c2, c3⟩ := h2
  refine ⟨?_, fun q hq => ?_, z_le2_t c3 a3⟩
  · rcases c1 with ⟨rfl, rfl⟩ | ⟨z1, z2⟩
    · rcases a1 with z | ⟨z1, z2⟩
      · exact Or.inl z
      · exact Or.inr ⟨(hT _).mpr (Or.inl z1), z2⟩
    · exact Or.inr ⟨(hT _).mpr (Or.inr z1), z2⟩
  · rcases (hT q).mp hq with z | z
    · exact z_le2_t c3 (a2 q z)
    · exact c2 q z
theorem z_tb_mod {q s i : Nat} (h : i < s) : (q % 2 ^ s).testBit i = q.testBit i := by
  rw [Nat.testBit_mod_two_pow, decide_eq_true h, Bool.true_and]
theorem z_mod_s {q s : Nat} : q % 2 ^ (s + 1) = q % 2 ^ s + 2 ^ s * (q.testBit s).toNat := by
  rw [Nat.pow_succ, Nat.mod_mul, Nat.testBit_eq_decide_div_mod_eq]
  have := Nat.mod_two_eq_zero_or_one (q / 2 ^ s)
  rcases this with z | z <;> rw [z] <;> simp
theorem z_T_s {S s p lf q : Nat} (hp : p < 2 ^ s) (hs : s < S) : z_T S s p lf q ↔ z_T S (s + 1) p lf q ∨ (0 < lf ∧ z_T S (s + 1) (p + 2 ^ s) (lf - 1) q) := by
  unfold z_T
  obtain ⟨n, hn⟩ : ∃ n, S - s = n + 1 := ⟨S - s - 1, by omega⟩
  rw [hn, show S - (s + 1) = n by omega, z_cb_s, z_mod_s]
  have hm : q % 2 ^ s < 2 ^ s := Nat.mod_lt _ (Nat.two_pow_pos s)
  cases q.testBit s
  · simp only [Bool.toNat_false, Nat.mul_zero, Nat.add_zero, Nat.zero_add]
    constructor
    · exact fun h => Or.inl h
    · rintro (h | ⟨-, h⟩)
      · exact h
      · omega
  · simp only [Bool.toNat_true, Nat.mul_one]
    constructor
    · rintro ⟨h1, h2, h3⟩
      exact Or.inr ⟨by omega, h1, by omega, by omega⟩
    · rintro (⟨h1, h2, h3⟩ | ⟨h0, h1, h2, h3⟩)
      · omega
      · exact ⟨h1, by omega, by omega⟩
section ZDD
variable {w : Nat → Int32} {S R : Nat}
/-- the steps behind cost at least one each -/
theorem z_sn_ge {c : Nat → Nat} : ∀ n, (∀ j, j < n → 1 ≤ c j) → n ≤ z_sn c n
  | 0, _ => Nat.le_refl _
  | n + 1, h => by
    have := z_sn_ge n fun j hj => h j (by omega)
    have := h n (by omega)
    rw [z_sn]; omega
theorem z_sn_ge2 {c c' : Nat → Nat} {s : Nat} : ∀ n, (∀ j, j < s → c j = c' j) → (∀ j, j < s + n → 1 ≤ c j) → z_sn c' s + n ≤ z_sn c (s + n)
  | 0, h, _ => by rw [Nat.add_zero, Nat.add_zero, z_sn_cg s fun j hj => h j hj]; exact Nat.le_refl _
  | n + 1, h, h1 => by
    have := z_sn_ge2 n h fun j hj => h1 j (by omega)
    have := h1 (s + n) (by omega)
    show z_sn c' s + (n + 1) ≤ z_sn c (s + n) + c (s + n)
    omega
theorem z_nc_K {q j : Nat} : ∀ K, j < K → z_nc w R q K j = z_nc w R q (j + 1) j
  | 0, h => absurd h (Nat.not_lt_zero _)
  | K + 1, h => by
    by_cases z : j = K
    · rw [z]
    · rw [z_nc_lo (by omega), z_nc_K K (by omega)]
theorem z_nc_q {p q s j : Nat} (hi : z_inp w S) (hs : s ≤ S) (hq : q % 2 ^ s = p) (hj : j < s) : z_nc w R q S j = z_nc w R p s j := by
  rw [z_nc_K S (by omega), ← z_nc_K s hj]
  exact z_nc_pre hi s hs (fun i hi2 => by rw [← hq, z_tb_mod hi2]) j hj
theorem z_llt {a b : Nat} (ha : a < 2 ^ 63) (hb : b < 2 ^ 63) : lN a < lN b ↔ a < b := pk_lLT ha hb
theorem z_dd_ok (hi : z_inp w S) (hS : S ≤ 8) (hR : R ≤ 40) : ∀ m s, s + m = S → ∀ (p lf b L : Nat) (C : Nat → Int64), p < 2 ^ s → L < 2 ^ 63 → (∀ j, j < s → C j = lN (z_nc w R p s j)) →
    ∃ L', (z_dd w R S m s p (lN (z_sn (z_nc w R p s) s)) lf (b, lN L, C)).2.1 = lN L' ∧ L' < 2 ^ 63 ∧ z_Re (fun q => z_sn (z_nc w R q S) S) (z_T S s p lf) b L (z_dd w R S m s p (lN (z_sn (z_nc w R p s) s)) lf (b, lN L, C)).1 L' ∧ ∀ j, j < s → (z_dd w R S m s p (lN (z_sn (z_nc w R p s) s)) lf (b, lN L, C)).2.2 j = C j
  | 0, s, hs, p, lf, b, L, C, hp, hL, hC => by
    obtain rfl : s = S := by omega
    have hN := z_sn_lt (w := w) (q := p) hi hS hR (Nat.le_refl s)
    have hT : ∀ q, z_T s s p lf q → q = p := fun q hq => by
      rw [← hq.2.1, Nat.mod_eq_of_lt hq.1]
    rw [z_dd]
    by_cases h : lN (z_sn (z_nc w R p s) s) < lN L ∨ (lN (z_sn (z_nc w R p s) s) = lN L ∧ p < b)
    · have h' : z_sn (z_nc w R p s) s < L ∨ (z_sn (z_nc w R p s) s = L ∧ p < b) := by
        rcases h with h | ⟨h, h2⟩
        · exact Or.inl ((z_llt (by omega) hL).mp h)
        · exact Or.inr ⟨(pk_lEQ (by omega) hL).mp h, h2⟩
      rw [if_pos h]
      refine ⟨_, rfl, by omega, ⟨Or.inr ⟨⟨hp, Nat.mod_eq_of_lt hp, by rw [Nat.sub_self]; exact Nat.zero_le _⟩, rfl⟩, fun q hq => ?_, ?_⟩, fun _ _ => rfl⟩
      · rw [hT q hq]; exact Or.inr ⟨rfl, Nat.le_refl _⟩
      · unfold z_le2
        show z_sn (z_nc w R p s) s < L ∨ (z_sn (z_nc w R p s) s = L ∧ p ≤ b)
        omega
    · have h' : ¬ (z_sn (z_nc w R p s) s < L ∨ (z_sn (z_nc w R p s) s = L ∧ p < b)) := fun z => h (by
        rcases z with z | ⟨z, z2⟩
        · exact Or.inl ((z_llt (by omega) hL).mpr z)
        · exact Or.inr ⟨by rw [z], z2⟩)
      rw [if_neg h]
      refine ⟨L, rfl, hL, ⟨Or.inl ⟨rfl, rfl⟩, fun q hq => ?_, Or.inr ⟨rfl, Nat.le_refl _⟩⟩, fun _ _ => rfl⟩
      rw [hT q hq]
      unfold z_le2
      show L < z_sn (z_nc w R p s) s ∨ (L = z_sn (z_nc w R p s) s ∧ b ≤ p)
      omega
  | m + 1, s, hs, p, lf, b, L, C, hp, hL, hC => by
    have hN := z_sn_lt (w := w) (q := p) hi hS hR (show s ≤ S by omega)
    have hsum : lN (z_sn (z_nc w R p s) s) + (nI S).toInt64 - (nI s).toInt64 = lN (z_sn (z_nc w R p s) s + S - s) := by
      rw [z_i2lN (by omega), z_i2lN (by omega), z_lNad]
      exact (Int64.ofNat_sub _ _ (by omega)).symm
    by_cases hx : lN L < lN (z_sn (z_nc w R p s) s) + (nI S).toInt64 - (nI s).toInt64
    · rw [z_dd_x hx]
      rw [hsum] at hx
      have hx' := (z_llt hL (by omega)).mp hx
      refine ⟨L, rfl, hL, ⟨Or.inl ⟨rfl, rfl⟩, fun q hq => Or.inl ?_, Or.inr ⟨rfl, Nat.le_refl _⟩⟩, fun _ _ => rfl⟩
      have := z_sn_ge2 (c := z_nc w R q S) (c' := z_nc w R p s) (s := s) (m + 1) (fun j hj => z_nc_q hi (by omega) hq.2.1 hj) (fun j hj => (z_nc_le hi hR S (Nat.le_refl _) j (by omega)).1)
      rw [hs] at this
      show L < z_sn (z_nc w R q S) S
      omega
    · have hcw : z_cw w R s C = lN (z_nw1 w R s (z_nc w R p s)) := z_cw_n hi (by omega) hR hC
      have hb0 : p.testBit s = false := Nat.testBit_lt_two_pow hp
      have hb1 : (p + 2 ^ s).testBit s = true := by
        rw [Nat.add_comm, Nat.testBit_two_pow_add_eq, hb0]; rfl
      have e0 : z_nc w R p (s + 1) s = z_nw1 w R s (z_nc w R p s) := by rw [z_nc_at, hb0, if_neg Bool.false_ne_true]
      have s0 : z_sn (z_nc w R p (s + 1)) (s + 1) = z_sn (z_nc w R p s) s + z_nw1 w R s (z_nc w R p s) := by
        rw [z_sn, e0, z_sn_cg s fun j hj => z_nc_lo hj]
      have c0 : lN (z_sn (z_nc w R p s) s) + z_cw w R s C = lN (z_sn (z_nc w R p (s + 1)) (s + 1)) := by rw [hcw, z_lNad, s0]
      have hC1 : ∀ j, j < s + 1 → va_up C s (z_cw w R s C) j = lN (z_nc w R p (s + 1) j) := fun j hj => by
        unfold va_up
        by_cases z : j = s
        · subst z; rw [if_pos rfl, hcw, e0]
        · rw [if_neg z, hC j (by omega), z_nc_lo (by omega)]
      have hp1 : p < 2 ^ (s + 1) := by rw [Nat.pow_succ]; omega
      have hp2 : p + 2 ^ s < 2 ^ (s + 1) := by rw [Nat.pow_succ]; omega
      obtain ⟨L1, a1, a2, a3, a4⟩ := z_dd_ok hi hS hR m (s + 1) (by omega) p lf b L (va_up C s (z_cw w R s C)) hp1 hL hC1
      have a5 : ∀ j, j < s → (z_dd w R S m (s + 1) p (lN (z_sn (z_nc w R p (s + 1)) (s + 1))) lf (b, lN L, va_up C s (z_cw w R s C))).2.2 j = C j := fun j hj => by
        rw [a4 j (by omega)]; unfold va_up; rw [if_neg (by omega)]
      by_cases hlf : lf = 0
      · rw [z_dd_z hlf hx]
        rw [c0]
        refine ⟨L1, a1, a2, ?_, a5⟩
        have : z_T S s p lf = z_T S (s + 1) p lf := by
          funext q
          apply propext
          rw [z_T_s hp (by omega)]
          constructor
          · rintro (z | ⟨z, -⟩)
            · exact z
            · omega
          · exact Or.inl
        rw [this]; exact a3
      · rw [z_dd_s (by omega) hx]
        rw [c0]
        have hpre : ∀ j, j < s → z_nc w R (p + 2 ^ s) (s + 1) j = z_nc w R p s j := fun j hj => by
          rw [z_nc_lo hj]
          refine z_nc_pre hi s (by omega) (fun i hi2 => ?_) j hj
          rw [Nat.add_comm, Nat.testBit_two_pow_add_gt hi2]
        have e1 : z_nc w R (p + 2 ^ s) (s + 1) s = 1 := by rw [z_nc_at, hb1, if_pos rfl]
        have s1 : z_sn (z_nc w R (p + 2 ^ s) (s + 1)) (s + 1) = z_sn (z_nc w R p s) s + 1 := by
          rw [z_sn, e1, z_sn_cg s hpre]
        have c1 : lN (z_sn (z_nc w R p s) s) + 1 = lN (z_sn (z_nc w R (p + 2 ^ s) (s + 1)) (s + 1)) := by rw [s1]; exact z_lNad _ 1
        rw [c1]
        generalize hr : z_dd w R S m (s + 1) p (lN (z_sn (z_nc w R p (s + 1)) (s + 1))) lf (b, lN L, va_up C s (z_cw w R s C)) = r at a1 a3 a4 a5 ⊢
        obtain ⟨r1, r2, r3⟩ := r
        dsimp only at a1 a3 a4 a5 ⊢
        subst a1
        have hC2 : ∀ j, j < s + 1 → va_up r3 s 1 j = lN (z_nc w R (p + 2 ^ s) (s + 1) j) := fun j hj => by
          unfold va_up
          by_cases z : j = s
          · subst z; rw [if_pos rfl, e1]; rfl
          · rw [if_neg z, hpre j (by omega), ← hC j (by omega)]
            exact a5 j (by omega)
        obtain ⟨L2, b1, b2, b3, b4⟩ := z_dd_ok hi hS hR m (s + 1) (by omega) (p + 2 ^ s) (lf - 1) r1 L1 (va_up r3 s 1) hp2 a2 hC2
        refine ⟨L2, b1, b2, z_Re_c a3 b3 fun q => ?_, fun j hj => ?_⟩
        · rw [z_T_s hp (by omega)]
          constructor
          · rintro (z | ⟨-, z⟩)
            · exact Or.inl z
            · exact Or.inr z
          · rintro (z | z)
            · exact Or.inl z
            · exact Or.inr ⟨by omega, z⟩
        · refine (b4 j (by omega)).trans ?_
          show va_up r3 s 1 j = C j
          unfold va_up
          rw [if_neg (by omega)]
          exact a5 j hj
/-- the number of kept steps -/
theorem z_many {q : Nat} (hq : q < 2 ^ S) (hS : S ≤ 8) : tw_many (nI q) 8 = nI (z_cb q 0 S) := by
  have e : ∀ q, q < 256 → tw_many (nI q) 8 = nI (z_cb q 0 8) := by decide +kernel
  have h2 : 2 ^ S ≤ 256 := (z_p256 hS).2
  rw [e q (by omega)]
  congr 1
  have : ∀ j, S + j ≤ 8 → z_cb q 0 (S + j) = z_cb q 0 S := by
    intro j
    induction j with
    | zero => intro _; rfl
    | succ j ih =>
      intro hj
      show z_cb q 0 (S + j) + (q.testBit (0 + (S + j))).toNat = _
      rw [ih (by omega), Nat.zero_add, Nat.testBit_lt_two_pow (Nat.lt_of_lt_of_le hq (Nat.pow_le_pow_right (by decide) (by omega)))]
      rfl
  have := this (8 - S) (by omega)
  rw [show S + (8 - S) = 8 by omega] at this
  exact this
theorem z_bp_ok {x : Nat} (hi : z_inp w S) (hS : S ≤ 8) (hR : R ≤ 40) (hx : x ≤ 8) : ∀ n, n < 2 ^ S → z_cb (z_bp (z_W w R S) (nI x) n).1 0 S ≤ x ∧ ∀ q, q ≤ n → z_cb q 0 S ≤ x → z_le2 (z_sn (z_nc w R (z_bp (z_W w R S) (nI x) n).1 S) S) (z_bp (z_W w R S) (nI x) n).1 (z_sn (z_nc w R q S) S) q
  | 0, _ => by
    have h0 : ∀ k, z_cb 0 0 k = 0 := by
      intro k
      induction k with
      | zero => rfl
      | succ k ih => rw [z_cb, ih, Nat.zero_testBit]; rfl
    refine ⟨by show z_cb 0 0 S ≤ x; rw [h0]; exact Nat.zero_le _, fun q hq _ => ?_⟩
    obtain rfl : q = 0 := by omega
    exact Or.inr ⟨rfl, Nat.le_refl _⟩
  | n + 1, hn => by
    obtain ⟨h1, h2⟩ := z_bp_ok hi hS hR hx n (by omega)
    have hle := z_bp_le (W := z_W w R S) (x := nI x) n
    have h3 := (z_bs_bp (R := R) (x := nI x) (u := fun _ => 0) hi n).2
    have hcb : ∀ q k, z_cb q 0 k ≤ k := by
      intro q k
      induction k with
      | zero => exact Nat.le_refl _
      | succ k ih =>
        rw [z_cb]
        cases q.testBit (0 + k) <;> simp <;> omega
    have hmany := z_many hn hS
    have hcS := hcb (n + 1) S
    have hP := (z_p256 hS).2
    show z_cb (z_bp1 (z_W w R S) (nI x) n (z_bp (z_W w R S) (nI x) n)).1 0 S ≤ x ∧ ∀ q, q ≤ n + 1 → z_cb q 0 S ≤ x → z_le2 (z_sn (z_nc w R (z_bp1 (z_W w R S) (nI x) n (z_bp (z_W w R S) (nI x) n)).1 S) S) (z_bp1 (z_W w R S) (nI x) n (z_bp (z_W w R S) (nI x) n)).1 (z_sn (z_nc w R q S) S) q
    unfold z_bp1 z_bpc
    rw [hmany]
    by_cases c : x < z_cb (n + 1) 0 S
    · rw [if_pos ((nI_ltI (by omega) (by omega)).mpr c), if_neg (fun e => Int64.lt_irrefl e)]
      refine ⟨h1, fun q hq hqx => ?_⟩
      rcases Nat.lt_succ_iff_lt_or_eq.mp (Nat.lt_succ_of_le hq) with z | z
      · exact h2 q (by omega) hqx
      · subst z; omega
    · rw [if_neg (fun e => c ((nI_ltI (by omega) (by omega)).mp e)), ← h3, z_W_n hi hS hR, z_W_n hi hS hR]
      have b1 := z_sn_lt (w := w) (q := n + 1) hi hS hR (Nat.le_refl S)
      have b2 := z_sn_lt (w := w) (q := (z_bp (z_W w R S) (nI x) n).1) hi hS hR (Nat.le_refl S)
      by_cases z : z_sn (z_nc w R (n + 1) S) S < z_sn (z_nc w R (z_bp (z_W w R S) (nI x) n).1 S) S
      · rw [if_pos ((z_llt (by omega) (by omega)).mpr z)]
        dsimp only
        refine ⟨by omega, fun q hq hqx => ?_⟩
        rcases Nat.lt_succ_iff_lt_or_eq.mp (Nat.lt_succ_of_le hq) with y | y
        · have := h2 q (by omega) hqx
          unfold z_le2 at this ⊢
          omega
        · subst y; exact Or.inr ⟨rfl, Nat.le_refl _⟩
      · rw [if_neg (fun e => z ((z_llt (by omega) (by omega)).mp e))]
        dsimp only
        refine ⟨h1, fun q hq hqx => ?_⟩
        rcases Nat.lt_succ_iff_lt_or_eq.mp (Nat.lt_succ_of_le hq) with y | y
        · exact h2 q (by omega) hqx
        · subst y
          unfold z_le2
          omega
theorem z_decided {x : Nat} (hi : z_inp w S) (hS : S ≤ 8) (hR : R ≤ 40) (hx : x ≤ 8) : (z_dd w R S S 0 0 0 x (0, (9223372036854775807 : Int64), fun _ => 0)).1 = (z_bp (z_W w R S) (nI x) (2 ^ S - 1)).1 := by
  have hP := (z_p256 hS).1
  obtain ⟨L', a1, a2, ⟨a3, a4, a5⟩, -⟩ := z_dd_ok (w := w) (R := R) hi hS hR S 0 (by omega) 0 x 0 (2 ^ 63 - 1) (fun _ => 0) (Nat.two_pow_pos 0) (by decide) (fun j hj => absurd hj (Nat.not_lt_zero _))
  have hm : (lN (2 ^ 63 - 1) : Int64) = (9223372036854775807 : Int64) := by decide +kernel
  have hz : lN (z_sn (z_nc w R 0 0) 0) = 0 := rfl
  rw [hm, hz] at a1 a3 a4 a5
  generalize (z_dd w R S S 0 0 0 x (0, (9223372036854775807 : Int64), fun _ => 0)) = r at a1 a3 a4 a5 ⊢
  obtain ⟨q1, q2⟩ := z_bp_ok (w := w) (R := R) hi hS hR hx (2 ^ S - 1) (by omega)
  have hle := z_bp_le (W := z_W w R S) (x := nI x) (2 ^ S - 1)
  generalize (z_bp (z_W w R S) (nI x) (2 ^ S - 1)).1 = t at q1 q2 hle ⊢
  have tT : z_T S 0 0 x t := ⟨by omega, by rw [Nat.pow_zero, Nat.mod_one], by rw [Nat.sub_zero]; exact q1⟩
  have bt := z_sn_lt (w := w) (q := t) hi hS hR (Nat.le_refl S)
  have h1 := a4 t tT
  rcases a3 with ⟨z1, z2⟩ | ⟨z1, z2⟩
  · exfalso
    unfold z_le2 at h1
    simp only at h1
    omega
  · have h2 := q2 r.1 (by have := z1.1; omega) (by have := z1.2.2; rw [Nat.sub_zero] at this; exact this)
    simp only at h1 z2
    rw [z2] at h1
    unfold z_le2 at h1 h2
    omega
end ZDD

