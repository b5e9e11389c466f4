def bt (x : Int32) (i : Nat) : Bool := x.toBitVec.getLsbD i
theorem b_ext {x y : Int32} (h : ∀ i, i < 32 → bt x i = bt y i) : x = y := Int32.toBitVec_inj.mp (BitVec.eq_of_getLsbD_eq (fun i hi => h i hi))
theorem b_or (x y : Int32) (i : Nat) : bt (x ||| y) i = (bt x i || bt y i) := by unfold bt; rw [Int32.toBitVec_or, BitVec.getLsbD_or]
theorem b_and (x y : Int32) (i : Nat) : bt (x &&& y) i = (bt x i && bt y i) := by unfold bt; rw [Int32.toBitVec_and, BitVec.getLsbD_and]
theorem b_0 (i : Nat) : bt 0 i = false := BitVec.getLsbD_zero
theorem s_l : ∀ n, n < 32 → ((nI n &&& 31).toBitVec.smod 32).toNat = n := by decide +kernel
theorem b_shl (n : Nat) (hn : n < 32) (x : Int32) {i : Nat} (hi : i < 32) : bt (x <<< (nI n &&& 31)) i = (decide (n ≤ i) && bt x (i - n)) := by
  unfold bt
  rw [Int32.toBitVec_shiftLeft]
  show (x.toBitVec <<< ((nI n &&& 31).toBitVec.smod 32).toNat).getLsbD i = _
  rw [s_l n hn, BitVec.getLsbD_shiftLeft]
  rcases Nat.lt_or_ge i n with h | h
  · simp [h, Nat.not_le.mpr h]
  · simp [hi, h, Nat.not_lt.mpr h]
theorem b_sshr (n : Nat) (hn : n < 32) (x : Int32) {i : Nat} (hi : i < 32) : bt (x >>> (nI n &&& 31)) i = if n + i < 32 then bt x (n + i) else bt x 31 := by
  unfold bt
  rw [Int32.toBitVec_shiftRight]
  show (x.toBitVec.sshiftRight ((nI n &&& 31).toBitVec.smod 32).toNat).getLsbD i = _
  rw [s_l n hn, BitVec.getLsbD_sshiftRight, BitVec.msb_eq_getLsbD_last]
  simp [hi]
theorem wb_tb (n : Nat) : (lN n).toBitVec = BitVec.ofNat 64 n := rfl
theorem wb_inj {a b : Int64} (h : a.toBitVec = b.toBitVec) : a = b := Int64.toBitVec_inj.mp h
theorem wb_tn {n : Nat} (h : n < 2 ^ 64) : (lN n).toBitVec.toNat = n := by rw [wb_tb, BitVec.toNat_ofNat, Nat.mod_eq_of_lt h]
theorem wb_of (x : Int64) : ∃ n, n < 2 ^ 64 ∧ x = lN n := ⟨x.toBitVec.toNat, x.toBitVec.isLt, wb_inj (by rw [wb_tb]; simp)⟩
theorem wb_c : ∀ k, k < 64 → ((nI k).toInt64 &&& 63) = lN k := by decide +kernel
theorem wb_cu : ∀ k, k < 64 → ((nI k).toInt64.toUInt64 &&& Int64.toUInt64 63) = UInt64.ofNat k := by decide +kernel
theorem wb_sm : ∀ k, k < 64 → (BitVec.ofNat 64 k).smod 64 = BitVec.ofNat 64 k := by decide +kernel
theorem wb_pw {a b : Nat} (h : a ≤ b) : 2 ^ b = 2 ^ a * 2 ^ (b - a) := by rw [← Nat.pow_add]; congr 1; omega
theorem wb_lt2 {a b : Nat} (h : a < b) : 2 ^ a < 2 ^ b := Nat.pow_lt_pow_right (by decide) h
theorem wb_mod (n : Nat) : lN n = lN (n % 2 ^ 64) := wb_inj (by rw [wb_tb, wb_tb]; apply BitVec.eq_of_toNat_eq; rw [BitVec.toNat_ofNat, BitVec.toNat_ofNat, Nat.mod_mod])
theorem wb_shr {n k : Nat} (hn : n < 2 ^ 64) (hk : k < 64) : ((lN n).toUInt64 >>> ((nI k).toInt64.toUInt64 &&& Int64.toUInt64 63)).toInt64 = lN (n / 2 ^ k) := by
  rw [wb_cu k hk]
  apply wb_inj
  apply BitVec.eq_of_toNat_eq
  show ((lN n).toUInt64 >>> UInt64.ofNat k).toNat = (BitVec.ofNat 64 _).toNat
  have h1 : (UInt64.ofNat k).toNat = k := by
    show (BitVec.ofNat 64 k).toNat = k
    rw [BitVec.toNat_ofNat, Nat.mod_eq_of_lt (by omega)]
  have h2 : (lN n).toUInt64.toNat = n := wb_tn hn
  rw [UInt64.toNat_shiftRight, h1, h2, Nat.mod_eq_of_lt hk, Nat.shiftRight_eq_div_pow, BitVec.toNat_ofNat, Nat.mod_eq_of_lt (Nat.lt_of_le_of_lt (Nat.div_le_self _ _) hn)]
theorem wb_shl (n : Nat) {k : Nat} (hk : k < 64) : lN n <<< ((nI k).toInt64 &&& 63) = lN (n * 2 ^ k) := by
  rw [wb_c k hk]
  apply wb_inj
  rw [Int64.toBitVec_shiftLeft, wb_tb, wb_tb, wb_tb, wb_sm k hk]
  apply BitVec.eq_of_toNat_eq
  rw [BitVec.shiftLeft_eq', BitVec.toNat_shiftLeft, BitVec.toNat_ofNat, BitVec.toNat_ofNat, BitVec.toNat_ofNat, Nat.mod_eq_of_lt (show k < 2 ^ 64 by omega), Nat.shiftLeft_eq, Nat.mul_mod, Nat.mod_mod, ← Nat.mul_mod]
theorem wb_and {a b : Nat} (ha : a < 2 ^ 64) (hb : b < 2 ^ 64) : lN a &&& lN b = lN (a &&& b) := by
  apply wb_inj
  rw [Int64.toBitVec_and, wb_tb, wb_tb, wb_tb]
  apply BitVec.eq_of_toNat_eq
  rw [BitVec.toNat_and, BitVec.toNat_ofNat, BitVec.toNat_ofNat, BitVec.toNat_ofNat, Nat.mod_eq_of_lt ha, Nat.mod_eq_of_lt hb, Nat.mod_eq_of_lt (Nat.and_lt_two_pow _ hb)]
theorem wb_or {a b : Nat} (ha : a < 2 ^ 64) (hb : b < 2 ^ 64) : lN a ||| lN b = lN (a ||| b) := by
  apply wb_inj
  rw [Int64.toBitVec_or, wb_tb, wb_tb, wb_tb]
  apply BitVec.eq_of_toNat_eq
  rw [BitVec.toNat_or, BitVec.toNat_ofNat, BitVec.toNat_ofNat, BitVec.toNat_ofNat, Nat.mod_eq_of_lt ha, Nat.mod_eq_of_lt hb, Nat.mod_eq_of_lt (Nat.or_lt_two_pow ha hb)]
theorem wb_mask {n k : Nat} (hn : n < 2 ^ 64) (hk : k < 64) : lN n &&& lN (2 ^ k - 1) = lN (n % 2 ^ k) := by
  rw [wb_and hn (by have := wb_lt2 hk; omega), Nat.and_two_pow_sub_one_eq_mod]
theorem wb_a1 {n : Nat} (hn : n < 2 ^ 64) : lN n &&& 1 = lN (n % 2) := wb_mask (k := 1) hn (by decide)
/-! fixed points of the numbers computed anew -/
section ZLA
variable {w : Nat → Int32} {S R D : Nat} {f : Nat → Int64}
theorem z_la2_f {k k' d g : Nat} (hg : g < 5) (hd : d < 7) : ∀ c, c ≤ 7 → (k' ≠ k ∨ c ≤ d) → tw_la2 w R k f c (5 * (7 * k' + d) + g) = f (5 * (7 * k' + d) + g)
  | 0, _, _ => rfl
  | c + 1, hc, h => by
    show tw_comp w R k c (tw_la2 w R k f c) 5 _ = _
    rw [z_comp_out 5 fun g' hg' => z_pl_ne hg hg' hd (by omega) (by omega), z_la2_f hg hd c (by omega) (by omega)]
theorem z_la2_at {k : Nat} (hi : z_inp w S) (hk : k < S) : ∀ c, c ≤ 7 → ∀ d, d < c → ∀ g, g < 5 → tw_la2 w R k f c (5 * (7 * k + d) + g) = tw_made w (tw_la2 w R k f c) R k d g
  | 0, _ => fun d hd => absurd hd (Nat.not_lt_zero _)
  | c + 1, hc => fun d hd g hg => by
    have hin : ∀ j, j < k → ∀ e, e ≤ d → tw_la2 w R k f c (5 * (7 * j + e) + g) = tw_la2 w R k f (c + 1) (5 * (7 * j + e) + g) := fun j hj e he => by
      show _ = tw_comp w R k c (tw_la2 w R k f c) 5 _
      rw [z_comp_out 5 fun g' hg' => z_pl_ne hg hg' (by omega) (by omega) (by omega)]
    rw [← z_made_same (w := w) (w' := w) (f := tw_la2 w R k f c) hi hk z_stE.r (fun _ _ _ _ _ => rfl) hin]
    show tw_comp w R k c (tw_la2 w R k f c) 5 _ = _
    by_cases q : d = c
    · subst q
      exact z_comp_in hi hk (by omega) 5 (Nat.le_refl _) g hg
    · rw [z_comp_out 5 fun g' hg' => z_pl_ne hg hg' (by omega) (by omega) (by omega)]
      exact z_la2_at hi hk c (by omega) d (by omega) g hg
theorem z_la_at (hi : z_inp w S) (hD : D < 7) : ∀ c, c ≤ S → ∀ k, k < c → ∀ d, d ≤ D → ∀ g, g < 5 → tw_la w R D f c (5 * (7 * k + d) + g) = tw_made w (tw_la w R D f c) R k d g
  | 0, _ => fun k hk => absurd hk (Nat.not_lt_zero _)
  | c + 1, hc => fun k hk d hd g hg => by
    by_cases q : k = c
    · subst q
      exact z_la2_at hi (by omega) (D + 1) (by omega) d (by omega) g hg
    · have e : ∀ j, j < c → ∀ x, x < 7 → tw_la w R D f (c + 1) (5 * (7 * j + x) + g) = tw_la w R D f c (5 * (7 * j + x) + g) := fun j hj x hx => z_la2_f hg hx (D + 1) (by omega) (Or.inl (by omega))
      rw [e k (by omega) d (by omega), z_la_at hi hD c (by omega) k (by omega) d hd g hg]
      exact z_made_same hi (by omega) z_stE.r (fun _ _ _ _ _ => rfl) fun j hj x hx => (e j (by omega) x (by omega)).symm
/-- numbers that satisfy the equations are the same -/
theorem z_made_u {u u' : Nat → Int64} (hi : z_inp w S) (h : ∀ k, k < S → ∀ d, d ≤ D → ∀ g, g < 5 → u (5 * (7 * k + d) + g) = tw_made w u R k d g) (h' : ∀ k, k < S → ∀ d, d ≤ D → ∀ g, g < 5 → u' (5 * (7 * k + d) + g) = tw_made w u' R k d g) : ∀ n k, k < n → k < S → ∀ d, d ≤ D → ∀ g, g < 5 → u (5 * (7 * k + d) + g) = u' (5 * (7 * k + d) + g)
  | 0, k, h0 => absurd h0 (Nat.not_lt_zero _)
  | n + 1, k, h0 => fun hk d hd g hg => by
    rw [h k hk d hd g hg, h' k hk d hd g hg]
    exact z_made_same hi hk z_stE.r (fun _ _ _ _ _ => rfl) fun j hj e he => z_made_u hi h h' n j (by omega) (by omega) e (by omega) g hg
end ZLA
/-! levels -/
theorem z_lv_at {w : Nat → Int32} {v : Nat → Int32} {S : Nat} (hi : z_inp w S) (hS : S ≤ 8) : ∀ K, K ≤ S → ∀ j, j < K → tw_lv w v K j = nI (z_lev w K j)
  | 0, _, j, hj => absurd hj (Nat.not_lt_zero _)
  | K + 1, hK, j, hj => by
    show va_up (tw_lv w v K) K (tw_lv1 w (tw_lv w v K) K) j = nI (if j = K then (if tw_base w K then 0 else 1 + max (z_lev w K (tw_f w K)) (z_lev w K (tw_s w K))) else z_lev w K j)
    unfold va_up
    by_cases q : j = K
    · rw [if_pos q, if_pos q]
      unfold tw_lv1
      cases hb : tw_base w K
      · obtain ⟨h1, h2⟩ := hi.lt (by omega) hb
        rw [z_lv_at hi hS K (by omega) _ h1, z_lv_at hi hS K (by omega) _ h2]
        have l1 := z_lev_le (w := w) K (tw_f w K)
        have l2 := z_lev_le (w := w) K (tw_s w K)
        rw [if_neg Bool.false_ne_true, if_neg Bool.false_ne_true]
        by_cases z : z_lev w K (tw_s w K) < z_lev w K (tw_f w K)
        · rw [if_pos ((nI_ltI (by omega) (by omega)).mpr z), nI_add]
          exact congrArg nI (by omega)
        · rw [if_neg (fun e => z ((nI_ltI (by omega) (by omega)).mp e)), nI_add]
          exact congrArg nI (by omega)
      · rw [if_pos rfl, if_pos rfl]
    · rw [if_neg q, if_neg q]
      exact z_lv_at hi hS K (by omega) j (by omega)
theorem z_lv_lev {w : Nat → Int32} {v : Nat → Int32} {S k : Nat} (hi : z_inp w S) (hS : S ≤ 8) (hk : k < S) : tw_lv w v (k + 1) k = nI (z_lev w (k + 1) k) := z_lv_at hi hS (k + 1) (by omega) k (by omega)

