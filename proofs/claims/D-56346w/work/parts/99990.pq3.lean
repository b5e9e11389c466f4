/-! the twin's bits -/
theorem z_bq_cg {w : Nat → Int32} {S k d : Nat} {cnt B B' : Nat → Nat → Bool} (hi : z_inp w S) (hk : k < S) (h : ∀ j, j < k → ∀ x, x ≤ d → B j x = B' j x) : z_bq w cnt B k d = z_bq w cnt B' k d := by
  unfold z_bq
  cases hb : tw_base w k
  · obtain ⟨h1, h2⟩ := hi.lt hk hb
    rw [h _ h1 d (Nat.le_refl _), h _ h2 d (Nat.le_refl _), z_anN_cg (d + 1) fun x hx => h _ h1 x (by omega)]
  · rfl
section ZLBS
variable {w : Nat → Int32} {S R g : Nat} {b : Nat → Int64}
theorem z_lbr_o {k d x : Nat} (hx : x ≠ 7 * k + d) : ∀ e, tw_lbr w k d b e x = b x
  | 0 => rfl
  | e + 1 => by
    show va_up (tw_lbr w k d b e) (7 * k + d) _ x = _
    unfold va_up
    rw [if_neg hx, z_lbr_o hx e]
theorem z_lbr_g {k d p : Nat} (hf : tw_f w k < k) : ∀ e, e ≤ 7 → z_g (tw_lbr w k d b e (7 * k + d)) p = (z_g (b (7 * k + d)) p || z_anN (fun x => z_g (b (7 * tw_f w k + x)) p) e)
  | 0, _ => by rw [show z_anN (fun x => z_g (b (7 * tw_f w k + x)) p) 0 = false from rfl, Bool.or_false]; rfl
  | e + 1, he => by
    show z_g (va_up (tw_lbr w k d b e) (7 * k + d) (tw_lbr w k d b e (7 * k + d) ||| tw_lbr w k d b e (7 * tw_f w k + e)) (7 * k + d)) p = _
    unfold va_up
    rw [if_pos rfl, z_g_or, z_lbr_g hf e (by omega), z_lbr_o (by omega), z_anN, Bool.or_assoc]
theorem z_lb1_o {k d x : Nat} (hx : x ≠ 7 * k + d) : tw_lb1 w R g k d b x = b x := by
  unfold tw_lb1
  have h0 : tw_lb0 w R g k d b x = b x := by unfold tw_lb0 va_up; rw [if_neg hx]
  split
  · rw [z_lbr_o hx, h0]
  · exact h0
theorem z_lb1_g {k d p : Nat} (hi : z_inp w S) (hk : k < S) (hd : d < 7) (hR : R ≤ 40) (hp : p < R) : z_g (tw_lb1 w R g k d b (7 * k + d)) p = z_bq w (fun k d => tw_cnt w p k (nI d) (nI g)) (fun k d => z_g (b (7 * k + d)) p) k d := by
  unfold z_bq
  cases hb : tw_base w k
  · obtain ⟨h1, h2⟩ := hi.lt hk hb
    have h0 : tw_lb0 w R g k d b (7 * k + d) = b (7 * tw_f w k + d) ||| b (7 * tw_s w k + d) := by
      unfold tw_lb0 va_up; rw [if_pos rfl, hb]; rfl
    have h0o : ∀ x, x ≠ 7 * k + d → tw_lb0 w R g k d b x = b x := fun x hx => by unfold tw_lb0 va_up; rw [if_neg hx]
    rw [if_neg Bool.false_ne_true]
    unfold tw_lb1
    rcases hi k hk with q | ⟨-, q, -⟩ | ⟨-, q, -, q4⟩
    · rw [hb] at q; cases q
    · have n1 : ¬ w (176 + 4 * k) = nI 114 := by rcases q with q | q <;> rw [q] <;> decide
      have n2 : ¬ w (176 + 4 * k) = nI 107 := by rcases q with q | q <;> rw [q] <;> decide
      rw [if_neg n1, if_neg n2, if_neg n1, h0, z_g_or]
    · rcases q with q | q
      · rw [if_pos q, if_neg (by rw [q]; decide), if_pos q, z_lbr_g h1 d (by omega), h0, q4, z_g_or, Bool.or_self, z_anN, Bool.or_comm]
        congr 1
        exact z_anN_cg d fun x hx => by rw [h0o _ (by omega)]
      · rw [if_neg (by rw [q]; decide), if_pos q, h0, q4, z_g_or, Bool.or_self]
  · have n1 : ¬ w (176 + 4 * k) = nI 114 := fun z => by rw [z_kn z (by simp)] at hb; cases hb
    unfold tw_lb1 tw_lb0 va_up
    rw [if_neg n1, if_pos rfl, if_pos rfl, hb, if_pos rfl, z_g_own R (by omega), decide_eq_true hp, Bool.true_and]
theorem z_lb2_o {k x : Nat} (hx : x < 7 * k ∨ 7 * k + 7 ≤ x) : ∀ c, c ≤ 7 → tw_lb2 w R g k b c x = b x
  | 0, _ => rfl
  | c + 1, hc => by
    show tw_lb1 w R g k c (tw_lb2 w R g k b c) x = _
    rw [z_lb1_o (by omega), z_lb2_o hx c (by omega)]
theorem z_lb2_at {k d : Nat} : ∀ c, c ≤ 7 → d < c → tw_lb2 w R g k b c (7 * k + d) = tw_lb1 w R g k d (tw_lb2 w R g k b d) (7 * k + d)
  | 0, _, h => absurd h (Nat.not_lt_zero _)
  | c + 1, hc, h => by
    show tw_lb1 w R g k c (tw_lb2 w R g k b c) (7 * k + d) = _
    by_cases q : d = c
    · rw [q]
    · rw [z_lb1_o (by omega), z_lb2_at c (by omega) (by omega)]
theorem z_lb_o {D k x : Nat} (hx : x < 7 * k + 7) (hD : D < 7) : ∀ c, k < c → tw_lb w R g D b c x = tw_lb w R g D b (k + 1) x
  | 0, h => absurd h (Nat.not_lt_zero _)
  | c + 1, h => by
    by_cases q : k = c
    · rw [q]
    · show tw_lb2 w R g c (tw_lb w R g D b c) (D + 1) x = _
      rw [z_lb2_o (by omega) _ (by omega), z_lb_o hx hD c (by omega)]
theorem z_lb_g {D p : Nat} (hi : z_inp w S) (hD : D < 7) (hR : R ≤ 40) (hp : p < R) {k d : Nat} (hk : k < S) (hd : d ≤ D) : z_g (tw_lb w R g D b S (7 * k + d)) p = z_bq w (fun k d => tw_cnt w p k (nI d) (nI g)) (fun k d => z_g (tw_lb w R g D b S (7 * k + d)) p) k d := by
  rw [z_lb_o (by omega) hD S hk]
  show z_g (tw_lb2 w R g k (tw_lb w R g D b k) (D + 1) (7 * k + d)) p = _
  rw [z_lb2_at (D + 1) (by omega) (by omega), z_lb1_g hi hk (by omega) hR hp]
  refine z_bq_cg hi hk fun j hj x hx => ?_
  show z_g (tw_lb2 w R g k (tw_lb w R g D b k) d (7 * j + x)) p = z_g (tw_lb w R g D b S (7 * j + x)) p
  rw [z_lb2_o (by omega) _ (by omega), z_lb_o (k := j) (by omega) hD k hj, z_lb_o (k := j) (by omega) hD S (by omega)]
end ZLBS
/-! the sum of bits -/
theorem z_bc_cg {x y : Int64} : ∀ {R : Nat}, R ≤ 64 → (∀ p, p < R → z_g x p = z_g y p) → tw_bc x R = tw_bc y R
  | 0, _, _ => rfl
  | R + 1, h1, h => by rw [tw_bc, tw_bc, z_bc_cg (by omega) fun p hp => h p (by omega), z_bit_g (by omega), z_bit_g (by omega), h R (by omega)]
/-- rows behind: the component's bits are the twin's -/
theorem z_rb_bits {w : Nat → Int32} {S R g D : Nat} {b : Nat → Int64} (hi : z_inp w S) (hD : D < 7) (hR : R ≤ 40) {k d : Nat} (hk : k < S) (hd : d ≤ D) : tw_bc (z_ub w R g S (7 * k + d)) R = tw_bc (tw_lb w R g D b S (7 * k + d)) R := by
  refine z_bc_cg (by omega) fun p hp => ?_
  exact z_bq_u (B := fun k d => z_g (z_ub w R g S (7 * k + d)) p) (C := fun k d => z_g (tw_lb w R g D b S (7 * k + d)) p) hi (fun k hk d hd => by rw [z_ub_at hi hk (by omega), z_g_rbk hR hp]) (fun k hk d hd => z_lb_g hi hD hR hp hk hd) (k + 1) k (Nat.lt_succ_self _) hk d hd
/-- bits at and beyond R are none -/
theorem z_anN_f {F : Nat → Bool} : ∀ e, (∀ x, x < e → F x = false) → z_anN F e = false
  | 0, _ => rfl
  | e + 1, h => by rw [z_anN, z_anN_f e fun x hx => h x (by omega), h e (by omega)]; rfl
theorem z_ub_hi {w : Nat → Int32} {S R g p : Nat} (hi : z_inp w S) (hR : R ≤ 40) (hp : R ≤ p) : ∀ n k, k < n → k < S → ∀ d, d < 7 → z_g (z_ub w R g S (7 * k + d)) p = false
  | 0, k, h0 => absurd h0 (Nat.not_lt_zero _)
  | n + 1, k, h0 => fun hk d hd => by
    rw [z_ub_at hi hk hd]
    unfold z_rbk
    cases hb : tw_base w k
    · obtain ⟨h1, h2⟩ := hi.lt hk hb
      have e : ∀ j, j < k → ∀ x, x < 7 → z_g (z_ub w R g S (7 * j + x)) p = false := fun j hj x hx => z_ub_hi hi hR hp n j (by omega) (by omega) x hx
      rw [if_neg Bool.false_ne_true]
      split
      · exact e _ h1 d hd
      · split
        · rw [z_g_rbr, z_anN_f _ fun x hx => e _ h1 x (by omega)]
        · rw [z_g_or, e _ h1 d hd, e _ h2 d hd]; rfl
    · rw [if_pos rfl, z_g_own R (by omega), decide_eq_false (by omega)]; rfl

