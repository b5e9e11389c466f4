/-! marks against bits -/
section ZMT
variable {w : Nat → Int32} {D : Nat} {dq aq : Int32}
theorem z_mor_a {Mk : Nat → Bool} {a : Nat} : ∀ e, z_mor Mk a e = z_anN (fun x => Mk (7 * a + x)) e
  | 0 => rfl
  | e + 1 => by rw [z_mor, z_anN, z_mor_a e]
theorem z_im_q {Mk : Nat → Bool} {k d : Nat} : z_im w Mk k d dq aq = z_bq w (fun k d => decide (dq = nI d) && decide (w (176 + 4 * k + 1) ≤ aq)) (fun k d => Mk (7 * k + d)) k d := by
  unfold z_im z_bq
  rw [z_mor_a]
theorem z_mt2_n {k x : Nat} {Mk : Nat → Bool} : ∀ c, (∀ d, d < c → x ≠ 7 * k + d) → z_mt2 w dq aq k Mk c x = Mk x
  | 0, _ => rfl
  | c + 1, h => by
    show va_up (z_mt2 w dq aq k Mk c) (7 * k + c) _ x = _
    unfold va_up
    rw [if_neg (h c (by omega)), z_mt2_n c fun d hd => h d (by omega)]
theorem z_mt2_at {k d : Nat} {Mk : Nat → Bool} : ∀ c, d < c → z_mt2 w dq aq k Mk c (7 * k + d) = z_im w (z_mt2 w dq aq k Mk d) k d dq aq
  | 0, h => absurd h (Nat.not_lt_zero _)
  | c + 1, h => by
    show va_up (z_mt2 w dq aq k Mk c) (7 * k + c) (z_im w (z_mt2 w dq aq k Mk c) k c dq aq) (7 * k + d) = _
    unfold va_up
    by_cases q : d = c
    · rw [q, if_pos rfl]
    · rw [if_neg (by omega), z_mt2_at c (by omega)]
theorem z_mt_f {x : Nat} : ∀ K, (∀ k, k < K → ∀ d, d ≤ D → x ≠ 7 * k + d) → z_mt w D dq aq K x = false
  | 0, _ => rfl
  | K + 1, h => by
    show z_mt2 w dq aq K (z_mt w D dq aq K) (D + 1) x = false
    rw [z_mt2_n _ fun d hd => h K (by omega) d (by omega), z_mt_f K fun k hk => h k (by omega)]
theorem z_mt_o {k x : Nat} (hx : x < 7 * k + 7) (hD : D < 7) : ∀ c, k < c → z_mt w D dq aq c x = z_mt w D dq aq (k + 1) x
  | 0, h => absurd h (Nat.not_lt_zero _)
  | c + 1, h => by
    by_cases q : k = c
    · rw [q]
    · show z_mt2 w dq aq c (z_mt w D dq aq c) (D + 1) x = _
      rw [z_mt2_n _ fun d hd => by omega, z_mt_o hx hD c (by omega)]
theorem z_mt_q {S k d : Nat} (hi : z_inp w S) (hD : D < 7) (hk : k < S) (hd : d ≤ D) : z_mt w D dq aq S (7 * k + d) = z_bq w (fun k d => decide (dq = nI d) && decide (w (176 + 4 * k + 1) ≤ aq)) (fun k d => z_mt w D dq aq S (7 * k + d)) k d := by
  rw [z_mt_o (by omega) hD S hk]
  show z_mt2 w dq aq k (z_mt w D dq aq k) (D + 1) (7 * k + d) = _
  rw [z_mt2_at (D + 1) (by omega), z_im_q]
  refine z_bq_cg hi hk fun j hj x hx => ?_
  show z_mt2 w dq aq k (z_mt w D dq aq k) d (7 * j + x) = z_mt w D dq aq S (7 * j + x)
  rw [z_mt2_n _ fun d hd => by omega, z_mt_o (k := j) (by omega) hD k hj, z_mt_o (k := j) (by omega) hD S (by omega)]
end ZMT
/-- a row of the group g: it is marked just where its bit stands -/
theorem z_mk_g {w : Nat → Int32} {S R g D p : Nat} {b : Nat → Int64} (hi : z_inp w S) (hD : D < 7) (hR : R ≤ 40) (hp : p < R) (hg : w (16 + 4 * p + 2) = nI g) {k d : Nat} (hk : k < S) (hd : d ≤ D) : z_mt w D (w (16 + 4 * p + 1)) (w (16 + 4 * p + 3)) S (7 * k + d) = z_g (tw_lb w R g D b S (7 * k + d)) p :=
  z_bq_u (cnt := fun k d => tw_cnt w p k (nI d) (nI g)) (B := fun k d => z_mt w D (w (16 + 4 * p + 1)) (w (16 + 4 * p + 3)) S (7 * k + d)) (C := fun k d => z_g (tw_lb w R g D b S (7 * k + d)) p) hi
    (fun k hk d hd => by
      rw [z_mt_q hi hD hk hd]
      refine z_bq_c fun _ => ?_
      unfold tw_cnt
      rw [decide_eq_true hg, Bool.true_and])
    (fun k hk d hd => z_lb_g hi hD hR hp hk hd) (k + 1) k (Nat.lt_succ_self _) hk d hd
/-- a row of another group stands behind no number -/
theorem z_mk_n {w : Nat → Int32} {S R g D p : Nat} {b : Nat → Int64} (hi : z_inp w S) (hD : D < 7) (hR : R ≤ 40) (hp : p < R) (hg : w (16 + 4 * p + 2) ≠ nI g) {k d : Nat} (hk : k < S) (hd : d ≤ D) : z_g (tw_lb w R g D b S (7 * k + d)) p = false :=
  z_bq_u (cnt := fun k d => tw_cnt w p k (nI d) (nI g)) (B := fun k d => z_g (tw_lb w R g D b S (7 * k + d)) p) (C := fun _ _ => false) hi
    (fun k hk d hd => z_lb_g hi hD hR hp hk hd)
    (fun k hk d hd => by
      unfold z_bq
      rw [z_anN_f (d + 1) fun _ _ => rfl]
      split
      · unfold tw_cnt
        rw [decide_eq_false hg]
        show false = (_ && (false && _))
        rw [Bool.false_and, Bool.and_false]
      · split
        · rfl
        · split <;> rfl) (k + 1) k (Nat.lt_succ_self _) hk d hd
theorem z_rmk_eq {w : Nat → Int32} {S R g D : Nat} {b : Nat → Int64} (hi : z_inp w S) (hD : D < 7) (hR : R ≤ 40) {k d : Nat} (hk : k < S) (hd : d ≤ D) : ∀ n, n ≤ R → z_rmk w S D k d g n = tw_bc (tw_lb w R g D b S (7 * k + d)) n
  | 0, _ => rfl
  | n + 1, hn => by
    rw [z_rmk, tw_bc, z_rmk_eq hi hD hR hk hd n (by omega), z_bit_g (by omega)]
    congr 2
    by_cases q : w (16 + 4 * n + 2) = nI g
    · rw [decide_eq_true q, Bool.true_and, z_mk_g (b := b) hi hD hR (by omega) q hk hd]
    · rw [decide_eq_false q, Bool.false_and, z_mk_n hi hD hR (by omega) q hk hd]
theorem z_mc_z {Mk : Nat → Bool} {a : Nat} : ∀ j, (∀ i, i < j → Mk (a + i) = false) → z_mc Mk (a + j) = z_mc Mk a
  | 0, _ => rfl
  | j + 1, h => by
    show z_mc Mk (a + j) + (Mk (a + j)).toNat = _
    rw [z_mc_z j fun i hi => h i (by omega), h j (by omega)]; rfl
theorem z_mc_1 {Mk : Nat → Bool} {b : Nat → Int64} {p k D : Nat} (hp : p < 64) (hD : D < 7) : ∀ c, c ≤ D + 1 → (∀ d, d ≤ D → Mk (7 * k + d) = z_g (b (7 * k + d)) p) → z_mc Mk (7 * k + c) = z_mc Mk (7 * k) + tw_rc1 b p k c
  | 0, _, _ => rfl
  | c + 1, hc, h => by
    show z_mc Mk (7 * k + c) + (Mk (7 * k + c)).toNat = z_mc Mk (7 * k) + (tw_rc1 b p k c + (tw_bit (b (7 * k + c)) p).toNat)
    rw [z_mc_1 hp hD c (by omega) h, h c (by omega), z_bit_g hp]
    omega
theorem z_rc_eq {w : Nat → Int32} {S R g D p : Nat} {b : Nat → Int64} (hi : z_inp w S) (hS : S ≤ 8) (hD : D < 7) (hR : R ≤ 40) (hp : p < R) (hg : w (16 + 4 * p + 2) = nI g) : z_mc (z_mt w D (w (16 + 4 * p + 1)) (w (16 + 4 * p + 3)) S) 56 = tw_rc (tw_lb w R g D b S) p D S := by
  have h1 : ∀ k, k ≤ S → z_mc (z_mt w D (w (16 + 4 * p + 1)) (w (16 + 4 * p + 3)) S) (7 * k) = tw_rc (tw_lb w R g D b S) p D k := by
    intro k
    induction k with
    | zero => intro _; rfl
    | succ k ih =>
      intro hk
      have e1 := z_mc_1 (Mk := z_mt w D (w (16 + 4 * p + 1)) (w (16 + 4 * p + 3)) S) (b := tw_lb w R g D b S) (p := p) (k := k) (D := D) (by omega) hD (D + 1) (Nat.le_refl _) fun d hd => z_mk_g (b := b) hi hD hR hp hg (by omega) hd
      have e2 := z_mc_z (Mk := z_mt w D (w (16 + 4 * p + 1)) (w (16 + 4 * p + 3)) S) (a := 7 * k + (D + 1)) (6 - D) fun i hi2 => z_mt_f S fun k' hk' d hd => by omega
      rw [show 7 * (k + 1) = 7 * k + (D + 1) + (6 - D) by omega, e2, e1, ih (by omega)]
      rfl
  have e3 := z_mc_z (Mk := z_mt w D (w (16 + 4 * p + 1)) (w (16 + 4 * p + 3)) S) (a := 7 * S) (56 - 7 * S) fun i hi2 => z_mt_f S fun k' hk' d hd => by omega
  rw [show 7 * S + (56 - 7 * S) = 56 by omega] at e3
  rw [e3, h1 S (Nat.le_refl _)]
/-! the stale partitions -/
theorem z_sd_s {w : Nat → Int32} {S : Nat} : ∀ n, z_sd w (S + 1) n = z_sd w S n + tw_sc1 w S n
  | 0 => rfl
  | n + 1 => by
    show z_sd w (S + 1) n + (z_so w n S + (tw_st w S n).toNat) = z_sd w S n + z_so w n S + (tw_sc1 w S n + (tw_st w S n).toNat)
    rw [z_sd_s n]
    omega
theorem z_sd_sc {w : Nat → Int32} {D : Nat} : ∀ S, z_sd w S (D + 1) = tw_sc w D S
  | 0 => by
    have : ∀ n, z_sd w 0 n = 0 := by
      intro n
      induction n with
      | zero => rfl
      | succ n ih => rw [z_sd, ih]; rfl
    rw [this]; rfl
  | S + 1 => by rw [z_sd_s, z_sd_sc S]; rfl

