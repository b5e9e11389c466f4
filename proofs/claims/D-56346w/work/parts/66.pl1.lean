set_option maxRecDepth 100000
/-! THE PURE LAWS, 1: what a fresh partition holds -/
/-- step k's four places agree -/
def z_stE (w w' : Nat → Int32) (k : Nat) : Prop := ∀ o, o < 4 → w (176 + 4 * k + o) = w' (176 + 4 * k + o)
theorem z_stE.base {w w' : Nat → Int32} {k : Nat} (h : z_stE w w' k) : tw_base w k = tw_base w' k := by
  have h0 := h 0 (by omega)
  rw [Nat.add_zero] at h0
  unfold tw_base
  rw [h0]
theorem z_stE.f {w w' : Nat → Int32} {k : Nat} (h : z_stE w w' k) : tw_f w k = tw_f w' k := by unfold tw_f; rw [h 2 (by omega)]
theorem z_stE.s {w w' : Nat → Int32} {k : Nat} (h : z_stE w w' k) : tw_s w k = tw_s w' k := by unfold tw_s; rw [h 3 (by omega)]
theorem z_stE.k {w w' : Nat → Int32} {k : Nat} (h : z_stE w w' k) : w (176 + 4 * k) = w' (176 + 4 * k) := h 0 (by omega)
theorem z_stE.b {w w' : Nat → Int32} {k : Nat} (h : z_stE w w' k) : w (176 + 4 * k + 1) = w' (176 + 4 * k + 1) := h 1 (by omega)
/-- rows p < R agree in day, group and amount -/
def z_rwE (w w' : Nat → Int32) (R : Nat) : Prop := ∀ p, p < R → ∀ o, 0 < o → o < 4 → w (16 + 4 * p + o) = w' (16 + 4 * p + o)
theorem z_cnt_congr {w w' : Nat → Int32} {R k p : Nat} {d g : Int32} (hs : z_stE w w' k) (hr : z_rwE w w' R) (hp : p < R) : tw_cnt w p k d g = tw_cnt w' p k d g := by
  unfold tw_cnt
  rw [hr p hp 1 (by omega) (by omega), hr p hp 2 (by omega) (by omega), hr p hp 3 (by omega) (by omega), hs.b]
theorem z_of_congr {w w' : Nat → Int32} {R k : Nat} {d g : Int32} (hs : z_stE w w' k) (hr : z_rwE w w' R) : ∀ p, p ≤ R → tw_of w k d g p = tw_of w' k d g p
  | 0, _ => rfl
  | p + 1, hp => by
    rw [tw_of, tw_of, z_of_congr hs hr p (by omega), z_cnt_congr hs hr hp, hs.k, hr p hp 3 (by omega) (by omega)]
theorem z_sum_congr {f f' : Nat → Int64} {a g : Nat} : ∀ e, (∀ x, x < e → f (5 * (7 * a + x) + g) = f' (5 * (7 * a + x) + g)) → tw_sum f a g e = tw_sum f' a g e
  | 0, _ => rfl
  | e + 1, h => by rw [tw_sum, tw_sum, z_sum_congr e fun x hx => h x (by omega), h e (by omega)]
/-- made reads the rows, step k's places and the inputs' numbers -/
theorem z_made_congr {w w' : Nat → Int32} {f f' : Nat → Int64} {R R' k d g : Nat} (hs : z_stE w w' k) (hof : tw_base w k = true → tw_of w k (nI d) (nI g) R = tw_of w' k (nI d) (nI g) R')
    (hf : tw_base w k = false → ∀ e, e ≤ d → (e = d ∨ w (176 + 4 * k) = nI 114) → f (5 * (7 * tw_f w k + e) + g) = f' (5 * (7 * tw_f w k + e) + g))
    (hg : tw_base w k = false → f (5 * (7 * tw_s w k + d) + g) = f' (5 * (7 * tw_s w k + d) + g)) (hk : tw_base w k = false → w (176 + 4 * k) = nI 107 ∨ w (176 + 4 * k) = nI 43 ∨ w (176 + 4 * k) = nI 45 ∨ w (176 + 4 * k) = nI 114) : tw_made w f R k d g = tw_made w' f' R' k d g := by
  unfold tw_made
  rw [← hs.base, ← hs.k, ← hs.f, ← hs.s, ← hs.b]
  cases hb : tw_base w k
  · have h1 := hf hb d (Nat.le_refl _) (Or.inl rfl)
    have h2 := hg hb
    simp only [Bool.false_eq_true, if_false]
    rw [h1, h2]
    rcases hk hb with q | q | q | q
    · rw [if_pos q, if_pos q]
    · rw [q]; rfl
    · rw [q]; rfl
    · rw [q, z_sum_congr (f := f) (f' := f') (d + 1) fun x hx => hf hb x (by omega) (Or.inr q)]
  · simp only [if_true]
    exact hof hb
/-- the steps: known kinds, inputs ahead -/
def z_inp (w : Nat → Int32) (S : Nat) : Prop := ∀ k, k < S → tw_base w k = true ∨ (tw_base w k = false ∧ (w (176 + 4 * k) = nI 43 ∨ w (176 + 4 * k) = nI 45) ∧ tw_f w k < k ∧ tw_s w k < k) ∨ (tw_base w k = false ∧ (w (176 + 4 * k) = nI 114 ∨ w (176 + 4 * k) = nI 107) ∧ tw_f w k < k ∧ tw_s w k = tw_f w k)
theorem z_inp.lt {w : Nat → Int32} {S k : Nat} (h : z_inp w S) (hk : k < S) (hb : tw_base w k = false) : tw_f w k < k ∧ tw_s w k < k := by
  rcases h k hk with q | ⟨-, -, q1, q2⟩ | ⟨-, -, q1, q2⟩
  · rw [q] at hb; cases hb
  · exact ⟨q1, q2⟩
  · exact ⟨q1, q2 ▸ q1⟩
theorem z_inp.kd {w : Nat → Int32} {S k : Nat} (h : z_inp w S) (hk : k < S) (hb : tw_base w k = false) : w (176 + 4 * k) = nI 107 ∨ w (176 + 4 * k) = nI 43 ∨ w (176 + 4 * k) = nI 45 ∨ w (176 + 4 * k) = nI 114 := by
  rcases h k hk with q | ⟨-, q1 | q1, -⟩ | ⟨-, q1 | q1, -⟩
  · rw [q] at hb; cases hb
  · exact Or.inr (Or.inl q1)
  · exact Or.inr (Or.inr (Or.inl q1))
  · exact Or.inr (Or.inr (Or.inr q1))
  · exact Or.inl q1
theorem z_inp.congr {w w' : Nat → Int32} {S : Nat} (h : z_inp w S) (hs : ∀ k, k < S → z_stE w w' k) : z_inp w' S := fun k hk => by
  have q := h k hk
  have e := hs k hk
  rw [e.base, e.k, e.f, e.s] at q
  exact q
/-- a fresh partition holds what its inputs make, and none of those is stale -/
def z_frs (w : Nat → Int32) (v : Nat → Int64) (R S D : Nat) : Prop := ∀ k, k < S → ∀ d, d ≤ D → tw_st w k d = false → (∀ g, g < 5 → v (5 * (7 * k + d) + g) = tw_made w v R k d g) ∧ tw_from w k d = false
theorem z_any_congr {w w' : Nat → Int32} {a : Nat} : ∀ d, (∀ e, e < d → tw_st w a e = tw_st w' a e) → tw_any w a d = tw_any w' a d
  | 0, _ => rfl
  | d + 1, h => by rw [tw_any, tw_any, z_any_congr d fun e he => h e (by omega), h d (by omega)]
theorem z_any_f {w : Nat → Int32} {a : Nat} : ∀ d, tw_any w a d = false → ∀ e, e < d → tw_st w a e = false
  | 0, _, e, he => absurd he (Nat.not_lt_zero _)
  | d + 1, h, e, he => by
    rw [tw_any, Bool.or_eq_false_iff] at h
    rcases Nat.lt_succ_iff_lt_or_eq.mp he with q | q
    · exact z_any_f d h.1 e q
    · rw [q]; exact h.2
theorem z_any_of {w : Nat → Int32} {a : Nat} : ∀ d, (∀ e, e < d → tw_st w a e = false) → tw_any w a d = false
  | 0, _ => rfl
  | d + 1, h => by rw [tw_any, z_any_of d fun e he => h e (by omega), h d (by omega)]; rfl
theorem z_from_congr {w w' : Nat → Int32} {k d : Nat} (hs : z_stE w w' k) (h : tw_base w k = false → (∀ e, e ≤ d → (e = d ∨ w (176 + 4 * k) = nI 114) → tw_st w (tw_f w k) e = tw_st w' (tw_f w k) e) ∧ tw_st w (tw_s w k) d = tw_st w' (tw_s w k) d) : tw_from w k d = tw_from w' k d := by
  unfold tw_from
  rw [← hs.base, ← hs.f, ← hs.s, ← hs.k]
  cases hb : tw_base w k
  · obtain ⟨h1, h2⟩ := h hb
    simp only [Bool.false_eq_true, if_false]
    rw [h1 d (Nat.le_refl _) (Or.inl rfl), h2]
    by_cases q : w (176 + 4 * k) = nI 114
    · rw [z_any_congr (w := w) (w' := w') d fun e he => h1 e (by omega) (Or.inr q)]
    · rw [decide_eq_false q]; rfl
  · rfl
/-- what it is not to be computed from a stale one -/
theorem z_from_f {w : Nat → Int32} {k d : Nat} (hb : tw_base w k = false) (h : tw_from w k d = false) : (∀ e, e ≤ d → (e = d ∨ w (176 + 4 * k) = nI 114) → tw_st w (tw_f w k) e = false) ∧ tw_st w (tw_s w k) d = false := by
  unfold tw_from at h
  rw [hb] at h
  simp only [Bool.false_eq_true, if_false, Bool.or_eq_false_iff, Bool.and_eq_false_iff] at h
  obtain ⟨⟨h1, h2⟩, h3⟩ := h
  refine ⟨fun e he ho => ?_, h2⟩
  rcases ho with q | q
  · rw [q]; exact h1
  · rcases Nat.lt_or_ge e d with z | z
    · rcases h3 with h3 | h3
      · exact absurd q (of_decide_eq_false h3)
      · exact z_any_f d h3 e z
    · rw [show e = d by omega]; exact h1
theorem z_from_of {w : Nat → Int32} {k d : Nat} (h : tw_base w k = false → (∀ e, e ≤ d → (e = d ∨ w (176 + 4 * k) = nI 114) → tw_st w (tw_f w k) e = false) ∧ tw_st w (tw_s w k) d = false) : tw_from w k d = false := by
  unfold tw_from
  cases hb : tw_base w k
  · obtain ⟨h1, h2⟩ := h hb
    simp only [Bool.false_eq_true, if_false]
    rw [h1 d (Nat.le_refl _) (Or.inl rfl), h2]
    by_cases q : w (176 + 4 * k) = nI 114
    · rw [z_any_of d fun e he => h1 e (by omega) (Or.inr q)]; simp
    · rw [decide_eq_false q]; rfl
  · rfl
/-- places of numbers -/
theorem z_pl_ne {k d g k' d' g' : Nat} (hg : g < 5) (hg' : g' < 5) (hd : d < 7) (hd' : d' < 7) (h : k ≠ k' ∨ d ≠ d' ∨ g ≠ g') : 5 * (7 * k + d) + g ≠ 5 * (7 * k' + d') + g' := by omega
theorem z_comp_out {w : Nat → Int32} {R k d x : Nat} {f : Nat → Int64} : ∀ g, (∀ g', g' < g → x ≠ 5 * (7 * k + d) + g') → tw_comp w R k d f g x = f x
  | 0, _ => rfl
  | g + 1, h => by
    rw [tw_comp, va_up]
    rw [if_neg (h g (by omega)), z_comp_out g fun g' hg' => h g' (by omega)]
/-- the partition made anew holds what its inputs make -/
theorem z_comp_in {w : Nat → Int32} {S R k d : Nat} {f : Nat → Int64} (hi : z_inp w S) (hk : k < S) (hd : d < 7) : ∀ c, c ≤ 5 → ∀ g, g < c → tw_comp w R k d f c (5 * (7 * k + d) + g) = tw_made w f R k d g
  | 0, _, g, hg => absurd hg (Nat.not_lt_zero _)
  | c + 1, hc, g, hg => by
    rw [tw_comp, va_up]
    by_cases q : g = c
    · rw [if_pos (by rw [q]), q]
      refine z_made_congr (fun _ _ => rfl) (fun _ => rfl) (fun hb e he _ => ?_) (fun hb => ?_) (hi.kd hk)
      · have := (hi.lt hk hb).1
        exact z_comp_out c fun g' hg' => z_pl_ne (by omega) (by omega) (by omega) hd (Or.inl (by omega))
      · have := (hi.lt hk hb).2
        exact z_comp_out c fun g' hg' => z_pl_ne (by omega) (by omega) (by omega) hd (Or.inl (by omega))
    · rw [if_neg (by omega)]
      exact z_comp_in hi hk hd c (by omega) g (by omega)
theorem z_st_up_ne {w : Nat → Int32} {k d i : Nat} {x : Int32} (h : 208 + 7 * k + d ≠ i) : tw_st (va_up w i x) k d = tw_st w k d := by
  unfold tw_st va_up
  rw [if_neg h]
theorem z_stE_up {w : Nat → Int32} {k i : Nat} {x : Int32} (h : i < 176 + 4 * k ∨ 176 + 4 * k + 4 ≤ i) : z_stE (va_up w i x) w k := fun o ho => if_neg (by omega)
theorem z_stE.t {w w1 w2 : Nat → Int32} {k : Nat} (a : z_stE w w1 k) (b : z_stE w1 w2 k) : z_stE w w2 k := fun o ho => (a o ho).trans (b o ho)
theorem z_stE.y {w w1 : Nat → Int32} {k : Nat} (a : z_stE w w1 k) : z_stE w1 w k := fun o ho => (a o ho).symm
theorem z_stE.r {w : Nat → Int32} {k : Nat} : z_stE w w k := fun _ _ => rfl
/-! THE PURE LAWS, 2: fresh partitions stay what they are to be, by each change -/
/-- made of a step that reads only places that are the same -/
theorem z_made_same {w w' : Nat → Int32} {f f' : Nat → Int64} {S R k d g : Nat} (hi : z_inp w S) (hk : k < S) (hs : z_stE w w' k) (hr : z_rwE w w' R) (hf : ∀ j, j < k → ∀ e, e ≤ d → f (5 * (7 * j + e) + g) = f' (5 * (7 * j + e) + g)) : tw_made w f R k d g = tw_made w' f' R k d g :=
  z_made_congr hs (fun _ => z_of_congr hs hr R (Nat.le_refl _)) (fun hb e he _ => hf _ (hi.lt hk hb).1 e he) (fun hb => hf _ (hi.lt hk hb).2 d (Nat.le_refl _)) (hi.kd hk)
/-- one partition (k, d) computed and judged; the others stay -/
theorem z_frs_j {w : Nat → Int32} {v : Nat → Int64} {S R k d : Nat} (hi : z_inp w S) (hk : k < S) (hd : d < 7) :
    (∀ g, g < 5 → tw_comp w R k d v 5 (5 * (7 * k + d) + g) = tw_made w (tw_comp w R k d v 5) R k d g) := fun g hg => by
  rw [z_comp_in hi hk hd 5 (by omega) g hg]
  refine z_made_congr (fun _ _ => rfl) (fun _ => rfl) (fun hb e he _ => ?_) (fun hb => ?_) (hi.kd hk)
  · have := (hi.lt hk hb).1
    exact (z_comp_out 5 fun g' hg' => z_pl_ne (by omega) (by omega) (by omega) hd (Or.inl (by omega))).symm
  · have := (hi.lt hk hb).2
    exact (z_comp_out 5 fun g' hg' => z_pl_ne (by omega) (by omega) (by omega) hd (Or.inl (by omega))).symm
theorem z_inp_up {w : Nat → Int32} {S i : Nat} {x : Int32} (h : z_inp w S) (hS : S ≤ 8) (hi : i < 176 ∨ 208 ≤ i) : z_inp (va_up w i x) S := h.congr fun k hk => (z_stE_up (by omega)).y
/-- the day's partitions of steps k.. computed and judged (a day begins; repair): what is known after k of them -/
theorem z_bg_st {w : Nat → Int32} {D : Nat} : ∀ c k, z_stE (tw_bg0 w D c) w k ∨ 8 ≤ k
  | 0, _ => Or.inl fun _ _ => rfl
  | c + 1, k => by
    rcases Nat.lt_or_ge k 8 with hk | hk
    · rcases z_bg_st c k with q | q
      · exact Or.inl ((z_stE_up (by omega)).t q)
      · exact Or.inr q
    · exact Or.inr hk
theorem z_bg_rw {w : Nat → Int32} {D R : Nat} (hR : R ≤ 40) : ∀ c, z_rwE (tw_bg0 w D c) w R
  | 0 => fun _ _ _ _ _ => rfl
  | c + 1 => fun p hp o h0 h4 => by
    rw [tw_bg0, tw_j0, va_up, if_neg (by omega)]
    exact z_bg_rw hR c p hp o h0 h4
theorem z_bg0_f {w : Nat → Int32} {D k d : Nat} (hd : d < 7) (hD : D < 7) : ∀ c, (d ≠ D ∨ c ≤ k) → tw_st (tw_bg0 w D c) k d = tw_st w k d
  | 0, _ => rfl
  | c + 1, h => by
    rw [tw_bg0, tw_j0, z_st_up_ne (by omega)]
    exact z_bg0_f hd hD c (by omega)
theorem z_bg5_f {w : Nat → Int32} {R D k d g : Nat} {v : Nat → Int64} (hg : g < 5) (hd : d < 7) (hD : D < 7) : ∀ c, (d ≠ D ∨ c ≤ k) → tw_bg5 w R D v c (5 * (7 * k + d) + g) = v (5 * (7 * k + d) + g)
  | 0, _ => rfl
  | c + 1, h => by
    rw [tw_bg5, z_comp_out 5 fun g' hg' => z_pl_ne hg (by omega) hd hD (by omega)]
    exact z_bg5_f hg hd hD c (by omega)
/-- each partition that was computed keeps what was found then -/
theorem z_bg_at {w : Nat → Int32} {v : Nat → Int64} {S R D : Nat} (hi : z_inp w S) (hS : S ≤ 8) (hR : R ≤ 40) (hD : D < 7) : ∀ c, c ≤ S → ∀ k, k < c → tw_st (tw_bg0 w D c) k D = tw_from (tw_bg0 w D c) k D ∧ ∀ g, g < 5 → tw_bg5 w R D v c (5 * (7 * k + D) + g) = tw_made (tw_bg0 w D c) (tw_bg5 w R D v c) R k D g
  | 0, _, k, hk => absurd hk (Nat.not_lt_zero _)
  | c + 1, hc, k, hk => by
    have hst : ∀ k, k < S → z_stE (tw_bg0 w D (c + 1)) (tw_bg0 w D c) k := fun k hk => z_stE_up (by omega)
    have hi1 : z_inp (tw_bg0 w D c) S := hi.congr fun k hk => (z_bg_st c k).elim (fun q => q.y) (fun q => absurd q (by omega))
    have hrw : z_rwE (tw_bg0 w D (c + 1)) (tw_bg0 w D c) R := fun p hp o h0 h4 => by rw [z_bg_rw hR _ p hp o h0 h4, z_bg_rw hR _ p hp o h0 h4]
    have hi2 : z_inp (tw_bg0 w D (c + 1)) S := hi1.congr fun k hk => (hst k hk).y
    have hfrom : tw_from (tw_bg0 w D (c + 1)) k D = tw_from (tw_bg0 w D c) k D := z_from_congr (hst k (by omega)) fun hb => by
      have := hi2.lt (show k < S by omega) hb
      exact ⟨fun e he _ => z_st_up_ne (by omega), z_st_up_ne (by omega)⟩
    have hmade : ∀ g, g < 5 → tw_made (tw_bg0 w D (c + 1)) (tw_bg5 w R D v (c + 1)) R k D g = tw_made (tw_bg0 w D c) (tw_bg5 w R D v (c + 1)) R k D g := fun g hg => z_made_same hi2 (by omega) (hst k (by omega)) hrw fun _ _ _ _ => rfl
    by_cases q : k = c
    · subst q
      refine ⟨?_, fun g hg => ?_⟩
      · rw [hfrom, tw_bg0, tw_j0, tw_st_up]
      · rw [hmade g hg]
        exact z_frs_j hi1 (by omega) hD g hg
    · obtain ⟨h1, h2⟩ := z_bg_at (v := v) hi hS hR hD c (by omega) k (by omega)
      refine ⟨?_, fun g hg => ?_⟩
      · rw [hfrom, ← h1, tw_bg0, tw_j0, z_st_up_ne (by omega)]
      · rw [hmade g hg, tw_bg5, z_comp_out 5 fun g' hg' => z_pl_ne hg (by omega) hD hD (by omega), h2 g hg]
        refine z_made_same hi1 (by omega) (fun _ _ => rfl) (fun _ _ _ _ _ => rfl) fun j hj e he => ?_
        exact (z_comp_out 5 fun g' hg' => z_pl_ne hg (by omega) (by omega) hD (by omega)).symm
/-- a day begins -/
theorem z_frs_begin {w : Nat → Int32} {v : Nat → Int64} {S R D : Nat} (hi : z_inp w S) (hS : S ≤ 8) (hR : R ≤ 40) (hD : D < 6) (h : z_frs w v R S D) : z_frs (tw_bg0 (va_up w 0 (nI (D + 1))) (D + 1) S) (tw_bg5 (va_up w 0 (nI (D + 1))) R (D + 1) v S) R S (D + 1) := by
  intro k hk d hd hst
  have hi0 : z_inp (va_up w 0 (nI (D + 1))) S := z_inp_up hi hS (Or.inl (by omega))
  have hE : z_stE (tw_bg0 (va_up w 0 (nI (D + 1))) (D + 1) S) w k := ((z_bg_st S k).elim id (fun q => absurd q (by omega))).t (z_stE_up (by omega))
  by_cases q : d = D + 1
  · subst q
    obtain ⟨h1, h2⟩ := z_bg_at (v := v) hi0 hS hR (show D + 1 < 7 by omega) S (Nat.le_refl _) k hk
    exact ⟨h2, h1 ▸ hst⟩
  · rw [z_bg0_f (by omega) (by omega) S (Or.inl q), z_st_up_ne (by omega)] at hst
    obtain ⟨h1, h2⟩ := h k hk d (by omega) hst
    refine ⟨fun g hg => ?_, ?_⟩
    · rw [z_bg5_f hg (by omega) (by omega) S (Or.inl q), h1 g hg]
      refine z_made_same hi hk hE.y (fun p hp o h0 h4 => ?_) fun j hj e he => (z_bg5_f hg (by omega) (by omega) S (Or.inl (by omega))).symm
      rw [z_bg_rw hR S p hp o h0 h4, va_up, if_neg (by omega)]
    · rw [← h2]
      refine z_from_congr hE fun hb => ?_
      rw [hE.base] at hb
      have := hi.lt hk hb
      exact ⟨fun e he _ => by rw [z_bg0_f (by omega) (by omega) S (Or.inl (by omega)), z_st_up_ne (by omega)], by rw [z_bg0_f (by omega) (by omega) S (Or.inl (by omega)), z_st_up_ne (by omega)]⟩
/-! THE PURE LAWS, 3: a new step; a repair -/
theorem z_ns_st {w : Nat → Int32} {n k : Nat} (hn : n < 8) (hk : k < 8) : ∀ c, z_stE (tw_ns0 w n c) w k
  | 0 => fun _ _ => rfl
  | c + 1 => (z_stE_up (by omega)).t (z_ns_st hn hk c)
theorem z_ns_rw {w : Nat → Int32} {n R : Nat} (hR : R ≤ 40) : ∀ c, z_rwE (tw_ns0 w n c) w R
  | 0 => fun _ _ _ _ _ => rfl
  | c + 1 => fun p hp o h0 h4 => by
    rw [tw_ns0, tw_j0, va_up, if_neg (by omega)]
    exact z_ns_rw hR c p hp o h0 h4
theorem z_ns0_f {w : Nat → Int32} {n k d : Nat} (hd : d < 7) : ∀ c, c ≤ 7 → (k ≠ n ∨ c ≤ d) → tw_st (tw_ns0 w n c) k d = tw_st w k d
  | 0, _, _ => rfl
  | c + 1, hc, h => by
    rw [tw_ns0, tw_j0, z_st_up_ne (by omega)]
    exact z_ns0_f hd c (by omega) (by omega)
theorem z_ns5_f {w : Nat → Int32} {R n k d g : Nat} {v : Nat → Int64} (hg : g < 5) (hd : d < 7) : ∀ c, c ≤ 7 → (k ≠ n ∨ c ≤ d) → tw_ns5 w R n v c (5 * (7 * k + d) + g) = v (5 * (7 * k + d) + g)
  | 0, _, _ => rfl
  | c + 1, hc, h => by
    rw [tw_ns5, z_comp_out 5 fun g' hg' => z_pl_ne hg (by omega) hd (by omega) (by omega)]
    exact z_ns5_f hg hd c (by omega) (by omega)
theorem z_ns_at {w : Nat → Int32} {v : Nat → Int64} {S R n : Nat} (hi : z_inp w S) (hS : S ≤ 8) (hR : R ≤ 40) (hn : n < S) : ∀ c, c ≤ 7 → ∀ d, d < c → tw_st (tw_ns0 w n c) n d = tw_from (tw_ns0 w n c) n d ∧ ∀ g, g < 5 → tw_ns5 w R n v c (5 * (7 * n + d) + g) = tw_made (tw_ns0 w n c) (tw_ns5 w R n v c) R n d g
  | 0, _, d, hd => absurd hd (Nat.not_lt_zero _)
  | c + 1, hc, d, hd => by
    have hst : ∀ k, k < S → z_stE (tw_ns0 w n (c + 1)) (tw_ns0 w n c) k := fun k hk => z_stE_up (by omega)
    have hi1 : z_inp (tw_ns0 w n c) S := hi.congr fun k hk => (z_ns_st (by omega) (by omega) c).y
    have hrw : z_rwE (tw_ns0 w n (c + 1)) (tw_ns0 w n c) R := fun p hp o h0 h4 => by rw [z_ns_rw hR _ p hp o h0 h4, z_ns_rw hR _ p hp o h0 h4]
    have hi2 : z_inp (tw_ns0 w n (c + 1)) S := hi1.congr fun k hk => (hst k hk).y
    have hfrom : tw_from (tw_ns0 w n (c + 1)) n d = tw_from (tw_ns0 w n c) n d := z_from_congr (hst n hn) fun hb => by
      have := hi2.lt hn hb
      exact ⟨fun e he _ => z_st_up_ne (by omega), z_st_up_ne (by omega)⟩
    have hmade : ∀ g, g < 5 → tw_made (tw_ns0 w n (c + 1)) (tw_ns5 w R n v (c + 1)) R n d g = tw_made (tw_ns0 w n c) (tw_ns5 w R n v (c + 1)) R n d g := fun g hg => z_made_same hi2 hn (hst n hn) hrw fun _ _ _ _ => rfl
    by_cases q : d = c
    · subst q
      refine ⟨?_, fun g hg => ?_⟩
      · rw [hfrom, tw_ns0, tw_j0, tw_st_up]
      · rw [hmade g hg]
        exact z_frs_j hi1 hn (by omega) g hg
    · obtain ⟨h1, h2⟩ := z_ns_at (v := v) hi hS hR hn c (by omega) d (by omega)
      refine ⟨?_, fun g hg => ?_⟩
      · rw [hfrom, ← h1, tw_ns0, tw_j0, z_st_up_ne (by omega)]
      · rw [hmade g hg, tw_ns5, z_comp_out 5 fun g' hg' => z_pl_ne hg (by omega) (by omega) (by omega) (by omega), h2 g hg]
        refine z_made_same hi1 hn (fun _ _ => rfl) (fun _ _ _ _ _ => rfl) fun j hj e he => ?_
        exact (z_comp_out 5 fun g' hg' => z_pl_ne hg (by omega) (by omega) (by omega) (by omega)).symm
theorem z_nst_at {w : Nat → Int32} {S a c j : Nat} {kd b : Int32} (h : j < 176 + 4 * S ∨ 176 + 4 * S + 4 ≤ j) (h3 : j ≠ 3) : tw_nst w S kd b a c j = w j := by
  unfold tw_nst va_up
  rw [if_neg (by omega), if_neg (by omega), if_neg (by omega), if_neg (by omega), if_neg (by omega)]
theorem z_nst_in {w : Nat → Int32} {S a c : Nat} {kd b : Int32} (hS : S < 8) : tw_nst w S kd b a c (176 + 4 * S) = kd ∧ tw_nst w S kd b a c (176 + 4 * S + 1) = b ∧ tw_nst w S kd b a c (176 + 4 * S + 2) = nI a ∧ tw_nst w S kd b a c (176 + 4 * S + 3) = nI c ∧ tw_nst w S kd b a c 3 = nI (S + 1) := by
  unfold tw_nst va_up
  refine ⟨?_, ?_, ?_, ?_, ?_⟩ <;> simp <;> omega
/-- kinds that a step may have, with its inputs -/
def z_kda (S : Nat) (kd : Int32) (a c : Nat) : Prop := (kd = nI 115 ∨ kd = nI 110 ∨ kd = nI 120) ∨ ((kd = nI 43 ∨ kd = nI 45) ∧ a < S ∧ c < S) ∨ ((kd = nI 114 ∨ kd = nI 107) ∧ a < S ∧ c = a)
theorem z_nst_inp {w : Nat → Int32} {S a c : Nat} {kd b : Int32} (hi : z_inp w S) (hS : S < 8) (hk : z_kda S kd a c) : z_inp (tw_nst w S kd b a c) (S + 1) := by
  obtain ⟨e0, e1, e2, e3, -⟩ := z_nst_in (w := w) (kd := kd) (b := b) (a := a) (c := c) hS
  intro k hk1
  by_cases q : k = S
  · subst q
    have hb : ∀ x : Int32, kd = x → (x = nI 43 ∨ x = nI 45 ∨ x = nI 114 ∨ x = nI 107) → tw_base (tw_nst w k kd b a c) k = false := by
      intro x hx hy
      unfold tw_base
      rw [e0, hx]
      rcases hy with rfl | rfl | rfl | rfl <;> decide
    rcases hk with q | ⟨q, ha, hc⟩ | ⟨q, ha, hc⟩
    · left
      unfold tw_base
      rw [e0]
      rcases q with q | q | q <;> rw [q] <;> decide
    · right; left
      refine ⟨?_, ?_, ?_, ?_⟩
      · rcases q with q | q
        · exact hb _ q (Or.inl rfl)
        · exact hb _ q (Or.inr (Or.inl rfl))
      · rw [e0]; exact q
      · unfold tw_f; rw [e2, nI_clamp (by omega)]; exact ha
      · unfold tw_s; rw [e3, nI_clamp (by omega)]; exact hc
    · right; right
      refine ⟨?_, ?_, ?_, ?_⟩
      · rcases q with q | q
        · exact hb _ q (Or.inr (Or.inr (Or.inl rfl)))
        · exact hb _ q (Or.inr (Or.inr (Or.inr rfl)))
      · rw [e0]; exact q
      · unfold tw_f; rw [e2, nI_clamp (by omega)]; exact ha
      · unfold tw_f tw_s; rw [e2, e3, hc]
  · have hs : z_stE w (tw_nst w S kd b a c) k := fun o ho => (z_nst_at (by omega) (by omega)).symm
    have q := hi k (by omega)
    rw [hs.base, hs.k, hs.f, hs.s] at q
    exact q
theorem z_frs_nst {w : Nat → Int32} {v : Nat → Int64} {S R D a c : Nat} {kd b : Int32} (hi : z_inp w S) (hS : S < 8) (hR : R ≤ 40) (hD : D < 7) (hk : z_kda S kd a c) (h : z_frs w v R S D) : z_frs (tw_ns0 (tw_nst w S kd b a c) S (D + 1)) (tw_ns5 (tw_nst w S kd b a c) R S v (D + 1)) R (S + 1) D := by
  have hi1 := z_nst_inp (b := b) hi hS hk
  intro k hk1 d hd hst
  by_cases q : k = S
  · subst q
    obtain ⟨h1, h2⟩ := z_ns_at (v := v) hi1 (by omega) hR (Nat.lt_succ_self k) (D + 1) (by omega) d (by omega)
    exact ⟨h2, h1 ▸ hst⟩
  · have hE : z_stE (tw_ns0 (tw_nst w S kd b a c) S (D + 1)) w k := (z_ns_st (by omega) (by omega) _).t fun o ho => z_nst_at (by omega) (by omega)
    have hfl : ∀ j, j < S → ∀ e, e ≤ D → tw_st (tw_ns0 (tw_nst w S kd b a c) S (D + 1)) j e = tw_st w j e := fun j hj e he => by
      rw [z_ns0_f (by omega) _ (by omega) (Or.inl (by omega))]
      unfold tw_st
      rw [z_nst_at (by omega) (by omega)]
    rw [hfl k (by omega) d hd] at hst
    obtain ⟨h1, h2⟩ := h k (by omega) d hd hst
    refine ⟨fun g hg => ?_, ?_⟩
    · rw [z_ns5_f hg (by omega) _ (by omega) (Or.inl q), h1 g hg]
      refine z_made_same hi (by omega) hE.y (fun p hp o h0 h4 => ?_) fun j hj e he => (z_ns5_f hg (by omega) _ (by omega) (Or.inl (by omega))).symm
      rw [z_ns_rw hR _ p hp o h0 h4, z_nst_at (by omega) (by omega)]
    · rw [← h2]
      refine z_from_congr hE fun hb => ?_
      rw [hE.base] at hb
      have := hi.lt (by omega) hb
      rw [hE.f, hE.s]
      exact ⟨fun e he _ => hfl _ (by omega) e (by omega), hfl _ (by omega) d hd⟩
/-! repair -/
theorem z_rp_st {w : Nat → Int32} {d k : Nat} (hk : k < 8) : ∀ c, z_stE (tw_rp0 w d c) w k
  | 0 => fun _ _ => rfl
  | c + 1 => (z_stE_up (by omega)).t (z_rp_st hk c)
theorem z_rp_rw {w : Nat → Int32} {d R : Nat} (hR : R ≤ 40) : ∀ c, z_rwE (tw_rp0 w d c) w R
  | 0 => fun _ _ _ _ _ => rfl
  | c + 1 => fun p hp o h0 h4 => by
    rw [tw_rp0, va_up, if_neg (by omega)]
    exact z_rp_rw hR c p hp o h0 h4
theorem z_rp0_f {w : Nat → Int32} {D k d : Nat} (hd : d < 7) (hD : D < 7) : ∀ c, (d ≠ D ∨ c ≤ k) → tw_st (tw_rp0 w D c) k d = tw_st w k d
  | 0, _ => rfl
  | c + 1, h => by
    rw [tw_rp0, z_st_up_ne (by omega)]
    exact z_rp0_f hd hD c (by omega)
theorem z_rp0_at {w : Nat → Int32} {D k : Nat} (hD : D < 7) : ∀ c, k < c → tw_st (tw_rp0 w D c) k D = false
  | 0, h => absurd h (Nat.not_lt_zero _)
  | c + 1, h => by
    rw [tw_rp0]
    by_cases q : k = c
    · rw [q, tw_st_up]
    · rw [z_st_up_ne (by omega)]
      exact z_rp0_at hD c (by omega)
theorem z_rp5_f {w : Nat → Int32} {R D k d g : Nat} {v : Nat → Int64} (hg : g < 5) (hd : d < 7) (hD : D < 7) : ∀ c, (d ≠ D ∨ c ≤ k) → tw_rp5 w R D v c (5 * (7 * k + d) + g) = v (5 * (7 * k + d) + g)
  | 0, _ => rfl
  | c + 1, h => by
    rw [tw_rp5, z_comp_out 5 fun g' hg' => z_pl_ne hg (by omega) hd hD (by omega)]
    exact z_rp5_f hg hd hD c (by omega)
theorem z_rp_at {w : Nat → Int32} {v : Nat → Int64} {S R D : Nat} (hi : z_inp w S) (hS : S ≤ 8) (hR : R ≤ 40) (hD : D < 7) : ∀ c, c ≤ S → ∀ k, k < c → ∀ g, g < 5 → tw_rp5 w R D v c (5 * (7 * k + D) + g) = tw_made w (tw_rp5 w R D v c) R k D g
  | 0, _, k, hk => absurd hk (Nat.not_lt_zero _)
  | c + 1, hc, k, hk => fun g hg => by
    have hE : z_stE (tw_rp0 w D c) w c := z_rp_st (by omega) c
    have hi1 : z_inp (tw_rp0 w D c) S := hi.congr fun k hk => (z_rp_st (by omega) c).y
    by_cases q : k = c
    · subst q
      rw [tw_rp5, z_frs_j hi1 (by omega) hD g hg]
      exact z_made_same hi1 (by omega) hE (fun p hp o h0 h4 => z_rp_rw hR k p hp o h0 h4) fun _ _ _ _ => rfl
    · rw [tw_rp5, z_comp_out 5 fun g' hg' => z_pl_ne hg (by omega) hD hD (by omega), z_rp_at (v := v) hi hS hR hD c (by omega) k (by omega) g hg]
      refine z_made_same hi (by omega) (fun _ _ => rfl) (fun _ _ _ _ _ => rfl) fun j hj e he => ?_
      exact (z_comp_out 5 fun g' hg' => z_pl_ne hg (by omega) (by omega) hD (by omega)).symm
/-- a partition that was fresh is not changed by a repair -/
theorem z_rp_keep {w : Nat → Int32} {v : Nat → Int64} {S R D T : Nat} (hi : z_inp w S) (hS : S ≤ 8) (hR : R ≤ 40) (hD : D ≤ T) (hT : T < 7) (h : z_frs w v R S T) : ∀ n k, k < n → k < S → tw_st w k D = false → ∀ g, g < 5 → tw_rp5 w R D v S (5 * (7 * k + D) + g) = v (5 * (7 * k + D) + g)
  | 0, k, hk => absurd hk (Nat.not_lt_zero _)
  | n + 1, k, hk => fun hkS hst g hg => by
    obtain ⟨h1, h2⟩ := h k hkS D hD hst
    rw [z_rp_at hi hS hR (by omega) S (Nat.le_refl _) k hkS g hg, h1 g hg]
    refine z_made_congr (fun _ _ => rfl) (fun _ => rfl) (fun hb e he ho => ?_) (fun hb => ?_) (hi.kd hkS)
    · have hlt := (hi.lt hkS hb).1
      have hf := (z_from_f hb h2).1 e he ho
      by_cases q : e = D
      · subst q
        exact z_rp_keep hi hS hR hD hT h n _ (by omega) (by omega) hf g hg
      · exact z_rp5_f hg (by omega) (by omega) S (Or.inl q)
    · have hlt := (hi.lt hkS hb).2
      exact z_rp_keep hi hS hR hD hT h n _ (by omega) (by omega) (z_from_f hb h2).2 g hg
theorem z_frs_rep {w : Nat → Int32} {v : Nat → Int64} {S R D T : Nat} (hi : z_inp w S) (hS : S ≤ 8) (hR : R ≤ 40) (hD : D ≤ T) (hT : T < 7) (h : z_frs w v R S T) (hno : ∀ k, k < S → ∀ e, e < D → tw_st w k e = false) : z_frs (tw_rep w S D) (tw_rp5 w R D v S) R S T := by
  have hE : ∀ k, k < S → z_stE (tw_rep w S D) w k := fun k hk => (z_stE_up (by omega)).t (z_rp_st (by omega) S)
  have hfl : ∀ k d, d < 7 → tw_st (tw_rep w S D) k d = tw_st (tw_rp0 w D S) k d := fun k d hd => z_st_up_ne (by omega)
  have hrw : z_rwE (tw_rep w S D) w R := fun p hp o h0 h4 => by
    rw [tw_rep, va_up, if_neg (by omega)]
    exact z_rp_rw hR S p hp o h0 h4
  intro k hk d hd hst
  rw [hfl k d (by omega)] at hst
  have hi' := hi.congr fun k hk => (hE k hk).y
  by_cases q : d = D
  · subst q
    refine ⟨fun g hg => ?_, z_from_of fun hb => ?_⟩
    · rw [z_rp_at hi hS hR (by omega) S (Nat.le_refl _) k hk g hg]
      exact z_made_same hi hk (hE k hk).y (fun p hp o h0 h4 => (hrw p hp o h0 h4).symm) fun _ _ _ _ => rfl
    · have hlt := hi'.lt hk hb
      refine ⟨fun e he _ => ?_, ?_⟩
      · rw [hfl _ _ (by omega)]
        by_cases q : e = d
        · rw [q]; exact z_rp0_at (by omega) S (by omega)
        · rw [z_rp0_f (by omega) (by omega) S (Or.inl q)]
          exact hno _ (by omega) e (by omega)
      · rw [hfl _ _ (by omega)]
        exact z_rp0_at (by omega) S (by omega)
  · rw [z_rp0_f (by omega) (by omega) S (Or.inl q)] at hst
    obtain ⟨h1, h2⟩ := h k hk d hd hst
    refine ⟨fun g hg => ?_, z_from_of fun hb => ?_⟩
    · rw [z_rp5_f hg (by omega) (by omega) S (Or.inl q), h1 g hg]
      refine z_made_congr (hE k hk).y (fun _ => z_of_congr (hE k hk).y (fun p hp o h0 h4 => (hrw p hp o h0 h4).symm) R (Nat.le_refl _)) (fun hb e he ho => ?_) (fun hb => ?_) (hi.kd hk)
      · have hlt := (hi.lt hk hb).1
        by_cases q2 : e = D
        · subst q2
          exact (z_rp_keep hi hS hR hD hT h S _ (by omega) (by omega) ((z_from_f hb h2).1 e he ho) g hg).symm
        · exact (z_rp5_f hg (by omega) (by omega) S (Or.inl q2)).symm
      · exact (z_rp5_f hg (by omega) (by omega) S (Or.inl q)).symm
    · have hb' := hb
      rw [(hE k hk).base] at hb
      have hlt := hi.lt hk hb
      obtain ⟨g1, g2⟩ := z_from_f hb h2
      rw [(hE k hk).f, (hE k hk).s, (hE k hk).k]
      refine ⟨fun e he ho => ?_, ?_⟩
      · rw [hfl _ _ (by omega)]
        by_cases q2 : e = D
        · rw [q2]; exact z_rp0_at (by omega) S (by omega)
        · rw [z_rp0_f (by omega) (by omega) S (Or.inl q2)]
          exact g1 e he ho
      · rw [hfl _ _ (by omega), z_rp0_f (by omega) (by omega) S (Or.inl q)]
        exact g2
