/-! THE PURE LAWS, 7: the draft's own numbers (w1, v1) and the twin's (w, v) agree where they are looked at -/
/-- rows, steps, counts agree; so do the partitions but those that E holds of -/
def z_ag (w1 w : Nat → Int32) (v1 v : Nat → Int64) (S D : Nat) (E : Nat → Nat → Prop) : Prop := (∀ j, j < 208 → (j ≠ 0 ∧ j ≠ 1 ∧ j ≠ 3) → w1 j = w j) ∧ ∀ k, k < S → ∀ d, d ≤ D → ¬ E k d → tw_st w1 k d = tw_st w k d ∧ ∀ g, g < 5 → v1 (5 * (7 * k + d) + g) = v (5 * (7 * k + d) + g)
theorem z_ag.stE {w1 w : Nat → Int32} {v1 v : Nat → Int64} {S D k : Nat} {E : Nat → Nat → Prop} (h : z_ag w1 w v1 v S D E) (hk : k < 8) : z_stE w1 w k := fun o ho => h.1 _ (by omega) (by omega)
theorem z_ag.rwE {w1 w : Nat → Int32} {v1 v : Nat → Int64} {S D R : Nat} {E : Nat → Nat → Prop} (h : z_ag w1 w v1 v S D E) (hR : R ≤ 40) : z_rwE w1 w R := fun p hp o h0 h4 => h.1 _ (by omega) (by omega)
theorem z_ag.w {w1 w : Nat → Int32} {v1 v : Nat → Int64} {S D : Nat} {E E' : Nat → Nat → Prop} (h : z_ag w1 w v1 v S D E) (he : ∀ k d, E k d → E' k d) : z_ag w1 w v1 v S D E' := ⟨h.1, fun k hk d hd hn => h.2 k hk d hd fun z => hn (he k d z)⟩
/-- a partition computed and judged in both -/
theorem z_ag.j {w1 w : Nat → Int32} {v1 v : Nat → Int64} {S D R k d : Nat} {E : Nat → Nat → Prop} (h : z_ag w1 w v1 v S D E) (hi : z_inp w S) (hS : S ≤ 8) (hR : R ≤ 40) (hD : D ≤ 6) (hk : k < S) (hd : d ≤ D) (hE : ∀ j, j < k → ∀ e, e ≤ d → ¬ E j e) :
    z_ag (tw_j0 w1 k d) (tw_j0 w k d) (tw_comp w1 R k d v1 5) (tw_comp w R k d v 5) S D (fun k' d' => E k' d' ∧ ¬ (k' = k ∧ d' = d)) := by
  have hi1 : z_inp w1 S := hi.congr fun k hk => (h.stE (by omega)).y
  have hfrom : tw_from w1 k d = tw_from w k d := z_from_congr (h.stE (by omega)) fun hb => by
    have := hi1.lt hk hb
    exact ⟨fun e he _ => (h.2 _ (by omega) e (by omega) (hE _ this.1 e he)).1, (h.2 _ (by omega) d hd (hE _ this.2 d (Nat.le_refl _))).1⟩
  refine ⟨fun j hj hn => ?_, fun k' hk' d' hd' hn => ?_⟩
  · rw [tw_j0, tw_j0, va_upn (by omega), va_upn (by omega)]
    exact h.1 j hj hn
  · by_cases q : k' = k ∧ d' = d
    · obtain ⟨rfl, rfl⟩ := q
      refine ⟨by rw [tw_j0, tw_j0, tw_st_up, tw_st_up, hfrom], fun g hg => ?_⟩
      rw [z_comp_in hi1 hk (by omega) 5 (by omega) g hg, z_comp_in hi hk (by omega) 5 (by omega) g hg]
      exact z_made_same hi1 hk (h.stE (by omega)) (h.rwE hR) fun j hj e he => (h.2 j (by omega) e (by omega) (hE j hj e he)).2 g hg
    · have h9 := h.2 k' hk' d' hd' fun z => hn ⟨z, q⟩
      refine ⟨by rw [tw_j0, tw_j0, z_st_up_ne (by omega), z_st_up_ne (by omega)]; exact h9.1, fun g hg => ?_⟩
      rw [z_comp_out 5 fun g' hg' => z_pl_ne hg (by omega) (by omega) (by omega) (by omega), z_comp_out 5 fun g' hg' => z_pl_ne hg (by omega) (by omega) (by omega) (by omega)]
      exact h9.2 g hg
theorem z_ag_bg {w1 w : Nat → Int32} {v1 v : Nat → Int64} {S D R : Nat} (h : z_ag w1 w v1 v S D (fun _ d => d = D)) (hi : z_inp w S) (hS : S ≤ 8) (hR : R ≤ 40) (hD : D ≤ 6) : ∀ c, c ≤ S → z_ag (tw_bg0 w1 D c) (tw_bg0 w D c) (tw_bg5 w1 R D v1 c) (tw_bg5 w R D v c) S D (fun k d => d = D ∧ c ≤ k)
  | 0, _ => h.w fun k d e => ⟨e, Nat.zero_le _⟩
  | c + 1, hc => by
    have ih := z_ag_bg (R := R) h hi hS hR hD c (by omega)
    have hic : z_inp (tw_bg0 w D c) S := hi.congr fun k hk => (z_bg_st c k).elim (fun q => q.y) (fun q => absurd q (by omega))
    exact (ih.j (R := R) (k := c) (d := D) hic hS hR hD (by omega) (Nat.le_refl _) (fun j hj e he z => by omega)).w fun k d e => ⟨e.1.1, by
      have h1 := e.1.2
      have h2 := e.2
      have h3 := e.1.1
      by_cases z : k = c
      · exact absurd ⟨z, h3⟩ h2
      · omega⟩
theorem z_ag_ns {w1 w : Nat → Int32} {v1 v : Nat → Int64} {S D R n : Nat} (h : z_ag w1 w v1 v S D (fun k _ => k = n)) (hi : z_inp w S) (hS : S ≤ 8) (hR : R ≤ 40) (hD : D ≤ 6) (hn : n < S) : ∀ c, c ≤ D + 1 → z_ag (tw_ns0 w1 n c) (tw_ns0 w n c) (tw_ns5 w1 R n v1 c) (tw_ns5 w R n v c) S D (fun k d => k = n ∧ c ≤ d)
  | 0, _ => h.w fun k d e => ⟨e, Nat.zero_le _⟩
  | c + 1, hc => by
    have ih := z_ag_ns (R := R) h hi hS hR hD hn c (by omega)
    have hic : z_inp (tw_ns0 w n c) S := hi.congr fun k hk => (z_ns_st (by omega) (by omega) c).y
    exact (ih.j (R := R) (k := n) (d := c) hic hS hR hD hn (by omega) (fun j hj e he z => by omega)).w fun k d e => ⟨e.1.1, by
      have h1 := e.1.2
      have h2 := e.2
      have h3 := e.1.1
      by_cases z : d = c
      · exact absurd ⟨h3, z⟩ h2
      · omega⟩
/-- the count of a day's stale partitions, once all are judged -/
theorem z_so_bg' {w : Nat → Int32} {D : Nat} (hD : D < 7) : ∀ c n, c ≤ n → n ≤ 8 → z_so (tw_bg0 w D n) D c = z_so (tw_bg0 w D c) D c
  | 0, _, _, _ => rfl
  | c + 1, n, h, h8 => by
    rw [z_so, z_so, z_so_bg' hD c n (by omega) h8, z_so_bg' hD c (c + 1) (by omega) (by omega)]
    congr 2
    have : ∀ m, c + 1 ≤ m → m ≤ 8 → tw_st (tw_bg0 w D m) c D = tw_st (tw_bg0 w D (c + 1)) c D := by
      intro m
      induction m with
      | zero => intro h1; omega
      | succ m ih =>
        intro h1 h2
        by_cases q : m = c
        · rw [q]
        · rw [tw_bg0, tw_j0, z_st_up_ne (by omega)]
          exact ih (by omega) (by omega)
    exact this n h h8
theorem z_so_bg {w : Nat → Int32} {D : Nat} (hD : D < 7) : ∀ c, c ≤ 8 → z_so (tw_bg0 w D c) D c = tw_bgc w D c
  | 0, _ => rfl
  | c + 1, h => by
    rw [z_so, tw_bgc, z_so_bg' hD c (c + 1) (by omega) h, z_so_bg hD c (by omega), tw_bg0, tw_j0, tw_st_up]
theorem z_so_rp {w : Nat → Int32} {d : Nat} (hd : d < 7) : ∀ c, z_so w d c = tw_rpc w d c
  | 0 => rfl
  | c + 1 => by rw [z_so, tw_rpc, z_so_rp hd c, z_rp0_f hd hd c (Or.inr (Nat.le_refl _))]
theorem z_so_cg {w1 w : Nat → Int32} {d : Nat} : ∀ c, (∀ k, k < c → tw_st w1 k d = tw_st w k d) → z_so w1 d c = z_so w d c
  | 0, _ => rfl
  | c + 1, h => by rw [z_so, z_so, z_so_cg c fun k hk => h k (by omega), h c (by omega)]
/-! the component's way to spoil -/
def z_cs1 (w : Nat → Int32) (k x : Nat) : Nat → (Nat → Int32)
  | 0 => w
  | e + 1 => va_up (z_cs1 w k x e) (208 + 7 * k + e) (z_b (tw_st (z_cs1 w k x e) k e || (if tw_base w k then decide (e = x) else tw_from (z_cs1 w k x e) k e)))
def z_cs (w : Nat → Int32) (x D : Nat) : Nat → (Nat → Int32)
  | 0 => w
  | k + 1 => z_cs1 (z_cs w x D k) k x (D + 1)
theorem z_cs1_lo {w : Nat → Int32} {k x j : Nat} (hj : j < 208) : ∀ e, z_cs1 w k x e j = w j
  | 0 => rfl
  | e + 1 => by rw [z_cs1, va_upn (by omega)]; exact z_cs1_lo hj e
theorem z_cs_lo {w : Nat → Int32} {x D j : Nat} (hj : j < 208) : ∀ k, z_cs w x D k j = w j
  | 0 => rfl
  | k + 1 => by rw [z_cs, z_cs1_lo hj]; exact z_cs_lo hj k
theorem z_st_upI {w : Nat → Int32} {k d : Nat} {c : Bool} {k' d' : Nat} : tw_st (va_up w (208 + 7 * k + d) (z_b c)) k' d' = if 208 + 7 * k' + d' = 208 + 7 * k + d then c else tw_st w k' d' := by
  by_cases q : 208 + 7 * k' + d' = 208 + 7 * k + d
  · rw [if_pos q]
    unfold tw_st va_up
    rw [if_pos q]
    cases c <;> decide
  · rw [if_neg q, z_st_up_ne q]
theorem z_cs1_sp {w1 w : Nat → Int32} {S n x D : Nat} (hi : z_inp w S) (hlo : ∀ j, j < 208 → w1 j = w j) (hfl : ∀ k, k < S → ∀ d, d ≤ D → tw_st w1 k d = tw_st w k d) (hn : n < S) (hS : S ≤ 8) (hD : D ≤ 6) (hx : x ≤ D) : ∀ e, e ≤ D + 1 → ∀ k, k < S → ∀ d, d ≤ D → tw_st (z_cs1 w1 n x e) k d = if tw_base w n then (if k = n ∧ d = x ∧ d < e then true else tw_st w k d) else tw_st (tw_sp1 w n e) k d
  | 0, _, k, hk, d, hd => by
    rw [z_cs1, hfl k hk d hd]
    split
    · rw [if_neg (by omega)]
    · rfl
  | e + 1, he, k, hk, d, hd => by
    have ih := z_cs1_sp hi hlo hfl hn hS hD hx e (by omega)
    have hb : tw_base w1 n = tw_base w n := z_stE.base fun o ho => hlo _ (by omega)
    rw [z_cs1, z_st_upI, hb]
    cases hbw : tw_base w n
    · simp only [Bool.false_eq_true, if_false]
      have ih' : ∀ k, k < S → ∀ d, d ≤ D → tw_st (z_cs1 w1 n x e) k d = tw_st (tw_sp1 w n e) k d := fun k hk d hd => by
        rw [ih k hk d hd, hbw]; rfl
      have hE : z_stE (z_cs1 w1 n x e) (tw_sp1 w n e) n := fun o ho => by rw [z_cs1_lo (by omega), tw_sp1_lo (by omega), hlo _ (by omega)]
      have hi2 : z_inp (z_cs1 w1 n x e) S := hi.congr fun k hk o ho => by rw [z_cs1_lo (by omega), hlo _ (by omega)]
      have hfr : tw_from (z_cs1 w1 n x e) n e = tw_from (tw_sp1 w n e) n e := z_from_congr hE fun hb => by
        have := hi2.lt hn hb
        exact ⟨fun y hy _ => ih' _ (by omega) y (by omega), ih' _ (by omega) e (by omega)⟩
      rw [hfr, ih' n hn e (by omega), tw_sp1]
      cases hf : tw_from (tw_sp1 w n e) n e
      · simp only [Bool.false_eq_true, if_false, Bool.or_false]
        by_cases q : 208 + 7 * k + d = 208 + 7 * n + e
        · rw [if_pos q, show k = n by omega, show d = e by omega]
        · rw [if_neg q, ih' k hk d hd]
      · simp only [if_true, Bool.or_true]
        rw [z_st_upI]
        by_cases q : 208 + 7 * k + d = 208 + 7 * n + e
        · rw [if_pos q, if_pos q]
        · rw [if_neg q, if_neg q, ih' k hk d hd]
    · simp only [if_true]
      rw [ih n hn e (by omega), ih k hk d hd, hbw]
      simp only [if_true]
      by_cases q : 208 + 7 * k + d = 208 + 7 * n + e
      · obtain rfl : k = n := by omega
        obtain rfl : d = e := by omega
        rw [if_pos rfl, if_neg (by omega)]
        by_cases q2 : d = x
        · rw [if_pos (by omega), decide_eq_true q2, Bool.or_true]
        · rw [if_neg (by omega), decide_eq_false q2, Bool.or_false]
      · rw [if_neg q]
        by_cases q2 : k = n ∧ d = x ∧ d < e
        · rw [if_pos q2, if_pos (by omega)]
        · rw [if_neg q2, if_neg (by omega)]
theorem z_cs_sp {w : Nat → Int32} {S x D : Nat} (hi : z_inp w S) (hS : S ≤ 8) (hD : D ≤ 6) (hx : x ≤ D) : ∀ c, c ≤ S → ∀ k, k < S → ∀ d, d ≤ D → tw_st (z_cs w x D c) k d = tw_st (tw_sp w x D c) k d
  | 0, _, k, hk, d, hd => rfl
  | c + 1, hc, k, hk, d, hd => by
    have ih := z_cs_sp hi hS hD hx c (by omega)
    have hic : z_inp (tw_sp w x D c) S := hi.congr fun k hk o ho => (tw_sp_lo (by omega) c).symm
    rw [z_cs, z_cs1_sp hic (fun j hj => by rw [z_cs_lo hj, tw_sp_lo hj]) ih (by omega) hS hD hx (D + 1) (Nat.le_refl _) k hk d hd, tw_sp]
    have hb0 : ∀ y, tw_base (tw_sp0 (tw_sp w x D c) c x) y = tw_base (tw_sp w x D c) y ∨ 8 ≤ y := fun y => by
      by_cases h8 : y < 8
      · left
        refine z_stE.base fun o ho => ?_
        unfold tw_sp0
        split
        · rw [va_upn (by omega)]
        · rfl
      · right; omega
    cases hb : tw_base (tw_sp w x D c) c
    · have : tw_sp0 (tw_sp w x D c) c x = tw_sp w x D c := by unfold tw_sp0; rw [hb]; rfl
      rw [this]; rfl
    · have h0 : tw_sp0 (tw_sp w x D c) c x = va_up (tw_sp w x D c) (208 + 7 * c + x) (z_b true) := by unfold tw_sp0; rw [hb]; rfl
      have hs1 : ∀ (w9 : Nat → Int32), tw_base w9 c = true → ∀ e, tw_sp1 w9 c e = w9 := by
        intro w9 h9 e
        induction e with
        | zero => rfl
        | succ e ih9 =>
          rw [tw_sp1, ih9]
          have : tw_from w9 c e = false := by unfold tw_from; rw [h9]; rfl
          rw [this]; rfl
      rw [hs1 _ ((hb0 c).elim (fun z => z.trans hb) (fun z => by omega)), h0, z_st_upI]
      simp only [if_true]
      by_cases q : k = c ∧ d = x ∧ d < D + 1
      · rw [if_pos q, if_pos (by omega)]
      · rw [if_neg q, if_neg (by omega)]
