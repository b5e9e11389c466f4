/-! THE PURE LAWS, 8: carrying changes along gives what computing anew gives -/
theorem z_chg_cg {w : Nat → Int32} {v : Nat → Int64} {S R k D g : Nat} {am sg : Int32} {c c' : Nat → Int64} (hi : z_inp w S) (hk : k < S) (h : ∀ j, j < k → c j = c' j) : z_chg w v R k D g am sg c = z_chg w v R k D g am sg c' := by
  rcases hi k hk with q | ⟨q, q1, q2, q3⟩ | ⟨q, q1, q2, q3⟩
  · unfold tw_base at q
    simp only [Bool.or_eq_true, decide_eq_true_eq] at q
    rcases q with q | q | q
    · rw [z_chg_s q, z_chg_s q]
    · rw [z_chg_n q, z_chg_n q]
    · rw [z_chg_x q, z_chg_x q]
  · rcases q1 with q1 | q1
    · rw [z_chg_p q1, z_chg_p q1, h _ q2, h _ q3]
    · rw [z_chg_m q1, z_chg_m q1, h _ q2, h _ q3]
  · rcases q1 with q1 | q1
    · rw [z_chg_r q1, z_chg_r q1, h _ q2]
    · rw [z_chg_k q1, z_chg_k q1, h _ q2]
theorem z_ch_st {w : Nat → Int32} {v : Nat → Int64} {R D g j : Nat} {am sg : Int32} : ∀ {K : Nat}, j < K → z_ch w v R D g am sg K j = z_ch w v R D g am sg (j + 1) j
  | K + 1, h => by
    by_cases q : j = K
    · rw [q]
    · rw [z_ch, va_upn q, z_ch_st (by omega)]
theorem z_ch_at {w : Nat → Int32} {v : Nat → Int64} {S R D g k : Nat} {am sg : Int32} (hi : z_inp w S) (hk : k < S) : z_ch w v R D g am sg S k = if tw_st w k D then 0 else z_chg w v R k D g am sg (z_ch w v R D g am sg S) := by
  rw [z_ch_st hk, z_ch, va_ups, z_chg_cg hi hk fun j hj => ?_]
  rw [z_ch_st hj, ← z_ch_st (K := S) (by omega)]
theorem z_cr_at {v c : Nat → Int64} {D g : Nat} (hg : g < 5) (hD : D < 7) : ∀ K k d g', g' < 5 → d < 7 → z_cr v c D g K (5 * (7 * k + d) + g') = if k < K ∧ d = D ∧ g' = g then v (5 * (7 * k + d) + g') + c k else v (5 * (7 * k + d) + g')
  | 0, k, d, g', _, _ => by rw [if_neg (by omega)]; rfl
  | K + 1, k, d, g', hg', hd => by
    rw [z_cr]
    by_cases q : k = K ∧ d = D ∧ g' = g
    · obtain ⟨rfl, rfl, rfl⟩ := q
      rw [va_ups, z_cr_at hg hD k k d g' hg' hd, if_neg (by omega), if_pos (by omega)]
    · rw [va_upn (z_pl_ne hg' hg hd hD (by omega)), z_cr_at hg hD K k d g' hg' hd]
      by_cases q2 : k < K ∧ d = D ∧ g' = g
      · rw [if_pos q2, if_pos (by omega)]
      · rw [if_neg q2, if_neg (by omega)]
theorem z_i1 (a b c d : Int64) : a + b + (c + d) = (a + c) + (b + d) := by
  rw [Int64.add_assoc, ← Int64.add_assoc b c d, Int64.add_comm b c, Int64.add_assoc c b d, ← Int64.add_assoc]
theorem z_i2 (a b c d : Int64) : a - b + (c - d) = (a + c) - (b + d) := by
  rw [Int64.sub_eq_add_neg, Int64.sub_eq_add_neg, Int64.sub_eq_add_neg, z_i1, Int64.neg_add, Int64.sub_eq_add_neg (-b)]
theorem z_i3 (a b : Int64) : a + (b - a) = b := by
  rw [Int64.sub_eq_add_neg, Int64.add_comm b, ← Int64.add_assoc, Int64.add_right_neg, Int64.zero_add]
theorem z_i4 (a b c : Int64) : a + b + c = a + (b + c) := Int64.add_assoc a b c
/-- the rows' sums and counts on the day and group of the row -/
def z_hof (w w' : Nat → Int32) (R R' D g : Nat) (am sg : Int32) : Prop := ∀ k, (w (176 + 4 * k) = nI 115 → tw_of w' k (nI D) (nI g) R' = tw_of w k (nI D) (nI g) R + (if w (176 + 4 * k + 1) ≤ am then (sg * am).toInt64 else 0)) ∧ (w (176 + 4 * k) = nI 110 → tw_of w' k (nI D) (nI g) R' = tw_of w k (nI D) (nI g) R + (if w (176 + 4 * k + 1) ≤ am then sg.toInt64 else 0))
theorem z_ch_ok {w w' : Nat → Int32} {v : Nat → Int64} {S R R' D g : Nat} {am sg : Int32} (hi : z_inp w S) (hD : D < 7) (hg : g < 5) (hc : z_rch w w' R R' D g) (hof : z_hof w w' R R' D g am sg) (hfr : z_frs w v R S D) : ∀ n k, k < n → k < S → tw_st w' k D = false → v (5 * (7 * k + D) + g) + z_ch w' v R' D g am sg S k = tw_tt w' R' D v S (5 * (7 * k + D) + g)
  | 0, k, hk => absurd hk (Nat.not_lt_zero _)
  | n + 1, k, hk => fun hkS hst => by
    have hi' := hi.congr fun k _ => (hc.E (k := k)).y
    have hst0 : tw_st w k D = false := by rw [← hc.st (k := k) (e := D)]; exact hst
    obtain ⟨o1, o2⟩ := hfr k hkS D (Nat.le_refl _) hst0
    have o1 := o1 g hg
    have hE : z_stE w' w k := hc.E
    have ih := fun j (hj : j < k) (hs : tw_st w j D = false) => z_ch_ok (n := n) hi hD hg hc hof hfr j (by omega) (by omega) (by rw [hc.st]; exact hs)
    rw [z_ch_at hi' hkS, if_neg (by rw [hst]; simp), z_tt_at hi' hD S (Nat.le_refl _) k hkS hst g hg]
    rcases hi k hkS with q | ⟨q, q1, q2, q3⟩ | ⟨q, q1, q2, q3⟩
    · rw [z_mk_b (hE.base.trans q), o1, z_mk_b q]
      unfold tw_base at q
      simp only [Bool.or_eq_true, decide_eq_true_eq] at q
      rcases q with q | q | q
      · rw [z_chg_s (hE.k.trans q), (hof k).1 q, hE.b]
      · rw [z_chg_n (hE.k.trans q), (hof k).2 q, hE.b]
      · rw [z_chg_x (hE.k.trans q), o1, z_mk_b (z_kb q (by simp)), z_i3]
    · obtain ⟨f1, f2⟩ := z_from_f q o2
      have s1 := f1 D (Nat.le_refl _) (Or.inl rfl)
      have i1 := ih _ q2 s1
      have i2 := ih _ q3 f2
      rcases q1 with q1 | q1
      · rw [z_chg_p (hE.k.trans q1), z_mk_p (hE.k.trans q1), o1, z_mk_p q1, hE.f, hE.s, z_i1, i1, i2]
      · rw [z_chg_m (hE.k.trans q1), z_mk_m (hE.k.trans q1), o1, z_mk_m q1, hE.f, hE.s, z_i2, i1, i2]
    · obtain ⟨f1, f2⟩ := z_from_f q o2
      have s1 := f1 D (Nat.le_refl _) (Or.inl rfl)
      have i1 := ih _ q2 s1
      rcases q1 with q1 | q1
      · rw [z_chg_r (hE.k.trans q1), z_mk_r (hE.k.trans q1), o1, z_mk_r q1, hE.f, tw_sum, tw_sum, z_i4, i1]
        congr 1
        exact z_sum_congr D fun x hx => (z_tt_f hg (by omega) hD S (Or.inl (by omega))).symm
      · rw [z_chg_k (hE.k.trans q1), z_mk_k (hE.k.trans q1), o1, z_mk_k q1, hE.f, hE.b, i1, z_i3]
/-- the other groups of today stay -/
theorem z_cr_tt' {w w' : Nat → Int32} {v : Nat → Int64} {S R R' D g g' : Nat} (hi : z_inp w S) (hD : D < 7) (hg : g < 5) (hc : z_rch w w' R R' D g) (hfr : z_frs w v R S D) (hg' : g' < 5) (hne : g' ≠ g) : ∀ n k, k < n → k < S → tw_st w k D = false → tw_tt w' R' D v S (5 * (7 * k + D) + g') = v (5 * (7 * k + D) + g')
  | 0, k, hk => absurd hk (Nat.not_lt_zero _)
  | n + 1, k, hk => fun hkS hst => by
    have hi' := hi.congr fun k _ => (hc.E (k := k)).y
    obtain ⟨o1, o2⟩ := hfr k hkS D (Nat.le_refl _) hst
    rw [z_tt_at hi' hD S (Nat.le_refl _) k hkS (by rw [hc.st]; exact hst) g' hg', o1 g' hg']
    refine z_made_congr hc.E (fun hb => hc.2 k D g' hD hg' (Or.inr hne)) (fun hb x hx ho => ?_) (fun hb => ?_) (hi'.kd hkS)
    · have hb0 : tw_base w k = false := by rw [← (hc.E (k := k)).base]; exact hb
      obtain ⟨f1, f2⟩ := z_from_f hb0 o2
      have hlt := (hi.lt hkS hb0).1
      rw [(hc.E (k := k)).f]
      by_cases z : x = D
      · subst z
        exact z_cr_tt' hi hD hg hc hfr hg' hne n _ (by omega) (by omega) (f1 x hx (by rw [← (hc.E (k := k)).k]; exact ho))
      · exact z_tt_f hg' (by omega) hD S (Or.inl z)
    · have hb0 : tw_base w k = false := by rw [← (hc.E (k := k)).base]; exact hb
      obtain ⟨f1, f2⟩ := z_from_f hb0 o2
      have hlt := (hi.lt hkS hb0).2
      rw [(hc.E (k := k)).s]
      exact z_cr_tt' hi hD hg hc hfr hg' hne n _ (by omega) (by omega) f2
/-- carried along, or computed anew: the same numbers -/
theorem z_cr_tt {w w' : Nat → Int32} {v : Nat → Int64} {S R R' D g : Nat} {am sg : Int32} (hi : z_inp w S) (hD : D < 7) (hg : g < 5) (hc : z_rch w w' R R' D g) (hof : z_hof w w' R R' D g am sg) (hfr : z_frs w v R S D) : ∀ k, k < S → ∀ d, d ≤ D → ∀ g', g' < 5 → tw_tt w' R' D v S (5 * (7 * k + d) + g') = z_cr v (z_ch w' v R' D g am sg S) D g S (5 * (7 * k + d) + g') := by
  intro k hk d hd g' hg'
  have hi' := hi.congr fun k _ => (hc.E (k := k)).y
  rw [z_cr_at hg hD S k d g' hg' (by omega)]
  by_cases q : d = D
  · subst q
    cases hst : tw_st w' k d
    · by_cases q2 : g' = g
      · subst q2
        rw [if_pos ⟨hk, rfl, rfl⟩]
        exact (z_ch_ok hi hD hg hc hof hfr (k + 1) k (by omega) hk hst).symm
      · rw [if_neg (fun z => q2 z.2.2)]
        exact z_cr_tt' hi hD hg hc hfr hg' q2 S k hk hk (by rw [← hc.st (k := k) (e := d)]; exact hst)
    · rw [z_tt_f hg' hD hD S (Or.inr (Or.inr hst))]
      by_cases q2 : g' = g
      · subst q2
        rw [if_pos ⟨hk, rfl, rfl⟩, z_ch_at hi' hk, if_pos hst, Int64.add_zero]
      · rw [if_neg (fun z => q2 z.2.2)]
  · rw [if_neg (fun z => q z.2.1), z_tt_f hg' (by omega) hD S (Or.inl q)]
theorem z_hof_new {w : Nat → Int32} {R d g a : Nat} (hR : R < 40) (ha : a ≤ 99) : z_hof w (tw_nrow w R g d a) R (R + 1) d g (nI a) (nI 1) := by
  have h1 : tw_nrow w R g d a (16 + 4 * R + 1) = nI d := by
    unfold tw_nrow va_up
    rw [if_neg (by omega), if_neg (by omega), if_neg (by omega), if_neg (by omega), if_pos rfl]
  have h2 : tw_nrow w R g d a (16 + 4 * R + 2) = nI g := by
    unfold tw_nrow va_up
    rw [if_neg (by omega), if_neg (by omega), if_neg (by omega), if_pos rfl]
  have h3 : tw_nrow w R g d a (16 + 4 * R + 3) = nI a := by
    unfold tw_nrow va_up
    rw [if_neg (by omega), if_neg (by omega), if_pos rfl]
  intro k
  have hk : tw_nrow w R g d a (176 + 4 * k) = w (176 + 4 * k) := tw_nrow_at (by omega) (by omega) (by omega)
  have hb : tw_nrow w R g d a (176 + 4 * k + 1) = w (176 + 4 * k + 1) := tw_nrow_at (by omega) (by omega) (by omega)
  have hR0 : tw_of (tw_nrow w R g d a) k (nI d) (nI g) R = tw_of w k (nI d) (nI g) R := z_of_eqk hk hb R fun p hp o h0 h4 => tw_nrow_at (by omega) (by omega) (by omega)
  have hm : nI 1 * nI a = nI a := by rw [pk_mul, Nat.one_mul]
  have h11 : (nI 1).toInt64 = 1 := rfl
  by_cases hc : w (176 + 4 * k + 1) ≤ nI a
  · have hcnt : tw_cnt (tw_nrow w R g d a) R k (nI d) (nI g) = true := by
      unfold tw_cnt
      rw [h1, h2, h3, hb, decide_eq_true hc]; simp
    obtain ⟨q1, q2, -⟩ := z_of_t hcnt
    refine ⟨fun h => ?_, fun h => ?_⟩
    · rw [q1 (hk.trans h), hR0, h3, if_pos hc, hm]
    · rw [q2 (hk.trans h), hR0, if_pos hc, h11]
  · have hcnt : tw_cnt (tw_nrow w R g d a) R k (nI d) (nI g) = false := by
      unfold tw_cnt
      rw [h1, h2, h3, hb, decide_eq_false hc]; simp
    refine ⟨fun h => ?_, fun h => ?_⟩
    · rw [tw_of_n hcnt, hR0, if_neg hc, Int64.add_zero]
    · rw [tw_of_n hcnt, hR0, if_neg hc, Int64.add_zero]
theorem z_ngm : ∀ a, a < 100 → ((-1 : Int32) * nI a).toInt64 = -(nI a).toInt64 := by decide +kernel
/-- a sum or count without the row p -/
theorem z_of_gone' {w : Nat → Int32} {R p k : Nat} {d g : Int32} {x : Int64} (hp : p < R) (hR : R ≤ 40) (hx : tw_of w k d g (p + 1) = tw_of w k d g p + x) (hk : w (176 + 4 * k) = nI 115 ∨ w (176 + 4 * k) = nI 110) : ∀ q, q ≤ R - 1 → tw_of (tw_gone w R p) k d g q + x = if q ≤ p then tw_of w k d g q + x else tw_of w k d g (q + 1)
  | 0, _ => by rw [if_pos (Nat.zero_le _)]; rfl
  | q + 1, hq => by
    have ih := z_of_gone' hp hR hx hk q (by omega)
    have hb : tw_gone w R p (176 + 4 * k + 1) = w (176 + 4 * k + 1) := by rw [tw_gone_at hp (by omega), if_neg (by omega)]
    have hkk : tw_gone w R p (176 + 4 * k) = w (176 + 4 * k) := by rw [tw_gone_at hp (by omega), if_neg (by omega)]
    have key : ∀ y, (∀ o, 0 < o → o < 4 → tw_gone w R p (16 + 4 * q + o) = w (16 + 4 * y + o)) → tw_of (tw_gone w R p) k d g q + x = tw_of w k d g y → tw_of (tw_gone w R p) k d g (q + 1) + x = tw_of w k d g (y + 1) := by
      intro y hr h9
      have hcc := z_cnt_eq (k := k) (d := d) (g := g) hr hb
      cases hc : tw_cnt w y k d g
      · rw [tw_of_n (hcc.trans hc), tw_of_n hc, h9]
      · obtain ⟨a1, a2, -⟩ := z_of_t (hcc.trans hc)
        obtain ⟨b1, b2, -⟩ := z_of_t hc
        rcases hk with h | h
        · rw [a1 (hkk.trans h), b1 h, hr 3 (by omega) (by omega), ← h9, Int64.add_assoc, Int64.add_comm _ x, ← Int64.add_assoc]
        · rw [a2 (hkk.trans h), b2 h, ← h9, Int64.add_assoc, Int64.add_comm _ x, ← Int64.add_assoc]
    by_cases hqp : q < p
    · have hr : ∀ o, 0 < o → o < 4 → tw_gone w R p (16 + 4 * q + o) = w (16 + 4 * q + o) := fun o h0 h4 => by rw [tw_gone_at hp (by omega), if_neg (by omega)]
      have hcc := z_cnt_eq (k := k) (d := d) (g := g) hr hb
      rw [if_pos (show q ≤ p by omega)] at ih
      rw [if_pos (show q + 1 ≤ p by omega)]
      have ih2 : tw_of (tw_gone w R p) k d g q = tw_of w k d g q := by
        have := congrArg (fun z => z + -x) ih
        simpa [Int64.add_assoc, Int64.add_right_neg] using this
      cases hc : tw_cnt w q k d g
      · rw [tw_of_n (hcc.trans hc), tw_of_n hc, ih2]
      · obtain ⟨a1, a2, -⟩ := z_of_t (hcc.trans hc)
        obtain ⟨b1, b2, -⟩ := z_of_t hc
        rcases hk with h | h
        · rw [a1 (hkk.trans h), b1 h, hr 3 (by omega) (by omega), ih2]
        · rw [a2 (hkk.trans h), b2 h, ih2]
    · have hr : ∀ o, 0 < o → o < 4 → tw_gone w R p (16 + 4 * q + o) = w (16 + 4 * (q + 1) + o) := fun o h0 h4 => by
        rw [tw_gone_at hp (by omega), if_pos (by omega)]
        exact congrArg w (by omega)
      rw [if_neg (by omega)]
      refine key (q + 1) hr ?_
      rw [ih]
      split
      · rw [show q = p by omega, hx]
      · rfl
theorem z_hof_gone {w : Nat → Int32} {R p d g a : Nat} (hp : p < R) (hR : R ≤ 40) (h1 : w (16 + 4 * p + 1) = nI d) (h2 : w (16 + 4 * p + 2) = nI g) (h3 : w (16 + 4 * p + 3) = nI a) (ha : a ≤ 99) : z_hof w (tw_gone w R p) R (R - 1) d g (nI a) (-1) := by
  intro k
  have fin : ∀ x : Int64, tw_of w k (nI d) (nI g) (p + 1) = tw_of w k (nI d) (nI g) p + x → (w (176 + 4 * k) = nI 115 ∨ w (176 + 4 * k) = nI 110) → tw_of (tw_gone w R p) k (nI d) (nI g) (R - 1) = tw_of w k (nI d) (nI g) R + -x := fun x hx hk => by
    have h9 := z_of_gone' hp hR hx hk (R - 1) (Nat.le_refl _)
    have h8 : tw_of (tw_gone w R p) k (nI d) (nI g) (R - 1) + x = tw_of w k (nI d) (nI g) R := by
      rw [h9]
      split
      · rw [show R - 1 = p by omega, ← hx, show p + 1 = R by omega]
      · rw [show R - 1 + 1 = R by omega]
    rw [← h8, Int64.add_assoc, Int64.add_right_neg, Int64.add_zero]
  by_cases hc : w (176 + 4 * k + 1) ≤ nI a
  · have hcnt : tw_cnt w p k (nI d) (nI g) = true := by
      unfold tw_cnt
      rw [h1, h2, h3, decide_eq_true hc]; simp
    obtain ⟨q1, q2, -⟩ := z_of_t hcnt
    refine ⟨fun h => ?_, fun h => ?_⟩
    · rw [fin _ (q1 h) (Or.inl h), if_pos hc, z_ngm a (by omega), h3]
    · rw [fin _ (q2 h) (Or.inr h), if_pos hc]; rfl
  · have hcnt : tw_cnt w p k (nI d) (nI g) = false := by
      unfold tw_cnt
      rw [h1, h2, h3, decide_eq_false hc]; simp
    have h0 : tw_of w k (nI d) (nI g) (p + 1) = tw_of w k (nI d) (nI g) p + 0 := by rw [tw_of_n hcnt, Int64.add_zero]
    refine ⟨fun h => ?_, fun h => ?_⟩
    · rw [fin _ h0 (Or.inl h), if_neg hc, Int64.neg_zero]
    · rw [fin _ h0 (Or.inr h), if_neg hc, Int64.neg_zero]
