theorem tw_shl_eq {α : Type} (w : Nat → α) {s c : Nat} (hc : 0 < c) : ∀ (j x : Nat), tw_shl w s c j x = if s ≤ x ∧ x < s + j then w (x + c) else w x
  | 0, x => by rw [tw_shl, if_neg (by omega)]
  | j + 1, x => by
    rw [tw_shl]
    by_cases h : x = s + j
    · subst h
      rw [va_ups, tw_shl_eq w hc j, if_neg (by omega), if_pos (by omega)]
    · rw [va_upn h, tw_shl_eq w hc j]
      by_cases h2 : s ≤ x ∧ x < s + j
      · rw [if_pos h2, if_pos (by omega)]
      · rw [if_neg h2, if_neg (by omega)]
theorem tw_sp1_lo {w : Nat → Int32} {k j : Nat} (hj : j < 208) : ∀ e, tw_sp1 w k e j = w j
  | 0 => rfl
  | e + 1 => by
    rw [tw_sp1]
    split
    · rw [va_upn (by omega)]; exact tw_sp1_lo hj e
    · exact tw_sp1_lo hj e
theorem tw_sp_lo {w : Nat → Int32} {d D j : Nat} (hj : j < 208) : ∀ k, tw_sp w d D k j = w j
  | 0 => rfl
  | k + 1 => by
    rw [tw_sp, tw_sp1_lo hj, tw_sp0]
    split
    · rw [va_upn (by omega)]; exact tw_sp_lo hj k
    · exact tw_sp_lo hj k
theorem tw_bg0_lo {w : Nat → Int32} {D j : Nat} (hj : j < 208) : ∀ k, tw_bg0 w D k j = w j
  | 0 => rfl
  | k + 1 => by rw [tw_bg0, tw_j0, va_upn (by omega)]; exact tw_bg0_lo hj k
theorem tw_ns0_lo {w : Nat → Int32} {k j : Nat} (hj : j < 208) : ∀ d, tw_ns0 w k d j = w j
  | 0 => rfl
  | d + 1 => by rw [tw_ns0, tw_j0, va_upn (by omega)]; exact tw_ns0_lo hj d
theorem tw_rp0_lo {w : Nat → Int32} {d j : Nat} (hj : j < 208) : ∀ k, tw_rp0 w d k j = w j
  | 0 => rfl
  | k + 1 => by rw [tw_rp0, va_upn (by omega)]; exact tw_rp0_lo hj k
theorem z_rows.of {w v : Nat → Int32} {R D D' : Nat} (h : z_rows w R D) (hD : D ≤ D') (he : ∀ j, 16 ≤ j → j < 176 → v j = w j) (hR : R ≤ 40) : z_rows v R D' := by
  intro p hp
  obtain ⟨d, g, a, h1, h2, h3, h4, h5, h6⟩ := h p hp
  exact ⟨d, g, a, by rw [he _ (by omega) (by omega)]; exact h1, by omega, by rw [he _ (by omega) (by omega)]; exact h3, h4, by rw [he _ (by omega) (by omega)]; exact h5, h6⟩
theorem tw_decs_lo {w : Nat → Int32} {k x : Nat} (hx : x < 176 ∨ 208 ≤ x) : ∀ j, k + j ≤ 8 → tw_decs w k j x = w x
  | 0, _ => rfl
  | j + 1, h => by rw [tw_decs, tw_dec, va_upn (by omega), tw_dec, va_upn (by omega)]; exact tw_decs_lo hx j (by omega)
theorem tw_decs_in {w : Nat → Int32} {k o : Nat} (ho : o = 2 ∨ o = 3) : ∀ j i, i < 8 → k + j ≤ 8 → tw_decs w k j (176 + 4 * i + o) = if k ≤ i ∧ i < k + j then w (176 + 4 * i + o) - (if w (176 + 4 * i + o) ≤ nI k then nI 0 else nI 1) else w (176 + 4 * i + o)
  | 0, i, _, _ => by rw [if_neg (by omega)]; rfl
  | j + 1, i, hi, h => by
    have ih := fun i hi => tw_decs_in (w := w) ho j i hi (by omega : k + j ≤ 8)
    rw [tw_decs, tw_dec, tw_dec]
    by_cases q : i = k + j
    · subst q
      have e1 := ih (k + j) hi
      rw [if_neg (show ¬(k ≤ k + j ∧ k + j < k + j) by omega)] at e1
      rw [if_pos (show k ≤ k + j ∧ k + j < k + (j + 1) by omega)]
      rcases ho with rfl | rfl
      · rw [va_upn (by omega), va_ups, e1]
      · rw [va_ups, va_upn (by omega), e1]
    · rw [va_upn (by omega), va_upn (by omega), ih i hi]
      by_cases q2 : k ≤ i ∧ i < k + j
      · rw [if_pos q2, if_pos (show k ≤ i ∧ i < k + (j + 1) by omega)]
      · rw [if_neg q2, if_neg (show ¬(k ≤ i ∧ i < k + (j + 1)) by omega)]
theorem tw_decs_01 {w : Nat → Int32} {k o : Nat} (ho : o < 2) {i : Nat} : ∀ j, tw_decs w k j (176 + 4 * i + o) = w (176 + 4 * i + o)
  | 0 => rfl
  | j + 1 => by rw [tw_decs, tw_dec, va_upn (by omega), tw_dec, va_upn (by omega)]; exact tw_decs_01 ho j
/-- the step at place i when step k is cut -/
def tw_sk (k i : Nat) : Nat := if i < k then i else i + 1
theorem tw_cut2_in {w : Nat → Int32} {S k i o : Nat} (hS : S ≤ 8) (hk : k < S) (hi : i < S - 1) (ho : o < 4) : tw_cut2 w S k (176 + 4 * i + o) = w (176 + 4 * tw_sk k i + o) := by
  unfold tw_cut2 tw_cut1 tw_sk
  rw [tw_shl_eq _ (by omega), if_neg (by omega), tw_shl_eq _ (by omega)]
  by_cases q : i < k
  · rw [if_neg (by omega), va_upn (by omega), if_pos q]
  · rw [if_pos (by omega), va_upn (by omega), if_neg q, show 176 + 4 * i + o + 4 = 176 + 4 * (i + 1) + o by omega]
theorem tw_cut_lo {w : Nat → Int32} {S k j : Nat} (hS : S ≤ 8) (hk : k < S) (hj : j < 176) (h3 : j ≠ 3) : tw_cut w S k j = w j := by
  unfold tw_cut tw_cut2 tw_cut1
  rw [tw_decs_lo (by omega) _ (by omega), tw_shl_eq _ (by omega), if_neg (by omega), tw_shl_eq _ (by omega), if_neg (by omega), va_upn h3]
theorem tw_cut_3 {w : Nat → Int32} {S k : Nat} (hS : S ≤ 8) (hk : k < S) : tw_cut w S k 3 = nI (S - 1) := by
  unfold tw_cut tw_cut2 tw_cut1
  rw [tw_decs_lo (by omega) _ (by omega), tw_shl_eq _ (by omega), if_neg (by omega), tw_shl_eq _ (by omega), if_neg (by omega), va_ups]
theorem tw_cut_st {w : Nat → Int32} {S k i d : Nat} (hS : S ≤ 8) (hk : k < S) (hi : i < S - 1) (hd : d < 7) : tw_cut w S k (208 + 7 * i + d) = w (208 + 7 * tw_sk k i + d) := by
  unfold tw_cut tw_cut2 tw_cut1 tw_sk
  rw [tw_decs_lo (by omega) _ (by omega), tw_shl_eq _ (by omega)]
  by_cases q : i < k
  · rw [if_neg (by omega), tw_shl_eq _ (by omega), if_neg (by omega), va_upn (by omega), if_pos q]
  · rw [if_pos (by omega), tw_shl_eq _ (by omega), if_neg (by omega), va_upn (by omega), if_neg q, show 208 + 7 * i + d + 7 = 208 + 7 * (i + 1) + d by omega]
theorem tw_cut5_in {f : Nat → Int64} {S k i j : Nat} (hS : S ≤ 8) (hk : k < S) (hi : i < S - 1) (hj : j < 35) : tw_cut5 f S k (5 * (7 * i) + j) = f (5 * (7 * tw_sk k i) + j) := by
  unfold tw_cut5 tw_sk
  rw [tw_shl_eq _ (by omega)]
  by_cases q : i < k
  · rw [if_neg (by omega), if_pos q]
  · rw [if_pos (by omega), if_neg q, show 5 * (7 * i) + j + 35 = 5 * (7 * (i + 1)) + j by omega]
/-- an input's number behind the cut -/
def tw_dk (k i : Nat) : Nat := if i ≤ k then i else i - 1
theorem tw_cut_io {w : Nat → Int32} {S k i o a : Nat} (hS : S ≤ 8) (hk : k < S) (hi : i < S - 1) (ho : o = 2 ∨ o = 3) (ha : w (176 + 4 * tw_sk k i + o) = nI a) (ha8 : a < 8) (hlt : i < k → a ≤ k) : tw_cut w S k (176 + 4 * i + o) = nI (tw_dk k a) := by
  unfold tw_cut
  rw [tw_decs_in ho _ i (by omega) (by omega), tw_cut2_in hS hk hi (by omega), ha]
  unfold tw_dk
  by_cases q : k ≤ i ∧ i < k + (S - 1 - k)
  · rw [if_pos q]
    by_cases q2 : a ≤ k
    · rw [if_pos q2, if_pos ((nI_leI (by omega) (by omega)).mpr q2), pk_sub (by omega), Nat.sub_zero]
    · rw [if_neg q2, if_neg (by rw [nI_leI (by omega) (by omega)]; exact q2), pk_sub (by omega)]
  · rw [if_neg q, if_pos (hlt (by omega))]
theorem tw_cut_01 {w : Nat → Int32} {S k i o : Nat} (hS : S ≤ 8) (hk : k < S) (hi : i < S - 1) (ho : o < 2) : tw_cut w S k (176 + 4 * i + o) = w (176 + 4 * tw_sk k i + o) := by
  unfold tw_cut
  rw [tw_decs_01 ho, tw_cut2_in hS hk hi (by omega)]
theorem tw_cut_ok {w : Nat → Int32} {R S D k : Nat} (h : z_ok w R S D) (hk : k < S) : z_ok (tw_cut w S k) R (S - 1) D := by
  obtain ⟨hR, hR4, hS, hS8, hD, hD6, hF⟩ := h
  refine ⟨by rw [tw_cut_lo hS8 hk (by omega) (by omega)]; exact hR, hR4, tw_cut_3 hS8 hk, by omega, by rw [tw_cut_lo hS8 hk (by omega) (by omega)]; exact hD, hD6, fun i hi => ?_⟩
  have hsk : tw_sk k i < S := by unfold tw_sk; split <;> omega
  have ⟨a1, a2, a3, a4⟩ := hF _ hsk
  have key : ∀ o a, (o = 2 ∨ o = 3) → w (176 + 4 * tw_sk k i + o) = nI a → a < 8 → ∃ b, b < 8 ∧ tw_cut w S k (176 + 4 * i + o) = nI b := by
    intro o a ho ha ha8
    unfold tw_cut
    rw [tw_decs_in ho _ i (by omega) (by omega), tw_cut2_in hS8 hk hi (by omega), ha]
    split
    · split
      · exact ⟨a, ha8, by rw [pk_sub (by omega), Nat.sub_zero]⟩
      · rename_i q
        rw [nI_leI (by omega) (by omega)] at q
        exact ⟨a - 1, by omega, by rw [pk_sub (by omega)]⟩
    · exact ⟨a, ha8, rfl⟩
  obtain ⟨b, hb, eb⟩ := key 2 _ (Or.inl rfl) a1 a2
  obtain ⟨c, hc, ec⟩ := key 3 _ (Or.inr rfl) a3 a4
  unfold tw_f tw_s
  rw [eb, ec, z_nIc (by omega), z_nIc (by omega)]
  exact ⟨rfl, hb, rfl, hc⟩
theorem tw_nrow_at {w0 : Nat → Int32} {R g d a j : Nat} (h1 : j ≠ 1) (h2 : j ≠ 2) (h3 : j < 16 + 4 * R ∨ 16 + 4 * R + 4 ≤ j) : tw_nrow w0 R g d a j = w0 j := by
  unfold tw_nrow
  rw [va_upn h2, va_upn h1, va_upn (by omega), va_upn (by omega), va_upn (by omega), va_upn (by omega)]
theorem tw_nrow_rows {w0 : Nat → Int32} {R D g d a : Nat} (h : z_rows w0 R D) (hg : g < 5) (hd : d ≤ D) (ha : a ≤ 99) : z_rows (tw_nrow w0 R g d a) (R + 1) D := by
  intro p hp
  rcases Nat.lt_or_ge p R with q | q
  · obtain ⟨d', g', a', b1, b2, b3, b4, b5, b6⟩ := h p q
    exact ⟨d', g', a', by rw [tw_nrow_at (by omega) (by omega) (by omega)]; exact b1, b2, by rw [tw_nrow_at (by omega) (by omega) (by omega)]; exact b3, b4, by rw [tw_nrow_at (by omega) (by omega) (by omega)]; exact b5, b6⟩
  · obtain rfl : p = R := by omega
    refine ⟨d, g, a, ?_, hd, ?_, hg, ?_, ha⟩
    · unfold tw_nrow; rw [va_upn (by omega), va_upn (by omega), va_upn (by omega), va_upn (by omega), va_ups]
    · unfold tw_nrow; rw [va_upn (by omega), va_upn (by omega), va_upn (by omega), va_ups]
    · unfold tw_nrow; rw [va_upn (by omega), va_upn (by omega), va_ups]
theorem tw_gone_at {w0 : Nat → Int32} {R p j : Nat} (hp : p < R) (h1 : 16 ≤ j) : tw_gone w0 R p j = if 16 + 4 * p ≤ j ∧ j < 16 + 4 * (R - 1) then w0 (j + 4) else w0 j := by
  unfold tw_gone tw_gone0
  rw [tw_shl_eq _ (by omega)]
  by_cases q : 16 + 4 * p ≤ j ∧ j < 16 + 4 * (R - 1)
  · rw [if_pos (by omega), if_pos q, va_upn (by omega), va_upn (by omega)]
  · rw [if_neg (by omega), if_neg q, va_upn (by omega), va_upn (by omega)]
theorem tw_gone_rows {w0 : Nat → Int32} {R D p : Nat} (h : z_rows w0 R D) (hp : p < R) : z_rows (tw_gone w0 R p) (R - 1) D := by
  intro i hi
  rcases Nat.lt_or_ge i p with q | q
  · obtain ⟨d', g', a', b1, b2, b3, b4, b5, b6⟩ := h i (by omega)
    exact ⟨d', g', a', by rw [tw_gone_at hp (by omega), if_neg (by omega)]; exact b1, b2, by rw [tw_gone_at hp (by omega), if_neg (by omega)]; exact b3, b4, by rw [tw_gone_at hp (by omega), if_neg (by omega)]; exact b5, b6⟩
  · obtain ⟨d', g', a', b1, b2, b3, b4, b5, b6⟩ := h (i + 1) (by omega)
    exact ⟨d', g', a', by rw [tw_gone_at hp (by omega), if_pos (by omega)]; exact b1, b2, by rw [tw_gone_at hp (by omega), if_pos (by omega)]; exact b3, b4, by rw [tw_gone_at hp (by omega), if_pos (by omega)]; exact b5, b6⟩
def tG_ok (g : tG) : Prop := z_ok g.1 g.2.2.2.1 g.2.2.2.2.1 g.2.2.2.2.2 ∧ z_rows g.1 g.2.2.2.1 g.2.2.2.2.2
theorem tw_tch_ok {w : Nat → Int32} {f : Nat → Int64} {v : Int32} {R S D d : Nat} (h : z_ok w R S D) (hr : z_rows w R D) : tG_ok (tw_tch w f v R S D d) := by
  unfold tw_tch
  split
  · exact ⟨h, hr⟩
  · exact ⟨tw_sp_ok (h.up (by omega)) _, hr.of (Nat.le_refl _) (fun j h1 h2 => by
    show tw_sp _ _ _ _ j = _
    rw [tw_sp_lo (by omega), va_upn (by omega)]) h.2.1⟩
theorem tw_new_ok {w : Nat → Int32} {f : Nat → Int64} {R S D a c : Nat} {kd b : Int32} (h : z_ok w R S D) (hr : z_rows w R D) (hS7 : S < 8) (ha : a < 8) (hc : c < 8) : tG_ok (tw_new w f R S D kd b a c) :=
  ⟨tw_ns0_ok (tw_nst_ok h hS7 ha hc) _, hr.of (Nat.le_refl _) (fun j h1 h2 => by
    show tw_ns0 _ _ _ j = _
    rw [tw_ns0_lo (by omega)]
    unfold tw_nst
    rw [va_upn (by omega), va_upn (by omega), va_upn (by omega), va_upn (by omega), va_upn (by omega)]) h.2.1⟩
theorem tC_go_ok {w0 : Nat → Int32} {f : Nat → Int64} {R S D k : Nat} {a b c : Int32} (hw : z_ok w0 R S D) (hrw : z_rows w0 R D) (h0 : (tC_why w0 R S D k a b c).1 = 0) : tG_ok (tC_go w0 f R S D k a b c) := by
  obtain ⟨hR, hR4, hS, hS8, hD, hD6, hF⟩ := id hw
  unfold tC_why at h0
  unfold tC_go
  split at h0
  · obtain ⟨-, g, d', a', hg, hd', ha', hR40, rfl, rfl, rfl⟩ := tw_cRow0 hD6 hR4 h0
    try dsimp only
    rw [tN, tN, tN, z_nIc (by omega), z_nIc (by omega), z_nIc (by omega), show 97 + g - 97 = g by omega]
    exact tw_tch_ok (tw_nrow_ok hw hR40) (tw_nrow_rows hrw hg hd' ha')
  · try dsimp only
    split at h0
    · cases h0
    · rename_i p hp
      exact tw_tch_ok (tw_gone_ok hw (tw_row_lt hp)) (tw_gone_rows hrw (tw_row_lt hp))
  · have hD5 := (tw_cBegin0 hD6 h0).2
    exact ⟨tw_bg0_ok (hw.upD (by omega)) _, hrw.of (by show D ≤ D + 1; omega) (fun j h1 h2 => by
      show tw_bg0 _ _ _ j = _
      rw [tw_bg0_lo (by omega), va_upn (by omega)]) hR4⟩
  · exact tw_new_ok hw hrw (tw_cBase0 hS8 h0).2.1 (by omega) (by omega)
  · obtain ⟨-, hS7, -, i, j, hi, hj, rfl, rfl⟩ := tw_cPair0 hS8 h0
    try dsimp only
    rw [tN, tN, z_nIc (by omega), z_nIc (by omega)]
    exact tw_new_ok hw hrw hS7 (by omega) (by omega)
  · obtain ⟨-, hS7, i, hi, rfl⟩ := tw_cRun0 hS8 h0
    try dsimp only
    rw [tN, z_nIc (by omega)]
    exact tw_new_ok hw hrw hS7 (by omega) (by omega)
  · obtain ⟨-, hS7, i, b', hi, hb', rfl, rfl⟩ := tw_cKeep0 hS8 h0
    try dsimp only
    rw [tN, z_nIc (by omega)]
    exact tw_new_ok hw hrw hS7 (by omega) (by omega)
  · split at h0
    · obtain ⟨k, hk, rfl⟩ := z_isS_of hS8 (by assumption)
      try dsimp only
      rw [tN, z_nIc (by omega)]
      exact ⟨tw_cut_ok hw hk, hrw.of (Nat.le_refl _) (fun j h1 h2 => tw_cut_lo hS8 hk (by omega) (by omega)) hR4⟩
    · cases h0
  · split at h0
    · exact ⟨(tw_rp0_ok hw _).up (by omega), hrw.of (Nat.le_refl _) (fun j h1 h2 => by
        show tw_rep _ _ _ j = _
        unfold tw_rep
        rw [va_upn (by omega), tw_rp0_lo (by omega)]) hR4⟩
    · cases h0

