/-! THE PURE LAWS, 4: rows come and go -/
/-- only rows of the day d and the group g came or went -/
def z_rch (w w' : Nat → Int32) (R R' d g : Nat) : Prop := (∀ j, 176 ≤ j → w' j = w j) ∧ ∀ k e g', e < 7 → g' < 5 → (e ≠ d ∨ g' ≠ g) → tw_of w' k (nI e) (nI g') R' = tw_of w k (nI e) (nI g') R
theorem z_rch.st {w w' : Nat → Int32} {R R' d g k e : Nat} (h : z_rch w w' R R' d g) : tw_st w' k e = tw_st w k e := by
  unfold tw_st
  rw [h.1 _ (by omega)]
theorem z_rch.E {w w' : Nat → Int32} {R R' d g k : Nat} (h : z_rch w w' R R' d g) : z_stE w' w k := fun o _ => h.1 _ (by omega)
theorem z_nI_ne {a b : Nat} (ha : a < 2 ^ 31) (hb : b < 2 ^ 31) (h : a ≠ b) : nI a ≠ nI b := fun q => h ((nI_eq ha hb).mp q)
theorem z_rch_new {w : Nat → Int32} {R d g a : Nat} (hR : R < 40) (hd : d < 7) (hg : g < 5) : z_rch w (tw_nrow w R g d a) R (R + 1) d g := by
  refine ⟨fun j hj => tw_nrow_at (by omega) (by omega) (by omega), fun k e g' he hg' hne => ?_⟩
  have h1 : tw_nrow w R g d a (16 + 4 * R + 1) = nI d := by
    unfold tw_nrow va_up
    rw [if_neg (by omega), if_neg (by omega), if_neg (by omega), if_neg (by omega), if_pos rfl]
  have h2 : tw_nrow w R g d a (16 + 4 * R + 2) = nI g := by
    unfold tw_nrow va_up
    rw [if_neg (by omega), if_neg (by omega), if_neg (by omega), if_pos rfl]
  have hc : tw_cnt (tw_nrow w R g d a) R k (nI e) (nI g') = false := by
    unfold tw_cnt
    rw [h1, h2]
    rcases hne with q | q
    · rw [decide_eq_false (z_nI_ne (by omega) (by omega) (Ne.symm q))]; rfl
    · rw [decide_eq_false (z_nI_ne (by omega) (by omega) (Ne.symm q))]; simp
  rw [tw_of_n hc]
  rcases Nat.lt_or_ge k 100000000 with hk | hk
  · exact z_of_congr (fun o ho => tw_nrow_at (by omega) (by omega) (by omega)) (fun p hp o h0 h4 => tw_nrow_at (by omega) (by omega) (by omega)) R (Nat.le_refl _)
  · exact z_of_congr (fun o ho => tw_nrow_at (by omega) (by omega) (by omega)) (fun p hp o h0 h4 => tw_nrow_at (by omega) (by omega) (by omega)) R (Nat.le_refl _)
theorem z_cnt_eq {w w' : Nat → Int32} {p q k : Nat} {d g : Int32} (h : ∀ o, 0 < o → o < 4 → w' (16 + 4 * q + o) = w (16 + 4 * p + o)) (hb : w' (176 + 4 * k + 1) = w (176 + 4 * k + 1)) : tw_cnt w' q k d g = tw_cnt w p k d g := by
  unfold tw_cnt
  rw [h 1 (by omega) (by omega), h 2 (by omega) (by omega), h 3 (by omega) (by omega), hb]
theorem z_of_gone {w : Nat → Int32} {R p k : Nat} {d g : Int32} (hp : p < R) (hR : R ≤ 40) (hc : tw_cnt w p k d g = false) : ∀ q, q ≤ R - 1 → tw_of (tw_gone w R p) k d g q = if q ≤ p then tw_of w k d g q else tw_of w k d g (q + 1)
  | 0, _ => by rw [if_pos (Nat.zero_le _)]; rfl
  | q + 1, hq => by
    have ih := z_of_gone hp hR hc q (by omega)
    have hb : tw_gone w R p (176 + 4 * k + 1) = w (176 + 4 * k + 1) := by rw [tw_gone_at hp (by omega), if_neg (by omega)]
    have hk : tw_gone w R p (176 + 4 * k) = w (176 + 4 * k) := by rw [tw_gone_at hp (by omega), if_neg (by omega)]
    have h3 : tw_of w k d g (p + 1) = tw_of w k d g p := tw_of_n hc
    by_cases hqp : q < p
    · have hr : ∀ o, 0 < o → o < 4 → tw_gone w R p (16 + 4 * q + o) = w (16 + 4 * q + o) := fun o h0 h4 => by rw [tw_gone_at hp (by omega), if_neg (by omega)]
      rw [if_pos (show q ≤ p by omega)] at ih
      rw [if_pos (show q + 1 ≤ p by omega), tw_of, tw_of, ih, z_cnt_eq hr hb, hk, hr 3 (by omega) (by omega)]
    · have hr : ∀ o, 0 < o → o < 4 → tw_gone w R p (16 + 4 * q + o) = w (16 + 4 * (q + 1) + o) := fun o h0 h4 => by
        rw [tw_gone_at hp (by omega), if_pos (by omega)]
        exact congrArg w (by omega)
      have ih2 : tw_of (tw_gone w R p) k d g q = tw_of w k d g (q + 1) := by
        rw [ih]
        split
        · rw [show q = p by omega, h3]
        · rfl
      rw [if_neg (by omega), tw_of, tw_of.eq_2 w k d g (q + 1), ih2, z_cnt_eq hr hb, hk, hr 3 (by omega) (by omega)]
theorem z_rch_gone {w : Nat → Int32} {R p d g : Nat} (hp : p < R) (hR : R ≤ 40) (hd : d < 7) (hg : g < 5) (h1 : w (16 + 4 * p + 1) = nI d) (h2 : w (16 + 4 * p + 2) = nI g) : z_rch w (tw_gone w R p) R (R - 1) d g := by
  refine ⟨fun j hj => by rw [tw_gone_at hp (by omega), if_neg (by omega)], fun k e g' he hg' hne => ?_⟩
  have hc : tw_cnt w p k (nI e) (nI g') = false := by
    unfold tw_cnt
    rw [h1, h2]
    rcases hne with q | q
    · rw [decide_eq_false (z_nI_ne (by omega) (by omega) (Ne.symm q))]; rfl
    · rw [decide_eq_false (z_nI_ne (by omega) (by omega) (Ne.symm q))]; simp
  rw [z_of_gone hp hR hc (R - 1) (Nat.le_refl _)]
  split
  · rw [show R - 1 = p by omega, ← tw_of_n hc, show p + 1 = R by omega]
  · rw [show R - 1 + 1 = R by omega]
/-- made, on other days -/
theorem z_made_rch {w w' : Nat → Int32} {v v' : Nat → Int64} {S R R' d g k e g' : Nat} (h : z_rch w w' R R' d g) (hi : z_inp w S) (hk : k < S) (he : e < 7) (hg' : g' < 5) (hne : tw_base w k = true → e ≠ d ∨ g' ≠ g) (hv : ∀ j, j < k → ∀ x, x ≤ e → v' (5 * (7 * j + x) + g') = v (5 * (7 * j + x) + g')) : tw_made w' v' R' k e g' = tw_made w v R k e g' := by
  have hi' := hi.congr fun k _ => (h.E (k := k)).y
  refine z_made_congr h.E (fun hb => h.2 k e g' he hg' (hne (h.E.base ▸ hb))) (fun hb x hx _ => hv _ (hi'.lt hk hb).1 x hx) (fun hb => hv _ (hi'.lt hk hb).2 e (Nat.le_refl _)) (hi'.kd hk)
theorem z_tt_f {w : Nat → Int32} {R D k d g : Nat} {v : Nat → Int64} (hg : g < 5) (hd : d < 7) (hD : D < 7) : ∀ c, (d ≠ D ∨ c ≤ k ∨ tw_st w k D = true) → tw_tt w R D v c (5 * (7 * k + d) + g) = v (5 * (7 * k + d) + g)
  | 0, _ => rfl
  | c + 1, h => by
    have h9 : d ≠ D ∨ c ≤ k ∨ tw_st w k D = true := h.imp id fun h => h.imp (fun z => by omega) id
    rw [tw_tt]
    split
    · next q => exact z_tt_f hg hd hD c h9
    · next q =>
      have : d ≠ D ∨ k ≠ c := by
        rcases h with h | h | h
        · exact Or.inl h
        · exact Or.inr (by omega)
        · exact Or.inr fun z => q (z ▸ h)
      rw [z_comp_out 5 fun g' hg' => z_pl_ne hg (by omega) hd hD (by omega)]
      exact z_tt_f hg hd hD c h9
theorem z_tt_at {w : Nat → Int32} {v : Nat → Int64} {S R D : Nat} (hi : z_inp w S) (hD : D < 7) : ∀ c, c ≤ S → ∀ k, k < c → tw_st w k D = false → ∀ g, g < 5 → tw_tt w R D v c (5 * (7 * k + D) + g) = tw_made w (tw_tt w R D v c) R k D g
  | 0, _, k, hk => absurd hk (Nat.not_lt_zero _)
  | c + 1, hc, k, hk => fun hst g hg => by
    by_cases q : k = c
    · subst q
      rw [tw_tt, if_neg (by rw [hst]; simp)]
      exact z_frs_j hi (by omega) hD g hg
    · have ih := z_tt_at (R := R) (v := v) hi hD c (by omega) k (by omega) hst g hg
      rw [tw_tt]
      split
      · exact ih
      · rw [z_comp_out 5 fun g' hg' => z_pl_ne hg (by omega) hD hD (by omega), ih]
        refine z_made_same hi (by omega) (fun _ _ => rfl) (fun _ _ _ _ _ => rfl) fun j hj e he => ?_
        exact (z_comp_out 5 fun g' hg' => z_pl_ne hg (by omega) (by omega) hD (by omega)).symm
theorem z_frs_today {w w' : Nat → Int32} {v : Nat → Int64} {S R R' D g : Nat} (hi : z_inp w S) (hD : D < 7) (hc : z_rch w w' R R' D g) (h : z_frs w v R S D) : z_frs w' (tw_tt w' R' D v S) R' S D := by
  have hi' := hi.congr fun k _ => (hc.E (k := k)).y
  intro k hk d hd hst
  have hst0 := hst
  rw [hc.st] at hst
  obtain ⟨h1, h2⟩ := h k hk d hd hst
  refine ⟨fun g' hg' => ?_, ?_⟩
  · by_cases q : d = D
    · subst q
      exact z_tt_at hi' hD S (Nat.le_refl _) k hk hst0 g' hg'
    · rw [z_tt_f hg' (by omega) hD S (Or.inl q), h1 g' hg']
      exact (z_made_rch hc hi hk (by omega) hg' (fun _ => Or.inl q) fun j hj x hx => z_tt_f hg' (by omega) hD S (Or.inl (by omega))).symm
  · rw [← h2]
    exact z_from_congr hc.E fun _ => ⟨fun e _ _ => hc.st, hc.st⟩
/-- a day before today is spoiled -/
theorem z_sp_lo {w : Nat → Int32} {d D j : Nat} (hj : j < 208) : ∀ c, tw_sp w d D c j = w j := fun c => tw_sp_lo hj c
theorem z_sp1_ne {w : Nat → Int32} {n k d : Nat} (hd : d < 7) : ∀ e, e ≤ 7 → (k ≠ n ∨ e ≤ d) → tw_st (tw_sp1 w n e) k d = tw_st w k d
  | 0, _, _ => rfl
  | e + 1, he, h => by
    rw [tw_sp1]
    split
    · rw [z_st_up_ne (by omega)]; exact z_sp1_ne hd e (by omega) (by omega)
    · exact z_sp1_ne hd e (by omega) (by omega)
theorem z_sp1_mono {w : Nat → Int32} {n k d : Nat} : ∀ e, tw_st w k d = true → tw_st (tw_sp1 w n e) k d = true
  | 0, h => h
  | e + 1, h => by
    have ih := z_sp1_mono (n := n) e h
    rw [tw_sp1]
    split
    · by_cases q : 208 + 7 * k + d = 208 + 7 * n + e
      · unfold tw_st va_up
        rw [if_pos q]; decide
      · rw [z_st_up_ne q]; exact ih
    · exact ih
theorem z_sp0_mono {w : Nat → Int32} {n k d x : Nat} (h : tw_st w k d = true) : tw_st (tw_sp0 w n x) k d = true := by
  unfold tw_sp0
  split
  · by_cases q : 208 + 7 * k + d = 208 + 7 * n + x
    · unfold tw_st va_up
      rw [if_pos q]; decide
    · rw [z_st_up_ne q]; exact h
  · exact h
theorem z_sp_mono {w : Nat → Int32} {d D k e : Nat} : ∀ c, tw_st w k e = true → tw_st (tw_sp w d D c) k e = true
  | 0, h => h
  | c + 1, h => z_sp1_mono _ (z_sp0_mono (z_sp_mono c h))
theorem z_sp0_ne {w : Nat → Int32} {n k d x : Nat} (hd : d < 7) (hx : x < 7) (h : k ≠ n) : tw_st (tw_sp0 w n x) k d = tw_st w k d := by
  unfold tw_sp0
  split
  · exact z_st_up_ne (by omega)
  · rfl
theorem z_sp1_fr {w : Nat → Int32} {S n : Nat} (hi : z_inp w S) (hn : n < S) (hS : S ≤ 8) : ∀ e, e ≤ 7 → ∀ x, x < e → tw_st (tw_sp1 w n e) n x = false → tw_from (tw_sp1 w n e) n x = false
  | 0, _, x, hx => absurd hx (Nat.not_lt_zero _)
  | e + 1, he, x, hx => fun hst => by
    have hlo : z_stE (tw_sp1 w n (e + 1)) (tw_sp1 w n e) n := fun o ho => by rw [tw_sp1_lo (by omega), tw_sp1_lo (by omega)]
    have hi1 : z_inp (tw_sp1 w n (e + 1)) S := hi.congr fun k hk o ho => by rw [tw_sp1_lo (by omega)]
    have hfrom : tw_from (tw_sp1 w n (e + 1)) n x = tw_from (tw_sp1 w n e) n x := z_from_congr hlo fun hb => by
      have := hi1.lt hn hb
      refine ⟨fun y hy _ => ?_, ?_⟩
      · rw [z_sp1_ne (by omega) _ he (Or.inl (by omega)), z_sp1_ne (by omega) _ (by omega) (Or.inl (by omega))]
      · rw [z_sp1_ne (by omega) _ he (Or.inl (by omega)), z_sp1_ne (by omega) _ (by omega) (Or.inl (by omega))]
    rw [hfrom]
    by_cases q : x = e
    · subst q
      rw [tw_sp1] at hst
      cases hf : tw_from (tw_sp1 w n x) n x
      · rfl
      · rw [if_pos hf, tw_st_up] at hst
        cases hst
    · refine z_sp1_fr hi hn hS e (by omega) x (by omega) ?_
      rw [tw_sp1] at hst
      split at hst
      · rw [z_st_up_ne (by omega)] at hst; exact hst
      · exact hst
theorem z_sp_fr {w : Nat → Int32} {S d D : Nat} (hi : z_inp w S) (hS : S ≤ 8) (hD : D < 7) (hd : d < 7) : ∀ c, c ≤ S → ∀ k, k < c → ∀ x, x ≤ D → tw_st (tw_sp w d D c) k x = false → tw_from (tw_sp w d D c) k x = false ∧ (tw_base w k = true → x ≠ d)
  | 0, _, k, hk => absurd hk (Nat.not_lt_zero _)
  | c + 1, hc, k, hk => fun x hx hst => by
    have hlo : ∀ y j, j < 208 → tw_sp w d D y j = w j := fun y j hj => tw_sp_lo hj y
    have h0lo : ∀ j, j < 208 → tw_sp0 (tw_sp w d D c) c d j = w j := fun j hj => by
      unfold tw_sp0
      split
      · rw [va_up, if_neg (by omega), hlo c j hj]
      · exact hlo c j hj
    have hi0 : z_inp (tw_sp0 (tw_sp w d D c) c d) S := hi.congr fun k hk o ho => (h0lo _ (by omega)).symm
    by_cases q : k = c
    · subst q
      refine ⟨z_sp1_fr hi0 (by omega) hS (D + 1) (by omega) x (by omega) hst, fun hb hxd => ?_⟩
      subst hxd
      have hb2 : tw_base (tw_sp w x D k) k = true := by
        rw [← hb]
        exact z_stE.base fun o ho => hlo k _ (by omega)
      have : tw_st (tw_sp w x D (k + 1)) k x = true := z_sp1_mono _ (by
        unfold tw_sp0
        rw [if_pos hb2, tw_st_up])
      rw [this] at hst
      cases hst
    · have hst2 : tw_st (tw_sp w d D c) k x = false := by
        rw [tw_sp, z_sp1_ne (by omega) _ (by omega) (Or.inl q), z_sp0_ne (by omega) hd q] at hst
        exact hst
      obtain ⟨h1, h2⟩ := z_sp_fr hi hS hD hd c (by omega) k (by omega) x hx hst2
      refine ⟨?_, h2⟩
      rw [← h1]
      have hi1 : z_inp (tw_sp w d D (c + 1)) S := hi.congr fun k hk o ho => (hlo _ _ (by omega)).symm
      refine z_from_congr (fun o ho => by rw [hlo _ _ (by omega), hlo _ _ (by omega)]) fun hb => ?_
      have := hi1.lt (show k < S by omega) hb
      have hf : ∀ j y, j < k → y < 7 → tw_st (tw_sp w d D (c + 1)) j y = tw_st (tw_sp w d D c) j y := fun j y hj hy => by
        rw [tw_sp, z_sp1_ne hy _ (by omega) (Or.inl (by omega)), z_sp0_ne hy hd (by omega)]
      exact ⟨fun y hy _ => hf _ _ (by omega) (by omega), hf _ _ (by omega) (by omega)⟩
theorem z_frs_past {w w' : Nat → Int32} {v : Nat → Int64} {S R R' D d g : Nat} {y : Int32} (hi : z_inp w S) (hS : S ≤ 8) (hR' : R' ≤ 40) (hD : D < 7) (hd : d < 7) (hc : z_rch w w' R R' d g) (h : z_frs w v R S D) : z_frs (tw_sp (va_up w' 5 y) d D S) v R' S D := by
  have hi' : z_inp (va_up w' 5 y) S := z_inp_up (hi.congr fun k _ => (hc.E (k := k)).y) hS (Or.inl (by omega))
  intro k hk x hx hst
  obtain ⟨g1, g2⟩ := z_sp_fr hi' hS hD hd S (Nat.le_refl _) k hk x hx hst
  refine ⟨fun g' hg' => ?_, g1⟩
  have hst0 : tw_st w k x = false := by
    cases hq : tw_st w k x
    · rfl
    · have : tw_st (tw_sp (va_up w' 5 y) d D S) k x = true := z_sp_mono S (by rw [z_st_up_ne (by omega), hc.st]; exact hq)
      rw [this] at hst
      cases hst
  obtain ⟨h1, -⟩ := h k hk x hx hst0
  have hE0 : z_stE (va_up w' 5 y) w' k := z_stE_up (by omega)
  rw [h1 g' hg', ← z_made_rch hc hi hk (v' := v) (by omega) hg' (fun hb => Or.inl (g2 (by rw [hE0.base, hc.E.base]; exact hb))) fun _ _ _ _ => rfl]
  refine z_made_same (hi.congr fun k _ => (hc.E (k := k)).y) hk (fun o ho => ?_) (fun p hp o h0 h4 => ?_) fun _ _ _ _ => rfl
  · rw [tw_sp_lo (by omega), va_up, if_neg (by omega)]
  · rw [tw_sp_lo (by omega), va_up, if_neg (by omega)]
set_option maxRecDepth 100000
/-! THE PURE LAWS, 5: a step is cut -/
theorem z_cnt_eqk {w w' : Nat → Int32} {p k k' : Nat} {d g : Int32} (hb : w' (176 + 4 * k' + 1) = w (176 + 4 * k + 1)) (hr : ∀ o, 0 < o → o < 4 → w' (16 + 4 * p + o) = w (16 + 4 * p + o)) : tw_cnt w' p k' d g = tw_cnt w p k d g := by
  unfold tw_cnt
  rw [hr 1 (by omega) (by omega), hr 2 (by omega) (by omega), hr 3 (by omega) (by omega), hb]
theorem z_of_eqk {w w' : Nat → Int32} {k k' : Nat} {d g : Int32} (h0 : w' (176 + 4 * k') = w (176 + 4 * k)) (hb : w' (176 + 4 * k' + 1) = w (176 + 4 * k + 1)) : ∀ R, (∀ p, p < R → ∀ o, 0 < o → o < 4 → w' (16 + 4 * p + o) = w (16 + 4 * p + o)) → tw_of w' k' d g R = tw_of w k d g R
  | 0, _ => rfl
  | p + 1, h => by
    rw [tw_of, tw_of.eq_2 w k d g p, z_of_eqk h0 hb p fun q hq => h q (by omega), z_cnt_eqk hb (h p (by omega)), h0, h p (by omega) 3 (by omega) (by omega)]
theorem z_sk_dk {k a : Nat} (h : a ≠ k) : tw_sk k (tw_dk k a) = a := by
  unfold tw_sk tw_dk
  by_cases q : a ≤ k
  · rw [if_pos q, if_pos (by omega)]
  · rw [if_neg q, if_neg (by omega)]; omega
theorem z_inpF_none {w : Nat → Int32} {k : Nat} : ∀ {n j : Nat}, tw_inpF w k j n = none → ∀ o, j ≤ o → o < j + n → tw_inpt w k o = false
  | 0, j, _, o, h1, h2 => by omega
  | n + 1, j, h, o, h1, h2 => by
    rw [tw_inpF] at h
    split at h
    · cases h
    · next q =>
      by_cases z : o = j
      · rw [z]; simpa using q
      · exact z_inpF_none h o (by omega) (by omega)
theorem z_cut_no {w : Nat → Int32} {S k : Nat} (h : (tw_cCut w S k).1 = 0) : ∀ o, k < o → o < S → tw_inpt w k o = false := by
  intro o h1 h2
  unfold tw_cCut at h
  split at h
  · next q => exact z_inpF_none q o h1 (by omega)
  · cases h
theorem z_cut_st {w : Nat → Int32} {R S D k i : Nat} (hw : z_ok w R S D) (hi : z_inp w S) (hk : k < S) (hno : ∀ o, k < o → o < S → tw_inpt w k o = false) (hiS : i < S - 1) :
    tw_base (tw_cut w S k) i = tw_base w (tw_sk k i) ∧ tw_cut w S k (176 + 4 * i) = w (176 + 4 * tw_sk k i) ∧ tw_cut w S k (176 + 4 * i + 1) = w (176 + 4 * tw_sk k i + 1) ∧
    (tw_base w (tw_sk k i) = false → tw_f w (tw_sk k i) ≠ k ∧ tw_s w (tw_sk k i) ≠ k ∧ tw_f (tw_cut w S k) i = tw_dk k (tw_f w (tw_sk k i)) ∧ tw_s (tw_cut w S k) i = tw_dk k (tw_s w (tw_sk k i))) := by
  have hS8 := hw.2.2.2.1
  have hs : tw_sk k i < S := by unfold tw_sk; split <;> omega
  have e0 : tw_cut w S k (176 + 4 * i) = w (176 + 4 * tw_sk k i) := tw_cut_01 (o := 0) hS8 hk hiS (by omega)
  have e1 := tw_cut_01 (w := w) (o := 1) hS8 hk hiS (by omega)
  refine ⟨by unfold tw_base; rw [e0], e0, e1, fun hb => ?_⟩
  obtain ⟨q1, q2, q3, q4⟩ := hw.2.2.2.2.2.2 (tw_sk k i) hs
  obtain ⟨l1, l2⟩ := hi.lt hs hb
  have hn : tw_f w (tw_sk k i) ≠ k ∧ tw_s w (tw_sk k i) ≠ k := by
    by_cases z : i < k
    · have : tw_sk k i = i := if_pos z
      rw [this] at l1 l2 ⊢
      omega
    · have hz : tw_sk k i = i + 1 := if_neg z
      have h9 := hno (tw_sk k i) (by omega) hs
      unfold tw_inpt at h9
      rw [hb] at h9
      simp only [Bool.not_false, Bool.true_and, Bool.or_eq_false_iff, decide_eq_false_iff_not] at h9
      exact ⟨fun z => h9.1 (by rw [q1, z]), fun z => h9.2 (by rw [q3, z])⟩
  have hlt : i < k → tw_f w (tw_sk k i) ≤ k ∧ tw_s w (tw_sk k i) ≤ k := fun z => by
    have : tw_sk k i = i := if_pos z
    rw [this] at l1 l2 ⊢
    omega
  refine ⟨hn.1, hn.2, ?_, ?_⟩
  · unfold tw_f
    rw [tw_cut_io hS8 hk hiS (Or.inl rfl) q1 q2 fun z => (hlt z).1, nI_clamp (by unfold tw_dk; split <;> omega)]
    rfl
  · unfold tw_s
    rw [tw_cut_io hS8 hk hiS (Or.inr rfl) q3 q4 fun z => (hlt z).2, nI_clamp (by unfold tw_dk; split <;> omega)]
    rfl
theorem z_dk_lt {k a i : Nat} (h : a < tw_sk k i) (hn : a ≠ k) : tw_dk k a < i := by
  unfold tw_sk at h
  unfold tw_dk
  split at h <;> split <;> omega
theorem z_inp_cut {w : Nat → Int32} {R S D k : Nat} (hw : z_ok w R S D) (hi : z_inp w S) (hk : k < S) (hno : ∀ o, k < o → o < S → tw_inpt w k o = false) : z_inp (tw_cut w S k) (S - 1) := by
  intro i hiS
  have hs : tw_sk k i < S := by unfold tw_sk; split <;> omega
  obtain ⟨eb, e0, e1, e2⟩ := z_cut_st hw hi hk hno hiS
  rcases hi (tw_sk k i) hs with q | ⟨q1, q2, q3, q4⟩ | ⟨q1, q2, q3, q4⟩
  · exact Or.inl (eb.trans q)
  · obtain ⟨n1, n2, f1, f2⟩ := e2 q1
    exact Or.inr (Or.inl ⟨eb.trans q1, by rw [e0]; exact q2, f1 ▸ z_dk_lt q3 n1, f2 ▸ z_dk_lt q4 n2⟩)
  · obtain ⟨n1, n2, f1, f2⟩ := e2 q1
    exact Or.inr (Or.inr ⟨eb.trans q1, by rw [e0]; exact q2, f1 ▸ z_dk_lt q3 n1, by rw [f1, f2, q4]⟩)
theorem z_cut5_at {v : Nat → Int64} {S k i d g : Nat} (hS : S ≤ 8) (hk : k < S) (hi : i < S - 1) (hd : d < 7) (hg : g < 5) : tw_cut5 v S k (5 * (7 * i + d) + g) = v (5 * (7 * tw_sk k i + d) + g) := by
  have := tw_cut5_in (f := v) (j := 5 * d + g) hS hk hi (by omega)
  rw [show 5 * (7 * i + d) + g = 5 * (7 * i) + (5 * d + g) by omega, show 5 * (7 * tw_sk k i + d) + g = 5 * (7 * tw_sk k i) + (5 * d + g) by omega]
  exact this
theorem z_cut_fl {w : Nat → Int32} {S k i d : Nat} (hS : S ≤ 8) (hk : k < S) (hi : i < S - 1) (hd : d < 7) : tw_st (tw_cut w S k) i d = tw_st w (tw_sk k i) d := by
  unfold tw_st
  rw [tw_cut_st hS hk hi hd]
theorem z_cut_made {w : Nat → Int32} {v : Nat → Int64} {R S D k i d g : Nat} (hw : z_ok w R S D) (hi : z_inp w S) (hk : k < S) (hno : ∀ o, k < o → o < S → tw_inpt w k o = false) (hiS : i < S - 1) (hd : d < 7) (hg : g < 5) : tw_made (tw_cut w S k) (tw_cut5 v S k) R i d g = tw_made w v R (tw_sk k i) d g := by
  have hS8 := hw.2.2.2.1
  obtain ⟨eb, e0, e1, e2⟩ := z_cut_st hw hi hk hno hiS
  have hs : tw_sk k i < S := by unfold tw_sk; split <;> omega
  have hR := hw.2.1
  unfold tw_made
  rw [eb, e0, e1]
  cases hb : tw_base w (tw_sk k i)
  · obtain ⟨n1, n2, f1, f2⟩ := e2 hb
    obtain ⟨l1, l2⟩ := hi.lt hs hb
    have d1 := z_dk_lt l1 n1
    have d2 := z_dk_lt l2 n2
    have a1 : ∀ x, x < 7 → tw_cut5 v S k (5 * (7 * tw_f (tw_cut w S k) i + x) + g) = v (5 * (7 * tw_f w (tw_sk k i) + x) + g) := fun x hx => by
      rw [f1, z_cut5_at hS8 hk (by omega) hx hg, z_sk_dk n1]
    have a2 : tw_cut5 v S k (5 * (7 * tw_s (tw_cut w S k) i + d) + g) = v (5 * (7 * tw_s w (tw_sk k i) + d) + g) := by
      rw [f2, z_cut5_at hS8 hk (by omega) hd hg, z_sk_dk n2]
    have a3 : ∀ e, e ≤ 7 → tw_sum (tw_cut5 v S k) (tw_f (tw_cut w S k) i) g e = tw_sum v (tw_f w (tw_sk k i)) g e := by
      intro e
      induction e with
      | zero => intro _; simp only [tw_sum]
      | succ e ih => intro he; rw [tw_sum, tw_sum, ih (by omega), a1 e (by omega)]
    simp only [Bool.false_eq_true, if_false]
    rw [a1 d hd, a2, a3 (d + 1) (by omega)]
  · simp only [if_true]
    exact z_of_eqk e0 e1 R fun p hp o h0 h4 => tw_cut_lo hS8 hk (by omega) (by omega)
theorem z_cut_from {w : Nat → Int32} {R S D k i d : Nat} (hw : z_ok w R S D) (hi : z_inp w S) (hk : k < S) (hno : ∀ o, k < o → o < S → tw_inpt w k o = false) (hiS : i < S - 1) (hd : d < 7) : tw_from (tw_cut w S k) i d = tw_from w (tw_sk k i) d := by
  have hS8 := hw.2.2.2.1
  obtain ⟨eb, e0, e1, e2⟩ := z_cut_st hw hi hk hno hiS
  have hs : tw_sk k i < S := by unfold tw_sk; split <;> omega
  unfold tw_from
  rw [eb, e0]
  cases hb : tw_base w (tw_sk k i)
  · obtain ⟨n1, n2, f1, f2⟩ := e2 hb
    obtain ⟨l1, l2⟩ := hi.lt hs hb
    have d1 := z_dk_lt l1 n1
    have d2 := z_dk_lt l2 n2
    have a1 : ∀ x, x < 7 → tw_st (tw_cut w S k) (tw_f (tw_cut w S k) i) x = tw_st w (tw_f w (tw_sk k i)) x := fun x hx => by
      rw [f1, z_cut_fl hS8 hk (by omega) hx, z_sk_dk n1]
    have a2 : tw_st (tw_cut w S k) (tw_s (tw_cut w S k) i) d = tw_st w (tw_s w (tw_sk k i)) d := by
      rw [f2, z_cut_fl hS8 hk (by omega) hd, z_sk_dk n2]
    have a3 : ∀ e, e ≤ 7 → tw_any (tw_cut w S k) (tw_f (tw_cut w S k) i) e = tw_any w (tw_f w (tw_sk k i)) e := by
      intro e
      induction e with
      | zero => intro _; simp only [tw_any]
      | succ e ih => intro he; rw [tw_any, tw_any, ih (by omega), a1 e (by omega)]
    simp only [Bool.false_eq_true, if_false]
    rw [a1 d hd, a2, a3 d (by omega)]
  · simp only [if_true]
theorem z_frs_cut {w : Nat → Int32} {v : Nat → Int64} {R S D k : Nat} (hw : z_ok w R S D) (hi : z_inp w S) (hk : k < S) (hno : ∀ o, k < o → o < S → tw_inpt w k o = false) (h : z_frs w v R S D) : z_frs (tw_cut w S k) (tw_cut5 v S k) R (S - 1) D := by
  have hD := hw.2.2.2.2.2.1
  have hS8 := hw.2.2.2.1
  intro i hiS d hd hst
  have hs : tw_sk k i < S := by unfold tw_sk; split <;> omega
  rw [z_cut_fl hS8 hk hiS (by omega)] at hst
  obtain ⟨h1, h2⟩ := h _ hs d hd hst
  exact ⟨fun g hg => by rw [z_cut5_at hS8 hk hiS (by omega) hg, h1 g hg, z_cut_made hw hi hk hno hiS (by omega) hg], (z_cut_from hw hi hk hno hiS (by omega)).trans h2⟩
/-! THE PURE LAWS, 6: all that holds between two calls -/
/-- numbers of rows: below c, no two alike -/
def z_num (w : Nat → Int32) (R c : Nat) : Prop := w 2 = nI c ∧ (∀ p, p < R → ∃ i, i < c ∧ w (16 + 4 * p) = nI i) ∧ ∀ p q, p < R → q < R → w (16 + 4 * p) = w (16 + 4 * q) → p = q
def z_inv (w : Nat → Int32) (v : Nat → Int64) (R S D c : Nat) : Prop := z_ok w R S D ∧ z_rows w R D ∧ z_inp w S ∧ z_frs w v R S D ∧ z_num w R c
theorem z_num.of {w w' : Nat → Int32} {R c : Nat} (h : z_num w R c) (h2 : w' 2 = w 2) (hr : ∀ p, p < R → w' (16 + 4 * p) = w (16 + 4 * p)) : z_num w' R c := by
  obtain ⟨h1, h3, h4⟩ := h
  exact ⟨h2.trans h1, fun p hp => by rw [hr p hp]; exact h3 p hp, fun p q hp hq e => h4 p q hp hq (by rwa [hr p hp, hr q hq] at e)⟩
theorem z_num_new {w : Nat → Int32} {R c g d a : Nat} (h : z_num w R c) (hc : c < 2 ^ 30) : z_num (tw_nrow w R g d a) (R + 1) (c + 1) := by
  obtain ⟨h1, h3, h4⟩ := h
  have e2 : tw_nrow w R g d a 2 = nI (c + 1) := by
    unfold tw_nrow
    rw [va_ups, h1, nI_add]
  have eR : tw_nrow w R g d a (16 + 4 * R) = nI c := by
    unfold tw_nrow va_up
    rw [if_neg (by omega), if_neg (by omega), if_neg (by omega), if_neg (by omega), if_neg (by omega), if_pos rfl, h1]
  have ep : ∀ p, p < R → tw_nrow w R g d a (16 + 4 * p) = w (16 + 4 * p) := fun p hp => tw_nrow_at (by omega) (by omega) (by omega)
  refine ⟨e2, fun p hp => ?_, fun p q hp hq e => ?_⟩
  · by_cases z : p = R
    · exact ⟨c, by omega, by rw [z, eR]⟩
    · obtain ⟨i, hi, e⟩ := h3 p (by omega)
      exact ⟨i, by omega, by rw [ep p (by omega), e]⟩
  · have hlt : ∀ x, x < R → w (16 + 4 * x) ≠ nI c := fun x hx e => by
      obtain ⟨i, hi, e1⟩ := h3 x hx
      rw [e1] at e
      exact absurd ((nI_eq (by omega) (by omega)).mp e) (by omega)
    by_cases z : p = R
    · by_cases z2 : q = R
      · omega
      · rw [z, eR, ep q (by omega)] at e
        exact absurd e.symm (hlt q (by omega))
    · by_cases z2 : q = R
      · rw [z2, eR, ep p (by omega)] at e
        exact absurd e (hlt p (by omega))
      · rw [ep p (by omega), ep q (by omega)] at e
        exact h4 p q (by omega) (by omega) e
theorem z_num_gone {w : Nat → Int32} {R c x : Nat} (h : z_num w R c) (hx : x < R) (hR : R ≤ 40) : z_num (tw_gone w R x) (R - 1) c := by
  obtain ⟨h1, h3, h4⟩ := h
  have e2 : tw_gone w R x 2 = nI c := by
    unfold tw_gone
    rw [tw_shl_eq _ (by omega), if_neg (by omega)]
    unfold tw_gone0 va_up
    rw [if_neg (by omega), if_neg (by omega), h1]
  have ep : ∀ p, p < R - 1 → tw_gone w R x (16 + 4 * p) = w (16 + 4 * tw_sk x p) := fun p hp => by
    rw [tw_gone_at hx (by omega)]
    unfold tw_sk
    by_cases z : p < x
    · rw [if_neg (by omega), if_pos z]
    · rw [if_pos (by omega), if_neg z]
      exact congrArg w (by omega)
  have hs : ∀ p, p < R - 1 → tw_sk x p < R := fun p hp => by unfold tw_sk; split <;> omega
  refine ⟨e2, fun p hp => by rw [ep p hp]; exact h3 _ (hs p hp), fun p q hp hq e => ?_⟩
  rw [ep p hp, ep q hq] at e
  have := h4 _ _ (hs p hp) (hs q hq) e
  unfold tw_sk at this
  split at this <;> split at this <;> omega
theorem z_isD_of {D : Nat} {x : Int32} (hD : D ≤ 6) (h : decide (nI 0 ≤ x ∧ x ≤ nI D) = true) : ∃ d, d ≤ D ∧ x = nI d := by
  have h1 := of_decide_eq_true h
  obtain ⟨j, hj, rfl⟩ := nI_of (x := x) (by
    have h2 := h1.1
    rw [Int32.le_iff_toInt_le, nI_toInt (by omega)] at h2
    rw [Int32.lt_iff_toInt_lt, Int32.toInt_zero]
    omega)
  exact ⟨j, (nI_leI hj (by omega)).mp h1.2, rfl⟩
/-- what holds of a tuple (w, v, answer, R, S, D) -/
def tG_inv (g : tG) (c : Nat) : Prop := z_inv g.1 g.2.1 g.2.2.2.1 g.2.2.2.2.1 g.2.2.2.2.2 c
theorem z_tch_inv {w w' : Nat → Int32} {v : Nat → Int64} {x : Int32} {R R' S D d g c c' : Nat} (h : z_inv w v R S D c) (hc : z_rch w w' R R' d g) (hd : d ≤ D) (hok : z_ok w' R' S D) (hrw : z_rows w' R' D) (hn : z_num w' R' c') : tG_inv (tw_tch w' v x R' S D d) c' := by
  obtain ⟨h1, h2, h3, h4, h5⟩ := h
  have hS8 := hok.2.2.2.1
  have hR4 := hok.2.1
  have hD6 := hok.2.2.2.2.2.1
  have hi' := h3.congr fun k _ => (hc.E (k := k)).y
  have hg := tw_tch_ok (f := v) (v := x) (d := d) hok hrw
  unfold tw_tch at hg ⊢
  unfold tG_inv
  by_cases q : d = D
  · rw [if_pos q] at hg ⊢
    exact ⟨hg.1, hg.2, hi', z_frs_today h3 (by omega) (q ▸ hc) h4, hn⟩
  · rw [if_neg q] at hg ⊢
    refine ⟨hg.1, hg.2, ?_, z_frs_past h3 hS8 hR4 (by omega) (by omega) hc h4, ?_⟩
    · exact (z_inp_up hi' hS8 (Or.inl (by omega))).congr fun k hk o ho => (tw_sp_lo (by omega) S).symm
    · exact hn.of (by
        show tw_sp _ _ _ _ _ = _
        rw [tw_sp_lo (by omega), va_up, if_neg (by omega)]) fun p hp => by
        show tw_sp _ _ _ _ _ = _
        rw [tw_sp_lo (by omega), va_up, if_neg (by omega)]
theorem z_new_inv {w : Nat → Int32} {v : Nat → Int64} {R S D a e c : Nat} {kd b : Int32} (h : z_inv w v R S D c) (hS7 : S < 8) (hk : z_kda S kd a e) (ha : a < 8) (he : e < 8) : tG_inv (tw_new w v R S D kd b a e) c := by
  obtain ⟨h1, h2, h3, h4, h5⟩ := h
  have hg := tw_new_ok (f := v) (b := b) (kd := kd) h1 h2 hS7 ha he
  unfold tw_new at hg ⊢
  have hi := z_nst_inp (b := b) h3 hS7 hk
  refine ⟨hg.1, hg.2, ?_, z_frs_nst h3 hS7 h1.2.1 (by have := h1.2.2.2.2.2.1; omega) hk h4, h5.of ?_ fun p hp => ?_⟩
  · exact hi.congr fun k hk => (z_ns_st hS7 (by omega) _).y
  · show tw_ns0 _ _ _ _ = _
    rw [tw_ns0_lo (by omega), z_nst_at (by omega) (by omega)]
  · show tw_ns0 _ _ _ _ = _
    have := h1.2.1
    rw [tw_ns0_lo (by omega), z_nst_at (by omega) (by omega)]
theorem z_anyS_f {w : Nat → Int32} {e : Nat} : ∀ {S : Nat}, tw_anyS w e S = false → ∀ k, k < S → tw_st w k e = false
  | 0, _, k, hk => absurd hk (Nat.not_lt_zero _)
  | S + 1, h, k, hk => by
    rw [tw_anyS, Bool.or_eq_false_iff] at h
    by_cases q : k = S
    · rw [q]; exact h.2
    · exact z_anyS_f h.1 k (by omega)
theorem z_stF_n {w : Nat → Int32} {S : Nat} : ∀ {n e : Nat}, tw_stF w S e n = none → ∀ x, e ≤ x → x < e + n → tw_anyS w x S = false
  | 0, e, _, x, h1, h2 => by omega
  | n + 1, e, h, x, h1, h2 => by
    rw [tw_stF] at h
    split at h
    · cases h
    · next q =>
      by_cases z : x = e
      · rw [z]; simpa using q
      · exact z_stF_n h x (by omega) (by omega)
theorem z_inv_go {w : Nat → Int32} {v : Nat → Int64} {R S D k c : Nat} {a b e : Int32} (h : z_inv w v R S D c) (hc : c < 2 ^ 30) (h0 : (tC_why w R S D k a b e).1 = 0) : ∃ c', c ≤ c' ∧ c' ≤ c + 1 ∧ tG_inv (tC_go w v R S D k a b e) c' := by
  obtain ⟨hw, hrw, h3, h4, h5⟩ := id h
  obtain ⟨hR, hR4, hS, hS8, hD, hD6, hF⟩ := id hw
  unfold tC_why at h0
  unfold tC_go
  split at h0
  · obtain ⟨-, g, d', a', hg, hd', ha', hR40, rfl, rfl, rfl⟩ := tw_cRow0 hD6 hR4 h0
    try dsimp only
    rw [tN, tN, tN, z_nIc (by omega), z_nIc (by omega), z_nIc (by omega), show 97 + g - 97 = g by omega]
    exact ⟨c + 1, by omega, by omega, z_tch_inv h (z_rch_new hR40 (by omega) hg) hd' (tw_nrow_ok hw hR40) (tw_nrow_rows hrw hg hd' ha') (z_num_new h5 hc)⟩
  · try dsimp only
    split at h0
    · cases h0
    · rename_i p hp
      have hpR := tw_row_lt hp
      obtain ⟨d, g, a', e1, hd, e2, hg, -, -⟩ := hrw p hpR
      have ed : tN (w (16 + 4 * p + 1)) = d := by rw [e1, tN, z_nIc (by omega)]
      refine ⟨c, by omega, by omega, ?_⟩
      rw [ed]
      exact z_tch_inv h (z_rch_gone hpR hR4 (by omega) hg e1 e2) hd (tw_gone_ok hw hpR) (tw_gone_rows hrw hpR) (z_num_gone h5 hpR hR4)
  · have hD5 := (tw_cBegin0 hD6 h0).2
    refine ⟨c, by omega, by omega, tw_bg0_ok (hw.upD (by omega)) _, hrw.of (by show D ≤ D + 1; omega) (fun j h1 h2 => by
      show tw_bg0 _ _ _ j = _
      rw [tw_bg0_lo (by omega), va_upn (by omega)]) hR4, ?_, z_frs_begin h3 hS8 hR4 hD5 h4, h5.of ?_ fun p hp => ?_⟩
    · exact (z_inp_up h3 hS8 (Or.inl (by omega))).congr fun k hk o ho => (tw_bg0_lo (by omega) S).symm
    · show tw_bg0 _ _ _ _ = _
      rw [tw_bg0_lo (by omega), va_upn (by omega)]
    · show tw_bg0 _ _ _ _ = _
      rw [tw_bg0_lo (by omega), va_upn (by omega)]
  · obtain ⟨-, hS7, hK, b', hb', rfl⟩ := tw_cBase0 hS8 h0
    refine ⟨c, by omega, by omega, z_new_inv h hS7 (Or.inl ?_) (by omega) (by omega)⟩
    unfold tw_isK at hK
    simpa [Bool.or_eq_true, decide_eq_true_eq] using hK
  · obtain ⟨-, hS7, hK, i, j, hi, hj, rfl, rfl⟩ := tw_cPair0 hS8 h0
    try dsimp only
    rw [tN, tN, z_nIc (by omega), z_nIc (by omega)]
    exact ⟨c, by omega, by omega, z_new_inv h hS7 (Or.inr (Or.inl ⟨hK, hi, hj⟩)) (by omega) (by omega)⟩
  · obtain ⟨-, hS7, i, hi, rfl⟩ := tw_cRun0 hS8 h0
    try dsimp only
    rw [tN, z_nIc (by omega)]
    exact ⟨c, by omega, by omega, z_new_inv h hS7 (Or.inr (Or.inr ⟨Or.inl rfl, hi, rfl⟩)) (by omega) (by omega)⟩
  · obtain ⟨-, hS7, i, b', hi, hb', rfl, rfl⟩ := tw_cKeep0 hS8 h0
    try dsimp only
    rw [tN, z_nIc (by omega)]
    exact ⟨c, by omega, by omega, z_new_inv h hS7 (Or.inr (Or.inr ⟨Or.inr rfl, hi, rfl⟩)) (by omega) (by omega)⟩
  · split at h0
    · obtain ⟨k, hk, rfl⟩ := z_isS_of hS8 (by assumption)
      try dsimp only
      rw [tN, z_nIc (by omega)] at h0
      rw [tN, z_nIc (by omega)]
      have hno := z_cut_no h0
      refine ⟨c, by omega, by omega, tw_cut_ok hw hk, hrw.of (Nat.le_refl _) (fun j h1 h2 => tw_cut_lo hS8 hk (by omega) (by omega)) hR4, z_inp_cut hw h3 hk hno, z_frs_cut hw h3 hk hno h4, h5.of (tw_cut_lo hS8 hk (by omega) (by omega)) fun p hp => tw_cut_lo hS8 hk (by omega) (by omega)⟩
    · cases h0
  · split at h0
    · next hx =>
      obtain ⟨d, hd, rfl⟩ := z_isD_of hD6 hx
      rw [tN, z_nIc (by omega)] at h0
      try dsimp only
      rw [tN, z_nIc (by omega)]
      have hno : ∀ k, k < S → ∀ e, e < d → tw_st w k e = false := fun k hk e he => by
        unfold tw_cRep at h0
        split at h0
        · next q => exact z_anyS_f (z_stF_n q e (Nat.zero_le _) (by omega)) k hk
        · cases h0
      refine ⟨c, by omega, by omega, ?_⟩
      show z_inv (tw_rep w S d) (tw_rp5 w R d v S) R S D c
      refine ⟨(tw_rp0_ok hw _).up (by omega), hrw.of (Nat.le_refl _) (fun j h1 h2 => by
        show tw_rep _ _ _ j = _
        unfold tw_rep
        rw [va_upn (by omega), tw_rp0_lo (by omega)]) hR4, ?_, z_frs_rep h3 hS8 hR4 hd (by omega) h4 hno, h5.of ?_ fun p hp => ?_⟩
      · exact h3.congr fun k hk => ((z_stE_up (by omega)).t (z_rp_st (by omega) S)).y
      · show tw_rep _ _ _ _ = _
        unfold tw_rep
        rw [va_upn (by omega), tw_rp0_lo (by omega)]
      · show tw_rep _ _ _ _ = _
        unfold tw_rep
        rw [va_upn (by omega), tw_rp0_lo (by omega)]
    · cases h0
