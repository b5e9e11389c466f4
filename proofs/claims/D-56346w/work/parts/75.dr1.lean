/-! THE DRAFT: a lane whose lists, views and object are new cells -/
def z_ij (f : Nat → Nat) (k : Nat) : Prop := ∀ i j, i < k → j < k → f i = f j → i = j
def z_N (N : Nat) : Prop := N = 0 ∨ N = 10 ∨ N = 15 ∨ N = 22 ∨ N = 33 ∨ N = 49
/-- a list of k elements g, its object at a, its array at e -/
def z_Lx (G : zG) (h : zH) (b0 a e k : Nat) (g : Nat → Nat) : Prop := b0 ≤ a ∧ (b0 ≤ e ∨ (e = G.2.2.1 1002 ∧ k = 0)) ∧ ∃ (N : Nat) (m9 : Int32) (f : Nat → Option Nat), h a = some (.inr (20, [.int m9, .ref e, .int (nI k)])) ∧ h e = some (z_ao G N f) ∧ k ≤ N ∧ z_N N ∧ ((b0 ≤ e → 10 ≤ N) ∧ (e < b0 → N = 0)) ∧ ∀ j, j < k → f j = some (g j)
def z_Vx (G : zG) (h : zH) (b0 : Nat) (w : Nat → Int32) (v : Nat → Int64) (D : Nat) (va na ba : Nat → Nat) (k : Nat) : Prop := b0 ≤ va k ∧ b0 ≤ na k ∧ b0 ≤ ba k ∧ h (va k) = some (.inr (3, [.ref (na k), .ref (ba k)])) ∧ ∃ (F : Nat → Int64) (Z : Nat → Int32), h (na k) = some (z_al G 35 F) ∧ h (ba k) = some (z_az G 7 Z) ∧
  (∀ d, d ≤ D → ∀ g, g < 5 → F (5 * d + g) = v (5 * (7 * k + d) + g)) ∧ (∀ d, d ≤ D → Z d = z_b (tw_st w k d)) ∧ ∀ i, i < 7 → ∃ b9, Z i = z_b b9
def z_Dr (G : zG) (h : zH) (b0 : Nat) (w : Nat → Int32) (v : Nat → Int64) (R S D a lr er ls es lv ev : Nat) (ra sa va na ba : Nat → Nat) : Prop :=
  (b0 ≤ a ∧ h a = some (.inr (1, [.ref lr, .ref ls, .ref lv, .int (nI D), .int (w 2), .int (w 4), .int (w 5), .int (w 6)]))) ∧ z_Lx G h b0 lr er R ra ∧ z_Lx G h b0 ls es S sa ∧ z_Lx G h b0 lv ev S va ∧
  (lr ≠ ls ∧ lr ≠ lv ∧ ls ≠ lv) ∧ ((b0 ≤ er → er ≠ es ∧ er ≠ ev) ∧ (b0 ≤ es → es ≠ er ∧ es ≠ ev) ∧ (b0 ≤ ev → ev ≠ er ∧ ev ≠ es)) ∧
  (∀ p, p < R → z_Rw h w ra p) ∧ (∀ k, k < S → z_Sp h w sa k) ∧ (∀ k, k < S → z_Vx G h b0 w v D va na ba k) ∧ z_ij sa S ∧ z_ij ra R ∧ z_ij na S ∧ z_ij ba S
theorem z_N.le {N : Nat} (h : z_N N) : N ≤ 200 ∧ N ≠ 17 := by unfold z_N at h; omega
theorem z_Lx.ls {G : zG} {h : zH} {b0 a e k : Nat} {g : Nat → Nat} (q : z_Lx G h b0 a e k g) : z_Ls G h a k g := by
  obtain ⟨-, -, N, m9, f, h1, h2, h3, h4, -, h5⟩ := q
  exact ⟨e, N, m9, f, h1, h2, h3, h4.le, h5⟩
theorem z_Dr.ln {G : zG} {h : zH} {b0 : Nat} {w : Nat → Int32} {v : Nat → Int64} {R S D a lr er ls es lv ev : Nat} {ra sa va na ba : Nat → Nat} (q : z_Dr G h b0 w v R S D a lr er ls es lv ev ra sa va na ba) : z_Ln G h w v R S D a lr ls lv ra sa va := by
  obtain ⟨⟨-, h1⟩, h2, h3, h4, -, -, h5, h6, h7, h8, h9, -⟩ := q
  refine ⟨h1, h2.ls, h3.ls, h4.ls, h5, h6, fun k hk => ?_, h8, h9⟩
  obtain ⟨-, -, -, q1, F, Z, q2, q3, q4⟩ := h7 k hk
  exact ⟨_, _, F, Z, q1, q2, q3, q4⟩
/-- kinds of cells that a lane is made of -/
def z_lnk : va_E → Prop
  | .inl _ => True
  | .inr o => o.1 = 1 ∨ o.1 = 3 ∨ o.1 = 6 ∨ o.1 = 20 ∨ (8 ≤ o.1 ∧ o.1 ≤ 13)
/-- cells of those kinds are kept -/
def z_kp (h h2 : zH) : Prop := ∀ y c, h y = some c → z_lnk c → h2 y = some c
theorem z_ex.kp {h h2 : zH} (e : z_ex h h2) : z_kp h h2 := fun y c q _ => e y c q
theorem z_kp.t {h h1 h2 : zH} (a : z_kp h h1) (b : z_kp h1 h2) : z_kp h h2 := fun y c q l => b y c (a y c q l) l
theorem z_kp_r {h : zH} : z_kp h h := fun _ _ q _ => q
theorem z_kp_up {h h2 : zH} {t ci : Nat} {fs : List Value} {c : va_E} (h1 : h t = some (.inr (ci, fs))) (hc : ¬ z_lnk (.inr (ci, fs))) (e : h2 = z_up h t c) : z_kp h h2 := fun y c0 q l => by
  by_cases z : y = t
  · rw [z, h1] at q
    cases q
    exact absurd l hc
  · rw [e, z_up_n z]; exact q
theorem z_Ls.kp {G : zG} {h h2 : zH} {a k : Nat} {g : Nat → Nat} (q : z_Ls G h a k g) (e : z_kp h h2) : z_Ls G h2 a k g := by
  obtain ⟨e1, N, m9, f, h1, h2, h3⟩ := q
  exact ⟨e1, N, m9, f, e _ _ h1 (by simp [z_lnk]), e _ _ h2 trivial, h3⟩
theorem z_Lx.kp {G : zG} {h h2 : zH} {b0 a e k : Nat} {g : Nat → Nat} (q : z_Lx G h b0 a e k g) (hk : z_kp h h2) : z_Lx G h2 b0 a e k g := by
  obtain ⟨q1, q2, N, m9, f, h1, h2, h3⟩ := q
  exact ⟨q1, q2, N, m9, f, hk _ _ h1 (by simp [z_lnk]), hk _ _ h2 trivial, h3⟩
theorem z_Rw.kp {h h2 : zH} {w : Nat → Int32} {ra : Nat → Nat} {p : Nat} (q : z_Rw h w ra p) (e : z_kp h h2) : z_Rw h2 w ra p := e _ _ q (by simp [z_lnk])
theorem z_Sp.kp {h h2 : zH} {w : Nat → Int32} {sa : Nat → Nat} {k : Nat} (q : z_Sp h w sa k) (he : z_kp h h2) : z_Sp h2 w sa k := by
  rcases q with ⟨q1, q⟩ | ⟨q1, q⟩ | ⟨q1, q⟩ | ⟨q1, q2, q3, q⟩ | ⟨q1, q2, q3, q⟩ | ⟨q1, q2, q3, q⟩ | ⟨q1, q2, q3, q⟩
  · exact Or.inl ⟨q1, he _ _ q (by simp [z_lnk])⟩
  · exact Or.inr (Or.inl ⟨q1, he _ _ q (by simp [z_lnk])⟩)
  · exact Or.inr (Or.inr (Or.inl ⟨q1, he _ _ q (by simp [z_lnk])⟩))
  · exact Or.inr (Or.inr (Or.inr (Or.inl ⟨q1, q2, q3, he _ _ q (by simp [z_lnk])⟩)))
  · exact Or.inr (Or.inr (Or.inr (Or.inr (Or.inl ⟨q1, q2, q3, he _ _ q (by simp [z_lnk])⟩))))
  · exact Or.inr (Or.inr (Or.inr (Or.inr (Or.inr (Or.inl ⟨q1, q2, q3, he _ _ q (by simp [z_lnk])⟩)))))
  · exact Or.inr (Or.inr (Or.inr (Or.inr (Or.inr (Or.inr ⟨q1, q2, q3, he _ _ q (by simp [z_lnk])⟩)))))
theorem z_Vx.kp {G : zG} {h h2 : zH} {b0 : Nat} {w : Nat → Int32} {v : Nat → Int64} {D : Nat} {va na ba : Nat → Nat} {k : Nat} (q : z_Vx G h b0 w v D va na ba k) (he : z_kp h h2) : z_Vx G h2 b0 w v D va na ba k := by
  obtain ⟨q1, q2, q3, q4, F, Z, q5, q6, q7⟩ := q
  exact ⟨q1, q2, q3, he _ _ q4 (by simp [z_lnk]), F, Z, he _ _ q5 trivial, he _ _ q6 trivial, q7⟩
theorem z_Dr.kp {G : zG} {h h2 : zH} {b0 : Nat} {w : Nat → Int32} {v : Nat → Int64} {R S D a lr er ls es lv ev : Nat} {ra sa va na ba : Nat → Nat} (q : z_Dr G h b0 w v R S D a lr er ls es lv ev ra sa va na ba) (e : z_kp h h2) : z_Dr G h2 b0 w v R S D a lr er ls es lv ev ra sa va na ba := by
  obtain ⟨⟨h0, h1⟩, q2, q3, q4, q5, q5b, q6, q7, q8, q9⟩ := q
  exact ⟨⟨h0, e _ _ h1 (by simp [z_lnk])⟩, q2.kp e, q3.kp e, q4.kp e, q5, q5b, fun p hp => (q6 p hp).kp e, fun k hk => (q7 k hk).kp e, fun k hk => (q8 k hk).kp e, q9⟩
theorem z_Ln.kp {G : zG} {h h2 : zH} {w : Nat → Int32} {v : Nat → Int64} {R S D a lr ls lv : Nat} {ra sa va : Nat → Nat} (q : z_Ln G h w v R S D a lr ls lv ra sa va) (e : z_kp h h2) : z_Ln G h2 w v R S D a lr ls lv ra sa va := by
  obtain ⟨h1, q2, q3, q4, q5, q6, q7, q8⟩ := q
  refine ⟨e _ _ h1 (by simp [z_lnk]), q2.kp e, q3.kp e, q4.kp e, fun p hp => (q5 p hp).kp e, fun k hk => (q6 k hk).kp e, fun k hk => ?_, q8⟩
  obtain ⟨e1, e2, F, Z, z1, z2, z3, z4⟩ := q7 k hk
  exact ⟨e1, e2, F, Z, e _ _ z1 (by simp [z_lnk]), e _ _ z2 trivial, e _ _ z3 trivial, z4⟩
/-- the views' arrays -/
def z_VA (na ba : Nat → Nat) (S : Nat) (y : Nat) : Prop := ∃ k, k < S ∧ (y = na k ∨ y = ba k)
/-- all cells are kept but those that P holds of -/
def z_fr (P : Nat → Prop) (h h2 : zH) : Prop := ∀ y c, h y = some c → ¬ P y → h2 y = some c
theorem z_fr_r {P : Nat → Prop} {h : zH} : z_fr P h h := fun _ _ q _ => q
theorem z_fr.t {P : Nat → Prop} {h h1 h2 : zH} (a : z_fr P h h1) (b : z_fr P h1 h2) : z_fr P h h2 := fun y c q l => b y c (a y c q l) l
theorem z_ex.fr {P : Nat → Prop} {h h2 : zH} (e : z_ex h h2) : z_fr P h h2 := fun y c q _ => e y c q
theorem z_fr.w {P Q : Nat → Prop} {h h2 : zH} (e : z_fr P h h2) (pq : ∀ y, P y → Q y) : z_fr Q h h2 := fun y c q l => e y c q fun z => l (pq y z)
theorem z_fr_up {P : Nat → Prop} {h h2 : zH} {t : Nat} {c : va_E} (ht : P t) (e : h2 = z_up h t c) : z_fr P h h2 := fun y c0 q l => by
  rw [e, z_up_n (fun z => l (by rw [z]; exact ht))]; exact q
theorem z_xLZ {G : zG} {n m : Nat} {F : Nat → Int64} {Z : Nat → Int32} (e : some (z_al G n F) = some (z_az G m Z)) : False := by
  injection e with e; injection e with e; injection e with _ e; injection e with _ e
  exact nomatch e
theorem z_xLO {G : zG} {n m : Nat} {F : Nat → Int64} {Z : Nat → Option Nat} (e : some (z_al G n F) = some (z_ao G m Z)) : False := by
  injection e with e; injection e with e; injection e with _ e; injection e with _ e; injection e with e
  exact nomatch e
theorem z_xZO {G : zG} {n m : Nat} {F : Nat → Int32} {Z : Nat → Option Nat} (e : some (z_az G n F) = some (z_ao G m Z)) : False := by
  injection e with e; injection e with e; injection e with _ e; injection e with _ e
  exact nomatch e
/-- an object's cell is no view's array; nor is an array of references -/
theorem z_Dr.nO {G : zG} {h : zH} {b0 : Nat} {w : Nat → Int32} {v : Nat → Int64} {R S D a lr er ls es lv ev : Nat} {ra sa va na ba : Nat → Nat} (q : z_Dr G h b0 w v R S D a lr er ls es lv ev ra sa va na ba) {y : Nat} {o : Nat × List Value} (hy : h y = some (.inr o)) : ¬ z_VA na ba S y := by
  rintro ⟨k, hk, e⟩
  obtain ⟨-, -, -, -, F, Z, q5, q6, -⟩ := q.2.2.2.2.2.2.2.2.1 k hk
  rcases e with e | e
  · rw [e, q5] at hy; cases hy
  · rw [e, q6] at hy; cases hy
theorem z_Dr.nA {G : zG} {h : zH} {b0 : Nat} {w : Nat → Int32} {v : Nat → Int64} {R S D a lr er ls es lv ev : Nat} {ra sa va na ba : Nat → Nat} (q : z_Dr G h b0 w v R S D a lr er ls es lv ev ra sa va na ba) {y N : Nat} {f : Nat → Option Nat} (hy : h y = some (z_ao G N f)) : ¬ z_VA na ba S y := by
  rintro ⟨k, hk, e⟩
  obtain ⟨-, -, -, -, F, Z, q5, q6, -⟩ := q.2.2.2.2.2.2.2.2.1 k hk
  rcases e with e | e
  · rw [e, q5] at hy; exact z_xLO hy
  · rw [e, q6] at hy; exact z_xZO hy
theorem z_Sp.frS {h h2 : zH} {w : Nat → Int32} {sa : Nat → Nat} {k : Nat} (q : z_Sp h w sa k) (he : ∀ y ci fs, h y = some (.inr (ci, fs)) → (8 ≤ ci ∧ ci ≤ 13) → h2 y = some (.inr (ci, fs))) : z_Sp h2 w sa k := by
  rcases q with ⟨q1, q⟩ | ⟨q1, q⟩ | ⟨q1, q⟩ | ⟨q1, q2, q3, q⟩ | ⟨q1, q2, q3, q⟩ | ⟨q1, q2, q3, q⟩ | ⟨q1, q2, q3, q⟩
  · exact Or.inl ⟨q1, he _ _ _ q (by decide)⟩
  · exact Or.inr (Or.inl ⟨q1, he _ _ _ q (by decide)⟩)
  · exact Or.inr (Or.inr (Or.inl ⟨q1, he _ _ _ q (by decide)⟩))
  · exact Or.inr (Or.inr (Or.inr (Or.inl ⟨q1, q2, q3, he _ _ _ q (by decide)⟩)))
  · exact Or.inr (Or.inr (Or.inr (Or.inr (Or.inl ⟨q1, q2, q3, he _ _ _ q (by decide)⟩))))
  · exact Or.inr (Or.inr (Or.inr (Or.inr (Or.inr (Or.inl ⟨q1, q2, q3, he _ _ _ q (by decide)⟩)))))
  · exact Or.inr (Or.inr (Or.inr (Or.inr (Or.inr (Or.inr ⟨q1, q2, q3, he _ _ _ q (by decide)⟩)))))
theorem z_Sp.fr {h h2 : zH} {w : Nat → Int32} {sa : Nat → Nat} {k : Nat} (q : z_Sp h w sa k) (he : ∀ y (o : Nat × List Value), h y = some (.inr o) → h2 y = some (.inr o)) : z_Sp h2 w sa k := q.frS fun y ci fs hy _ => he y _ hy
theorem z_Sp.w {h : zH} {w w' : Nat → Int32} {sa : Nat → Nat} {k : Nat} (q : z_Sp h w sa k) (e : z_stE w w' k) : z_Sp h w' sa k := by
  unfold z_Sp at q ⊢
  rw [← e.k, ← e.b, ← e.f, ← e.s]
  exact q
/-- what the draft is made of apart from its views, as it is kept -/
theorem z_Dr.vw {G : zG} {h h2 : zH} {b0 : Nat} {w : Nat → Int32} {v : Nat → Int64} {R S D a lr er ls es lv ev : Nat} {ra sa va na ba : Nat → Nat} {w' : Nat → Int32} {v' : Nat → Int64} (q : z_Dr G h b0 w v R S D a lr er ls es lv ev ra sa va na ba) (hf : z_fr (z_VA na ba S) h h2) (hR4 : R ≤ 40) (hS8 : S ≤ 8) (hw : ∀ j, j < 208 → (j ≠ 0 ∧ j ≠ 1 ∧ j ≠ 3) → w' j = w j) (hv : ∀ k, k < S → z_Vx G h2 b0 w' v' D va na ba k) : z_Dr G h2 b0 w' v' R S D a lr er ls es lv ev ra sa va na ba := by
  have nO := fun {y o} hy => q.nO (y := y) (o := o) hy
  have nA := fun {y N f} hy => q.nA (y := y) (N := N) (f := f) hy
  obtain ⟨⟨h0, h1⟩, ⟨a1, a2, N1, m1, f1, a3, a4, a5⟩, ⟨b1, b2, N2, m2, f2, b3, b4, b5⟩, ⟨c1, c2, N3, m3, f3, c3, c4, c5⟩, q5, q5b, q6, q7, q8, q9⟩ := q
  refine ⟨⟨h0, ?_⟩, ⟨a1, a2, N1, m1, f1, hf _ _ a3 (nO a3), hf _ _ a4 (nA a4), a5⟩, ⟨b1, b2, N2, m2, f2, hf _ _ b3 (nO b3), hf _ _ b4 (nA b4), b5⟩, ⟨c1, c2, N3, m3, f3, hf _ _ c3 (nO c3), hf _ _ c4 (nA c4), c5⟩, q5, q5b, fun p hp => ?_, fun k hk => ?_, hv, q9⟩
  · rw [hw 2 (by omega) (by omega), hw 4 (by omega) (by omega), hw 5 (by omega) (by omega), hw 6 (by omega) (by omega)]; exact hf _ _ h1 (nO h1)
  · have := q6 p hp
    unfold z_Rw at this ⊢
    rw [hw _ (by omega) (by omega), hw _ (by omega) (by omega), hw _ (by omega) (by omega), hw _ (by omega) (by omega)]
    exact hf _ _ this (nO this)
  · exact ((q7 k hk).fr fun y o hy => hf y _ hy (nO hy)).w fun o ho => (hw _ (by omega) (by omega)).symm
theorem z_st_0 {w w' : Nat → Int32} {k d : Nat} (h : w (208 + 7 * k + d) = w' (208 + 7 * k + d)) : tw_st w k d = tw_st w' k d := by unfold tw_st; rw [h]
/-- a number is written -/
theorem z_Dr.num {G : zG} {h h2 : zH} {b0 : Nat} {w : Nat → Int32} {v : Nat → Int64} {R S D a lr er ls es lv ev : Nat} {ra sa va na ba : Nat → Nat} (q : z_Dr G h b0 w v R S D a lr er ls es lv ev ra sa va na ba) (hR4 : R ≤ 40) (hS8 : S ≤ 8) (hD6 : D ≤ 6) {k d g : Nat} (hk : k < S) (hd : d ≤ D) (hg : g < 5) {F : Nat → Int64} {x : Int64} (hF : h (na k) = some (z_al G 35 F)) (e : h2 = z_up h (na k) (z_al G 35 (va_up F (5 * d + g) x))) :
    z_Dr G h2 b0 w (va_up v (5 * (7 * k + d) + g) x) R S D a lr er ls es lv ev ra sa va na ba ∧ z_fr (z_VA na ba S) h h2 := by
  have hf : z_fr (z_VA na ba S) h h2 := z_fr_up ⟨k, hk, Or.inl rfl⟩ e
  refine ⟨q.vw hf hR4 hS8 (fun _ _ _ => rfl) fun j hj => ?_, hf⟩
  obtain ⟨q1, q2, q3, q4, F1, Z1, q5, q6, q7, q8, q9⟩ := q.2.2.2.2.2.2.2.2.1 j hj
  have hna : j ≠ k → na j ≠ na k := fun z z2 => z (q.2.2.2.2.2.2.2.2.2.2.2.1 j k hj hk z2)
  have hba : ba j ≠ na k := fun z => by rw [z, hF] at q6; exact z_xLZ q6
  have hva : va j ≠ na k := z_neA q4 hF
  refine ⟨q1, q2, q3, by rw [e, z_up_n hva]; exact q4, ?_⟩
  by_cases z : j = k
  · subst z
    rw [hF] at q5
    cases q5
    refine ⟨va_up F (5 * d + g) x, Z1, by rw [e, z_up_s], by rw [e, z_up_n hba]; exact q6, fun d' hd' g' hg' => ?_, q8, q9⟩
    unfold va_up
    by_cases z2 : 5 * d' + g' = 5 * d + g
    · rw [if_pos z2, if_pos (by omega)]
    · rw [if_neg z2, if_neg (by omega)]
      exact q7 d' hd' g' hg'
  · refine ⟨F1, Z1, by rw [e, z_up_n (hna z)]; exact q5, by rw [e, z_up_n hba]; exact q6, fun d' hd' g' hg' => ?_, q8, q9⟩
    rw [va_upn (z_pl_ne hg' hg (by omega) (by omega) (Or.inl z))]
    exact q7 d' hd' g' hg'
/-- a flag is written -/
theorem z_Dr.flag {G : zG} {h h2 : zH} {b0 : Nat} {w : Nat → Int32} {v : Nat → Int64} {R S D a lr er ls es lv ev : Nat} {ra sa va na ba : Nat → Nat} (q : z_Dr G h b0 w v R S D a lr er ls es lv ev ra sa va na ba) (hR4 : R ≤ 40) (hS8 : S ≤ 8) (hD6 : D ≤ 6) {k d : Nat} (hk : k < S) (hd : d ≤ D) {Z : Nat → Int32} {c : Bool} (hZ : h (ba k) = some (z_az G 7 Z)) (e : h2 = z_up h (ba k) (z_az G 7 (va_up Z d (z_b c)))) :
    z_Dr G h2 b0 (va_up w (208 + 7 * k + d) (z_b c)) v R S D a lr er ls es lv ev ra sa va na ba ∧ z_fr (z_VA na ba S) h h2 := by
  have hf : z_fr (z_VA na ba S) h h2 := z_fr_up ⟨k, hk, Or.inr rfl⟩ e
  refine ⟨q.vw hf hR4 hS8 (fun j hj _ => va_upn (by omega)) fun j hj => ?_, hf⟩
  obtain ⟨q1, q2, q3, q4, F1, Z1, q5, q6, q7, q8, q9⟩ := q.2.2.2.2.2.2.2.2.1 j hj
  have hba : j ≠ k → ba j ≠ ba k := fun z z2 => z (q.2.2.2.2.2.2.2.2.2.2.2.2 j k hj hk z2)
  have hna : na j ≠ ba k := fun z => by rw [z, hZ] at q5; exact z_xLZ q5.symm
  have hva : va j ≠ ba k := z_neA q4 hZ
  refine ⟨q1, q2, q3, by rw [e, z_up_n hva]; exact q4, ?_⟩
  by_cases z : j = k
  · subst z
    rw [hZ] at q6
    cases q6
    refine ⟨F1, va_up Z d (z_b c), by rw [e, z_up_n hna]; exact q5, by rw [e, z_up_s], q7, fun d' hd' => ?_, fun i hi => ?_⟩
    · by_cases z2 : d' = d
      · rw [z2, va_ups, tw_st_up]
      · rw [va_upn z2, z_st_up_ne (by omega)]
        exact q8 d' hd'
    · unfold va_up
      split
      · exact ⟨c, rfl⟩
      · exact q9 i hi
  · refine ⟨F1, Z1, by rw [e, z_up_n hna]; exact q5, by rw [e, z_up_n (hba z)]; exact q6, q7, fun d' hd' => ?_, q9⟩
    rw [z_st_up_ne (by omega)]
    exact q8 d' hd'
/-- the lane's own fields are written -/
theorem z_Dr.fld {G : zG} {h h2 : zH} {b0 : Nat} {w : Nat → Int32} {v : Nat → Int64} {R S D a lr er ls es lv ev : Nat} {ra sa va na ba : Nat → Nat} {w' : Nat → Int32} (q : z_Dr G h b0 w v R S D a lr er ls es lv ev ra sa va na ba) (hR4 : R ≤ 40) (hS8 : S ≤ 8) (hw : ∀ j, 16 ≤ j → w' j = w j) (e : h2 = z_up h a (.inr (1, [.ref lr, .ref ls, .ref lv, .int (nI D), .int (w' 2), .int (w' 4), .int (w' 5), .int (w' 6)]))) :
    z_Dr G h2 b0 w' v R S D a lr er ls es lv ev ra sa va na ba := by
  obtain ⟨⟨h0, h1⟩, ⟨a1, a2, N1, m1, f1, a3, a4, a5⟩, ⟨b1, b2, N2, m2, f2, b3, b4, b5⟩, ⟨c1, c2, N3, m3, f3, c3, c4, c5⟩, q5, q5b, q6, q7, q8, q9⟩ := q
  have nO : ∀ {y ci fs}, h y = some (.inr (ci, fs)) → ci ≠ 1 → h2 y = some (.inr (ci, fs)) := fun {y ci fs} hy hc => by
    rw [e, z_up_n (fun z => by rw [z, h1] at hy; cases hy; exact hc rfl)]; exact hy
  have nA : ∀ {y x}, h y = some (.inl x) → h2 y = some (.inl x) := fun {y x} hy => by
    rw [e, z_up_n (fun z => by rw [z, h1] at hy; cases hy)]; exact hy
  refine ⟨⟨h0, by rw [e, z_up_s]⟩, ⟨a1, a2, N1, m1, f1, nO a3 (by decide), nA a4, a5⟩, ⟨b1, b2, N2, m2, f2, nO b3 (by decide), nA b4, b5⟩, ⟨c1, c2, N3, m3, f3, nO c3 (by decide), nA c4, c5⟩, q5, q5b, fun p hp => ?_, fun k hk => ?_, fun k hk => ?_, q9⟩
  · have := q6 p hp
    unfold z_Rw at this ⊢
    rw [hw _ (by omega), hw _ (by omega), hw _ (by omega), hw _ (by omega)]
    exact nO this (by decide)
  · refine ((q7 k hk).frS fun y ci fs hy hc => nO hy (by omega)).w fun o ho => (hw _ (by omega)).symm
  · obtain ⟨z1, z2, z3, z4, F, Z, z5, z6, z7, z8, z9⟩ := q8 k hk
    refine ⟨z1, z2, z3, nO z4 (by decide), F, Z, nA z5, nA z6, z7, fun d hd => ?_, z9⟩
    rw [z8 d hd, z_st_0 (hw _ (by omega))]
/-- only what is looked at counts -/
theorem z_Dr.cg {G : zG} {h : zH} {b0 : Nat} {w : Nat → Int32} {v : Nat → Int64} {R S D a lr er ls es lv ev : Nat} {ra sa va na ba : Nat → Nat} {w' : Nat → Int32} {v' : Nat → Int64} (q : z_Dr G h b0 w v R S D a lr er ls es lv ev ra sa va na ba) (hR4 : R ≤ 40) (hS8 : S ≤ 8) (hw : ∀ j, j < 208 → (j ≠ 0 ∧ j ≠ 1 ∧ j ≠ 3) → w' j = w j) (hv : ∀ k, k < S → ∀ d, d ≤ D → tw_st w' k d = tw_st w k d ∧ ∀ g, g < 5 → v' (5 * (7 * k + d) + g) = v (5 * (7 * k + d) + g)) : z_Dr G h b0 w' v' R S D a lr er ls es lv ev ra sa va na ba :=
  q.vw z_fr_r hR4 hS8 hw fun k hk => by
    obtain ⟨z1, z2, z3, z4, F, Z, z5, z6, z7, z8, z9⟩ := q.2.2.2.2.2.2.2.2.1 k hk
    exact ⟨z1, z2, z3, z4, F, Z, z5, z6, fun d hd g hg => by rw [z7 d hd g hg, (hv k hk d hd).2 g hg], fun d hd => by rw [z8 d hd, (hv k hk d hd).1], z9⟩
theorem z_Dr.vb {G : zG} {h : zH} {b0 : Nat} {w : Nat → Int32} {v : Nat → Int64} {R S D a lr er ls es lv ev : Nat} {ra sa va na ba : Nat → Nat} (q : z_Dr G h b0 w v R S D a lr er ls es lv ev ra sa va na ba) : ∀ y, z_VA na ba S y → b0 ≤ y := by
  rintro y ⟨k, hk, e⟩
  obtain ⟨-, q1, q2, -⟩ := q.2.2.2.2.2.2.2.2.1 k hk
  rcases e with e | e
  · rw [e]; exact q1
  · rw [e]; exact q2
/-- the kinds of cells that a lane is made of, exactly -/
def z_lnj : va_E → Prop
  | .inl (_, N, .inl _) => N = 7
  | .inl (_, N, .inr (.inl _)) => N = 35
  | .inl (_, N, .inr (.inr (.inr (.inr _)))) => N ≠ 17
  | .inl _ => False
  | .inr o => o.1 = 1 ∨ o.1 = 3 ∨ o.1 = 6 ∨ o.1 = 20 ∨ (8 ≤ o.1 ∧ o.1 ≤ 13)
/-- what lies below b0, or is of no lane's kind, is kept -/
def z_fb (b0 : Nat) (h h2 : zH) : Prop := ∀ y c, h y = some c → (b0 ≤ y → ¬ z_lnj c) → h2 y = some c
theorem z_fb.t {b0 : Nat} {h h1 h2 : zH} (a : z_fb b0 h h1) (b : z_fb b0 h1 h2) : z_fb b0 h h2 := fun y c q l => b y c (a y c q l) l
theorem z_ex.fb {b0 : Nat} {h h2 : zH} (e : z_ex h h2) : z_fb b0 h h2 := fun y c q _ => e y c q
theorem z_fbW {b0 : Nat} {h h1 h2 : zH} {n0 b : Nat} {c : va_E} (d : z_dm h n0) (hb : n0 ≤ b) (e : h2 = z_up h1 b c) (a : z_fb b0 h h1) : z_fb b0 h h2 := fun x y q l => by
  have h1 := d x y q
  rw [e, z_up_n (by omega)]
  exact a x y q l
theorem z_fb_up {b0 : Nat} {h h2 : zH} {t : Nat} {c o : va_E} (h1 : h t = some o) (ho : z_lnj o) (ht : b0 ≤ t) (e : h2 = z_up h t c) : z_fb b0 h h2 := fun y c0 q l => by
  rw [e, z_up_n (fun z => by rw [z, h1] at q; cases q; exact l (z ▸ ht) ho)]
  exact q
theorem z_fr.fb {P : Nat → Prop} {b0 : Nat} {h h2 : zH} (f : z_fr P h h2) (hP : ∀ y c, P y → h y = some c → b0 ≤ y ∧ z_lnj c) : z_fb b0 h h2 := fun y c q l => f y c q (fun z => l (hP y c z q).1 (hP y c z q).2)
theorem z_fbL1 {G : zG} {b0 : Nat} {h h2 : zH} {a e N : Nat} {l : List Value} {x : Nat → Option Nat} (ha : h a = some (.inr (20, l))) (he : h e = some (z_ao G N x)) (hN : N ≠ 17) (hb : b0 ≤ a) (f : z_fr (fun y => y = a ∨ (y = e ∧ b0 ≤ y)) h h2) : z_fb b0 h h2 := f.fb fun y c z q => by
  rcases z with z | ⟨z, z2⟩
  · rw [z, ha] at q; cases q; exact ⟨z ▸ hb, Or.inr (Or.inr (Or.inr (Or.inl rfl)))⟩
  · rw [z, he] at q; cases q; exact ⟨z2, hN⟩
theorem z_fbL2 {G : zG} {b0 : Nat} {h h2 : zH} {a e N : Nat} {l : List Value} {x : Nat → Option Nat} (ha : h a = some (.inr (20, l))) (he : h e = some (z_ao G N x)) (hN : N ≠ 17) (hb : b0 ≤ a) (hb2 : b0 ≤ e) (f : z_fr (fun y => y = a ∨ y = e) h h2) : z_fb b0 h h2 := f.fb fun y c z q => by
  rcases z with z | z
  · rw [z, ha] at q; cases q; exact ⟨z ▸ hb, Or.inr (Or.inr (Or.inr (Or.inl rfl)))⟩
  · rw [z, he] at q; cases q; exact ⟨z ▸ hb2, hN⟩
theorem z_Dr.vj {G : zG} {h : zH} {b0 : Nat} {w : Nat → Int32} {v : Nat → Int64} {R S D a lr er ls es lv ev : Nat} {ra sa va na ba : Nat → Nat} (q : z_Dr G h b0 w v R S D a lr er ls es lv ev ra sa va na ba) : ∀ y c, z_VA na ba S y → h y = some c → b0 ≤ y ∧ z_lnj c := by
  rintro y c ⟨k, hk, e⟩ hc
  obtain ⟨-, q1, q2, -, F, Z, q3, q4, -⟩ := q.2.2.2.2.2.2.2.2.1 k hk
  rcases e with e | e
  · rw [e, q3] at hc; cases hc; exact ⟨e ▸ q1, rfl⟩
  · rw [e, q4] at hc; cases hc; exact ⟨e ▸ q2, rfl⟩
theorem z_Dr.vfb {G : zG} {h h2 : zH} {b0 : Nat} {w : Nat → Int32} {v : Nat → Int64} {R S D a lr er ls es lv ev : Nat} {ra sa va na ba : Nat → Nat} (q : z_Dr G h b0 w v R S D a lr er ls es lv ev ra sa va na ba) (f : z_fr (z_VA na ba S) h h2) : z_fb b0 h h2 := f.fb q.vj
theorem z_Dr.cfb {G : zG} {h h2 : zH} {b0 : Nat} {w : Nat → Int32} {v : Nat → Int64} {R S D a lr er ls es lv ev : Nat} {ra sa va na ba : Nat → Nat} (q : z_Dr G h b0 w v R S D a lr er ls es lv ev ra sa va na ba) (f : z_fr (fun y => y = a ∨ z_VA na ba S y) h h2) : z_fb b0 h h2 := f.fb fun y c z hc => by
  rcases z with z | z
  · have h1 := q.1
    rw [z, h1.2] at hc; cases hc; exact ⟨z ▸ h1.1, Or.inl rfl⟩
  · exact q.vj y c z hc
/-- as many days as one likes: the views tell all -/
theorem z_Dr.own {G : zG} {h h2 : zH} {b0 : Nat} {w : Nat → Int32} {v : Nat → Int64} {R S D a lr er ls es lv ev : Nat} {ra sa va na ba : Nat → Nat} {D' : Nat} (q : z_Dr G h b0 w v R S D a lr er ls es lv ev ra sa va na ba) (hR4 : R ≤ 40) (hS8 : S ≤ 8) (hD6 : D' ≤ 6) (hDD : D ≤ D') (e : h2 = z_up h a (.inr (1, [.ref lr, .ref ls, .ref lv, .int (nI D'), .int (w 2), .int (w 4), .int (w 5), .int (w 6)]))) :
    ∃ w1 v1, z_Dr G h2 b0 w1 v1 R S D' a lr er ls es lv ev ra sa va na ba ∧ (∀ j, j < 208 → (j ≠ 0 ∧ j ≠ 1 ∧ j ≠ 3) → w1 j = w j) ∧ ∀ k, k < S → ∀ d, d ≤ D → tw_st w1 k d = tw_st w k d ∧ ∀ g, g < 5 → v1 (5 * (7 * k + d) + g) = v (5 * (7 * k + d) + g) := by
  have hV := q.2.2.2.2.2.2.2.2.1
  have hV2 : ∀ k, ∃ (F : Nat → Int64) (Z : Nat → Int32), k < S → h (na k) = some (z_al G 35 F) ∧ h (ba k) = some (z_az G 7 Z) ∧ (∀ d, d ≤ D → ∀ g, g < 5 → F (5 * d + g) = v (5 * (7 * k + d) + g)) ∧ (∀ d, d ≤ D → Z d = z_b (tw_st w k d)) ∧ ∀ i, i < 7 → ∃ b9, Z i = z_b b9 := fun k => by
    by_cases hk : k < S
    · obtain ⟨-, -, -, -, F, Z, z5⟩ := hV k hk
      exact ⟨F, Z, fun _ => z5⟩
    · exact ⟨fun _ => 0, fun _ => 0, fun z => absurd z hk⟩
  obtain ⟨F, hF⟩ := Classical.axiomOfChoice hV2
  obtain ⟨Z, hZ⟩ := Classical.axiomOfChoice hF
  have hw1 : ∀ j, j < 208 → (fun j => if j < 208 then w j else Z ((j - 208) / 7) ((j - 208) % 7)) j = w j := fun j hj => if_pos hj
  have hst : ∀ k, k < S → ∀ d, d < 7 → z_b (tw_st (fun j => if j < 208 then w j else Z ((j - 208) / 7) ((j - 208) % 7)) k d) = Z k d := fun k hk d hd => by
    obtain ⟨-, -, -, -, z9⟩ := hZ k hk
    obtain ⟨b9, hb9⟩ := z9 d hd
    unfold tw_st
    show z_b (decide ((if 208 + 7 * k + d < 208 then w (208 + 7 * k + d) else Z ((208 + 7 * k + d - 208) / 7) ((208 + 7 * k + d - 208) % 7)) = nI 1)) = _
    rw [if_neg (by omega), show (208 + 7 * k + d - 208) / 7 = k by omega, show (208 + 7 * k + d - 208) % 7 = d by omega, hb9]
    cases b9 <;> decide
  have zbi : ∀ x y : Bool, z_b x = z_b y → x = y := fun x y h => by cases x <;> cases y <;> first | rfl | exact absurd h (by decide)
  refine ⟨fun j => if j < 208 then w j else Z ((j - 208) / 7) ((j - 208) % 7), fun x => F (x / 35) (x % 35), ?_, fun j hj _ => hw1 j hj, fun k hk d hd => ?_⟩
  · have q1 : z_Dr G h b0 (fun j => if j < 208 then w j else Z ((j - 208) / 7) ((j - 208) % 7)) (fun x => F (x / 35) (x % 35)) R S D a lr er ls es lv ev ra sa va na ba := q.cg hR4 hS8 (fun j hj _ => hw1 j hj) fun k hk d hd => by
      obtain ⟨-, -, z3, z4, -⟩ := hZ k hk
      refine ⟨zbi _ _ (by rw [hst k hk d (by omega), z4 d hd]), fun g hg => ?_⟩
      show F ((5 * (7 * k + d) + g) / 35) ((5 * (7 * k + d) + g) % 35) = _
      rw [show (5 * (7 * k + d) + g) / 35 = k by omega, show (5 * (7 * k + d) + g) % 35 = 5 * d + g by omega, z3 d hd g hg]
    have nO : ∀ {y ci fs}, h y = some (.inr (ci, fs)) → ci ≠ 1 → h2 y = some (.inr (ci, fs)) := fun {y ci fs} hy hc => by
      rw [e, z_up_n (fun z => by rw [z, q.1.2] at hy; cases hy; exact hc rfl)]; exact hy
    have nA : ∀ {y x}, h y = some (.inl x) → h2 y = some (.inl x) := fun {y x} hy => by
      rw [e, z_up_n (fun z => by rw [z, q.1.2] at hy; cases hy)]; exact hy
    obtain ⟨⟨h0, h1⟩, ⟨a1, a2, N1, m1, f1, a3, a4, a5⟩, ⟨b1, b2, N2, m2, f2, b3, b4, b5⟩, ⟨c1, c2, N3, m3, f3, c3, c4, c5⟩, q5, q5b, q6, q7, q8, q9⟩ := q1
    refine ⟨⟨h0, by rw [e, z_up_s]; rfl⟩, ⟨a1, a2, N1, m1, f1, nO a3 (by decide), nA a4, a5⟩, ⟨b1, b2, N2, m2, f2, nO b3 (by decide), nA b4, b5⟩, ⟨c1, c2, N3, m3, f3, nO c3 (by decide), nA c4, c5⟩, q5, q5b, fun p hp => nO (q6 p hp) (by decide), fun k hk => (q7 k hk).frS fun y ci fs hy hc => nO hy (by omega), fun k hk => ?_, q9⟩
    obtain ⟨z1, z2, z3, z4, -⟩ := q8 k hk
    obtain ⟨y1, y2, y3, y4, y5⟩ := hZ k hk
    refine ⟨z1, z2, z3, nO z4 (by decide), F k, Z k, nA y1, nA y2, fun d hd g hg => ?_, fun d hd => (hst k hk d (by omega)).symm, y5⟩
    show _ = F ((5 * (7 * k + d) + g) / 35) ((5 * (7 * k + d) + g) % 35)
    rw [show (5 * (7 * k + d) + g) / 35 = k by omega, show (5 * (7 * k + d) + g) % 35 = 5 * d + g by omega]
  · obtain ⟨-, -, z3, z4, -⟩ := hZ k hk
    refine ⟨zbi _ _ (by rw [hst k hk d (by omega), z4 d hd]), fun g hg => ?_⟩
    show F ((5 * (7 * k + d) + g) / 35) ((5 * (7 * k + d) + g) % 35) = _
    rw [show (5 * (7 * k + d) + g) / 35 = k by omega, show (5 * (7 * k + d) + g) % 35 = 5 * d + g by omega, z3 d hd g hg]

