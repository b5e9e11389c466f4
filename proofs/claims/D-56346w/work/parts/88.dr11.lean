theorem z_Sp.o {h : zH} {w : Nat → Int32} {sa : Nat → Nat} {k : Nat} (q : z_Sp h w sa k) : z_obj h (sa k) ∧ ∃ ci fs, h (sa k) = some (.inr (ci, fs)) ∧ 8 ≤ ci ∧ ci ≤ 13 := by
  rcases q with ⟨-, q⟩ | ⟨-, q⟩ | ⟨-, q⟩ | ⟨-, -, -, q⟩ | ⟨-, -, -, q⟩ | ⟨-, -, -, q⟩ | ⟨-, -, -, q⟩
  · exact ⟨⟨8, _, _, q, zc8, q3318⟩, _, _, q, by omega, by omega⟩
  · exact ⟨⟨9, _, _, q, zc9, q3319⟩, _, _, q, by omega, by omega⟩
  · exact ⟨⟨10, _, _, q, zc10, q3320⟩, _, _, q, by omega, by omega⟩
  · exact ⟨⟨11, _, _, q, zc11, q3322⟩, _, _, q, by omega, by omega⟩
  · exact ⟨⟨11, _, _, q, zc11, q3322⟩, _, _, q, by omega, by omega⟩
  · exact ⟨⟨12, _, _, q, zc12, q3323⟩, _, _, q, by omega, by omega⟩
  · exact ⟨⟨13, _, _, q, zc13, q3324⟩, _, _, q, by omega, by omega⟩
theorem z_Lx.fr {G : zG} {h h2 : zH} {b0 a e k : Nat} {g : Nat → Nat} {P : Nat → Prop} (q : z_Lx G h b0 a e k g) (hf : z_fr P h h2) (ha : ¬ P a) (he : ¬ P e) : z_Lx G h2 b0 a e k g := by
  obtain ⟨q1, q2, N, m9, f, h1, h2, h3⟩ := q
  exact ⟨q1, q2, N, m9, f, hf _ _ h1 ha, hf _ _ h2 he, h3⟩
theorem z_Sp.c {h : zH} {w : Nat → Int32} {sa sa' : Nat → Nat} {k : Nat} (q : z_Sp h w sa k) (hs : ∀ j, j ≤ k → sa' j = sa j) : z_Sp h w sa' k := by
  rcases q with ⟨q1, q⟩ | ⟨q1, q⟩ | ⟨q1, q⟩ | ⟨q1, q2, q3, q⟩ | ⟨q1, q2, q3, q⟩ | ⟨q1, q2, q3, q⟩ | ⟨q1, q2, q3, q⟩
  · exact Or.inl ⟨q1, by rw [hs k (Nat.le_refl _)]; exact q⟩
  · exact Or.inr (Or.inl ⟨q1, by rw [hs k (Nat.le_refl _)]; exact q⟩)
  · exact Or.inr (Or.inr (Or.inl ⟨q1, by rw [hs k (Nat.le_refl _)]; exact q⟩))
  · exact Or.inr (Or.inr (Or.inr (Or.inl ⟨q1, q2, q3, by rw [hs k (Nat.le_refl _), hs _ (Nat.le_of_lt q2), hs _ (Nat.le_of_lt q3)]; exact q⟩)))
  · exact Or.inr (Or.inr (Or.inr (Or.inr (Or.inl ⟨q1, q2, q3, by rw [hs k (Nat.le_refl _), hs _ (Nat.le_of_lt q2), hs _ (Nat.le_of_lt q3)]; exact q⟩))))
  · exact Or.inr (Or.inr (Or.inr (Or.inr (Or.inr (Or.inl ⟨q1, q2, q3, by rw [hs k (Nat.le_refl _), hs _ (Nat.le_of_lt q2)]; exact q⟩)))))
  · exact Or.inr (Or.inr (Or.inr (Or.inr (Or.inr (Or.inr ⟨q1, q2, q3, by rw [hs k (Nat.le_refl _), hs _ (Nat.le_of_lt q2)]; exact q⟩)))))
theorem z_Sp.ne {h : zH} {w : Nat → Int32} {sa : Nat → Nat} {k y c : Nat} {fs : List Value} (q : z_Sp h w sa k) (hy : h y = some (.inr (c, fs))) (hc : c < 8 ∨ 13 < c) : sa k ≠ y := fun z => by
  obtain ⟨-, ci, fs2, q1, q2, q3⟩ := q.o
  rw [z, hy] at q1
  cases q1
  omega
theorem z_up3x {h h2 : zH} {n t y : Nat} {c e1 e2 e3 : va_E} (e : h2 = z_up (z_up (z_up h n e1) (n + 1) e2) t e3) (hy : h y = some c) (hn : y < n) (ht : y ≠ t) : h2 y = some c := by
  rw [e, z_up_n ht, z_up_n (by omega), z_up_n (by omega)]; exact hy
theorem z_fr3 {h h2 : zH} {n t : Nat} {e1 e2 e3 : va_E} (d : z_dm h n) (e : h2 = z_up (z_up (z_up h n e1) (n + 1) e2) t e3) : z_fr (fun y => y = t) h h2 := fun y c hy l => z_up3x e hy (d _ _ hy) l
def z_PA (b0 ls es lv ev : Nat) (y : Nat) : Prop := (y = ls ∨ y = lv) ∨ (y = es ∧ b0 ≤ y) ∨ (y = ev ∧ b0 ≤ y)
/-- a step and its view come -/
theorem z_Dr.addS {G : zG} {h h2 : zH} {b0 : Nat} {w : Nat → Int32} {v : Nat → Int64} {R S D a lr er ls es lv ev : Nat} {ra sa va na ba : Nat → Nat} {n es2 ev2 x y n1 n2 i j : Nat} {kd bd : Int32} (q : z_Dr G h b0 w v R S D a lr er ls es lv ev ra sa va na ba) (hR4 : R ≤ 40) (hS7 : S < 8) (hD6 : D ≤ 6) (hd : z_dm h n) (hb : b0 ≤ n)
    (hl1 : z_Lx G h2 b0 ls es2 (S + 1) (va_up sa S x)) (he1 : es2 = es ∨ n ≤ es2) (hl2 : z_Lx G h2 b0 lv ev2 (S + 1) (va_up va S y)) (he2 : ev2 = ev ∨ n ≤ ev2) (hee : es2 ≠ ev2) (hf : z_fr (z_PA b0 ls es lv ev) h h2)
    (hy : h2 y = some (.inr (3, [.ref n1, .ref n2]))) (hn1 : h2 n1 = some (z_al G 35 (fun _ => 0))) (hn2 : h2 n2 = some (z_az G 7 (fun _ => 0))) (hny : n ≤ y ∧ n ≤ n1 ∧ n ≤ n2) (hx : ∀ k, k < S → sa k ≠ x) (hsp : z_Sp h (tw_nst w S kd bd i j) (va_up sa S x) S) :
    ∃ w1 v1, z_Dr G h2 b0 w1 v1 R (S + 1) D a lr er ls es2 lv ev2 ra (va_up sa S x) (va_up va S y) (va_up na S n1) (va_up ba S n2) ∧ z_ag w1 (tw_nst w S kd bd i j) v1 v (S + 1) D (fun k _ => k = S) := by
  obtain ⟨⟨h0, h1⟩, ⟨a1, a2, N1, m1, f1, a3, a4, a5⟩, ⟨b1, b2, N2, m2, f2, b3, b4, b5⟩, ⟨c1, c2, N3, m3, f3, c3, c4, c5⟩, q5, q5b, q6, q7, q8, i1, i2, i3, i4⟩ := q
  have nO : ∀ {y ci fs}, h y = some (.inr (ci, fs)) → ci ≠ 20 → h2 y = some (.inr (ci, fs)) := fun {y ci fs} hy hc => hf _ _ hy fun z => by
    rcases z with (z | z) | ⟨z, -⟩ | ⟨z, -⟩
    · rw [z, b3] at hy; cases hy; exact hc rfl
    · rw [z, c3] at hy; cases hy; exact hc rfl
    · rw [z, b4] at hy; cases hy
    · rw [z, c4] at hy; cases hy
  have hlr : h2 lr = some (.inr (20, [.int m1, .ref er, .int (nI R)])) := hf _ _ a3 fun z => by
    rcases z with (z | z) | ⟨z, -⟩ | ⟨z, -⟩
    · exact q5.1 z
    · exact q5.2.1 z
    · rw [z, b4] at a3; cases a3
    · rw [z, c4] at a3; cases a3
  have her : h2 er = some (z_ao G N1 f1) := hf _ _ a4 fun z => by
    rcases z with (z | z) | ⟨z, zb⟩ | ⟨z, zb⟩
    · rw [z, b3] at a4; cases a4
    · rw [z, c3] at a4; cases a4
    · exact (q5b.1 zb).1 z
    · exact (q5b.1 zb).2 z
  have nA : ∀ {y N} {F : Nat → Int64}, h y = some (z_al G N F) → h2 y = some (z_al G N F) := fun {y N F} hy => hf _ _ hy fun z => by
    rcases z with (z | z) | ⟨z, -⟩ | ⟨z, -⟩
    · rw [z, b3] at hy; cases hy
    · rw [z, c3] at hy; cases hy
    · exact z_neXlo hy b4 z
    · exact z_neXlo hy c4 z
  have nZ : ∀ {y N} {F : Nat → Int32}, h y = some (z_az G N F) → h2 y = some (z_az G N F) := fun {y N F} hy => hf _ _ hy fun z => by
    rcases z with (z | z) | ⟨z, -⟩ | ⟨z, -⟩
    · rw [z, b3] at hy; cases hy
    · rw [z, c3] at hy; cases hy
    · exact z_neXzo hy b4 z
    · exact z_neXzo hy c4 z
  have der := hd _ _ a4
  have des := hd _ _ b4
  have dev := hd _ _ c4
  have hns : ∀ j9, j9 < 208 → (j9 < 176 + 4 * S ∨ 176 + 4 * S + 4 ≤ j9) → j9 ≠ 3 → (if 208 + 7 * S ≤ j9 ∧ j9 < 208 + 7 * S + 7 then (0 : Int32) else tw_nst w S kd bd i j j9) = w j9 := fun j9 z1 z2 z3 => by
    rw [if_neg (by omega), z_nst_at z2 z3]
  have hfl : ∀ k d, d < 7 → k ≠ S → tw_st (fun j9 => if 208 + 7 * S ≤ j9 ∧ j9 < 208 + 7 * S + 7 then (0 : Int32) else tw_nst w S kd bd i j j9) k d = tw_st w k d := fun k d hd hk => by
    unfold tw_st
    show decide ((if 208 + 7 * S ≤ 208 + 7 * k + d ∧ 208 + 7 * k + d < 208 + 7 * S + 7 then (0 : Int32) else tw_nst w S kd bd i j (208 + 7 * k + d)) = nI 1) = _
    rw [if_neg (by omega), z_nst_at (by omega) (by omega)]
  have hflS : ∀ d, d < 7 → tw_st (fun j9 => if 208 + 7 * S ≤ j9 ∧ j9 < 208 + 7 * S + 7 then (0 : Int32) else tw_nst w S kd bd i j j9) S d = false := fun d hd => by
    unfold tw_st
    show decide ((if 208 + 7 * S ≤ 208 + 7 * S + d ∧ 208 + 7 * S + d < 208 + 7 * S + 7 then (0 : Int32) else tw_nst w S kd bd i j (208 + 7 * S + d)) = nI 1) = _
    rw [if_pos (by omega)]
    decide
  have hva : ∀ k, k < S → na k < n ∧ ba k < n := fun k hk => by
    obtain ⟨-, -, -, -, F, Z, z5, z6, -⟩ := q8 k hk
    exact ⟨hd _ _ z5, hd _ _ z6⟩
  have inj : ∀ {f : Nat → Nat} {t : Nat}, z_ij f S → (∀ k, k < S → f k ≠ t) → z_ij (va_up f S t) (S + 1) := fun {f t} hij hne i j hi hj e => by
    unfold va_up at e
    by_cases zi : i = S
    · by_cases zj : j = S
      · omega
      · rw [if_pos zi, if_neg zj] at e; exact absurd e.symm (hne j (by omega))
    · by_cases zj : j = S
      · rw [if_neg zi, if_pos zj] at e; exact absurd e (hne i (by omega))
      · rw [if_neg zi, if_neg zj] at e; exact hij i j (by omega) (by omega) e
  refine ⟨fun j9 => if 208 + 7 * S ≤ j9 ∧ j9 < 208 + 7 * S + 7 then (0 : Int32) else tw_nst w S kd bd i j j9, fun t => if 35 * S ≤ t ∧ t < 35 * S + 35 then 0 else v t, ?_, ⟨fun j9 hj _ => if_neg (by omega), fun k hk d hd9 hn => ⟨?_, fun g hg => ?_⟩⟩⟩
  · refine ⟨⟨h0, ?_⟩, ⟨a1, a2, N1, m1, f1, hlr, her, a5⟩, hl1, hl2, q5, ⟨fun z => ⟨?_, ?_⟩, fun z => ⟨?_, hee⟩, fun z => ⟨?_, hee.symm⟩⟩, fun p hp => ?_, fun k hk => ?_, fun k hk => ?_, inj i1 hx, i2, inj i3 (fun k hk z => by have := (hva k hk).1; omega), inj i4 (fun k hk z => by have := (hva k hk).2; omega)⟩
    · dsimp only
      rw [hns 2 (by omega) (by omega) (by omega), hns 4 (by omega) (by omega) (by omega), hns 5 (by omega) (by omega) (by omega), hns 6 (by omega) (by omega) (by omega)]
      exact nO h1 (by decide)
    · rcases he1 with q | q
      · rw [q]; exact (q5b.1 z).1
      · omega
    · rcases he2 with q | q
      · rw [q]; exact (q5b.1 z).2
      · omega
    · rcases he1 with q | q
      · rw [q] at z ⊢; exact (q5b.2.1 z).1
      · omega
    · rcases he2 with q | q
      · rw [q] at z ⊢; exact (q5b.2.2 z).1
      · omega
    · have := q6 p hp
      unfold z_Rw at this ⊢
      dsimp only
      rw [hns (16 + 4 * p) (by omega) (by omega) (by omega), hns (16 + 4 * p + 1) (by omega) (by omega) (by omega), hns (16 + 4 * p + 2) (by omega) (by omega) (by omega), hns (16 + 4 * p + 3) (by omega) (by omega) (by omega)]
      exact nO this (by decide)
    · by_cases z : k = S
      · subst z
        exact (hsp.frS fun y ci fs hy hc => nO hy (by omega)).w fun o ho => (if_neg (by omega)).symm
      · refine (((q7 k (by omega)).frS fun y ci fs hy hc => nO hy (by omega)).w fun o ho => (hns _ (by omega) (by omega) (by omega)).symm).c fun j hj => va_upn (by omega)
    · by_cases z : k = S
      · subst z
        unfold z_Vx
        rw [va_ups, va_ups, va_ups]
        refine ⟨by omega, by omega, by omega, hy, _, _, hn1, hn2, fun d hd9 g hg => ?_, fun d hd9 => ?_, fun i9 _ => ⟨false, rfl⟩⟩
        · show (0 : Int64) = if 35 * k ≤ 5 * (7 * k + d) + g ∧ 5 * (7 * k + d) + g < 35 * k + 35 then 0 else v (5 * (7 * k + d) + g)
          rw [if_pos (by omega)]
        · rw [hflS d (by omega)]; rfl
      · obtain ⟨z1, z2, z3, z4, F, Z, z5, z6, z7, z8, z9⟩ := q8 k (by omega)
        unfold z_Vx
        rw [va_upn z, va_upn z, va_upn z]
        refine ⟨z1, z2, z3, nO z4 (by decide), F, Z, nA z5, nZ z6, fun d hd9 g hg => ?_, fun d hd9 => ?_, z9⟩
        · show _ = if 35 * S ≤ 5 * (7 * k + d) + g ∧ 5 * (7 * k + d) + g < 35 * S + 35 then 0 else v (5 * (7 * k + d) + g)
          rw [if_neg (by omega)]
          exact z7 d hd9 g hg
        · rw [hfl k d (by omega) z]; exact z8 d hd9
  · have e1 := hfl k d (by omega) hn
    rw [e1]
    unfold tw_st
    rw [z_nst_at (by omega) (by omega)]
  · exact if_neg (by omega)

