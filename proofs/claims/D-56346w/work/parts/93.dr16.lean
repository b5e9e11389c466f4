theorem z_obj.fr {h h2 : zH} {x : Nat} {P : Nat → Prop} (q : z_obj h x) (f : z_fr P h h2) (hx : ¬ P x) : z_obj h2 x := by
  obtain ⟨ci, fs, r, q1, q2⟩ := q
  exact ⟨ci, fs, r, f _ _ q1 hx, q2⟩
theorem z_obj.lt {h : zH} {x n : Nat} (q : z_obj h x) (d : z_dm h n) : x < n := by
  obtain ⟨ci, fs, r, q1, q2⟩ := q
  exact d _ _ q1
theorem z_frL {P Q : Nat → Prop} {h h1 h2 : zH} {n : Nat} (d : z_dm h n) (a : z_fr P h h1) (b : z_fr Q h1 h2) (hq : ∀ y, Q y → n ≤ y) : z_fr P h h2 := fun y c q l => b y c (a y c q l) fun z => by
  have := d y c q
  have := hq y z
  omega
theorem z_Vw.va {G : zG} {h : zH} {w : Nat → Int32} {v : Nat → Int64} {D : Nat} {va : Nat → Nat} {k : Nat} (q : z_Vw G h w v D va k) : z_obj h (va k) := by
  obtain ⟨e1, e2, F, Z, q1, -⟩ := q
  exact ⟨3, _, _, q1, zc3, q3309⟩
theorem z_Vx.fr {G : zG} {h h2 : zH} {b0 : Nat} {w : Nat → Int32} {v : Nat → Int64} {D : Nat} {va na ba : Nat → Nat} {k : Nat} {P : Nat → Prop} (q : z_Vx G h b0 w v D va na ba k) (f : z_fr P h h2) (hv : ¬ P (va k)) (hn : ¬ P (na k)) (hb : ¬ P (ba k)) : z_Vx G h2 b0 w v D va na ba k := by
  obtain ⟨q1, q2, q3, q4, F, Z, q5, q6, q7⟩ := q
  exact ⟨q1, q2, q3, f _ _ q4 hv, F, Z, f _ _ q5 hn, f _ _ q6 hb, q7⟩
theorem z_Vx.ob {G : zG} {h : zH} {b0 : Nat} {w : Nat → Int32} {v : Nat → Int64} {D : Nat} {va na ba : Nat → Nat} {k : Nat} (q : z_Vx G h b0 w v D va na ba k) : z_obj h (va k) := ⟨3, _, _, q.2.2.2.1, zc3, q3309⟩
/-- the copies of the views stay when a list grows -/
theorem z_Vx.nx {G : zG} {h h2 : zH} {b0 : Nat} {w : Nat → Int32} {v : Nat → Int64} {D : Nat} {va na ba : Nat → Nat} {k a2 e2 k2 : Nat} {g2 : Nat → Nat} (q : z_Vx G h b0 w v D va na ba k) (q2 : z_Lx G h b0 a2 e2 k2 g2) (f : z_fr (fun y => y = a2 ∨ (y = e2 ∧ b0 ≤ y)) h h2) : z_Vx G h2 b0 w v D va na ba k := by
  obtain ⟨m8, h4⟩ := q2.o
  obtain ⟨N2, f2, h5⟩ := q2.ar
  obtain ⟨-, -, -, q4, F, Z, q5, q6, -⟩ := id q
  refine q.fr f (fun z => ?_) (fun z => ?_) (fun z => ?_)
  · rcases z with z | z
    · exact z_neO q4 h4 rfl z
    · exact z_neA q4 h5 z.1
  · rcases z with z | z
    · exact z_neA' q5 h4 z
    · exact z_neXlo q5 h5 z.1
  · rcases z with z | z
    · exact z_neA' q6 h4 z
    · exact z_neXzo q6 h5 z.1
theorem z_Vx.it {G : zG} {h h2 : zH} {b0 : Nat} {w : Nat → Int32} {v : Nat → Int64} {D : Nat} {va na ba : Nat → Nat} {k : Nat} (q : z_Vx G h b0 w v D va na ba k) (e : z_kp h h2) : z_Vx G h2 b0 w v D va na ba k := q.kp e
/-- a view is copied -/
theorem z_Vx_new {G : zG} {h h2 : zH} {b0 n k : Nat} {w : Nat → Int32} {v : Nat → Int64} {D : Nat} {va na ba : Nat → Nat} {F : Nat → Int64} {Z : Nat → Int32} (hbn : b0 ≤ n) (hD6 : D ≤ 6) (e : h2 = z_up (z_up (z_up h n (.inr (3, [.ref (n + 1), .ref (n + 2)]))) (n + 1) (z_al G 35 (va_cpy F (fun _ => 0) 0 0 35))) (n + 2) (z_az G 7 (va_cpy Z (fun _ => 0) 0 0 7)))
    (hF : ∀ d, d ≤ D → ∀ g, g < 5 → F (5 * d + g) = v (5 * (7 * k + d) + g)) (hZ : ∀ d, d ≤ D → Z d = z_b (tw_st w k d)) (hZb : ∀ i, i < 7 → ∃ b9, Z i = z_b b9) : z_Vx G h2 b0 w v D (va_up va k n) (va_up na k (n + 1)) (va_up ba k (n + 2)) k := by
  have e35 : ∀ i, i < 35 → va_cpy F (fun _ => 0) 0 0 35 i = F i := fun i hi => by
    unfold va_cpy
    rw [if_pos (by omega)]
    exact congrArg F (by omega)
  have e7 : ∀ i, i < 7 → va_cpy Z (fun _ => 0) 0 0 7 i = Z i := fun i hi => by
    unfold va_cpy
    rw [if_pos (by omega)]
    exact congrArg Z (by omega)
  unfold z_Vx
  rw [va_ups, va_ups, va_ups]
  refine ⟨hbn, by omega, by omega, ?_, va_cpy F (fun _ => 0) 0 0 35, va_cpy Z (fun _ => 0) 0 0 7, ?_, by rw [e, z_up_s], fun d hd g hg => by rw [e35 _ (by omega), hF d hd g hg], fun d hd => by rw [e7 _ (by omega), hZ d hd], fun i hi => by rw [e7 i hi]; exact hZb i hi⟩
  · rw [e, z_up_n (by omega), z_up_n (by omega), z_up_s]
  · rw [e, z_up_n (by omega), z_up_s]
theorem z_up3y {h h2 : zH} {n : Nat} {e1 e2 e3 : va_E} (d : z_dm h n) (e : h2 = z_up (z_up (z_up h n e1) (n + 1) e2) (n + 2) e3) : z_ex h h2 := fun y c q => by
  have := d y c q
  rw [e, z_up_n (by omega), z_up_n (by omega), z_up_n (by omega)]; exact q
theorem z_ij_up {f : Nat → Nat} {k t : Nat} (hij : z_ij f k) (hne : ∀ i, i < k → f i ≠ t) : z_ij (va_up f k t) (k + 1) := fun i j hi hj e => by
  unfold va_up at e
  by_cases zi : i = k
  · by_cases zj : j = k
    · omega
    · rw [if_pos zi, if_neg zj] at e; exact absurd e.symm (hne j (by omega))
  · by_cases zj : j = k
    · rw [if_neg zi, if_pos zj] at e; exact absurd e (hne i (by omega))
    · rw [if_neg zi, if_neg zj] at e; exact hij i j (by omega) (by omega) e
theorem z_Vx.ft {G : zG} {h h2 : zH} {b0 t : Nat} {w : Nat → Int32} {v : Nat → Int64} {D : Nat} {va na ba : Nat → Nat} {k : Nat} {fs : List Value} (q : z_Vx G h b0 w v D va na ba k) (ht : h t = some (.inr (1, fs))) (f : z_fr (fun y => y = t) h h2) : z_Vx G h2 b0 w v D va na ba k := by
  obtain ⟨-, -, -, q4, F, Z, q5, q6, -⟩ := id q
  exact q.fr f (z_neO q4 ht rfl) (z_neA' q5 ht) (z_neA' q6 ht)
theorem z_Vx.c {G : zG} {h : zH} {b0 : Nat} {w : Nat → Int32} {v : Nat → Int64} {D : Nat} {va na ba va' na' ba' : Nat → Nat} {k : Nat} (q : z_Vx G h b0 w v D va na ba k) (h1 : va' k = va k) (h2 : na' k = na k) (h3 : ba' k = ba k) : z_Vx G h b0 w v D va' na' ba' k := by
  unfold z_Vx at q ⊢
  rw [h1, h2, h3]; exact q

