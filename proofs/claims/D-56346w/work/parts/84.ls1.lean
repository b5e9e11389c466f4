/-- more room than is wanted -/
theorem z_C.room {l : Launch} {G : zG} {y : MethodName} {r mc ms r' mc' ms' : Nat} {av : List Value} {h : zH} {n : Nat} {Q : zQ} (hr : r ≤ r') (hc : mc ≤ mc') (hs : ms ≤ ms') (C : z_C l G y r mc ms av h n Q) : z_C l G y r' mc' ms' av h n Q := by
  intro hfl p e a1 a2 a3 s m args below hf happ hP hK
  have happ' : (headSpec lw_all (z_rm r mc ms)).appliesLoose y e.platform s = true := by
    obtain ⟨b1, b2, b3, b4, b5, b6, b7, b8⟩ := (Spec.appliesLoose_iff hf).mp happ
    refine (Spec.appliesLoose_iff hf).mpr ⟨b1, b2, b3, b4, b5, b6, ?_, b8⟩
    have b9 : s.hasRoom e.platform (z_rm r' mc' ms') = true := b7
    show s.hasRoom e.platform (z_rm r mc ms) = true
    unfold State.hasRoom at b9 ⊢
    simp only [Bool.and_eq_true, decide_eq_true_eq] at b9 ⊢
    obtain ⟨⟨⟨⟨c1, c2, c3, c4, c5, c6⟩, c7⟩, c8⟩, c9⟩ := b9
    have d1 : (z_rm r mc ms).locals ≤ (z_rm r' mc' ms').locals := Nat.mul_le_mul_left 200 hr
    have d2 : (z_rm r mc ms).frames ≤ (z_rm r' mc' ms').frames := hr
    have d3 : (z_rm r mc ms).cells ≤ (z_rm r' mc' ms').cells := hc
    have d4 : (z_rm r mc ms).slots ≤ (z_rm r' mc' ms').slots := hs
    refine ⟨⟨⟨⟨?_, ?_, ?_, ?_, ?_, c6⟩, ?_⟩, ?_⟩, c9⟩ <;> omega
  obtain ⟨k, o, t, h1, h2, h3, h4, L, g3, g4, g5⟩ := C hfl p e a1 a2 a3 s m args below hf happ' hP hK
  exact ⟨k, o, t, h1, h2, h3, h4, L, g3, g4.mono hc hs, g5⟩
theorem z_C.dom {l : Launch} {G : zG} {y : MethodName} {r mc ms : Nat} {av : List Value} {h : zH} {n : Nat} {Q : zQ} (C : z_dm h n → z_C l G y r mc ms av h n Q) : z_C l G y r mc ms av h n Q := by
  intro hfl p e a1 a2 a3 s m args below hf happ hP hK
  have hd : z_dm h n := fun a e he => (hP.2.1.2.2.2.1 a e he).elim (fun g => hP.2.1.1 ▸ g.lt) (fun g => Nat.lt_of_lt_of_le (hP.2.2.2.2.2.1 a e g).1 hP.2.1.2.1)
  exact C hd hfl p e a1 a2 a3 s m args below hf happ hP hK
theorem z_upO {h : zH} {y x : Nat} {c e : va_E} (hy : h y = some c) (hne : y ≠ x) : z_up h x e y = some c := (z_up_n hne).trans hy
/-- an element comes to the end -/
theorem m_add {l : Launch} {G : zG} {h : zH} {n b0 a e k x : Nat} {g : Nat → Nat} (hb0 : z_n0 G ≤ b0) (q : z_Lx G h b0 a e k g) (hk : k < 49) (hx : z_obj h x) (hxa : x ≠ a) (hob : ∀ j, j < k → z_obj h (g j) ∧ g j ≠ a) :
    z_C l G yJ2_add 6 1 50 [.ref a, .ref x] h n (z_q1 (fun r9 h' _ => r9 = .int (nI 1) ∧ ∃ e', z_Lx G h' b0 a e' (k + 1) (va_up g k x) ∧ (e' = e ∨ n ≤ e') ∧ z_fr (fun y => y = a ∨ (y = e ∧ b0 ≤ y)) h h')) := by
  refine z_C.dom fun hd => ?_
  obtain ⟨qa, qe, N, m9, f, h1, h2, h3, h4, ⟨h5, h5b⟩, h6⟩ := q
  have hea : e ≠ a := (z_neA h1 h2).symm
  obtain ⟨ci9, fs9, r9, hx9, -⟩ := id hx
  have hxn := hd _ _ hx9
  have han := hd _ _ h1
  have hen := hd _ _ h2
  rcases Nat.lt_or_ge e b0 with he | he
  · obtain ⟨rfl, rfl⟩ : e = G.2.2.1 1002 ∧ k = 0 := by rcases qe with q | q; · omega
                                                       · exact q
    obtain rfl := h5b he
    refine (z_C.room (by omega) (by omega) (by omega) (m_J2_add_0 h1 h2 (by omega) han hen hx hxa hxn)).mono fun o h' n' ⟨z1, z2, z3⟩ => ⟨_, z1, rfl, n, ?_, Or.inr (Nat.le_refl _), ?_⟩
    · rw [z2]
      refine ⟨qa, Or.inl (by omega), 10, _, _, z_up_s, (z_up_n (Nat.ne_of_gt han)).trans z_up_s, by omega, Or.inr (Or.inl rfl), ⟨fun _ => Nat.le_refl _, fun z => by omega⟩, fun j hj => ?_⟩
      rw [show j = 0 by omega]
      unfold va_up
      rw [if_pos rfl, if_pos rfl]
    · intro y c hy hn
      rw [z2]
      exact z_upO (z_upO hy (Nat.ne_of_lt (hd _ _ hy))) fun z => hn (Or.inl z)
  · rcases Nat.lt_or_ge k N with hkN | hkN
    · refine (z_C.room (by omega) (by omega) (by omega) (m_J2_add_p h1 h2 (by omega) (by omega) hkN h4.le.1 hx hxa)).mono fun o h' n' ⟨z1, z2, z3⟩ => ⟨_, z1, rfl, e, ?_, Or.inl rfl, ?_⟩
      · rw [z2]
        refine ⟨qa, Or.inl he, N, _, _, z_up_s, (z_up_n hea).trans z_up_s, by omega, h4, ⟨h5, fun z => by omega⟩, fun j hj => ?_⟩
        unfold va_up
        by_cases z : j = k
        · rw [if_pos z, if_pos z]
        · rw [if_neg z, if_neg z]; exact h6 j (by omega)
      · intro y c hy hn
        rw [z2]
        exact z_upO (z_upO hy fun z => hn (Or.inr ⟨z, by omega⟩)) fun z => hn (Or.inl z)
    · obtain rfl : k = N := by omega
      have hN10 := h5 he
      have hN4 : k = 10 ∨ k = 15 ∨ k = 22 ∨ k = 33 := by unfold z_N at h4; omega
      refine (z_C.room (by omega) (by omega) (by omega) (m_J2_add_f h1 h2 (by omega) (by omega) han hen hN10 (by omega) (fun i hi y hy => ?_) hx hxa hxn (fun i hi y hy => ?_))).mono fun o h' n' ⟨z1, z2, z3⟩ => ⟨_, z1, rfl, n, ?_, Or.inr (Nat.le_refl _), ?_⟩
      · rw [h6 i hi] at hy
        cases hy
        obtain ⟨ho, -⟩ := hob i hi
        obtain ⟨_, _, _, ho2, -⟩ := id ho
        exact ⟨hd _ _ ho2, ho⟩
      · rw [h6 i hi] at hy
        cases hy
        exact (hob i hi).2
      · rw [z2]
        refine ⟨qa, Or.inl (by omega), k + k / 2, _, _, z_up_s, (z_up_n (Nat.ne_of_gt han)).trans z_up_s, by omega, ?_, ⟨fun _ => by omega, fun z => by omega⟩, fun j hj => ?_⟩
        · unfold z_N; omega
        · unfold va_up va_cpy
          by_cases z : j = k
          · rw [if_pos z, if_pos z]
          · rw [if_neg z, if_neg z, if_pos (by omega), show 0 + (j - 0) = j by omega]; exact h6 j (by omega)
      · intro y c hy hn
        rw [z2]
        exact z_upO (z_upO hy (Nat.ne_of_lt (hd _ _ hy))) fun z => hn (Or.inl z)
/-- what is left after the element i went -/
theorem z_Lx_rem {G : zG} {h h' : zH} {b0 a e k i N : Nat} {m8 : Int32} {f : Nat → Option Nat} {g : Nat → Nat} (qa : b0 ≤ a) (he : b0 ≤ e) (hea : e ≠ a) (hk : k ≤ N) (h4 : z_N N) (h5 : b0 ≤ e → 10 ≤ N) (h6 : ∀ j, j < k → f j = some (g j)) (hi : i < k) (e1 : h' = z_up (z_up h e (z_ao G N (va_up (va_cpy f f (i + 1) i (k - 1 - i)) (k - 1) none))) a (.inr (20, [.int m8, .ref e, .int (nI (k - 1))]))) : z_Lx G h' b0 a e (k - 1) (fun j => g (tw_sk i j)) ∧ z_fr (fun y => y = a ∨ y = e) h h' := by
  refine ⟨⟨qa, Or.inl he, N, m8, _, by rw [e1, z_up_s], by rw [e1, z_up_n hea, z_up_s], by omega, h4, ⟨h5, fun z => by omega⟩, fun j hj => ?_⟩, fun y c hy hn => ?_⟩
  · unfold va_up va_cpy tw_sk
    show (if j = k - 1 then none else if i ≤ j ∧ j < i + (k - 1 - i) then f (i + 1 + (j - i)) else f j) = some (g (if j < i then j else j + 1))
    rw [if_neg (by omega)]
    by_cases z : j < i
    · rw [if_neg (by omega), if_pos z, h6 j (by omega)]
    · rw [if_pos (by omega), if_neg z, show i + 1 + (j - i) = j + 1 by omega, h6 (j + 1) (by omega)]
  · rw [e1]
    exact z_upO (z_upO hy fun z => hn (Or.inr z)) fun z => hn (Or.inl z)

theorem m_rem_6 {l : Launch} {G : zG} {h : zH} {n b0 a e k x i : Nat} {g : Nat → Nat} {fs9 : List Value} (hb0 : z_n0 G ≤ b0) (q : z_Lx G h b0 a e k g) (hob : ∀ j, j < k → z_obj h (g j) ∧ g j ≠ a) (hx : h x = some (.inr (6, fs9))) (hi : i < k) (hfi : g i = x) (hne : ∀ j, j < i → g j ≠ x) :
    z_C l G yJ2_remove 3 0 0 [.ref a, .ref x] h n (z_q1 (fun r9 h' _ => r9 = .int (nI 1) ∧ z_Lx G h' b0 a e (k - 1) (fun j => g (tw_sk i j)) ∧ z_fr (fun y => y = a ∨ y = e) h h')) := by
  obtain ⟨qa, qe, N, m9, f, h1, h2, h3, h4, ⟨h5, h5b⟩, h6⟩ := q
  have hea : e ≠ a := (z_neA h1 h2).symm
  have he : b0 ≤ e := by rcases qe with q | q <;> omega
  exact (z_C.room (by omega) (by omega) (by omega) (m_J2_remove_6 h1 h2 (by omega) (by omega) hi h3 h4.le.1 h6 (fun j hj => (hob j hj).1) (fun j hj => (hob j hj).2) hx hfi hne)).mono fun o h' n' ⟨z1, z2, z3⟩ => ⟨_, z1, rfl, z_Lx_rem qa he hea h3 h4 h5 h6 hi z2⟩

theorem m_rem_8 {l : Launch} {G : zG} {h : zH} {n b0 a e k x i : Nat} {g : Nat → Nat} {fs9 : List Value} (hb0 : z_n0 G ≤ b0) (q : z_Lx G h b0 a e k g) (hob : ∀ j, j < k → z_obj h (g j) ∧ g j ≠ a) (hx : h x = some (.inr (8, fs9))) (hi : i < k) (hfi : g i = x) (hne : ∀ j, j < i → g j ≠ x) :
    z_C l G yJ2_remove 3 0 0 [.ref a, .ref x] h n (z_q1 (fun r9 h' _ => r9 = .int (nI 1) ∧ z_Lx G h' b0 a e (k - 1) (fun j => g (tw_sk i j)) ∧ z_fr (fun y => y = a ∨ y = e) h h')) := by
  obtain ⟨qa, qe, N, m9, f, h1, h2, h3, h4, ⟨h5, h5b⟩, h6⟩ := q
  have hea : e ≠ a := (z_neA h1 h2).symm
  have he : b0 ≤ e := by rcases qe with q | q <;> omega
  exact (z_C.room (by omega) (by omega) (by omega) (m_J2_remove_8 h1 h2 (by omega) (by omega) hi h3 h4.le.1 h6 (fun j hj => (hob j hj).1) (fun j hj => (hob j hj).2) hx hfi hne)).mono fun o h' n' ⟨z1, z2, z3⟩ => ⟨_, z1, rfl, z_Lx_rem qa he hea h3 h4 h5 h6 hi z2⟩

theorem m_rem_9 {l : Launch} {G : zG} {h : zH} {n b0 a e k x i : Nat} {g : Nat → Nat} {fs9 : List Value} (hb0 : z_n0 G ≤ b0) (q : z_Lx G h b0 a e k g) (hob : ∀ j, j < k → z_obj h (g j) ∧ g j ≠ a) (hx : h x = some (.inr (9, fs9))) (hi : i < k) (hfi : g i = x) (hne : ∀ j, j < i → g j ≠ x) :
    z_C l G yJ2_remove 3 0 0 [.ref a, .ref x] h n (z_q1 (fun r9 h' _ => r9 = .int (nI 1) ∧ z_Lx G h' b0 a e (k - 1) (fun j => g (tw_sk i j)) ∧ z_fr (fun y => y = a ∨ y = e) h h')) := by
  obtain ⟨qa, qe, N, m9, f, h1, h2, h3, h4, ⟨h5, h5b⟩, h6⟩ := q
  have hea : e ≠ a := (z_neA h1 h2).symm
  have he : b0 ≤ e := by rcases qe with q | q <;> omega
  exact (z_C.room (by omega) (by omega) (by omega) (m_J2_remove_9 h1 h2 (by omega) (by omega) hi h3 h4.le.1 h6 (fun j hj => (hob j hj).1) (fun j hj => (hob j hj).2) hx hfi hne)).mono fun o h' n' ⟨z1, z2, z3⟩ => ⟨_, z1, rfl, z_Lx_rem qa he hea h3 h4 h5 h6 hi z2⟩

theorem m_rem_10 {l : Launch} {G : zG} {h : zH} {n b0 a e k x i : Nat} {g : Nat → Nat} {fs9 : List Value} (hb0 : z_n0 G ≤ b0) (q : z_Lx G h b0 a e k g) (hob : ∀ j, j < k → z_obj h (g j) ∧ g j ≠ a) (hx : h x = some (.inr (10, fs9))) (hi : i < k) (hfi : g i = x) (hne : ∀ j, j < i → g j ≠ x) :
    z_C l G yJ2_remove 3 0 0 [.ref a, .ref x] h n (z_q1 (fun r9 h' _ => r9 = .int (nI 1) ∧ z_Lx G h' b0 a e (k - 1) (fun j => g (tw_sk i j)) ∧ z_fr (fun y => y = a ∨ y = e) h h')) := by
  obtain ⟨qa, qe, N, m9, f, h1, h2, h3, h4, ⟨h5, h5b⟩, h6⟩ := q
  have hea : e ≠ a := (z_neA h1 h2).symm
  have he : b0 ≤ e := by rcases qe with q | q <;> omega
  exact (z_C.room (by omega) (by omega) (by omega) (m_J2_remove_10 h1 h2 (by omega) (by omega) hi h3 h4.le.1 h6 (fun j hj => (hob j hj).1) (fun j hj => (hob j hj).2) hx hfi hne)).mono fun o h' n' ⟨z1, z2, z3⟩ => ⟨_, z1, rfl, z_Lx_rem qa he hea h3 h4 h5 h6 hi z2⟩

theorem m_rem_11 {l : Launch} {G : zG} {h : zH} {n b0 a e k x i : Nat} {g : Nat → Nat} {fs9 : List Value} (hb0 : z_n0 G ≤ b0) (q : z_Lx G h b0 a e k g) (hob : ∀ j, j < k → z_obj h (g j) ∧ g j ≠ a) (hx : h x = some (.inr (11, fs9))) (hi : i < k) (hfi : g i = x) (hne : ∀ j, j < i → g j ≠ x) :
    z_C l G yJ2_remove 3 0 0 [.ref a, .ref x] h n (z_q1 (fun r9 h' _ => r9 = .int (nI 1) ∧ z_Lx G h' b0 a e (k - 1) (fun j => g (tw_sk i j)) ∧ z_fr (fun y => y = a ∨ y = e) h h')) := by
  obtain ⟨qa, qe, N, m9, f, h1, h2, h3, h4, ⟨h5, h5b⟩, h6⟩ := q
  have hea : e ≠ a := (z_neA h1 h2).symm
  have he : b0 ≤ e := by rcases qe with q | q <;> omega
  exact (z_C.room (by omega) (by omega) (by omega) (m_J2_remove_11 h1 h2 (by omega) (by omega) hi h3 h4.le.1 h6 (fun j hj => (hob j hj).1) (fun j hj => (hob j hj).2) hx hfi hne)).mono fun o h' n' ⟨z1, z2, z3⟩ => ⟨_, z1, rfl, z_Lx_rem qa he hea h3 h4 h5 h6 hi z2⟩

theorem m_rem_12 {l : Launch} {G : zG} {h : zH} {n b0 a e k x i : Nat} {g : Nat → Nat} {fs9 : List Value} (hb0 : z_n0 G ≤ b0) (q : z_Lx G h b0 a e k g) (hob : ∀ j, j < k → z_obj h (g j) ∧ g j ≠ a) (hx : h x = some (.inr (12, fs9))) (hi : i < k) (hfi : g i = x) (hne : ∀ j, j < i → g j ≠ x) :
    z_C l G yJ2_remove 3 0 0 [.ref a, .ref x] h n (z_q1 (fun r9 h' _ => r9 = .int (nI 1) ∧ z_Lx G h' b0 a e (k - 1) (fun j => g (tw_sk i j)) ∧ z_fr (fun y => y = a ∨ y = e) h h')) := by
  obtain ⟨qa, qe, N, m9, f, h1, h2, h3, h4, ⟨h5, h5b⟩, h6⟩ := q
  have hea : e ≠ a := (z_neA h1 h2).symm
  have he : b0 ≤ e := by rcases qe with q | q <;> omega
  exact (z_C.room (by omega) (by omega) (by omega) (m_J2_remove_12 h1 h2 (by omega) (by omega) hi h3 h4.le.1 h6 (fun j hj => (hob j hj).1) (fun j hj => (hob j hj).2) hx hfi hne)).mono fun o h' n' ⟨z1, z2, z3⟩ => ⟨_, z1, rfl, z_Lx_rem qa he hea h3 h4 h5 h6 hi z2⟩

theorem m_rem_13 {l : Launch} {G : zG} {h : zH} {n b0 a e k x i : Nat} {g : Nat → Nat} {fs9 : List Value} (hb0 : z_n0 G ≤ b0) (q : z_Lx G h b0 a e k g) (hob : ∀ j, j < k → z_obj h (g j) ∧ g j ≠ a) (hx : h x = some (.inr (13, fs9))) (hi : i < k) (hfi : g i = x) (hne : ∀ j, j < i → g j ≠ x) :
    z_C l G yJ2_remove 3 0 0 [.ref a, .ref x] h n (z_q1 (fun r9 h' _ => r9 = .int (nI 1) ∧ z_Lx G h' b0 a e (k - 1) (fun j => g (tw_sk i j)) ∧ z_fr (fun y => y = a ∨ y = e) h h')) := by
  obtain ⟨qa, qe, N, m9, f, h1, h2, h3, h4, ⟨h5, h5b⟩, h6⟩ := q
  have hea : e ≠ a := (z_neA h1 h2).symm
  have he : b0 ≤ e := by rcases qe with q | q <;> omega
  exact (z_C.room (by omega) (by omega) (by omega) (m_J2_remove_13 h1 h2 (by omega) (by omega) hi h3 h4.le.1 h6 (fun j hj => (hob j hj).1) (fun j hj => (hob j hj).2) hx hfi hne)).mono fun o h' n' ⟨z1, z2, z3⟩ => ⟨_, z1, rfl, z_Lx_rem qa he hea h3 h4 h5 h6 hi z2⟩

theorem m_remI {l : Launch} {G : zG} {h : zH} {n b0 a e k i : Nat} {g : Nat → Nat} (hb0 : z_n0 G ≤ b0) (q : z_Lx G h b0 a e k g) (hob : ∀ j, j < k → z_obj h (g j) ∧ g j ≠ a) (hi : i < k) :
    z_C l G yJ2_remove_2 3 0 0 [.ref a, .int (nI i)] h n (z_q1 (fun r9 h' _ => r9 = .ref (g i) ∧ z_Lx G h' b0 a e (k - 1) (fun j => g (tw_sk i j)) ∧ z_fr (fun y => y = a ∨ y = e) h h')) := by
  obtain ⟨qa, qe, N, m9, f, h1, h2, h3, h4, ⟨h5, h5b⟩, h6⟩ := q
  have hea : e ≠ a := (z_neA h1 h2).symm
  have he : b0 ≤ e := by rcases qe with q | q <;> omega
  exact (m_J2_remove_2 h1 h2 (by omega) (by omega) hi h3 h4.le.1 h6 (fun j hj => (hob j hj).1) (fun j hj => (hob j hj).2)).mono fun o h' n' ⟨z1, z2, z3⟩ => ⟨_, z1, rfl, z_Lx_rem qa he hea h3 h4 h5 h6 hi z2⟩

