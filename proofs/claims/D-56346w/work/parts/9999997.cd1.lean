theorem z_Sf.frx {G : zG} {h h2 : zH} {s t ci : Nat} {l : List Nat} {hs : Int32} {fs : List Value} (q : z_Sf G h s l hs) (ht : h t = some (.inr (ci, fs))) (hc : ci ≠ 23) (f : z_fr (fun y => y = t) h h2) : z_Sf G h2 s l hs := by
  obtain ⟨e, q1, q2, q3⟩ := q
  exact ⟨e, f _ _ q1 (fun z => hc (by rw [z, ht] at q1; cases q1; rfl)), f _ _ q2 (fun z => by rw [z, ht] at q2; cases q2), q3⟩
theorem z_Sf.o {G : zG} {h : zH} {s : Nat} {l : List Nat} {hs : Int32} (q : z_Sf G h s l hs) : ∃ e, h s = some (.inr (23, [.ref e, .int (nI 0), .int hs, .int (nI 0)])) := by
  obtain ⟨e, q1, -⟩ := q
  exact ⟨e, q1⟩
theorem z_ne_cc {h : zH} {c t ci cj : Nat} {fs l : List Value} (h1 : h t = some (.inr (cj, l))) (h2 : h c = some (.inr (ci, fs))) (hc : ci ≠ cj) : c ≠ t := fun z => by rw [z, h1] at h2; cases h2; exact hc rfl
theorem z_wq9_r {G : zG} {t x n p : Nat} {h : zH} {cs : List Nat} {w : Option Value} {h' : zH} {n' : Nat} (q : z_wq9 G t x n h cs p (.returned w) h' n') : ∃ kd s, kd < 9 ∧ z_lp cs p kd (z_wd kd).length ∧ w = some (.ref s) ∧ n ≤ s ∧ s < n' ∧ z_Sf G h' s (z_wd kd) (nI 0) ∧ h' t = some (.inr (18, [.int (nI (p + (z_wd kd).length)), .ref x])) ∧ z_fr (fun y => y = t) h h' := by
  rcases q with ⟨kd, s, q1, q2, q3, q4⟩ | ⟨m, a, q1, q2, q3, q4, -⟩
  · cases q3; exact ⟨kd, s, q1, q2, rfl, q4⟩
  · cases q4
/-- the word at p is none -/
def z_wf9 (cs : List Nat) (p m : Nat) : Prop := (∃ kd, kd < 9 ∧ z_lp cs p kd m) ∧ (∀ kd, kd < 9 → ¬ z_lp cs p kd (m + 1)) ∧ (∀ kd, kd < 9 → z_lp cs p kd m → (z_wd kd).length ≠ m)
theorem z_wq9_t {G : zG} {t x n p : Nat} {h : zH} {cs : List Nat} {a : Nat} {h' : zH} {n' : Nat} (q : z_wq9 G t x n h cs p (.threw a) h' n') : ∃ m, z_wf9 cs p m ∧ n ≤ a ∧ h' a = some (.inr (19, z_sf (p + m))) ∧ z_fr (fun y => y = t) h h' := by
  rcases q with ⟨kd, s, q1, q2, q3, q4⟩ | ⟨m, a, q1, q2, q3, q4, q5, q6⟩
  · cases q3
  · cases q4; exact ⟨m, ⟨q1, q2, q3⟩, q5, q6⟩
/-- what is read behind a word -/
def z_rr (cs : List Nat) (kd p : Nat) : Nat × Bool := match kd with
  | 0 => if z_at cs p z_spc then (if z_at cs (p + 1) (z_lits.getD 37 []) then (if z_at cs (p + 1 + 1) z_dig then z_ns cs (p + 1 + 1 + 1) else (p + 1 + 1, true)) else (p + 1, true)) else (p, true)
  | 1 => if z_at cs p z_spc then z_nm cs (p + 1) else (p, true)
  | 2 => (p, false)
  | 3 => if z_at cs p z_spc then (if z_at cs (p + 1) (z_lits.getD 39 []) then z_nm cs (p + 1 + 1) else (p + 1, true)) else (p, true)
  | 4 => if z_at cs p z_spc then (if z_at cs (p + 1) z_dig then (if z_at cs (p + 1 + 1) (z_lits.getD 40 []) then z_tk cs (p + 1 + 1 + 1) z_dig else (p + 1 + 1, true)) else (p + 1, true)) else (p, true)
  | 6 => if z_at cs p z_spc then (if z_at cs (p + 1) z_dig then z_ns cs (p + 1 + 1) else (p + 1, true)) else (p, true)
  | _ => if z_at cs p z_spc then z_tk cs (p + 1) z_dig else (p, true)
/-- the change that is read behind the word: sign, first, second -/
def z_rv9 (cs : List Nat) (kd p : Nat) : Nat × Int32 × Int32 := match kd with
  | 0 => (cs.getD (p + 1) 0, nI (cs.getD (p + 1 + 1) 0) - nI 48, z_nv cs (p + 1 + 1 + 1 + 1))
  | 1 => (32, z_nv cs (p + 1), nI 0)
  | 2 => (32, nI 0, nI 0)
  | 3 => (cs.getD (p + 1) 0, z_nv cs (p + 1 + 1), nI 0)
  | 4 => (cs.getD (p + 1 + 1) 0, nI (cs.getD (p + 1) 0) - nI 48, nI (cs.getD (p + 1 + 1 + 1) 0) - nI 48)
  | 6 => (32, nI (cs.getD (p + 1) 0) - nI 48, z_nv cs (p + 1 + 1 + 1))
  | _ => (32, nI (cs.getD (p + 1) 0) - nI 48, nI 0)
/-- the hash that a read word's String holds -/
def z_wh9 (kd : Nat) : Int32 := if kd = 2 then nI 0 else z_hs (z_wd kd)
/-- the end of 'command' -/
def z_cq9 (G : zG) (t x n : Nat) (h : zH) (cs : List Nat) (p : Nat) : zQ := fun o h' n' =>
  (∃ kd s c, kd < 9 ∧ z_lp cs p kd (z_wd kd).length ∧ (z_rr cs kd (p + (z_wd kd).length)).2 = false ∧ o = .returned (some (.ref c)) ∧ n ≤ s ∧ n ≤ c ∧ z_Sf G h' s (z_wd kd) (z_wh9 kd) ∧ h' c = some (.inr (4, [.ref s, .int (nI (z_rv9 cs kd (p + (z_wd kd).length)).1), .int (z_rv9 cs kd (p + (z_wd kd).length)).2.1, .int (z_rv9 cs kd (p + (z_wd kd).length)).2.2])) ∧ h' t = some (.inr (18, [.int (nI (z_rr cs kd (p + (z_wd kd).length)).1), .ref x])) ∧ (z_rr cs kd (p + (z_wd kd).length)).1 ≤ cs.length ∧ z_fr (fun y => y = t) h h') ∨
  (∃ a r, o = .threw a ∧ n ≤ a ∧ ((∃ m, z_wf9 cs p m ∧ r = p + m) ∨ (∃ kd, kd < 9 ∧ z_lp cs p kd (z_wd kd).length ∧ (z_rr cs kd (p + (z_wd kd).length)).2 = true ∧ r = (z_rr cs kd (p + (z_wd kd).length)).1)) ∧ h' a = some (.inr (19, z_sf r)) ∧ z_fr (fun y => y = t) h h')

