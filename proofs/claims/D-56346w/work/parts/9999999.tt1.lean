theorem z_nm_ge {cs : List Nat} {p : Nat} : p ≤ (z_nm cs p).1 := by
  unfold z_nm
  cases z_at cs p z_dig
  · exact Nat.le_refl _
  · cases z_at cs (p + 1) z_dig
    · exact Nat.le_succ p
    · exact Nat.le_add_right p 2
theorem z_ns_ge {cs : List Nat} {p : Nat} : p ≤ (z_ns cs p).1 := by
  unfold z_ns
  cases z_at cs p z_spc
  · exact Nat.le_refl _
  · exact Nat.le_trans (Nat.le_succ p) z_nm_ge
theorem z_tk_ge {cs : List Nat} {p : Nat} {L : List Nat} : p ≤ (z_tk cs p L).1 := by
  unfold z_tk
  cases z_at cs p L
  · exact Nat.le_refl _
  · exact Nat.le_succ p
theorem z_rr_ge {cs : List Nat} {kd p : Nat} : p ≤ (z_rr cs kd p).1 := by
  have a1 := z_ns_ge (cs := cs) (p := p + 1 + 1 + 1)
  have a2 := z_nm_ge (cs := cs) (p := p + 1)
  have a3 := z_nm_ge (cs := cs) (p := p + 1 + 1)
  have a4 := z_tk_ge (cs := cs) (p := p + 1 + 1 + 1) (L := z_dig)
  have a5 := z_ns_ge (cs := cs) (p := p + 1 + 1)
  have a6 := z_tk_ge (cs := cs) (p := p + 1) (L := z_dig)
  unfold z_rr
  split <;> (repeat' split) <;> (first | omega | (simp only []; omega))
abbrev z_semi : List Nat := z_lits.getD 41 []
/-- the place behind the command at p of kind kd -/
def z_e9 (cs : List Nat) (kd p : Nat) : Nat := (z_rr cs kd (p + (z_wd kd).length)).1
/-- a whole command stands at p -/
def z_kc (cs : List Nat) (p kd : Nat) : Prop := kd < 9 ∧ z_lp cs p kd (z_wd kd).length ∧ (z_rr cs kd (p + (z_wd kd).length)).2 = false
/-- c commands stand one behind the other, divided by ';' -/
def z_chn (cs : List Nat) (P KD : Nat → Nat) (c : Nat) : Prop := P 0 = 0 ∧ (∀ i, i < c → z_kc cs (P i) (KD i)) ∧ ∀ i, i + 1 < c → z_at cs (z_e9 cs (KD i) (P i)) z_semi = true ∧ P (i + 1) = z_e9 cs (KD i) (P i) + 1
/-- a fault of the command at p, at r -/
def z_cf (cs : List Nat) (p r : Nat) : Prop := (∃ m, z_wf9 cs p m ∧ r = p + m) ∨ ∃ kd, kd < 9 ∧ z_lp cs p kd (z_wd kd).length ∧ (z_rr cs kd (p + (z_wd kd).length)).2 = true ∧ r = (z_rr cs kd (p + (z_wd kd).length)).1
/-- a fault of the text, at r -/
def z_tf9 (cs : List Nat) (r : Nat) : Prop := z_cf cs 0 r ∨ ∃ P KD c, 1 ≤ c ∧ z_chn cs P KD c ∧ z_e9 cs (KD (c - 1)) (P (c - 1)) < cs.length ∧ ((z_at cs (z_e9 cs (KD (c - 1)) (P (c - 1))) z_semi = false ∧ r = z_e9 cs (KD (c - 1)) (P (c - 1))) ∨ (z_at cs (z_e9 cs (KD (c - 1)) (P (c - 1))) z_semi = true ∧ z_cf cs (z_e9 cs (KD (c - 1)) (P (c - 1)) + 1) r))
/-- the change at g stands for the command of kind kd at p -/
def z_ck (G : zG) (b : Nat) (h : zH) (cs : List Nat) (g p kd : Nat) : Prop := ∃ s hs, (b ≤ s ∧ ((kd = 2 ∧ hs = nI 0) ∨ hs = z_hs (z_wd kd))) ∧ z_Sf G h s (z_wd kd) hs ∧ h g = some (.inr (4, [.ref s, .int (nI (z_rv9 cs kd (p + (z_wd kd).length)).1), .int (z_rv9 cs kd (p + (z_wd kd).length)).2.1, .int (z_rv9 cs kd (p + (z_wd kd).length)).2.2]))
theorem z_ck.fr {G : zG} {b : Nat} {h h2 : zH} {Q : Nat → Prop} {cs : List Nat} {g p kd : Nat} (q : z_ck G b h cs g p kd) (f : z_fr Q h h2) (n1 : ∀ y ci fs, Q y → h y = some (.inr (ci, fs)) → ci ≠ 4 ∧ ci ≠ 23) (n2 : ∀ y N x, Q y → h y ≠ some (z_ab G N x)) : z_ck G b h2 cs g p kd := by
  obtain ⟨s, hs, q0, ⟨e, q1, q2, q3⟩, q4⟩ := q
  exact ⟨s, hs, q0, ⟨e, f _ _ q1 (fun z => (n1 _ _ _ z q1).2 rfl), f _ _ q2 (fun z => n2 _ _ _ z q2), q3⟩, f _ _ q4 (fun z => (n1 _ _ _ z q4).1 rfl)⟩
theorem z_ck.ft {G : zG} {b : Nat} {h h2 : zH} {t ci : Nat} {fs : List Value} {cs : List Nat} {g p kd : Nat} (q : z_ck G b h cs g p kd) (ht : h t = some (.inr (ci, fs))) (hc : ci ≠ 4 ∧ ci ≠ 23) (f : z_fr (fun y => y = t) h h2) : z_ck G b h2 cs g p kd :=
  q.fr f (fun y cj fs z q => by rw [z, ht] at q; cases q; exact hc) (fun y N x z q => by rw [z, ht] at q; cases q)
theorem z_ck.fl {G : zG} {b : Nat} {h h2 : zH} {a e b0 N : Nat} {x : Nat → Option Nat} {l : List Value} {cs : List Nat} {g p kd : Nat} (q : z_ck G b h cs g p kd) (ha : h a = some (.inr (20, l))) (he : h e = some (z_ao G N x)) (f : z_fr (fun y => y = a ∨ (y = e ∧ b0 ≤ y)) h h2) : z_ck G b h2 cs g p kd :=
  q.fr f (fun y cj fs z q => by
    rcases z with z | ⟨z, -⟩
    · rw [z, ha] at q; cases q; exact ⟨by decide, by decide⟩
    · rw [z, he] at q; cases q)
    (fun y N x z q => by
    rcases z with z | ⟨z, -⟩
    · rw [z, ha] at q; cases q
    · rw [z, he] at q
      have q9 := congrArg (fun o : Option va_E => match o with | some (.inl (_, _, .inl _)) => true | _ => false) q
      cases q9)
theorem z_ck.obj {G : zG} {b : Nat} {h : zH} {cs : List Nat} {g p kd : Nat} (q : z_ck G b h cs g p kd) : z_obj h g := by
  obtain ⟨s, hs, -, -, q⟩ := q
  exact ⟨4, _, _, q, zc4, q3310⟩
theorem z_ck.ne {G : zG} {b : Nat} {h : zH} {cs : List Nat} {g p kd a : Nat} {l : List Value} (q : z_ck G b h cs g p kd) (ha : h a = some (.inr (20, l))) : g ≠ a := by
  obtain ⟨s, hs, -, -, q⟩ := q
  exact fun z => by rw [z, ha] at q; cases q
theorem z_fr.tn {P Q : Nat → Prop} {h h1 h2 : zH} {n : Nat} (d : z_dm h n) (F : z_fr P h h1) (f : z_fr Q h1 h2) (hQ : ∀ y, Q y → n ≤ y) : z_fr P h h2 := fun y c q l => f y c (F y c q l) (fun z => by have := hQ y z; have := d y c q; omega)
theorem z_chn_1 {cs : List Nat} {kd : Nat} {P KD : Nat → Nat} (hP : P 0 = 0) (hk : KD 0 = kd) (q : z_kc cs 0 kd) : z_chn cs P KD 1 := ⟨hP, fun i hi => by
  obtain rfl : i = 0 := by omega
  rw [hP, hk]; exact q, fun i hi => absurd hi (by omega)⟩
theorem z_chn_s {cs : List Nat} {P KD : Nat → Nat} {c kd : Nat} (q : z_chn cs P KD c) (hc : 1 ≤ c) (hs : z_at cs (z_e9 cs (KD (c - 1)) (P (c - 1))) z_semi = true) (hk : z_kc cs (z_e9 cs (KD (c - 1)) (P (c - 1)) + 1) kd) : z_chn cs (va_up P c (z_e9 cs (KD (c - 1)) (P (c - 1)) + 1)) (va_up KD c kd) (c + 1) := by
  obtain ⟨q1, q2, q3⟩ := q
  refine ⟨by rw [va_upn (by omega)]; exact q1, fun i hi => ?_, fun i hi => ?_⟩
  · by_cases z : i = c
    · rw [z, va_ups, va_ups]; exact hk
    · rw [va_upn z, va_upn z]; exact q2 i (by omega)
  · by_cases z : i + 1 = c
    · obtain rfl : i = c - 1 := by omega
      rw [va_upn (by omega), va_upn (by omega), z, va_ups]
      exact ⟨hs, rfl⟩
    · rw [va_upn (by omega), va_upn (by omega), va_upn z]
      exact q3 i (by omega)

