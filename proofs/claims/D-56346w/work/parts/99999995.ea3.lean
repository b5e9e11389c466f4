/-- the heap cut at b -/
def z_lw (b : Nat) (h : zH) : zH := fun y => if y < b then h y else none
theorem z_lw.ex {b : Nat} {h : zH} : z_ex (z_lw b h) h := fun y c q => by
  unfold z_lw at q
  by_cases z : y < b
  · rw [if_pos z] at q; exact q
  · rw [if_neg z] at q; cases q
theorem z_lw.at {b y : Nat} {h : zH} {c : va_E} (hb : y < b) (q : h y = some c) : z_lw b h y = some c := by
  unfold z_lw; rw [if_pos hb]; exact q
theorem z_lw.lt {b y : Nat} {h : zH} {c : va_E} (q : z_lw b h y = some c) : y < b := by
  unfold z_lw at q
  by_cases z : y < b
  · exact z
  · rw [if_neg z] at q; cases q
theorem z_lw.dm {b : Nat} {h : zH} (d : z_dm h b) : z_ex h (z_lw b h) := fun y c q => z_lw.at (d y c q) q
theorem z_lw.fr {b wo : Nat} {h h2 h3 : zH} (f : z_fr (fun y => y = wo) h h2) (g : z_fb b h2 h3) : z_fr (fun y => y = wo) (z_lw b h) (z_lw b h3) := fun y c q l => by
  have h1 := z_lw.lt q
  exact z_lw.at h1 (g y c (f y c (z_lw.ex y c q) l) (fun z => absurd z (by omega)))
/-- a hash is told: the changes stay -/
theorem z_ck.fw {G : zG} {b : Nat} {h h2 : zH} {cs : List Nat} {g p kd wo : Nat} {l : List Nat} {hs : Int32} (q : z_ck G b h cs g p kd) (hws : z_Sf G h wo l hs) (hw : z_hw h h2 wo (z_hs l)) (f : z_fr (fun y => y = wo) h h2) : z_ck G b h2 cs g p kd := by
  obtain ⟨s, hs0, q0, ⟨e1, r1, r2, r3⟩, q4⟩ := q
  obtain ⟨e, hs1, w1, w2⟩ := hw
  have n4 : g ≠ wo := fun z => by rw [z, w1] at q4; cases q4
  have ne : e1 ≠ wo := fun z => by rw [z, w1] at r2; cases r2
  by_cases z : s = wo
  · subst z
    have hl : l = z_wd kd := z_Sg.inj hws.sg (show z_Sg G h s (z_wd kd) hs0 from ⟨e1, _, r1, r2, r3.1, r3.2.1⟩)
    rw [r1] at w1
    injection w1 with w1; injection w1 with w1; injection w1 with _ w1; injection w1 with w1 _; injection w1 with w1
    subst w1
    exact ⟨s, z_hs (z_wd kd), ⟨q0.1, Or.inr rfl⟩, ⟨e1, by rw [w2, hl], f _ _ r2 ne, r3⟩, f _ _ q4 n4⟩
  · exact ⟨s, hs0, q0, ⟨e1, f _ _ r1 z, f _ _ r2 ne, r3⟩, f _ _ q4 n4⟩
/-- what a text's command says: kind and three numbers -/
def z_A9 (cs : List Nat) (P KD : Nat → Nat) (i : Nat) : Nat × Int32 × Int32 × Int32 := (KD i, z_xyz (KD i) (nI (z_rv9 cs (KD i) (P i + (z_wd (KD i)).length)).1) (z_rv9 cs (KD i) (P i + (z_wd (KD i)).length)).2.1 (z_rv9 cs (KD i) (P i + (z_wd (KD i)).length)).2.2)
/-- the lane behind k commands -/
def z_cr9 (w : Nat → Int32) (v : Nat → Int64) (R S D : Nat) (A : Nat → Nat × Int32 × Int32 × Int32) : Nat → tG
  | 0 => (w, v, 0, R, S, D)
  | k + 1 => tC_go (z_cr9 w v R S D A k).1 (z_cr9 w v R S D A k).2.1 (z_cr9 w v R S D A k).2.2.2.1 (z_cr9 w v R S D A k).2.2.2.2.1 (z_cr9 w v R S D A k).2.2.2.2.2 (A k).1 (A k).2.1 (A k).2.2.1 (A k).2.2.2
def z_cy9 (w : Nat → Int32) (v : Nat → Int64) (R S D : Nat) (A : Nat → Nat × Int32 × Int32 × Int32) (k : Nat) : Nat × Option (Nat × Nat) := tC_why (z_cr9 w v R S D A k).1 (z_cr9 w v R S D A k).2.2.2.1 (z_cr9 w v R S D A k).2.2.2.2.1 (z_cr9 w v R S D A k).2.2.2.2.2 (A k).1 (A k).2.1 (A k).2.2.1 (A k).2.2.2
theorem z_cr9_inv {w : Nat → Int32} {v : Nat → Int64} {R S D c9 : Nat} {A : Nat → Nat × Int32 × Int32 × Int32} (hI : z_inv w v R S D c9) : ∀ k, c9 + k < 2 ^ 30 → (∀ j, j < k → (z_cy9 w v R S D A j).1 = 0) → ∃ c, c ≤ c9 + k ∧ tG_inv (z_cr9 w v R S D A k) c
  | 0, _, _ => ⟨c9, Nat.le_refl _, hI⟩
  | k + 1, hk, h0 => by
    obtain ⟨c, hc, h1⟩ := z_cr9_inv hI k (by omega) (fun j hj => h0 j (by omega))
    obtain ⟨c2, _, h3, h4⟩ := z_inv_go h1 (by omega) (h0 k (Nat.lt_succ_self k))
    exact ⟨c2, by omega, h4⟩
/-- the end of 'applyAll' -/
def z_al9 (G : zG) (h : zH) (n b0 m0 : Nat) (w : Nat → Int32) (v : Nat → Int64) (R S D a : Nat) (A : Nat → Nat × Int32 × Int32 × Int32) (c : Nat) : zQ := fun o h' n' =>
  ((∀ k, k < c → (z_cy9 w v R S D A k).1 = 0) ∧ o = .returned none ∧ z_DR G h' b0 (z_cr9 w v R S D A c).1 (z_cr9 w v R S D A c).2.1 (z_cr9 w v R S D A c).2.2.2.1 (z_cr9 w v R S D A c).2.2.2.2.1 (z_cr9 w v R S D A c).2.2.2.2.2 a ∧ z_fr (fun y => m0 ≤ y) h h') ∨
  (∃ k, k < c ∧ (∀ j, j < k → (z_cy9 w v R S D A j).1 = 0) ∧ (z_cy9 w v R S D A k).1 ≠ 0 ∧ ∃ qq cd r d, o = .threw qq ∧ n ≤ qq ∧ n ≤ cd ∧ cd ≠ qq ∧ h' qq = some (.inr (5, [.ref cd, .null, .null, .null, .null, .int (nI 0), .int (nI 5), .int (nI k)])) ∧ h' cd = some (.inr (5, z_den r d)) ∧ ((z_cy9 w v R S D A k).2 = some (r, d) ∨ ((z_cy9 w v R S D A k).2 = none ∧ r = 6 ∧ d = 0)) ∧ z_fr (fun y => m0 ≤ y) h h')

