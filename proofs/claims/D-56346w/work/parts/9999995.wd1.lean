/-- the text at p begins as the word kd, m letters long -/
def z_lp (cs : List Nat) (p kd m : Nat) : Prop := m ≤ (z_wd kd).length ∧ p + m ≤ cs.length ∧ (z_wd kd).take m = (cs.drop p).take m
def z_pm (cs : List Nat) (p m : Nat) : List Nat := (cs.drop p).take m
theorem z_wd_len : ∀ kd, kd < 9 → 3 ≤ (z_wd kd).length ∧ (z_wd kd).length ≤ 6 := by decide
abbrev z_kno : List Nat := z_lits.getD 26 []
abbrev z_abc : List Nat := z_lits.getD 27 []
theorem z_wA : ∀ kd, kd < 9 → ∀ m, m < 7 → m ≤ (z_wd kd).length → (decide (z_o (z_sx z_kno ((32 :: (z_wd kd).take m) ++ [32])) < nI 0)) = !(decide (m = (z_wd kd).length)) := by decide +kernel
def z_nx9 (l : List Nat) : Bool := (List.range 9).any fun k => decide (l.length ≤ (z_wd k).length ∧ (z_wd k).take l.length = l)
theorem z_wB : ∀ kd, kd < 9 → ∀ m, m < 7 → m ≤ (z_wd kd).length → ∀ c, c < 26 → (decide (z_o (z_sx z_kno ((32 :: (z_wd kd).take m) ++ [97 + c])) < nI 0)) = !(z_nx9 ((z_wd kd).take m ++ [97 + c])) := by decide +kernel
theorem z_abc_mem {c : Nat} (h : c ∈ z_abc) : 97 ≤ c ∧ c ≤ 122 := by
  have : ∀ c ∈ z_abc, 97 ≤ c ∧ c ≤ 122 := by decide
  exact this c h
theorem z_wd_abc : ∀ kd, kd < 9 → ∀ c ∈ z_wd kd, c ∈ z_abc := by decide
theorem z_wo_dummy : True := trivial
theorem z_pm_succ {cs : List Nat} {p m : Nat} (h : p + m < cs.length) : z_pm cs p (m + 1) = z_pm cs p m ++ [cs.getD (p + m) 0] := by
  unfold z_pm
  rw [List.take_add_one, List.getElem?_drop, List.getElem?_eq_getElem h, List.getD_eq_getElem?_getD, List.getElem?_eq_getElem h]
  rfl
theorem z_pm_len {cs : List Nat} {p m : Nat} (h : p + m ≤ cs.length) : (z_pm cs p m).length = m := by
  unfold z_pm
  rw [List.length_take, List.length_drop]
  omega
theorem z_nx9_t {cs : List Nat} {p m : Nat} (hl : p + m + 1 ≤ cs.length) (h : z_nx9 (z_pm cs p m ++ [cs.getD (p + m) 0]) = true) : ∃ kd, kd < 9 ∧ z_lp cs p kd (m + 1) := by
  rw [← z_pm_succ (by omega)] at h
  unfold z_nx9 at h
  obtain ⟨k, hk, h⟩ := List.any_eq_true.mp h
  rw [z_pm_len (by omega)] at h
  obtain ⟨h1, h2⟩ := of_decide_eq_true h
  exact ⟨k, List.mem_range.mp hk, h1, by omega, h2⟩
theorem z_nx9_f {cs : List Nat} {p m : Nat} (hl : p + m + 1 ≤ cs.length) (h : z_nx9 (z_pm cs p m ++ [cs.getD (p + m) 0]) = false) : ∀ kd, kd < 9 → ¬ z_lp cs p kd (m + 1) := fun kd hk ⟨h1, h2, h3⟩ => by
  rw [← z_pm_succ (by omega)] at h
  unfold z_nx9 at h
  have := List.any_eq_false.mp h kd (List.mem_range.mpr hk)
  rw [z_pm_len (by omega)] at this
  exact this (decide_eq_true ⟨h1, h3⟩)

