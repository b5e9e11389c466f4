theorem z_snx_no {c : Nat} (hc : c < 65536) (hx : z_ix (z_lits.getD 13 []) c = none) : tw_isK (nI c) = false := by
  have h : ∀ k, k < 65536 → z_ix (z_lits.getD 13 []) k ≠ none → nI c ≠ nI k := fun k hk h1 h2 => h1 (by rw [← (nI_eq (by omega) (by omega)).mp h2]; exact hx)
  unfold tw_isK
  rw [decide_eq_false (h 115 (by omega) (by decide +kernel)), decide_eq_false (h 110 (by omega) (by decide +kernel)), decide_eq_false (h 120 (by omega) (by decide +kernel))]
  rfl
theorem z_pm_no {c : Nat} (hc : c < 65536) (hx : z_ix (z_lits.getD 14 []) c = none) : (decide (nI c = nI 43) || decide (nI c = nI 45)) = false := by
  have h : ∀ k, k < 65536 → z_ix (z_lits.getD 14 []) k ≠ none → nI c ≠ nI k := fun k hk h1 h2 => h1 (by rw [← (nI_eq (by omega) (by omega)).mp h2]; exact hx)
  rw [decide_eq_false (h 43 (by omega) (by decide +kernel)), decide_eq_false (h 45 (by omega) (by decide +kernel))]
  rfl
theorem z_hi_inpt {w : Nat → Int32} {R S D o k : Nat} (hw : z_ok w R S D) (ho : o < S) (hk : k < 8) : z_hi w o k = tw_inpt w k o := by
  obtain ⟨q1, q2, q3, q4⟩ := hw.2.2.2.2.2.2 o ho
  have e : ∀ a, a < 8 → decide (a = k) = decide (nI a = nI k) := fun a ha => by
    by_cases z : a = k
    · rw [z]; simp
    · rw [decide_eq_false z, decide_eq_false (z_nI_ne (by omega) (by omega) z)]
  unfold z_hi tw_inpt
  rw [e _ q2, e _ q4, q1, q3]
theorem z_inpF_some {w : Nat → Int32} {k o : Nat} : ∀ {n j : Nat}, tw_inpF w k j n = some o → j ≤ o ∧ o < j + n ∧ tw_inpt w k o = true ∧ ∀ x, j ≤ x → x < o → tw_inpt w k x = false
  | 0, j, h => by cases h
  | n + 1, j, h => by
    rw [tw_inpF] at h
    by_cases q : tw_inpt w k j = true
    · rw [if_pos q] at h
      cases h
      exact ⟨Nat.le_refl _, by omega, q, fun x h1 h2 => by omega⟩
    · rw [if_neg q] at h
      obtain ⟨h1, h2, h3, h4⟩ := z_inpF_some h
      refine ⟨by omega, by omega, h3, fun x g1 g2 => ?_⟩
      by_cases z : x = j
      · rw [z]; simpa using q
      · exact h4 x (by omega) g2
/-- no step up to k has the input k -/
theorem z_hi_lo {w : Nat → Int32} {S k o : Nat} (hi : z_inp w S) (ho : o < S) (hk : o ≤ k) : z_hi w o k = false := by
  unfold z_hi
  cases hb : tw_base w o
  · obtain ⟨h1, h2⟩ := hi.lt ho hb
    rw [decide_eq_false (by omega), decide_eq_false (by omega)]; rfl
  · rfl
theorem z_stp8 {S c : Nat} (h : S = 8) : tw_cStep S c = (c, some (1, 8)) := by unfold tw_cStep; rw [if_pos h]
theorem z_stp {S c : Nat} (h : S ≠ 8) : (tw_cStep S c).1 = 0 := by unfold tw_cStep; rw [if_neg h]

theorem m_cmd3 {l : Launch} {G : zG} {h : zH} {n : Nat} {b0 : Nat} {w : Nat → Int32} {v : Nat → Int64} {R S D a lr er ls es lv ev : Nat} {ra sa va na ba : Nat → Nat} {c9 : Nat} (hDr : z_Dr G h b0 w v R S D a lr er ls es lv ev ra sa va na ba) (hb0 : z_n0 G ≤ b0) (hbn : b0 ≤ n) (hI : z_inv w v R S D c9) (hKS : z_KS G h) {c : Nat} (hc16 : c < 65536) (x : Int32) : z_C l G yX2_addBase 40 100 1000 [.ref a, .int (nI c), .int x] h n (z_res G h n b0 w v R S D a 3 (nI c) x 0) := by
  obtain ⟨hw, hrw, hiW, hfr, hnum⟩ := id hI
  obtain ⟨hR, hR4, hS, hS8, hD, hD6, hF⟩ := id hw
  have hL := hDr.ln
  rcases z_ix_snx hc16 with (rfl | rfl | rfl) | hx
  · cases h2 : decide (nI 0 ≤ x ∧ x ≤ nI 99)
    · exact z_res_ex (k := 0) (by show tw_cBase S (nI 115) x = _; unfold tw_cBase; rw [show tw_isK (nI 115) = true from by decide, h2]; rfl) rfl (by omega) (by omega) (by omega) (m_X2_addBase_no2_115 hL hS8 hKS h2)
    · obtain ⟨c2, -, hc9, rfl⟩ := z_rg (by omega) (by omega) h2
      have hy : tC_why w R S D 3 (nI 115) (nI c2) 0 = tw_cStep S 2 := by show tw_cBase S (nI 115) (nI c2) = _; unfold tw_cBase; rw [show tw_isK (nI 115) = true from by decide, h2]; rfl
      by_cases h3 : S = 8
      · exact z_res_dn (k := 1) (hy.trans (z_stp8 h3)) (by omega) (by omega) (by omega) (m_X2_addBase_no3_115 hL hS8 hKS hc9 h3)
      · exact z_res_ok (g := (tw_ns0 (tw_nst w S (nI 115) (nI c2) 0 0) S (D + 1), tw_ns5 (tw_nst w S (nI 115) (nI c2) 0 0) R S v (D + 1), nI S, R, S + 1, D)) rfl (by rw [hy]; exact z_stp h3) (by omega) (by omega) (by omega) (m_X2_addBase_115 hDr hb0 hR4 hD6 (by omega) hbn hiW hKS hc9)
  · cases h2 : decide (nI 0 ≤ x ∧ x ≤ nI 99)
    · exact z_res_ex (k := 0) (by show tw_cBase S (nI 110) x = _; unfold tw_cBase; rw [show tw_isK (nI 110) = true from by decide, h2]; rfl) rfl (by omega) (by omega) (by omega) (m_X2_addBase_no2_110 hL hS8 hKS h2)
    · obtain ⟨c2, -, hc9, rfl⟩ := z_rg (by omega) (by omega) h2
      have hy : tC_why w R S D 3 (nI 110) (nI c2) 0 = tw_cStep S 2 := by show tw_cBase S (nI 110) (nI c2) = _; unfold tw_cBase; rw [show tw_isK (nI 110) = true from by decide, h2]; rfl
      by_cases h3 : S = 8
      · exact z_res_dn (k := 1) (hy.trans (z_stp8 h3)) (by omega) (by omega) (by omega) (m_X2_addBase_no3_110 hL hS8 hKS hc9 h3)
      · exact z_res_ok (g := (tw_ns0 (tw_nst w S (nI 110) (nI c2) 0 0) S (D + 1), tw_ns5 (tw_nst w S (nI 110) (nI c2) 0 0) R S v (D + 1), nI S, R, S + 1, D)) rfl (by rw [hy]; exact z_stp h3) (by omega) (by omega) (by omega) (m_X2_addBase_110 hDr hb0 hR4 hD6 (by omega) hbn hiW hKS hc9)
  · cases h2 : decide (nI 0 ≤ x ∧ x ≤ nI 99)
    · exact z_res_ex (k := 0) (by show tw_cBase S (nI 120) x = _; unfold tw_cBase; rw [show tw_isK (nI 120) = true from by decide, h2]; rfl) rfl (by omega) (by omega) (by omega) (m_X2_addBase_no2_120 hL hS8 hKS h2)
    · obtain ⟨c2, -, hc9, rfl⟩ := z_rg (by omega) (by omega) h2
      have hy : tC_why w R S D 3 (nI 120) (nI c2) 0 = tw_cStep S 2 := by show tw_cBase S (nI 120) (nI c2) = _; unfold tw_cBase; rw [show tw_isK (nI 120) = true from by decide, h2]; rfl
      by_cases h3 : S = 8
      · exact z_res_dn (k := 1) (hy.trans (z_stp8 h3)) (by omega) (by omega) (by omega) (m_X2_addBase_no3_120 hL hS8 hKS hc9 h3)
      · exact z_res_ok (g := (tw_ns0 (tw_nst w S (nI 120) (nI c2) 0 0) S (D + 1), tw_ns5 (tw_nst w S (nI 120) (nI c2) 0 0) R S v (D + 1), nI S, R, S + 1, D)) rfl (by rw [hy]; exact z_stp h3) (by omega) (by omega) (by omega) (m_X2_addBase_120 hDr hb0 hR4 hD6 (by omega) hbn hiW hKS hc9)
  · exact z_res_ex (k := 0) (by show tw_cBase S (nI c) x = _; unfold tw_cBase; rw [z_snx_no hc16 hx]; rfl) rfl (by omega) (by omega) (by omega) (m_X2_addBase_no1 hL hS8 hKS hc16 hx)

theorem m_cmd4 {l : Launch} {G : zG} {h : zH} {n : Nat} {b0 : Nat} {w : Nat → Int32} {v : Nat → Int64} {R S D a lr er ls es lv ev : Nat} {ra sa va na ba : Nat → Nat} {c9 : Nat} (hDr : z_Dr G h b0 w v R S D a lr er ls es lv ev ra sa va na ba) (hb0 : z_n0 G ≤ b0) (hbn : b0 ≤ n) (hI : z_inv w v R S D c9) (hKS : z_KS G h) {c : Nat} (hc16 : c < 65536) (x y : Int32) : z_C l G yX2_addPair 40 100 1000 [.ref a, .int (nI c), .int x, .int y] h n (z_res G h n b0 w v R S D a 4 (nI c) x y) := by
  obtain ⟨hw, hrw, hiW, hfr, hnum⟩ := id hI
  obtain ⟨hR, hR4, hS, hS8, hD, hD6, hF⟩ := id hw
  have hL := hDr.ln
  rcases z_ix_pm hc16 with (rfl | rfl) | hx
  · have hp : (decide (nI 43 = nI 43) || decide (nI 43 = nI 45)) = true := by decide
    have hy : tC_why w R S D 4 (nI 43) x y = if (tw_isS S x && tw_isS S y) = false then (2, none) else tw_cStep S 3 := by show tw_cPair S (nI 43) x y = _; unfold tw_cPair; rw [hp]; rfl
    cases h1 : tw_isS S x
    · exact z_res_ex (k := 1) (by rw [hy, h1]; rfl) rfl (by omega) (by omega) (by omega) (m_X2_addPair_no2_p hL hS8 hKS h1)
    · obtain ⟨i, hi9, rfl⟩ := z_isS_of hS8 h1
      cases h2 : tw_isS S y
      · exact z_res_ex (k := 1) (by rw [hy, h1, h2]; rfl) rfl (by omega) (by omega) (by omega) (m_X2_addPair_no3_p hL hS8 hKS hi9 h2)
      · obtain ⟨j, hj9, rfl⟩ := z_isS_of hS8 h2
        have hy2 : tC_why w R S D 4 (nI 43) (nI i) (nI j) = tw_cStep S 3 := by rw [hy, h1, h2]; rfl
        by_cases h3 : S = 8
        · exact z_res_dn (k := 2) (hy2.trans (z_stp8 h3)) (by omega) (by omega) (by omega) (m_X2_addPair_no4_p hL hS8 hKS hi9 hj9 h3)
        · exact z_res_ok (g := (tw_ns0 (tw_nst w S (nI 43) (nI 0) i j) S (D + 1), tw_ns5 (tw_nst w S (nI 43) (nI 0) i j) R S v (D + 1), nI S, R, S + 1, D)) (by show tw_new w v R S D (nI 43) (nI 0) (tN (nI i)) (tN (nI j)) = _; rw [tN, tN, z_nIc (by omega), z_nIc (by omega)]; rfl) (by rw [hy2]; exact z_stp h3) (by omega) (by omega) (by omega) (m_X2_addPair_p hDr hb0 hR4 hD6 (by omega) hbn hiW hKS hi9 hj9)
  · have hp : (decide (nI 45 = nI 43) || decide (nI 45 = nI 45)) = true := by decide
    have hy : tC_why w R S D 4 (nI 45) x y = if (tw_isS S x && tw_isS S y) = false then (2, none) else tw_cStep S 3 := by show tw_cPair S (nI 45) x y = _; unfold tw_cPair; rw [hp]; rfl
    cases h1 : tw_isS S x
    · exact z_res_ex (k := 1) (by rw [hy, h1]; rfl) rfl (by omega) (by omega) (by omega) (m_X2_addPair_no2_m hL hS8 hKS h1)
    · obtain ⟨i, hi9, rfl⟩ := z_isS_of hS8 h1
      cases h2 : tw_isS S y
      · exact z_res_ex (k := 1) (by rw [hy, h1, h2]; rfl) rfl (by omega) (by omega) (by omega) (m_X2_addPair_no3_m hL hS8 hKS hi9 h2)
      · obtain ⟨j, hj9, rfl⟩ := z_isS_of hS8 h2
        have hy2 : tC_why w R S D 4 (nI 45) (nI i) (nI j) = tw_cStep S 3 := by rw [hy, h1, h2]; rfl
        by_cases h3 : S = 8
        · exact z_res_dn (k := 2) (hy2.trans (z_stp8 h3)) (by omega) (by omega) (by omega) (m_X2_addPair_no4_m hL hS8 hKS hi9 hj9 h3)
        · exact z_res_ok (g := (tw_ns0 (tw_nst w S (nI 45) (nI 0) i j) S (D + 1), tw_ns5 (tw_nst w S (nI 45) (nI 0) i j) R S v (D + 1), nI S, R, S + 1, D)) (by show tw_new w v R S D (nI 45) (nI 0) (tN (nI i)) (tN (nI j)) = _; rw [tN, tN, z_nIc (by omega), z_nIc (by omega)]; rfl) (by rw [hy2]; exact z_stp h3) (by omega) (by omega) (by omega) (m_X2_addPair_m hDr hb0 hR4 hD6 (by omega) hbn hiW hKS hi9 hj9)
  · exact z_res_ex (k := 0) (by show tw_cPair S (nI c) x y = _; unfold tw_cPair; rw [z_pm_no hc16 hx]; rfl) rfl (by omega) (by omega) (by omega) (m_X2_addPair_no1 hL hS8 hKS hc16 hx)
theorem m_cmd5 {l : Launch} {G : zG} {h : zH} {n : Nat} {b0 : Nat} {w : Nat → Int32} {v : Nat → Int64} {R S D a lr er ls es lv ev : Nat} {ra sa va na ba : Nat → Nat} {c9 : Nat} (hDr : z_Dr G h b0 w v R S D a lr er ls es lv ev ra sa va na ba) (hb0 : z_n0 G ≤ b0) (hbn : b0 ≤ n) (hI : z_inv w v R S D c9) (x : Int32) : z_C l G yX2_addRunning 40 100 1000 [.ref a, .int x] h n (z_res G h n b0 w v R S D a 5 x 0 0) := by
  obtain ⟨hw, hrw, hiW, hfr, hnum⟩ := id hI
  obtain ⟨hR, hR4, hS, hS8, hD, hD6, hF⟩ := id hw
  have hL := hDr.ln
  cases h1 : tw_isS S x
  · exact z_res_ex (k := 0) (by show tw_cRun S x = _; unfold tw_cRun; rw [h1]; rfl) rfl (by omega) (by omega) (by omega) (m_X2_addRunning_no1 hL hS8 h1)
  · obtain ⟨i, hi9, rfl⟩ := z_isS_of hS8 h1
    have hy : tC_why w R S D 5 (nI i) 0 0 = tw_cStep S 2 := by show tw_cRun S (nI i) = _; unfold tw_cRun; rw [h1]; rfl
    by_cases h3 : S = 8
    · exact z_res_dn (k := 1) (hy.trans (z_stp8 h3)) (by omega) (by omega) (by omega) (m_X2_addRunning_no2 hL hS8 hi9 h3)
    · exact z_res_ok (g := (tw_ns0 (tw_nst w S (nI 114) (nI 0) i i) S (D + 1), tw_ns5 (tw_nst w S (nI 114) (nI 0) i i) R S v (D + 1), nI S, R, S + 1, D)) (by show tw_new w v R S D (nI 114) (nI 0) (tN (nI i)) (tN (nI i)) = _; rw [tN, z_nIc (by omega)]; rfl) (by rw [hy]; exact z_stp h3) (by omega) (by omega) (by omega) (m_X2_addRunning_ok hDr hb0 hR4 hD6 (by omega) hbn hiW hi9)
theorem m_cmd6 {l : Launch} {G : zG} {h : zH} {n : Nat} {b0 : Nat} {w : Nat → Int32} {v : Nat → Int64} {R S D a lr er ls es lv ev : Nat} {ra sa va na ba : Nat → Nat} {c9 : Nat} (hDr : z_Dr G h b0 w v R S D a lr er ls es lv ev ra sa va na ba) (hb0 : z_n0 G ≤ b0) (hbn : b0 ≤ n) (hI : z_inv w v R S D c9) (x y : Int32) : z_C l G yX2_addBounded 40 100 1000 [.ref a, .int x, .int y] h n (z_res G h n b0 w v R S D a 6 x y 0) := by
  obtain ⟨hw, hrw, hiW, hfr, hnum⟩ := id hI
  obtain ⟨hR, hR4, hS, hS8, hD, hD6, hF⟩ := id hw
  have hL := hDr.ln
  cases h1 : tw_isS S x
  · exact z_res_ex (k := 0) (by show tw_cKeep S x y = _; unfold tw_cKeep; rw [h1]; rfl) rfl (by omega) (by omega) (by omega) (m_X2_addBounded_no1 hL hS8 h1)
  · obtain ⟨i, hi9, rfl⟩ := z_isS_of hS8 h1
    cases h2 : decide (nI 0 ≤ y ∧ y ≤ nI 99)
    · exact z_res_ex (k := 1) (by show tw_cKeep S (nI i) y = _; unfold tw_cKeep; rw [h1, h2]; rfl) rfl (by omega) (by omega) (by omega) (m_X2_addBounded_no2 hL hS8 hi9 h2)
    · obtain ⟨c2, -, hc9, rfl⟩ := z_rg (by omega) (by omega) h2
      have hy : tC_why w R S D 6 (nI i) (nI c2) 0 = tw_cStep S 3 := by show tw_cKeep S (nI i) (nI c2) = _; unfold tw_cKeep; rw [h1, h2]; rfl
      by_cases h3 : S = 8
      · exact z_res_dn (k := 2) (hy.trans (z_stp8 h3)) (by omega) (by omega) (by omega) (m_X2_addBounded_no3 hL hS8 hi9 hc9 h3)
      · exact z_res_ok (g := (tw_ns0 (tw_nst w S (nI 107) (nI c2) i i) S (D + 1), tw_ns5 (tw_nst w S (nI 107) (nI c2) i i) R S v (D + 1), nI S, R, S + 1, D)) (by show tw_new w v R S D (nI 107) (nI c2) (tN (nI i)) (tN (nI i)) = _; rw [tN, z_nIc (by omega)]; rfl) (by rw [hy]; exact z_stp h3) (by omega) (by omega) (by omega) (m_X2_addBounded_ok hDr hb0 hR4 hD6 (by omega) hbn hiW hi9 hc9)
theorem m_cmd7 {l : Launch} {G : zG} {h : zH} {n : Nat} {b0 : Nat} {w : Nat → Int32} {v : Nat → Int64} {R S D a lr er ls es lv ev : Nat} {ra sa va na ba : Nat → Nat} {c9 : Nat} (hDr : z_Dr G h b0 w v R S D a lr er ls es lv ev ra sa va na ba) (hb0 : z_n0 G ≤ b0) (hbn : b0 ≤ n) (hI : z_inv w v R S D c9) (x : Int32) : z_C l G yX2_removeStep 40 100 1000 [.ref a, .int x] h n (z_res G h n b0 w v R S D a 7 x 0 0) := by
  obtain ⟨hw, hrw, hiW, hfr, hnum⟩ := id hI
  obtain ⟨hR, hR4, hS, hS8, hD, hD6, hF⟩ := id hw
  have hL := hDr.ln
  cases h1 : tw_isS S x
  · exact z_res_ex (k := 0) (by show (if tw_isS S x then tw_cCut w S (tN x) else (1, none)) = _; rw [h1]; rfl) rfl (by omega) (by omega) (by omega) (m_X2_removeStep_no1 hL hS8 h1)
  · obtain ⟨k, hk, rfl⟩ := z_isS_of hS8 h1
    have hy : tC_why w R S D 7 (nI k) 0 0 = tw_cCut w S k := by show (if tw_isS S (nI k) then tw_cCut w S (tN (nI k)) else (1, none)) = _; rw [h1, tN, z_nIc (by omega)]; rfl
    cases h2 : tw_inpF w k (k + 1) (S - (k + 1)) with
    | none =>
      have h0 : (tw_cCut w S k).1 = 0 := by unfold tw_cCut; rw [h2]
      have hno := z_cut_no h0
      refine z_res_ok (g := (tw_cut w S k, tw_cut5 v S k, nI (S - 1), R, S - 1, D)) (by show (tw_cut w S (tN (nI k)), tw_cut5 v S (tN (nI k)), nI (S - 1), R, S - 1, D) = _; rw [tN, z_nIc (by omega)]) (by rw [hy]; exact h0) (by omega) (by omega) (by omega) (m_X2_removeStep_ok hDr hb0 hw hiW hk hno fun o ho => ?_)
      rcases Nat.lt_or_ge k o with z | z
      · rw [z_hi_inpt hw ho (by omega)]; exact hno o z ho
      · exact z_hi_lo hiW ho z
    | some o =>
      obtain ⟨g1, g2, g3, g4⟩ := z_inpF_some h2
      refine z_res_dn (k := 1) (by rw [hy]; unfold tw_cCut; rw [h2]) (by omega) (by omega) (by omega) (m_X2_removeStep_no2 hL hS8 hk (show o < S by omega) (by rw [z_hi_inpt hw (by omega) (by omega)]; exact g3) fun o' ho => ?_)
      rcases Nat.lt_or_ge k o' with z | z
      · rw [z_hi_inpt hw (by omega) (by omega)]; exact g4 o' (by omega) ho
      · exact z_hi_lo hiW (by omega) z
theorem m_cmd8 {l : Launch} {G : zG} {h : zH} {n : Nat} {b0 : Nat} {w : Nat → Int32} {v : Nat → Int64} {R S D a lr er ls es lv ev : Nat} {ra sa va na ba : Nat → Nat} {c9 : Nat} (hDr : z_Dr G h b0 w v R S D a lr er ls es lv ev ra sa va na ba) (hb0 : z_n0 G ≤ b0) (hbn : b0 ≤ n) (hI : z_inv w v R S D c9) (x : Int32) : z_C l G yX2_repair 40 100 1000 [.ref a, .int x] h n (z_res G h n b0 w v R S D a 8 x 0 0) := by
  obtain ⟨hw, hrw, hiW, hfr, hnum⟩ := id hI
  obtain ⟨hR, hR4, hS, hS8, hD, hD6, hF⟩ := id hw
  have hL := hDr.ln
  cases h1 : decide (nI 0 ≤ x ∧ x ≤ nI D)
  · exact z_res_ex (k := 0) (by rw [tC_why8, h1]; rfl) rfl (by omega) (by omega) (by omega) (m_X2_repair_no0 hL hD6 h1)
  · obtain ⟨d, hd, rfl⟩ := z_isD_of hD6 h1
    have hy : tC_why w R S D 8 (nI d) 0 0 = tw_cRep w S d := by rw [tC_why8, h1, tN, z_nIc (by omega)]; rfl
    cases h2 : tw_stF w S 0 d with
    | none =>
      refine z_res_ok (g := (tw_rep w S d, tw_rp5 w R d v S, nI (tw_rpc w d S), R, S, D)) (by rw [tC_go8, tN, z_nIc (by omega)]) (by rw [hy]; unfold tw_cRep; rw [h2]) (by omega) (by omega) (by omega) ((m_X2_repair_ok hDr hb0 hR4 hS8 hD6 hd h2).mono fun o h' n' q => ?_)
      obtain ⟨r9, z1, z2, z3, z4⟩ := q
      exact ⟨r9, z1, z2, z3.dr, z4⟩
    | some e =>
      exact z_res_dn (k := 1) (by rw [hy]; unfold tw_cRep; rw [h2]) (by omega) (by omega) (by omega) (m_X2_repair_no hL hS8 hD6 hd h2)

