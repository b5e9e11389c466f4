/-- what a command ends in: done, denied, or another exception -/
def z_xc (kd code : Nat) : Nat := match kd with
  | 1 => 26
  | 4 => if code = 1 then 27 else 28
  | 5 => 28
  | 6 => if code = 1 then 28 else 27
  | 7 => 28
  | _ => 27
def z_den (r d : Nat) : List Value := [.null, .null, .null, .null, .null, .int (nI 0), .int (nI r), .int (nI d)]
def z_res (G : zG) (h : zH) (n b0 : Nat) (w : Nat → Int32) (v : Nat → Int64) (R S D a kd : Nat) (x y z : Int32) : zQ := fun o h' n' =>
  ((tC_why w R S D kd x y z).1 = 0 ∧ z_q1 (fun r9 h' n' => r9 = .int (tC_go w v R S D kd x y z).2.2.1 ∧ z_DR G h' b0 (tC_go w v R S D kd x y z).1 (tC_go w v R S D kd x y z).2.1 (tC_go w v R S D kd x y z).2.2.2.1 (tC_go w v R S D kd x y z).2.2.2.2.1 (tC_go w v R S D kd x y z).2.2.2.2.2 a ∧ z_fb b0 h h') o h' n') ∨
  (∃ r d, (tC_why w R S D kd x y z).1 ≠ 0 ∧ (tC_why w R S D kd x y z).2 = some (r, d) ∧ z_tf 5 (z_den r d) h n o h' n') ∨
  ((tC_why w R S D kd x y z).1 ≠ 0 ∧ (tC_why w R S D kd x y z).2 = none ∧ z_tf (z_xc kd (tC_why w R S D kd x y z).1) [] h n o h' n')
section ZRES
variable {G : zG} {h : zH} {n b0 : Nat} {w : Nat → Int32} {v : Nat → Int64} {R S D a kd : Nat} {x y z : Int32} {l : Launch} {ym : MethodName} {r mc ms : Nat} {av : List Value}
theorem z_res_ok {g : tG} (hg : tC_go w v R S D kd x y z = g) (h0 : (tC_why w R S D kd x y z).1 = 0) (hr : r ≤ 40) (hc : mc ≤ 100) (hs : ms ≤ 1000) (C : z_C l G ym r mc ms av h n (z_q1 (fun r9 h' n' => r9 = .int g.2.2.1 ∧ z_DR G h' b0 g.1 g.2.1 g.2.2.2.1 g.2.2.2.2.1 g.2.2.2.2.2 a ∧ z_fb b0 h h'))) : z_C l G ym 40 100 1000 av h n (z_res G h n b0 w v R S D a kd x y z) := by
  refine (z_C.room hr hc hs C).mono fun o h' n' q => Or.inl ⟨h0, ?_⟩
  rw [hg]; exact q
theorem z_res_dn {k rr dd : Nat} (hy : tC_why w R S D kd x y z = (k + 1, some (rr, dd))) (hr : r ≤ 40) (hc : mc ≤ 100) (hs : ms ≤ 1000) (C : z_C l G ym r mc ms av h n (z_tf 5 (z_den rr dd) h n)) : z_C l G ym 40 100 1000 av h n (z_res G h n b0 w v R S D a kd x y z) :=
  (z_C.room hr hc hs C).mono fun o h' n' q => Or.inr (Or.inl ⟨rr, dd, by rw [hy]; exact Nat.succ_ne_zero _, by rw [hy], q⟩)
theorem z_res_ex {k ci : Nat} (hy : tC_why w R S D kd x y z = (k + 1, none)) (hx : z_xc kd (k + 1) = ci) (hr : r ≤ 40) (hc : mc ≤ 100) (hs : ms ≤ 1000) (C : z_C l G ym r mc ms av h n (z_tf ci [] h n)) : z_C l G ym 40 100 1000 av h n (z_res G h n b0 w v R S D a kd x y z) :=
  (z_C.room hr hc hs C).mono fun o h' n' q => Or.inr (Or.inr ⟨by rw [hy]; exact Nat.succ_ne_zero _, by rw [hy], by rw [hy]; show z_tf (z_xc kd (k + 1)) [] h n o h' n'; rw [hx]; exact q⟩)
end ZRES
theorem tw_rowF_none {w : Nat → Int32} {x : Int32} : ∀ {d k : Nat}, tw_rowF w x k d = none → ∀ p, k ≤ p → p < k + d → w (16 + 4 * p) ≠ x
  | 0, k, _, p, h1, h2 => by omega
  | d + 1, k, h, p, h1, h2 => by
    rw [tw_rowF] at h
    by_cases q : w (16 + 4 * k) = x
    · rw [if_pos q] at h; cases h
    · rw [if_neg q] at h
      by_cases z : p = k
      · rw [z]; exact q
      · exact tw_rowF_none h p (by omega) (by omega)
theorem tw_row_none {w : Nat → Int32} {R : Nat} {x : Int32} (h : tw_row w R x = none) : ∀ p, p < R → w (16 + 4 * p) ≠ x := fun p hp => tw_rowF_none h p (Nat.zero_le _) (by omega)
theorem z_rg {lo hi : Nat} {x : Int32} (hh : hi < 2 ^ 31) (hl : lo < 2 ^ 31) (hd : decide (nI lo ≤ x ∧ x ≤ nI hi) = true) : ∃ k, lo ≤ k ∧ k ≤ hi ∧ x = nI k := by
  have h1 := of_decide_eq_true hd
  obtain ⟨j, hj, rfl⟩ := nI_of (x := x) (by
    have h2 := h1.1
    rw [Int32.le_iff_toInt_le, nI_toInt hl] at h2
    rw [Int32.lt_iff_toInt_lt, Int32.toInt_zero]
    omega)
  exact ⟨j, (nI_leI hl hj).mp h1.1, (nI_leI hj hh).mp h1.2, rfl⟩

theorem m_cmd0 {l : Launch} {G : zG} {h : zH} {n : Nat} {b0 : Nat} {w : Nat → Int32} {v : Nat → Int64} {R S D a lr er ls es lv ev : Nat} {ra sa va na ba : Nat → Nat} {c9 : Nat} (hDr : z_Dr G h b0 w v R S D a lr er ls es lv ev ra sa va na ba) (hb0 : z_n0 G ≤ b0) (hbn : b0 ≤ n) (hI : z_inv w v R S D c9) {c : Nat} (hc16 : c < 65536) (x y : Int32) : z_C l G yX2_addRow 40 100 1000 [.ref a, .int (nI c), .int x, .int y] h n (z_res G h n b0 w v R S D a 0 (nI c) x y) := by
  obtain ⟨hw, hrw, hiW, hfr, hnum⟩ := id hI
  obtain ⟨hR, hR4, hS, hS8, hD, hD6, hF⟩ := id hw
  have hL := hDr.ln
  cases h1 : decide (nI 97 ≤ nI c ∧ nI c ≤ nI 101)
  · exact z_res_ex (k := 0) (by show tw_cRow R D (nI c) x y = _; unfold tw_cRow; rw [h1]; rfl) rfl (by omega) (by omega) (by omega) (m_X2_addRow_no1 hL h1)
  · obtain ⟨c', hc1, hc2, ec⟩ := z_rg (by omega) (by omega) h1
    obtain ⟨g, rfl⟩ : ∃ g, c' = 97 + g := ⟨c' - 97, by omega⟩
    rw [ec]
    have hg : g < 5 := by omega
    cases h2 : decide (nI 0 ≤ x ∧ x ≤ nI 6)
    · exact z_res_ex (k := 0) (by show tw_cRow R D (nI (97 + g)) x y = _; unfold tw_cRow; rw [← ec, h1, h2]; rfl) rfl (by omega) (by omega) (by omega) (m_X2_addRow_no2 hL hg h2)
    · obtain ⟨d, -, hd, rfl⟩ := z_rg (by omega) (by omega) h2
      cases h3 : decide (nI 0 ≤ y ∧ y ≤ nI 99)
      · exact z_res_ex (k := 0) (by show tw_cRow R D (nI (97 + g)) (nI d) y = _; unfold tw_cRow; rw [← ec, h1, h2, h3]; rfl) rfl (by omega) (by omega) (by omega) (m_X2_addRow_no3 hL hg hd h3)
      · obtain ⟨c2, -, hc9, rfl⟩ := z_rg (by omega) (by omega) h3
        by_cases h4 : D < d
        · exact z_res_dn (k := 1) (by show tw_cRow R D (nI (97 + g)) (nI d) (nI c2) = _; unfold tw_cRow; rw [← ec, h1, h2, h3, if_neg (by decide), if_pos (nI_lt h4 (by omega))]) (by omega) (by omega) (by omega) (m_X2_addRow_no4 hL hD6 hg hd hc9 h4)
        · by_cases h5 : R = 40
          · exact z_res_dn (k := 1) (by show tw_cRow R D (nI (97 + g)) (nI d) (nI c2) = _; unfold tw_cRow; rw [← ec, h1, h2, h3, if_neg (by decide), if_neg (nI_nlt (by omega) (by omega)), if_pos h5]) (by omega) (by omega) (by omega) (m_X2_addRow_no5 hL hD6 hg (by omega) hc9 h5)
          · have h0 : (tC_why w R S D 0 (nI (97 + g)) (nI d) (nI c2)).1 = 0 := by show (tw_cRow R D (nI (97 + g)) (nI d) (nI c2)).1 = 0; unfold tw_cRow; rw [← ec, h1, h2, h3, if_neg (by decide), if_neg (nI_nlt (by omega) (by omega)), if_neg h5]
            have hgo : tC_go w v R S D 0 (nI (97 + g)) (nI d) (nI c2) = tw_tch (tw_nrow w R g d c2) v (w 2) (R + 1) S D d := by
              show tw_tch (tw_nrow w R (tN (nI (97 + g)) - 97) (tN (nI d)) (tN (nI c2))) v (w 2) (R + 1) S D (tN (nI d)) = _
              rw [tN, tN, tN, z_nIc (by omega), z_nIc (by omega), z_nIc (by omega), show 97 + g - 97 = g by omega]
            by_cases h6 : d = D
            · subst h6
              exact z_res_ok (g := (tw_nrow w R g d c2, tw_tt (tw_nrow w R g d c2) (R + 1) d v S, w 2, R + 1, S, d)) (hgo.trans (by unfold tw_tch; rw [if_pos rfl])) h0 (by omega) (by omega) (by omega) (m_X2_addRow_now hDr hb0 hS8 hD6 (by omega) hg hc9 hiW hfr)
            · exact z_res_ok (g := (tw_sp (va_up (tw_nrow w R g d c2) 5 (tw_nrow w R g d c2 5 + nI 1)) d D S, v, w 2, R + 1, S, D)) (hgo.trans (by unfold tw_tch; rw [if_neg h6])) h0 (by omega) (by omega) (by omega) (m_X2_addRow_past hDr hb0 hS8 hD6 (by omega) hg hc9 hiW (by omega))
theorem m_cmd1 {l : Launch} {G : zG} {h : zH} {n : Nat} {b0 : Nat} {w : Nat → Int32} {v : Nat → Int64} {R S D a lr er ls es lv ev : Nat} {ra sa va na ba : Nat → Nat} {c9 : Nat} (hDr : z_Dr G h b0 w v R S D a lr er ls es lv ev ra sa va na ba) (hb0 : z_n0 G ≤ b0) (hbn : b0 ≤ n) (hI : z_inv w v R S D c9) (hOE : h (G.2.2.1 1003) = some (.inr (25, [.null]))) (x : Int32) : z_C l G yX2_removeRow 40 100 1000 [.ref a, .int x] h n (z_res G h n b0 w v R S D a 1 x 0 0) := by
  obtain ⟨hw, hrw, hiW, hfr, hnum⟩ := id hI
  obtain ⟨hR, hR4, hS, hS8, hD, hD6, hF⟩ := id hw
  have hL := hDr.ln
  cases hp : tw_row w R x with
  | none =>
    refine z_res_ex (k := 0) (by show (match tw_row w R x with | none => (1, none) | some _ => (0, none)) = _; rw [hp]) rfl (by omega) (by omega) (by omega) (m_X2_removeRow_no hL hOE hR4 (tw_row_none hp))
  | some p =>
    have h9 := tw_rowF_lt hp
    have hpR := tw_row_lt hp
    obtain ⟨d, g, c2, e1, hd, e2, hg, e3, hc9⟩ := hrw p hpR
    have h0 : (tC_why w R S D 1 x 0 0).1 = 0 := by show ((match tw_row w R x with | none => (1, none) | some _ => (0, none)) : Nat × Option (Nat × Nat)).1 = 0; rw [hp]
    have hgo : tC_go w v R S D 1 x 0 0 = tw_tch (tw_gone w R p) v (nI c2) (R - 1) S D d := by
      show (match tw_row w R x with | none => (w, v, 0, R, S, D) | some p => tw_tch (tw_gone w R p) v (w (16 + 4 * p + 3)) (R - 1) S D (tN (w (16 + 4 * p + 1)))) = _
      rw [hp]
      show tw_tch (tw_gone w R p) v (w (16 + 4 * p + 3)) (R - 1) S D (tN (w (16 + 4 * p + 1))) = _
      rw [e1, e3, tN, z_nIc (by omega)]
    by_cases h6 : d = D
    · subst h6
      exact z_res_ok (g := (tw_gone w R p, tw_tt (tw_gone w R p) (R - 1) d v S, nI c2, R - 1, S, d)) (hgo.trans (by unfold tw_tch; rw [if_pos rfl])) h0 (by omega) (by omega) (by omega) (m_X2_removeRow_now hDr hb0 hS8 hD6 hOE hR4 hpR h9.2.2 hnum.2.2 e1 e2 e3 hg hc9 hiW hfr)
    · exact z_res_ok (g := (tw_sp (va_up (tw_gone w R p) 5 (tw_gone w R p 5 + nI 1)) d D S, v, nI c2, R - 1, S, D)) (hgo.trans (by unfold tw_tch; rw [if_neg h6])) h0 (by omega) (by omega) (by omega) (m_X2_removeRow_past hDr hb0 hS8 hD6 hOE hR4 hpR h9.2.2 hnum.2.2 e1 e2 e3 hg hc9 hiW (by omega))
theorem m_cmd2 {l : Launch} {G : zG} {h : zH} {n : Nat} {b0 : Nat} {w : Nat → Int32} {v : Nat → Int64} {R S D a lr er ls es lv ev : Nat} {ra sa va na ba : Nat → Nat} {c9 : Nat} (hDr : z_Dr G h b0 w v R S D a lr er ls es lv ev ra sa va na ba) (hb0 : z_n0 G ≤ b0) (hbn : b0 ≤ n) (hI : z_inv w v R S D c9) : z_C l G yX2_beginDay 40 100 1000 [.ref a] h n (z_res G h n b0 w v R S D a 2 0 0 0) := by
  obtain ⟨hw, hrw, hiW, hfr, hnum⟩ := id hI
  obtain ⟨hR, hR4, hS, hS8, hD, hD6, hF⟩ := id hw
  have hL := hDr.ln
  by_cases h1 : D = 6
  · exact z_res_dn (k := 0) (by show tw_cBegin D = _; unfold tw_cBegin; rw [if_pos h1]) (by omega) (by omega) (by omega) (m_X2_beginDay_no hL h1)
  · refine z_res_ok (g := (tw_bg0 (va_up w 0 (nI (D + 1))) (D + 1) S, tw_bg5 (va_up w 0 (nI (D + 1))) R (D + 1) v S, nI (tw_bgc (va_up w 0 (nI (D + 1))) (D + 1) S), R, S, D + 1)) rfl (by show (tw_cBegin D).1 = 0; unfold tw_cBegin; rw [if_neg h1]) (by omega) (by omega) (by omega) ((m_X2_beginDay_ok hDr hb0 hR4 hS8 (by omega) hiW).mono fun o h' n' q => ?_)
    obtain ⟨r9, z1, z2, z3, z4⟩ := q
    exact ⟨r9, z1, z2, z3.dr, z4⟩

