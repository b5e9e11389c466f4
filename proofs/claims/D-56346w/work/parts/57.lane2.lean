set_option maxHeartbeats 1000000 in
theorem m_X1_groupNumber_ok {l : Launch} {G : zG} {h : zH} {n : Nat} {g : Nat} (hg : g < 5) : z_C l G yX1_groupNumber 8 1 6 [.int (nI (97 + g))] h n (z_rv (.int (nI g)) h n) := by
  refine z_start zk_X1_groupNumber zpl_RX1 (Nat.le_of_ble_eq_true rfl) ?_
  intro hn0 M hl hG ho hb hN hr hm hH hrm hQ
  subst hl hG
  have ho : zm_o M = RX1 := ho
  show z_V M h n 1 6 0 [(0, .int (nI (97 + g)))] []
  refine z_iload_n hb dX1_groupNumber_0 rfl ?_
  refine z_bipush (x := nI 97) hb dX1_groupNumber_1 (by decide) ?_
  refine z_bipush (x := nI 101) hb dX1_groupNumber_3 (by decide) ?_
  refine z_callC0 (b' := 0) (f' := 0) (rest := []) (av := [.int (nI (97 + g)), .int (nI 97), .int (nI 101)]) (z_siteS hb ho q1134 q1135 q94 ⟨_, _, _, _, zk_X1_requireRange⟩ zy_X1_requireRange zl_X1_requireRange dX1_groupNumber_5 : z_Site M _ _ _ _ _ ([.int (nI (97 + g)), .int (nI 97), .int (nI 101)].reverse ++ []) [] _) zk_X1_requireRange q94 hrm (m_X1_requireRange (nI (97 + g)) (nI 97) (nI 101)) (by omega) (by decide) (Nat.le_of_ble_eq_true rfl) (by omega) (by omega) (fun c_5 => ?_) (fun c_5 => ?_)
  · refine z_iload_n hb dX1_groupNumber_8 rfl ?_
    refine z_bipush (x := nI 97) hb dX1_groupNumber_9 (by decide) ?_
    refine z_isub hb dX1_groupNumber_11 ?_
    refine z_toI (y := nI g) ((pk_sub (by omega)).trans (congrArg nI (by omega))) ?_
    refine z_iret hb hr dX1_groupNumber_12 ?_
    rw [hQ]
    exact ⟨rfl, rfl, rfl⟩
  · rw [show decide (nI 97 ≤ nI (97 + g) ∧ nI (97 + g) ≤ nI 101) = true from z_inN (by omega) (by omega) (by omega)] at c_5; cases c_5

set_option maxHeartbeats 1000000 in
theorem m_X1_groupNumber_no {l : Launch} {G : zG} {h : zH} {n : Nat} {c : Int32} (hx : decide (nI 97 ≤ c ∧ c ≤ nI 101) = false) : z_C l G yX1_groupNumber 8 1 6 [.int c] h n (z_thr (z_up h n (.inr (27, []))) (n + 1) n) := by
  refine z_start zk_X1_groupNumber zpl_RX1 (Nat.le_of_ble_eq_true rfl) ?_
  intro hn0 M hl hG ho hb hN hr hm hH hrm hQ
  subst hl hG
  have ho : zm_o M = RX1 := ho
  show z_V M h n 1 6 0 [(0, .int c)] []
  refine z_iload_n hb dX1_groupNumber_0 rfl ?_
  refine z_bipush (x := nI 97) hb dX1_groupNumber_1 (by decide) ?_
  refine z_bipush (x := nI 101) hb dX1_groupNumber_3 (by decide) ?_
  refine z_callC0 (b' := 0) (f' := 0) (rest := []) (av := [.int c, .int (nI 97), .int (nI 101)]) (z_siteS hb ho q1134 q1135 q94 ⟨_, _, _, _, zk_X1_requireRange⟩ zy_X1_requireRange zl_X1_requireRange dX1_groupNumber_5 : z_Site M _ _ _ _ _ ([.int c, .int (nI 97), .int (nI 101)].reverse ++ []) [] _) zk_X1_requireRange q94 hrm (m_X1_requireRange c (nI 97) (nI 101)) (by omega) (by decide) (Nat.le_of_ble_eq_true rfl) (by omega) (by omega) (fun c_5 => ?_) (fun c_5 => ?_)
  · rw [hx] at c_5; cases c_5
  · exact z_out ho hH zc27 z_up_s (by omega) (fun _ h => nomatch h) (by rw [hQ]; exact ⟨rfl, rfl, rfl⟩)

set_option maxHeartbeats 1000000 in
theorem m_X2_requireDay_ok {l : Launch} {G : zG} {h : zH} {n : Nat} {t lr ls lv D : Nat} {ad re la rp : Int32} {d : Nat} (ht9 : h t = some (.inr (1, [.ref lr, .ref ls, .ref lv, .int (nI D), .int ad, .int re, .int la, .int rp]))) (hD6 : D ≤ 6) (hd : d ≤ D) : z_C l G yX2_requireDay 8 1 6 [.ref t, .int (nI d)] h n (z_r0 h n) := by
  refine z_start zk_X2_requireDay zpl_RX2 (Nat.le_of_ble_eq_true rfl) ?_
  intro hn0 M hl hG ho hb hN hr hm hH hrm hQ
  subst hl hG
  have ho : zm_o M = RX2 := ho
  show z_V M h n 1 6 0 [(0, .ref t), (1, .int (nI d))] []
  refine z_iload_n hb dX2_requireDay_0 rfl ?_
  refine z_iconst (x := nI 0) hb dX2_requireDay_1 (by decide) ?_
  refine z_aload_n hb dX2_requireDay_2 rfl ?_
  refine z_get (k := 3) (C := RX2) (T := TX2) (N := 8) hb ho zc1 in_X2 (zf_RX2_54 _) dX2_requireDay_3 ht9 (by decide) rfl ?_
  refine z_callC0 (b' := 0) (f' := 0) (rest := []) (av := [.int (nI d), .int (nI 0), .int (nI D)]) (z_siteSN hb ho q1148 q1135 q94 ⟨_, _, _, _, zk_X1_requireRange⟩ zy_X1_requireRange zl_X1_requireRange dX2_requireDay_6 : z_Site M _ _ _ _ _ ([.int (nI d), .int (nI 0), .int (nI D)].reverse ++ []) [] _) zk_X1_requireRange q94 hrm (m_X1_requireRange (nI d) (nI 0) (nI D)) (by omega) (by decide) (Nat.le_of_ble_eq_true rfl) (by omega) (by omega) (fun c_6 => ?_) (fun c_6 => ?_)
  · refine z_vret hb hr dX2_requireDay_9 ?_
    rw [hQ]
    exact ⟨rfl, rfl, rfl⟩
  · rw [z_inN (Nat.zero_le d) hd (by omega)] at c_6; cases c_6

set_option maxHeartbeats 1000000 in
theorem m_X2_requireDay_no {l : Launch} {G : zG} {h : zH} {n : Nat} {t lr ls lv D : Nat} {ad re la rp : Int32} {x : Int32} (ht9 : h t = some (.inr (1, [.ref lr, .ref ls, .ref lv, .int (nI D), .int ad, .int re, .int la, .int rp]))) (hD6 : D ≤ 6) (hx : decide (nI 0 ≤ x ∧ x ≤ nI D) = false) : z_C l G yX2_requireDay 8 1 6 [.ref t, .int x] h n (z_thr (z_up h n (.inr (27, []))) (n + 1) n) := by
  refine z_start zk_X2_requireDay zpl_RX2 (Nat.le_of_ble_eq_true rfl) ?_
  intro hn0 M hl hG ho hb hN hr hm hH hrm hQ
  subst hl hG
  have ho : zm_o M = RX2 := ho
  show z_V M h n 1 6 0 [(0, .ref t), (1, .int x)] []
  refine z_iload_n hb dX2_requireDay_0 rfl ?_
  refine z_iconst (x := nI 0) hb dX2_requireDay_1 (by decide) ?_
  refine z_aload_n hb dX2_requireDay_2 rfl ?_
  refine z_get (k := 3) (C := RX2) (T := TX2) (N := 8) hb ho zc1 in_X2 (zf_RX2_54 _) dX2_requireDay_3 ht9 (by decide) rfl ?_
  refine z_callC0 (b' := 0) (f' := 0) (rest := []) (av := [.int x, .int (nI 0), .int (nI D)]) (z_siteSN hb ho q1148 q1135 q94 ⟨_, _, _, _, zk_X1_requireRange⟩ zy_X1_requireRange zl_X1_requireRange dX2_requireDay_6 : z_Site M _ _ _ _ _ ([.int x, .int (nI 0), .int (nI D)].reverse ++ []) [] _) zk_X1_requireRange q94 hrm (m_X1_requireRange x (nI 0) (nI D)) (by omega) (by decide) (Nat.le_of_ble_eq_true rfl) (by omega) (by omega) (fun c_6 => ?_) (fun c_6 => ?_)
  · rw [hx] at c_6; cases c_6
  · exact z_out ho hH zc27 z_up_s (by omega) (fun _ h => nomatch h) (by rw [hQ]; exact ⟨rfl, rfl, rfl⟩)

/-- a list of k elements g -/
def z_Ls (G : zG) (h : zH) (a k : Nat) (g : Nat → Nat) : Prop := ∃ (e N : Nat) (m9 : Int32) (f : Nat → Option Nat), h a = some (.inr (20, [.int m9, .ref e, .int (nI k)])) ∧ h e = some (z_ao G N f) ∧ k ≤ N ∧ (N ≤ 200 ∧ N ≠ 17) ∧ ∀ j, j < k → f j = some (g j)
/-- row p of the numbers w, at its address -/
def z_Rw (h : zH) (w : Nat → Int32) (ra : Nat → Nat) (p : Nat) : Prop := h (ra p) = some (.inr (6, [.int (w (16 + 4 * p)), .int (w (16 + 4 * p + 1)), .int (w (16 + 4 * p + 2)), .int (w (16 + 4 * p + 3))]))
/-- step k of the numbers w, at its address; the inputs are earlier steps -/
def z_Sp (h : zH) (w : Nat → Int32) (sa : Nat → Nat) (k : Nat) : Prop :=
  (w (176 + 4 * k) = nI 115 ∧ h (sa k) = some (.inr (8, [.int (w (176 + 4 * k + 1)), .int (nI 115)]))) ∨
  (w (176 + 4 * k) = nI 110 ∧ h (sa k) = some (.inr (9, [.int (w (176 + 4 * k + 1)), .int (nI 110)]))) ∨
  (w (176 + 4 * k) = nI 120 ∧ h (sa k) = some (.inr (10, [.int (w (176 + 4 * k + 1)), .int (nI 120)]))) ∨
  (w (176 + 4 * k) = nI 43 ∧ tw_f w k < k ∧ tw_s w k < k ∧ h (sa k) = some (.inr (11, [.int (nI 43), .ref (sa (tw_f w k)), .ref (sa (tw_s w k)), .int (nI 1)]))) ∨
  (w (176 + 4 * k) = nI 45 ∧ tw_f w k < k ∧ tw_s w k < k ∧ h (sa k) = some (.inr (11, [.int (nI 45), .ref (sa (tw_f w k)), .ref (sa (tw_s w k)), .int (-1)]))) ∨
  (w (176 + 4 * k) = nI 114 ∧ tw_f w k < k ∧ tw_s w k = tw_f w k ∧ h (sa k) = some (.inr (12, [.ref (sa (tw_f w k)), .int (nI 114)]))) ∨
  (w (176 + 4 * k) = nI 107 ∧ tw_f w k < k ∧ tw_s w k = tw_f w k ∧ h (sa k) = some (.inr (13, [.ref (sa (tw_f w k)), .int (nI 107), .int (w (176 + 4 * k + 1))])))
/-- the view of step k -/
def z_Vw (G : zG) (h : zH) (w : Nat → Int32) (v : Nat → Int64) (D : Nat) (va : Nat → Nat) (k : Nat) : Prop := ∃ (e1 e2 : Nat) (F : Nat → Int64) (Z : Nat → Int32), h (va k) = some (.inr (3, [.ref e1, .ref e2])) ∧ h e1 = some (z_al G 35 F) ∧ h e2 = some (z_az G 7 Z) ∧
  (∀ d, d ≤ D → ∀ g, g < 5 → F (5 * d + g) = v (5 * (7 * k + d) + g)) ∧ (∀ d, d ≤ D → Z d = z_b (tw_st w k d)) ∧ ∀ i, i < 7 → ∃ b9, Z i = z_b b9
/-- the lane at a stands for the numbers w, v -/
def z_Ln (G : zG) (h : zH) (w : Nat → Int32) (v : Nat → Int64) (R S D a lr ls lv : Nat) (ra sa va : Nat → Nat) : Prop :=
  h a = some (.inr (1, [.ref lr, .ref ls, .ref lv, .int (nI D), .int (w 2), .int (w 4), .int (w 5), .int (w 6)])) ∧ z_Ls G h lr R ra ∧ z_Ls G h ls S sa ∧ z_Ls G h lv S va ∧
  (∀ p, p < R → z_Rw h w ra p) ∧ (∀ k, k < S → z_Sp h w sa k) ∧ (∀ k, k < S → z_Vw G h w v D va k) ∧ (∀ i j, i < S → j < S → sa i = sa j → i = j) ∧ ∀ i j, i < R → j < R → ra i = ra j → i = j

