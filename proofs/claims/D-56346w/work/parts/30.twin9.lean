/-- what a call of a change does to the state: its value, the numbers now and kept, the history and its depth -/
def tw_opv (w0 : Nat → Int32) (f : Nat → Int64) (R S D k : Nat) (a b c : Int32) : Int32 := if (tC_why w0 R S D k a b c).1 = 0 then (tC_go w0 f R S D k a b c).2.2.1 else 0
def tw_op0 (w0 : Nat → Int32) (f : Nat → Int64) (R S D k : Nat) (a b c : Int32) : Nat → Int32 := if (tC_why w0 R S D k a b c).1 = 0 then (tC_go w0 f R S D k a b c).1 else w0
def tw_op5 (w0 : Nat → Int32) (f : Nat → Int64) (R S D k : Nat) (a b c : Int32) : Nat → Int64 := if (tC_why w0 R S D k a b c).1 = 0 then (tC_go w0 f R S D k a b c).2.1 else f
def tw_op3 (w0 : Nat → Int32) (R S D k : Nat) (a b c : Int32) (w1 w3 : Nat → Int32) (dep : Nat) : Nat → Int32 := if (tC_why w0 R S D k a b c).1 = 0 then tw_c3 (va_cpy w0 w1 0 0 272) w3 dep else w3
def tw_op8 (w0 : Nat → Int32) (R S D k : Nat) (a b c : Int32) (f w6 w8 : Nat → Int64) (dep : Nat) : Nat → Int64 := if (tC_why w0 R S D k a b c).1 = 0 then tw_c8 (va_cpy f w6 0 0 280) w8 dep else w8
def tw_opd (w0 : Nat → Int32) (R S D k : Nat) (a b c : Int32) (dep : Nat) : Nat := if (tC_why w0 R S D k a b c).1 = 0 then tw_dep dep else dep
theorem tw_cStep_le {S c : Nat} (hc : c ≤ 3) : (tw_cStep S c).1 ≤ 3 := by
  unfold tw_cStep
  split
  · exact hc
  · decide
theorem tC_why_le {w0 : Nat → Int32} {R S D k : Nat} {a b c : Int32} : (tC_why w0 R S D k a b c).1 ≤ 3 := by
  unfold tC_why
  split
  all_goals first | unfold tw_cRow | unfold tw_cBegin | unfold tw_cBase | unfold tw_cPair | unfold tw_cRun | unfold tw_cKeep | skip
  all_goals repeat' split
  all_goals first | exact Nat.le_of_ble_eq_true rfl | exact tw_cStep_le (by decide) | (unfold tw_cCut; split <;> exact Nat.le_of_ble_eq_true rfl) | (unfold tw_cRep; split <;> exact Nat.le_of_ble_eq_true rfl)

set_option maxHeartbeats 1000000 in
theorem m_X3_addRow {l : Launch} {G : zG} {h : zH} {n : Nat} {t : Nat} {w0 : Nat → Int32} {w1 : Nat → Int32} {w2 : Nat → Int32} {w3 : Nat → Int32} {w4 : Nat → Int32} {w5 : Nat → Int64} {w6 : Nat → Int64} {w7 : Nat → Int64} {w8 : Nat → Int64} {w9 : Nat → Int64} {w10 : Nat → Int64} {w11 : Nat → Int64} {w12 : Int32} {w13 : Int32} {w14 : Int32} {w15 : Int32} {w16 : Int32} {w17 : Int32} {w18 : Bool} {w19 : Nat → Int32} {w20 : Int32} {w21 : Nat → Int32} {w22 : Nat → Int32} {w23 : Nat → Int32} {w24 : Int32} {w25 : Int32} {w26 : Int32} {w27 : Int32} {w28 : Bool} {R S D : Nat} {dep : Nat} {c d a : Int32}  (ht : z_n0 G ≤ t) (hw : z_ok w0 R S D) (hrw : z_rows w0 R D) (hd8 : dep ≤ 8) : z_C l G yX3_addRow 8 0 0 [.ref t, .int c, .int d, .int a] (z_tw G t w0 w1 w2 w3 w4 w5 w6 w7 w8 w9 w10 w11 w12 (nI dep) w14 w15 w16 w17 w18 w19 w20 w21 w22 w23 w24 w25 w26 w27 w28 h) n (z_rv (.int (tw_opv w0 w5 R S D 0 c d a)) (z_tw G t (tw_op0 w0 w5 R S D 0 c d a) (va_cpy w0 w1 0 0 272) w2 (tw_op3 w0 R S D 0 c d a w1 w3 dep) w4 (tw_op5 w0 w5 R S D 0 c d a) (va_cpy w5 w6 0 0 280) w7 (tw_op8 w0 R S D 0 c d a w5 w6 w8 dep) w9 w10 w11 (nI ((tC_why w0 R S D 0 c d a).1)) (nI (tw_opd w0 R S D 0 c d a dep)) w14 (tw_d15 (tC_why w0 R S D 0 c d a).2 w15) (tw_d16 (tC_why w0 R S D 0 c d a).2 w16) (tw_d17 (tC_why w0 R S D 0 c d a).2 w17) w18 w19 w20 w21 w22 w23 w24 w25 w26 w27 w28 h) n) := by
  refine z_start zk_X3_addRow zpl_RX3 (Nat.le_of_ble_eq_true rfl) ?_
  intro hn0 M hl hG ho hb hN hr hm hH hrm hQ
  subst hl hG
  have ho : zm_o M = RX3 := ho
  obtain ⟨hR, hR4, hS, hS8, hD, hD6, hF⟩ := id hw
  have hle : (tw_cRow R D c d a).1 ≤ 3 := tC_why_le (w0 := w0) (S := S) (k := 0) (a := c) (b := d) (c := a) (R := R) (D := D)
  show z_V M (z_tw (zm_G M) t w0 w1 w2 w3 w4 w5 w6 w7 w8 w9 w10 w11 w12 (nI dep) w14 w15 w16 w17 w18 w19 w20 w21 w22 w23 w24 w25 w26 w27 w28 h) n 0 0 0 [(0, .ref t), (1, .int c), (2, .int d), (3, .int a)] []
  refine z_aload_n hb dX3_addRow_0 rfl ?_
  refine z_call0 (b' := 0) (f' := 0) (rest := []) (av := [.ref t]) (z_siteV hb ho zc2 z_tw_o q2792 q2794 qs30 ⟨_, _, _, _, zk_X3_begin⟩ zy_X3_begin zl_X3_begin dX3_addRow_1 : z_Site M _ _ _ _ _ ([].reverse ++ .ref t :: []) [] _) zk_X3_begin q104 hrm (m_X3_begin ht) (by omega) (by decide) (Nat.le_of_ble_eq_true rfl) (by omega) (by omega) ?_
  refine z_aload_n hb dX3_addRow_4 rfl ?_
  refine z_iload_n hb dX3_addRow_5 rfl ?_
  refine z_iload_n hb dX3_addRow_6 rfl ?_
  refine z_iload_n hb dX3_addRow_7 rfl ?_
  refine z_call1 (b' := 0) (f' := 0) (rest := []) (av := [.ref t, .int c, .int d, .int a]) (z_siteV hb ho zc2 z_tw_o q2802 q2804 qs31 ⟨_, _, _, _, zk_X3_cannotRow⟩ zy_X3_cannotRow zl_X3_cannotRow dX3_addRow_8 : z_Site M _ _ _ _ _ ([.int c, .int d, .int a].reverse ++ .ref t :: []) [] _) zk_X3_cannotRow q104 hrm (m_X3_cannotRow c d a ht hw) (by omega) (by decide) (Nat.le_of_ble_eq_true rfl) (by omega) (by omega) ?_
  refine z_istore (lv' := [(4, .int (nI ((tw_cRow R D c d a).1))), (0, .ref t), (1, .int c), (2, .int d), (3, .int a)]) hb dX3_addRow_11 (by rw [hN]; decide) rfl ?_
  refine z_iload hb dX3_addRow_13 rfl ?_
  refine z_if_leN (tgt := 27) hb dX3_addRow_15 (by decide) (by omega) (fun c_15 => ?_) (fun c_15 => ?_)
  · refine z_aload_n hb dX3_addRow_27 rfl ?_
    refine z_aload_n hb dX3_addRow_28 rfl ?_
    refine z_iload_n hb dX3_addRow_29 rfl ?_
    refine z_bipush (x := nI 97) hb dX3_addRow_30 (by decide) ?_
    refine z_isub hb dX3_addRow_32 ?_
    refine z_iload_n hb dX3_addRow_33 rfl ?_
    refine z_iload_n hb dX3_addRow_34 rfl ?_
    refine z_call1 (b' := 0) (f' := 0) (rest := [.ref t]) (av := [.ref t, .int (c - (nI 97)), .int d, .int a]) (z_siteV hb ho zc2 z_tw_o q2820 q2822 qs34 ⟨_, _, _, _, zk_X3_newRow⟩ zy_X3_newRow zl_X3_newRow dX3_addRow_35 : z_Site M _ _ _ _ _ ([.int (c - (nI 97)), .int d, .int a].reverse ++ .ref t :: [.ref t]) [.ref t] _) zk_X3_newRow q104 hrm (m_do_row (u := 0) (v := 0) (u2 := 0) ht hw hrw c_15) (by omega) (by decide) (Nat.le_of_ble_eq_true rfl) (by omega) (by omega) ?_
    refine z_call1 (b' := 0) (f' := 0) (rest := []) (av := [.ref t, .int ((tC_go w0 w5 R S D 0 c d a).2.2.1)]) (z_siteV hb ho zc2 z_tw_o q2871 q2873 qs46 ⟨_, _, _, _, zk_X3_commit⟩ zy_X3_commit zl_X3_commit dX3_addRow_38 : z_Site M _ _ _ _ _ ([.int ((tC_go w0 w5 R S D 0 c d a).2.2.1)].reverse ++ .ref t :: []) [] _) zk_X3_commit q104 hrm (m_X3_commit (w13 := 0) ((tC_go w0 w5 R S D 0 c d a).2.2.1) ht hd8) (by omega) (by decide) (Nat.le_of_ble_eq_true rfl) (by omega) (by omega) ?_
    refine z_iret hb hr dX3_addRow_41 ?_
    rw [hQ]
    have e : (tC_why w0 R S D 0 c d a).1 = 0 := c_15
    rw [tw_opv, tw_op0, tw_op3, tw_op5, tw_op8, tw_opd, if_pos e, if_pos e, if_pos e, if_pos e, if_pos e, if_pos e]
    rw [e]
    exact ⟨rfl, rfl, rfl⟩
  · refine z_aload_n hb dX3_addRow_18 rfl ?_
    refine z_iload hb dX3_addRow_19 rfl ?_
    refine z_call1 (b' := 0) (f' := 0) (rest := []) (av := [.ref t, .int (nI ((tw_cRow R D c d a).1))]) (z_siteV hb ho zc2 z_tw_o q2816 q2818 qs33 ⟨_, _, _, _, zk_X3_fail⟩ zy_X3_fail zl_X3_fail dX3_addRow_21 : z_Site M _ _ _ _ _ ([.int (nI ((tw_cRow R D c d a).1))].reverse ++ .ref t :: []) [] _) zk_X3_fail q104 hrm (m_X3_fail (nI ((tw_cRow R D c d a).1)) ht) (by omega) (by decide) (Nat.le_of_ble_eq_true rfl) (by omega) (by omega) ?_
    refine z_goto (tgt := 41) hb dX3_addRow_24 (by decide) ?_
    refine z_iret hb hr dX3_addRow_41 ?_
    rw [hQ]
    have e : ¬(tC_why w0 R S D 0 c d a).1 = 0 := fun (e9 : (tw_cRow R D c d a).1 = 0) => by omega
    rw [tw_opv, tw_op0, tw_op3, tw_op5, tw_op8, tw_opd, if_neg e, if_neg e, if_neg e, if_neg e, if_neg e, if_neg e]
    exact ⟨rfl, rfl, rfl⟩

set_option maxHeartbeats 1000000 in
theorem m_X3_beginDay {l : Launch} {G : zG} {h : zH} {n : Nat} {t : Nat} {w0 : Nat → Int32} {w1 : Nat → Int32} {w2 : Nat → Int32} {w3 : Nat → Int32} {w4 : Nat → Int32} {w5 : Nat → Int64} {w6 : Nat → Int64} {w7 : Nat → Int64} {w8 : Nat → Int64} {w9 : Nat → Int64} {w10 : Nat → Int64} {w11 : Nat → Int64} {w12 : Int32} {w13 : Int32} {w14 : Int32} {w15 : Int32} {w16 : Int32} {w17 : Int32} {w18 : Bool} {w19 : Nat → Int32} {w20 : Int32} {w21 : Nat → Int32} {w22 : Nat → Int32} {w23 : Nat → Int32} {w24 : Int32} {w25 : Int32} {w26 : Int32} {w27 : Int32} {w28 : Bool} {R S D : Nat} {dep : Nat}   (ht : z_n0 G ≤ t) (hw : z_ok w0 R S D) (hrw : z_rows w0 R D) (hd8 : dep ≤ 8) : z_C l G yX3_beginDay 8 0 0 [.ref t] (z_tw G t w0 w1 w2 w3 w4 w5 w6 w7 w8 w9 w10 w11 w12 (nI dep) w14 w15 w16 w17 w18 w19 w20 w21 w22 w23 w24 w25 w26 w27 w28 h) n (z_rv (.int (tw_opv w0 w5 R S D 2 0 0 0)) (z_tw G t (tw_op0 w0 w5 R S D 2 0 0 0) (va_cpy w0 w1 0 0 272) w2 (tw_op3 w0 R S D 2 0 0 0 w1 w3 dep) w4 (tw_op5 w0 w5 R S D 2 0 0 0) (va_cpy w5 w6 0 0 280) w7 (tw_op8 w0 R S D 2 0 0 0 w5 w6 w8 dep) w9 w10 w11 (nI ((tC_why w0 R S D 2 0 0 0).1)) (nI (tw_opd w0 R S D 2 0 0 0 dep)) w14 (tw_d15 (tC_why w0 R S D 2 0 0 0).2 w15) (tw_d16 (tC_why w0 R S D 2 0 0 0).2 w16) (tw_d17 (tC_why w0 R S D 2 0 0 0).2 w17) w18 w19 w20 w21 w22 w23 w24 w25 w26 w27 w28 h) n) := by
  refine z_start zk_X3_beginDay zpl_RX3 (Nat.le_of_ble_eq_true rfl) ?_
  intro hn0 M hl hG ho hb hN hr hm hH hrm hQ
  subst hl hG
  have ho : zm_o M = RX3 := ho
  obtain ⟨hR, hR4, hS, hS8, hD, hD6, hF⟩ := id hw
  have hle : (tw_cBegin D).1 ≤ 3 := tC_why_le (w0 := w0) (S := S) (k := 2) (a := 0) (b := 0) (c := 0) (R := R) (D := D)
  show z_V M (z_tw (zm_G M) t w0 w1 w2 w3 w4 w5 w6 w7 w8 w9 w10 w11 w12 (nI dep) w14 w15 w16 w17 w18 w19 w20 w21 w22 w23 w24 w25 w26 w27 w28 h) n 0 0 0 [(0, .ref t)] []
  refine z_aload_n hb dX3_beginDay_0 rfl ?_
  refine z_call0 (b' := 0) (f' := 0) (rest := []) (av := [.ref t]) (z_siteV hb ho zc2 z_tw_o q2792 q2794 qs30 ⟨_, _, _, _, zk_X3_begin⟩ zy_X3_begin zl_X3_begin dX3_beginDay_1 : z_Site M _ _ _ _ _ ([].reverse ++ .ref t :: []) [] _) zk_X3_begin q104 hrm (m_X3_begin ht) (by omega) (by decide) (Nat.le_of_ble_eq_true rfl) (by omega) (by omega) ?_
  refine z_aload_n hb dX3_beginDay_4 rfl ?_
  refine z_call1 (b' := 0) (f' := 0) (rest := []) (av := [.ref t]) (z_siteV hb ho zc2 z_tw_o q2891 q2893 qs49 ⟨_, _, _, _, zk_X3_cannotBegin⟩ zy_X3_cannotBegin zl_X3_cannotBegin dX3_beginDay_5 : z_Site M _ _ _ _ _ ([].reverse ++ .ref t :: []) [] _) zk_X3_cannotBegin q104 hrm (m_X3_cannotBegin ht hw) (by omega) (by decide) (Nat.le_of_ble_eq_true rfl) (by omega) (by omega) ?_
  refine z_istore_n (lv' := [(1, .int (nI ((tw_cBegin D).1))), (0, .ref t)]) hb dX3_beginDay_8 (by rw [hN]; decide) rfl ?_
  refine z_iload_n hb dX3_beginDay_9 rfl ?_
  refine z_if_leN (tgt := 21) hb dX3_beginDay_10 (by decide) (by omega) (fun c_10 => ?_) (fun c_10 => ?_)
  · refine z_aload_n hb dX3_beginDay_21 rfl ?_
    refine z_aload_n hb dX3_beginDay_22 rfl ?_
    refine z_call1 (b' := 0) (f' := 0) (rest := [.ref t]) (av := [.ref t]) (z_siteV hb ho zc2 z_tw_o q2895 q2897 qs50 ⟨_, _, _, _, zk_X3_begins⟩ zy_X3_begins zl_X3_begins dX3_beginDay_23 : z_Site M _ _ _ _ _ ([].reverse ++ .ref t :: [.ref t]) [.ref t] _) zk_X3_begins q104 hrm (m_do_next (u := 0) (v := 0) (u2 := 0) ht hw hrw c_10) (by omega) (by decide) (Nat.le_of_ble_eq_true rfl) (by omega) (by omega) ?_
    refine z_call1 (b' := 0) (f' := 0) (rest := []) (av := [.ref t, .int ((tC_go w0 w5 R S D 2 0 0 0).2.2.1)]) (z_siteV hb ho zc2 z_tw_o q2871 q2873 qs46 ⟨_, _, _, _, zk_X3_commit⟩ zy_X3_commit zl_X3_commit dX3_beginDay_26 : z_Site M _ _ _ _ _ ([.int ((tC_go w0 w5 R S D 2 0 0 0).2.2.1)].reverse ++ .ref t :: []) [] _) zk_X3_commit q104 hrm (m_X3_commit (w13 := 0) ((tC_go w0 w5 R S D 2 0 0 0).2.2.1) ht hd8) (by omega) (by decide) (Nat.le_of_ble_eq_true rfl) (by omega) (by omega) ?_
    refine z_iret hb hr dX3_beginDay_29 ?_
    rw [hQ]
    have e : (tC_why w0 R S D 2 0 0 0).1 = 0 := c_10
    rw [tw_opv, tw_op0, tw_op3, tw_op5, tw_op8, tw_opd, if_pos e, if_pos e, if_pos e, if_pos e, if_pos e, if_pos e]
    rw [e]
    exact ⟨rfl, rfl, rfl⟩
  · refine z_aload_n hb dX3_beginDay_13 rfl ?_
    refine z_iload_n hb dX3_beginDay_14 rfl ?_
    refine z_call1 (b' := 0) (f' := 0) (rest := []) (av := [.ref t, .int (nI ((tw_cBegin D).1))]) (z_siteV hb ho zc2 z_tw_o q2816 q2818 qs33 ⟨_, _, _, _, zk_X3_fail⟩ zy_X3_fail zl_X3_fail dX3_beginDay_15 : z_Site M _ _ _ _ _ ([.int (nI ((tw_cBegin D).1))].reverse ++ .ref t :: []) [] _) zk_X3_fail q104 hrm (m_X3_fail (nI ((tw_cBegin D).1)) ht) (by omega) (by decide) (Nat.le_of_ble_eq_true rfl) (by omega) (by omega) ?_
    refine z_goto (tgt := 29) hb dX3_beginDay_18 (by decide) ?_
    refine z_iret hb hr dX3_beginDay_29 ?_
    rw [hQ]
    have e : ¬(tC_why w0 R S D 2 0 0 0).1 = 0 := fun (e9 : (tw_cBegin D).1 = 0) => by omega
    rw [tw_opv, tw_op0, tw_op3, tw_op5, tw_op8, tw_opd, if_neg e, if_neg e, if_neg e, if_neg e, if_neg e, if_neg e]
    exact ⟨rfl, rfl, rfl⟩

set_option maxHeartbeats 1000000 in
theorem m_X3_addBase {l : Launch} {G : zG} {h : zH} {n : Nat} {t : Nat} {w0 : Nat → Int32} {w1 : Nat → Int32} {w2 : Nat → Int32} {w3 : Nat → Int32} {w4 : Nat → Int32} {w5 : Nat → Int64} {w6 : Nat → Int64} {w7 : Nat → Int64} {w8 : Nat → Int64} {w9 : Nat → Int64} {w10 : Nat → Int64} {w11 : Nat → Int64} {w12 : Int32} {w13 : Int32} {w14 : Int32} {w15 : Int32} {w16 : Int32} {w17 : Int32} {w18 : Bool} {w19 : Nat → Int32} {w20 : Int32} {w21 : Nat → Int32} {w22 : Nat → Int32} {w23 : Nat → Int32} {w24 : Int32} {w25 : Int32} {w26 : Int32} {w27 : Int32} {w28 : Bool} {R S D : Nat} {dep : Nat} {c b : Int32}  (ht : z_n0 G ≤ t) (hw : z_ok w0 R S D) (hrw : z_rows w0 R D) (hd8 : dep ≤ 8) : z_C l G yX3_addBase 8 0 0 [.ref t, .int c, .int b] (z_tw G t w0 w1 w2 w3 w4 w5 w6 w7 w8 w9 w10 w11 w12 (nI dep) w14 w15 w16 w17 w18 w19 w20 w21 w22 w23 w24 w25 w26 w27 w28 h) n (z_rv (.int (tw_opv w0 w5 R S D 3 c b 0)) (z_tw G t (tw_op0 w0 w5 R S D 3 c b 0) (va_cpy w0 w1 0 0 272) w2 (tw_op3 w0 R S D 3 c b 0 w1 w3 dep) w4 (tw_op5 w0 w5 R S D 3 c b 0) (va_cpy w5 w6 0 0 280) w7 (tw_op8 w0 R S D 3 c b 0 w5 w6 w8 dep) w9 w10 w11 (nI ((tC_why w0 R S D 3 c b 0).1)) (nI (tw_opd w0 R S D 3 c b 0 dep)) w14 (tw_d15 (tC_why w0 R S D 3 c b 0).2 w15) (tw_d16 (tC_why w0 R S D 3 c b 0).2 w16) (tw_d17 (tC_why w0 R S D 3 c b 0).2 w17) w18 w19 w20 w21 w22 w23 w24 w25 w26 w27 w28 h) n) := by
  refine z_start zk_X3_addBase zpl_RX3 (Nat.le_of_ble_eq_true rfl) ?_
  intro hn0 M hl hG ho hb hN hr hm hH hrm hQ
  subst hl hG
  have ho : zm_o M = RX3 := ho
  obtain ⟨hR, hR4, hS, hS8, hD, hD6, hF⟩ := id hw
  have hle : (tw_cBase S c b).1 ≤ 3 := tC_why_le (w0 := w0) (S := S) (k := 3) (a := c) (b := b) (c := 0) (R := R) (D := D)
  show z_V M (z_tw (zm_G M) t w0 w1 w2 w3 w4 w5 w6 w7 w8 w9 w10 w11 w12 (nI dep) w14 w15 w16 w17 w18 w19 w20 w21 w22 w23 w24 w25 w26 w27 w28 h) n 0 0 0 [(0, .ref t), (1, .int c), (2, .int b)] []
  refine z_aload_n hb dX3_addBase_0 rfl ?_
  refine z_call0 (b' := 0) (f' := 0) (rest := []) (av := [.ref t]) (z_siteV hb ho zc2 z_tw_o q2792 q2794 qs30 ⟨_, _, _, _, zk_X3_begin⟩ zy_X3_begin zl_X3_begin dX3_addBase_1 : z_Site M _ _ _ _ _ ([].reverse ++ .ref t :: []) [] _) zk_X3_begin q104 hrm (m_X3_begin ht) (by omega) (by decide) (Nat.le_of_ble_eq_true rfl) (by omega) (by omega) ?_
  refine z_aload_n hb dX3_addBase_4 rfl ?_
  refine z_iload_n hb dX3_addBase_5 rfl ?_
  refine z_iload_n hb dX3_addBase_6 rfl ?_
  refine z_call1 (b' := 0) (f' := 0) (rest := []) (av := [.ref t, .int c, .int b]) (z_siteV hb ho zc2 z_tw_o q2907 q2909 qs52 ⟨_, _, _, _, zk_X3_cannotBase⟩ zy_X3_cannotBase zl_X3_cannotBase dX3_addBase_7 : z_Site M _ _ _ _ _ ([.int c, .int b].reverse ++ .ref t :: []) [] _) zk_X3_cannotBase q104 hrm (m_X3_cannotBase c b ht hw) (by omega) (by decide) (Nat.le_of_ble_eq_true rfl) (by omega) (by omega) ?_
  refine z_istore_n (lv' := [(3, .int (nI ((tw_cBase S c b).1))), (0, .ref t), (1, .int c), (2, .int b)]) hb dX3_addBase_10 (by rw [hN]; decide) rfl ?_
  refine z_iload_n hb dX3_addBase_11 rfl ?_
  refine z_if_leN (tgt := 23) hb dX3_addBase_12 (by decide) (by omega) (fun c_12 => ?_) (fun c_12 => ?_)
  · refine z_aload_n hb dX3_addBase_23 rfl ?_
    refine z_aload_n hb dX3_addBase_24 rfl ?_
    refine z_iload_n hb dX3_addBase_25 rfl ?_
    refine z_iload_n hb dX3_addBase_26 rfl ?_
    refine z_iconst (x := nI 0) hb dX3_addBase_27 (by decide) ?_
    refine z_iconst (x := nI 0) hb dX3_addBase_28 (by decide) ?_
    refine z_call1 (b' := 0) (f' := 0) (rest := [.ref t]) (av := [.ref t, .int c, .int b, .int (nI 0), .int (nI 0)]) (z_siteV hb ho zc2 z_tw_o q2915 q2917 qs54 ⟨_, _, _, _, zk_X3_newStep⟩ zy_X3_newStep zl_X3_newStep dX3_addBase_29 : z_Site M _ _ _ _ _ ([.int c, .int b, .int (nI 0), .int (nI 0)].reverse ++ .ref t :: [.ref t]) [.ref t] _) zk_X3_newStep q104 hrm (m_do_base (u := 0) (v := 0) (u2 := 0) ht hw hrw c_12) (by omega) (by decide) (Nat.le_of_ble_eq_true rfl) (by omega) (by omega) ?_
    refine z_call1 (b' := 0) (f' := 0) (rest := []) (av := [.ref t, .int ((tC_go w0 w5 R S D 3 c b 0).2.2.1)]) (z_siteV hb ho zc2 z_tw_o q2871 q2873 qs46 ⟨_, _, _, _, zk_X3_commit⟩ zy_X3_commit zl_X3_commit dX3_addBase_32 : z_Site M _ _ _ _ _ ([.int ((tC_go w0 w5 R S D 3 c b 0).2.2.1)].reverse ++ .ref t :: []) [] _) zk_X3_commit q104 hrm (m_X3_commit (w13 := 0) ((tC_go w0 w5 R S D 3 c b 0).2.2.1) ht hd8) (by omega) (by decide) (Nat.le_of_ble_eq_true rfl) (by omega) (by omega) ?_
    refine z_iret hb hr dX3_addBase_35 ?_
    rw [hQ]
    have e : (tC_why w0 R S D 3 c b 0).1 = 0 := c_12
    rw [tw_opv, tw_op0, tw_op3, tw_op5, tw_op8, tw_opd, if_pos e, if_pos e, if_pos e, if_pos e, if_pos e, if_pos e]
    rw [e]
    exact ⟨rfl, rfl, rfl⟩
  · refine z_aload_n hb dX3_addBase_15 rfl ?_
    refine z_iload_n hb dX3_addBase_16 rfl ?_
    refine z_call1 (b' := 0) (f' := 0) (rest := []) (av := [.ref t, .int (nI ((tw_cBase S c b).1))]) (z_siteV hb ho zc2 z_tw_o q2816 q2818 qs33 ⟨_, _, _, _, zk_X3_fail⟩ zy_X3_fail zl_X3_fail dX3_addBase_17 : z_Site M _ _ _ _ _ ([.int (nI ((tw_cBase S c b).1))].reverse ++ .ref t :: []) [] _) zk_X3_fail q104 hrm (m_X3_fail (nI ((tw_cBase S c b).1)) ht) (by omega) (by decide) (Nat.le_of_ble_eq_true rfl) (by omega) (by omega) ?_
    refine z_goto (tgt := 35) hb dX3_addBase_20 (by decide) ?_
    refine z_iret hb hr dX3_addBase_35 ?_
    rw [hQ]
    have e : ¬(tC_why w0 R S D 3 c b 0).1 = 0 := fun (e9 : (tw_cBase S c b).1 = 0) => by omega
    rw [tw_opv, tw_op0, tw_op3, tw_op5, tw_op8, tw_opd, if_neg e, if_neg e, if_neg e, if_neg e, if_neg e, if_neg e]
    exact ⟨rfl, rfl, rfl⟩

set_option maxHeartbeats 1000000 in
theorem m_X3_addPair {l : Launch} {G : zG} {h : zH} {n : Nat} {t : Nat} {w0 : Nat → Int32} {w1 : Nat → Int32} {w2 : Nat → Int32} {w3 : Nat → Int32} {w4 : Nat → Int32} {w5 : Nat → Int64} {w6 : Nat → Int64} {w7 : Nat → Int64} {w8 : Nat → Int64} {w9 : Nat → Int64} {w10 : Nat → Int64} {w11 : Nat → Int64} {w12 : Int32} {w13 : Int32} {w14 : Int32} {w15 : Int32} {w16 : Int32} {w17 : Int32} {w18 : Bool} {w19 : Nat → Int32} {w20 : Int32} {w21 : Nat → Int32} {w22 : Nat → Int32} {w23 : Nat → Int32} {w24 : Int32} {w25 : Int32} {w26 : Int32} {w27 : Int32} {w28 : Bool} {R S D : Nat} {dep : Nat} {c x y : Int32}  (ht : z_n0 G ≤ t) (hw : z_ok w0 R S D) (hrw : z_rows w0 R D) (hd8 : dep ≤ 8) : z_C l G yX3_addPair 8 0 0 [.ref t, .int c, .int x, .int y] (z_tw G t w0 w1 w2 w3 w4 w5 w6 w7 w8 w9 w10 w11 w12 (nI dep) w14 w15 w16 w17 w18 w19 w20 w21 w22 w23 w24 w25 w26 w27 w28 h) n (z_rv (.int (tw_opv w0 w5 R S D 4 c x y)) (z_tw G t (tw_op0 w0 w5 R S D 4 c x y) (va_cpy w0 w1 0 0 272) w2 (tw_op3 w0 R S D 4 c x y w1 w3 dep) w4 (tw_op5 w0 w5 R S D 4 c x y) (va_cpy w5 w6 0 0 280) w7 (tw_op8 w0 R S D 4 c x y w5 w6 w8 dep) w9 w10 w11 (nI ((tC_why w0 R S D 4 c x y).1)) (nI (tw_opd w0 R S D 4 c x y dep)) w14 (tw_d15 (tC_why w0 R S D 4 c x y).2 w15) (tw_d16 (tC_why w0 R S D 4 c x y).2 w16) (tw_d17 (tC_why w0 R S D 4 c x y).2 w17) w18 w19 w20 w21 w22 w23 w24 w25 w26 w27 w28 h) n) := by
  refine z_start zk_X3_addPair zpl_RX3 (Nat.le_of_ble_eq_true rfl) ?_
  intro hn0 M hl hG ho hb hN hr hm hH hrm hQ
  subst hl hG
  have ho : zm_o M = RX3 := ho
  obtain ⟨hR, hR4, hS, hS8, hD, hD6, hF⟩ := id hw
  have hle : (tw_cPair S c x y).1 ≤ 3 := tC_why_le (w0 := w0) (S := S) (k := 4) (a := c) (b := x) (c := y) (R := R) (D := D)
  show z_V M (z_tw (zm_G M) t w0 w1 w2 w3 w4 w5 w6 w7 w8 w9 w10 w11 w12 (nI dep) w14 w15 w16 w17 w18 w19 w20 w21 w22 w23 w24 w25 w26 w27 w28 h) n 0 0 0 [(0, .ref t), (1, .int c), (2, .int x), (3, .int y)] []
  refine z_aload_n hb dX3_addPair_0 rfl ?_
  refine z_call0 (b' := 0) (f' := 0) (rest := []) (av := [.ref t]) (z_siteV hb ho zc2 z_tw_o q2792 q2794 qs30 ⟨_, _, _, _, zk_X3_begin⟩ zy_X3_begin zl_X3_begin dX3_addPair_1 : z_Site M _ _ _ _ _ ([].reverse ++ .ref t :: []) [] _) zk_X3_begin q104 hrm (m_X3_begin ht) (by omega) (by decide) (Nat.le_of_ble_eq_true rfl) (by omega) (by omega) ?_
  refine z_aload_n hb dX3_addPair_4 rfl ?_
  refine z_iload_n hb dX3_addPair_5 rfl ?_
  refine z_iload_n hb dX3_addPair_6 rfl ?_
  refine z_iload_n hb dX3_addPair_7 rfl ?_
  refine z_call1 (b' := 0) (f' := 0) (rest := []) (av := [.ref t, .int c, .int x, .int y]) (z_siteV hb ho zc2 z_tw_o q2923 q2925 qs55 ⟨_, _, _, _, zk_X3_cannotPair⟩ zy_X3_cannotPair zl_X3_cannotPair dX3_addPair_8 : z_Site M _ _ _ _ _ ([.int c, .int x, .int y].reverse ++ .ref t :: []) [] _) zk_X3_cannotPair q104 hrm (m_X3_cannotPair c x y ht hw) (by omega) (by decide) (Nat.le_of_ble_eq_true rfl) (by omega) (by omega) ?_
  refine z_istore (lv' := [(4, .int (nI ((tw_cPair S c x y).1))), (0, .ref t), (1, .int c), (2, .int x), (3, .int y)]) hb dX3_addPair_11 (by rw [hN]; decide) rfl ?_
  refine z_iload hb dX3_addPair_13 rfl ?_
  refine z_if_leN (tgt := 27) hb dX3_addPair_15 (by decide) (by omega) (fun c_15 => ?_) (fun c_15 => ?_)
  · refine z_aload_n hb dX3_addPair_27 rfl ?_
    refine z_aload_n hb dX3_addPair_28 rfl ?_
    refine z_iload_n hb dX3_addPair_29 rfl ?_
    refine z_iconst (x := nI 0) hb dX3_addPair_30 (by decide) ?_
    refine z_iload_n hb dX3_addPair_31 rfl ?_
    refine z_iload_n hb dX3_addPair_32 rfl ?_
    refine z_call1 (b' := 0) (f' := 0) (rest := [.ref t]) (av := [.ref t, .int c, .int (nI 0), .int x, .int y]) (z_siteV hb ho zc2 z_tw_o q2915 q2917 qs54 ⟨_, _, _, _, zk_X3_newStep⟩ zy_X3_newStep zl_X3_newStep dX3_addPair_33 : z_Site M _ _ _ _ _ ([.int c, .int (nI 0), .int x, .int y].reverse ++ .ref t :: [.ref t]) [.ref t] _) zk_X3_newStep q104 hrm (m_do_pair (u := 0) (v := 0) (u2 := 0) ht hw hrw c_15) (by omega) (by decide) (Nat.le_of_ble_eq_true rfl) (by omega) (by omega) ?_
    refine z_call1 (b' := 0) (f' := 0) (rest := []) (av := [.ref t, .int ((tC_go w0 w5 R S D 4 c x y).2.2.1)]) (z_siteV hb ho zc2 z_tw_o q2871 q2873 qs46 ⟨_, _, _, _, zk_X3_commit⟩ zy_X3_commit zl_X3_commit dX3_addPair_36 : z_Site M _ _ _ _ _ ([.int ((tC_go w0 w5 R S D 4 c x y).2.2.1)].reverse ++ .ref t :: []) [] _) zk_X3_commit q104 hrm (m_X3_commit (w13 := 0) ((tC_go w0 w5 R S D 4 c x y).2.2.1) ht hd8) (by omega) (by decide) (Nat.le_of_ble_eq_true rfl) (by omega) (by omega) ?_
    refine z_iret hb hr dX3_addPair_39 ?_
    rw [hQ]
    have e : (tC_why w0 R S D 4 c x y).1 = 0 := c_15
    rw [tw_opv, tw_op0, tw_op3, tw_op5, tw_op8, tw_opd, if_pos e, if_pos e, if_pos e, if_pos e, if_pos e, if_pos e]
    rw [e]
    exact ⟨rfl, rfl, rfl⟩
  · refine z_aload_n hb dX3_addPair_18 rfl ?_
    refine z_iload hb dX3_addPair_19 rfl ?_
    refine z_call1 (b' := 0) (f' := 0) (rest := []) (av := [.ref t, .int (nI ((tw_cPair S c x y).1))]) (z_siteV hb ho zc2 z_tw_o q2816 q2818 qs33 ⟨_, _, _, _, zk_X3_fail⟩ zy_X3_fail zl_X3_fail dX3_addPair_21 : z_Site M _ _ _ _ _ ([.int (nI ((tw_cPair S c x y).1))].reverse ++ .ref t :: []) [] _) zk_X3_fail q104 hrm (m_X3_fail (nI ((tw_cPair S c x y).1)) ht) (by omega) (by decide) (Nat.le_of_ble_eq_true rfl) (by omega) (by omega) ?_
    refine z_goto (tgt := 39) hb dX3_addPair_24 (by decide) ?_
    refine z_iret hb hr dX3_addPair_39 ?_
    rw [hQ]
    have e : ¬(tC_why w0 R S D 4 c x y).1 = 0 := fun (e9 : (tw_cPair S c x y).1 = 0) => by omega
    rw [tw_opv, tw_op0, tw_op3, tw_op5, tw_op8, tw_opd, if_neg e, if_neg e, if_neg e, if_neg e, if_neg e, if_neg e]
    exact ⟨rfl, rfl, rfl⟩

set_option maxHeartbeats 1000000 in
theorem m_X3_addRunning {l : Launch} {G : zG} {h : zH} {n : Nat} {t : Nat} {w0 : Nat → Int32} {w1 : Nat → Int32} {w2 : Nat → Int32} {w3 : Nat → Int32} {w4 : Nat → Int32} {w5 : Nat → Int64} {w6 : Nat → Int64} {w7 : Nat → Int64} {w8 : Nat → Int64} {w9 : Nat → Int64} {w10 : Nat → Int64} {w11 : Nat → Int64} {w12 : Int32} {w13 : Int32} {w14 : Int32} {w15 : Int32} {w16 : Int32} {w17 : Int32} {w18 : Bool} {w19 : Nat → Int32} {w20 : Int32} {w21 : Nat → Int32} {w22 : Nat → Int32} {w23 : Nat → Int32} {w24 : Int32} {w25 : Int32} {w26 : Int32} {w27 : Int32} {w28 : Bool} {R S D : Nat} {dep : Nat} {x : Int32}  (ht : z_n0 G ≤ t) (hw : z_ok w0 R S D) (hrw : z_rows w0 R D) (hd8 : dep ≤ 8) : z_C l G yX3_addRunning 8 0 0 [.ref t, .int x] (z_tw G t w0 w1 w2 w3 w4 w5 w6 w7 w8 w9 w10 w11 w12 (nI dep) w14 w15 w16 w17 w18 w19 w20 w21 w22 w23 w24 w25 w26 w27 w28 h) n (z_rv (.int (tw_opv w0 w5 R S D 5 x 0 0)) (z_tw G t (tw_op0 w0 w5 R S D 5 x 0 0) (va_cpy w0 w1 0 0 272) w2 (tw_op3 w0 R S D 5 x 0 0 w1 w3 dep) w4 (tw_op5 w0 w5 R S D 5 x 0 0) (va_cpy w5 w6 0 0 280) w7 (tw_op8 w0 R S D 5 x 0 0 w5 w6 w8 dep) w9 w10 w11 (nI ((tC_why w0 R S D 5 x 0 0).1)) (nI (tw_opd w0 R S D 5 x 0 0 dep)) w14 (tw_d15 (tC_why w0 R S D 5 x 0 0).2 w15) (tw_d16 (tC_why w0 R S D 5 x 0 0).2 w16) (tw_d17 (tC_why w0 R S D 5 x 0 0).2 w17) w18 w19 w20 w21 w22 w23 w24 w25 w26 w27 w28 h) n) := by
  refine z_start zk_X3_addRunning zpl_RX3 (Nat.le_of_ble_eq_true rfl) ?_
  intro hn0 M hl hG ho hb hN hr hm hH hrm hQ
  subst hl hG
  have ho : zm_o M = RX3 := ho
  obtain ⟨hR, hR4, hS, hS8, hD, hD6, hF⟩ := id hw
  have hle : (tw_cRun S x).1 ≤ 3 := tC_why_le (w0 := w0) (S := S) (k := 5) (a := x) (b := 0) (c := 0) (R := R) (D := D)
  show z_V M (z_tw (zm_G M) t w0 w1 w2 w3 w4 w5 w6 w7 w8 w9 w10 w11 w12 (nI dep) w14 w15 w16 w17 w18 w19 w20 w21 w22 w23 w24 w25 w26 w27 w28 h) n 0 0 0 [(0, .ref t), (1, .int x)] []
  refine z_aload_n hb dX3_addRunning_0 rfl ?_
  refine z_call0 (b' := 0) (f' := 0) (rest := []) (av := [.ref t]) (z_siteV hb ho zc2 z_tw_o q2792 q2794 qs30 ⟨_, _, _, _, zk_X3_begin⟩ zy_X3_begin zl_X3_begin dX3_addRunning_1 : z_Site M _ _ _ _ _ ([].reverse ++ .ref t :: []) [] _) zk_X3_begin q104 hrm (m_X3_begin ht) (by omega) (by decide) (Nat.le_of_ble_eq_true rfl) (by omega) (by omega) ?_
  refine z_aload_n hb dX3_addRunning_4 rfl ?_
  refine z_iload_n hb dX3_addRunning_5 rfl ?_
  refine z_call1 (b' := 0) (f' := 0) (rest := []) (av := [.ref t, .int x]) (z_siteV hb ho zc2 z_tw_o q2935 q2937 qs57 ⟨_, _, _, _, zk_X3_cannotRun⟩ zy_X3_cannotRun zl_X3_cannotRun dX3_addRunning_6 : z_Site M _ _ _ _ _ ([.int x].reverse ++ .ref t :: []) [] _) zk_X3_cannotRun q104 hrm (m_X3_cannotRun x ht hw) (by omega) (by decide) (Nat.le_of_ble_eq_true rfl) (by omega) (by omega) ?_
  refine z_istore_n (lv' := [(2, .int (nI ((tw_cRun S x).1))), (0, .ref t), (1, .int x)]) hb dX3_addRunning_9 (by rw [hN]; decide) rfl ?_
  refine z_iload_n hb dX3_addRunning_10 rfl ?_
  refine z_if_leN (tgt := 22) hb dX3_addRunning_11 (by decide) (by omega) (fun c_11 => ?_) (fun c_11 => ?_)
  · refine z_aload_n hb dX3_addRunning_22 rfl ?_
    refine z_aload_n hb dX3_addRunning_23 rfl ?_
    refine z_bipush (x := nI 114) hb dX3_addRunning_24 (by decide) ?_
    refine z_iconst (x := nI 0) hb dX3_addRunning_26 (by decide) ?_
    refine z_iload_n hb dX3_addRunning_27 rfl ?_
    refine z_iload_n hb dX3_addRunning_28 rfl ?_
    refine z_call1 (b' := 0) (f' := 0) (rest := [.ref t]) (av := [.ref t, .int (nI 114), .int (nI 0), .int x, .int x]) (z_siteV hb ho zc2 z_tw_o q2915 q2917 qs54 ⟨_, _, _, _, zk_X3_newStep⟩ zy_X3_newStep zl_X3_newStep dX3_addRunning_29 : z_Site M _ _ _ _ _ ([.int (nI 114), .int (nI 0), .int x, .int x].reverse ++ .ref t :: [.ref t]) [.ref t] _) zk_X3_newStep q104 hrm (m_do_run (u := 0) (v := 0) (u2 := 0) ht hw hrw c_11) (by omega) (by decide) (Nat.le_of_ble_eq_true rfl) (by omega) (by omega) ?_
    refine z_call1 (b' := 0) (f' := 0) (rest := []) (av := [.ref t, .int ((tC_go w0 w5 R S D 5 x 0 0).2.2.1)]) (z_siteV hb ho zc2 z_tw_o q2871 q2873 qs46 ⟨_, _, _, _, zk_X3_commit⟩ zy_X3_commit zl_X3_commit dX3_addRunning_32 : z_Site M _ _ _ _ _ ([.int ((tC_go w0 w5 R S D 5 x 0 0).2.2.1)].reverse ++ .ref t :: []) [] _) zk_X3_commit q104 hrm (m_X3_commit (w13 := 0) ((tC_go w0 w5 R S D 5 x 0 0).2.2.1) ht hd8) (by omega) (by decide) (Nat.le_of_ble_eq_true rfl) (by omega) (by omega) ?_
    refine z_iret hb hr dX3_addRunning_35 ?_
    rw [hQ]
    have e : (tC_why w0 R S D 5 x 0 0).1 = 0 := c_11
    rw [tw_opv, tw_op0, tw_op3, tw_op5, tw_op8, tw_opd, if_pos e, if_pos e, if_pos e, if_pos e, if_pos e, if_pos e]
    rw [e]
    exact ⟨rfl, rfl, rfl⟩
  · refine z_aload_n hb dX3_addRunning_14 rfl ?_
    refine z_iload_n hb dX3_addRunning_15 rfl ?_
    refine z_call1 (b' := 0) (f' := 0) (rest := []) (av := [.ref t, .int (nI ((tw_cRun S x).1))]) (z_siteV hb ho zc2 z_tw_o q2816 q2818 qs33 ⟨_, _, _, _, zk_X3_fail⟩ zy_X3_fail zl_X3_fail dX3_addRunning_16 : z_Site M _ _ _ _ _ ([.int (nI ((tw_cRun S x).1))].reverse ++ .ref t :: []) [] _) zk_X3_fail q104 hrm (m_X3_fail (nI ((tw_cRun S x).1)) ht) (by omega) (by decide) (Nat.le_of_ble_eq_true rfl) (by omega) (by omega) ?_
    refine z_goto (tgt := 35) hb dX3_addRunning_19 (by decide) ?_
    refine z_iret hb hr dX3_addRunning_35 ?_
    rw [hQ]
    have e : ¬(tC_why w0 R S D 5 x 0 0).1 = 0 := fun (e9 : (tw_cRun S x).1 = 0) => by omega
    rw [tw_opv, tw_op0, tw_op3, tw_op5, tw_op8, tw_opd, if_neg e, if_neg e, if_neg e, if_neg e, if_neg e, if_neg e]
    exact ⟨rfl, rfl, rfl⟩

set_option maxHeartbeats 1000000 in
theorem m_X3_addBounded {l : Launch} {G : zG} {h : zH} {n : Nat} {t : Nat} {w0 : Nat → Int32} {w1 : Nat → Int32} {w2 : Nat → Int32} {w3 : Nat → Int32} {w4 : Nat → Int32} {w5 : Nat → Int64} {w6 : Nat → Int64} {w7 : Nat → Int64} {w8 : Nat → Int64} {w9 : Nat → Int64} {w10 : Nat → Int64} {w11 : Nat → Int64} {w12 : Int32} {w13 : Int32} {w14 : Int32} {w15 : Int32} {w16 : Int32} {w17 : Int32} {w18 : Bool} {w19 : Nat → Int32} {w20 : Int32} {w21 : Nat → Int32} {w22 : Nat → Int32} {w23 : Nat → Int32} {w24 : Int32} {w25 : Int32} {w26 : Int32} {w27 : Int32} {w28 : Bool} {R S D : Nat} {dep : Nat} {x b : Int32}  (ht : z_n0 G ≤ t) (hw : z_ok w0 R S D) (hrw : z_rows w0 R D) (hd8 : dep ≤ 8) : z_C l G yX3_addBounded 8 0 0 [.ref t, .int x, .int b] (z_tw G t w0 w1 w2 w3 w4 w5 w6 w7 w8 w9 w10 w11 w12 (nI dep) w14 w15 w16 w17 w18 w19 w20 w21 w22 w23 w24 w25 w26 w27 w28 h) n (z_rv (.int (tw_opv w0 w5 R S D 6 x b 0)) (z_tw G t (tw_op0 w0 w5 R S D 6 x b 0) (va_cpy w0 w1 0 0 272) w2 (tw_op3 w0 R S D 6 x b 0 w1 w3 dep) w4 (tw_op5 w0 w5 R S D 6 x b 0) (va_cpy w5 w6 0 0 280) w7 (tw_op8 w0 R S D 6 x b 0 w5 w6 w8 dep) w9 w10 w11 (nI ((tC_why w0 R S D 6 x b 0).1)) (nI (tw_opd w0 R S D 6 x b 0 dep)) w14 (tw_d15 (tC_why w0 R S D 6 x b 0).2 w15) (tw_d16 (tC_why w0 R S D 6 x b 0).2 w16) (tw_d17 (tC_why w0 R S D 6 x b 0).2 w17) w18 w19 w20 w21 w22 w23 w24 w25 w26 w27 w28 h) n) := by
  refine z_start zk_X3_addBounded zpl_RX3 (Nat.le_of_ble_eq_true rfl) ?_
  intro hn0 M hl hG ho hb hN hr hm hH hrm hQ
  subst hl hG
  have ho : zm_o M = RX3 := ho
  obtain ⟨hR, hR4, hS, hS8, hD, hD6, hF⟩ := id hw
  have hle : (tw_cKeep S x b).1 ≤ 3 := tC_why_le (w0 := w0) (S := S) (k := 6) (a := x) (b := b) (c := 0) (R := R) (D := D)
  show z_V M (z_tw (zm_G M) t w0 w1 w2 w3 w4 w5 w6 w7 w8 w9 w10 w11 w12 (nI dep) w14 w15 w16 w17 w18 w19 w20 w21 w22 w23 w24 w25 w26 w27 w28 h) n 0 0 0 [(0, .ref t), (1, .int x), (2, .int b)] []
  refine z_aload_n hb dX3_addBounded_0 rfl ?_
  refine z_call0 (b' := 0) (f' := 0) (rest := []) (av := [.ref t]) (z_siteV hb ho zc2 z_tw_o q2792 q2794 qs30 ⟨_, _, _, _, zk_X3_begin⟩ zy_X3_begin zl_X3_begin dX3_addBounded_1 : z_Site M _ _ _ _ _ ([].reverse ++ .ref t :: []) [] _) zk_X3_begin q104 hrm (m_X3_begin ht) (by omega) (by decide) (Nat.le_of_ble_eq_true rfl) (by omega) (by omega) ?_
  refine z_aload_n hb dX3_addBounded_4 rfl ?_
  refine z_iload_n hb dX3_addBounded_5 rfl ?_
  refine z_iload_n hb dX3_addBounded_6 rfl ?_
  refine z_call1 (b' := 0) (f' := 0) (rest := []) (av := [.ref t, .int x, .int b]) (z_siteV hb ho zc2 z_tw_o q2943 q2945 qs58 ⟨_, _, _, _, zk_X3_cannotKeep⟩ zy_X3_cannotKeep zl_X3_cannotKeep dX3_addBounded_7 : z_Site M _ _ _ _ _ ([.int x, .int b].reverse ++ .ref t :: []) [] _) zk_X3_cannotKeep q104 hrm (m_X3_cannotKeep x b ht hw) (by omega) (by decide) (Nat.le_of_ble_eq_true rfl) (by omega) (by omega) ?_
  refine z_istore_n (lv' := [(3, .int (nI ((tw_cKeep S x b).1))), (0, .ref t), (1, .int x), (2, .int b)]) hb dX3_addBounded_10 (by rw [hN]; decide) rfl ?_
  refine z_iload_n hb dX3_addBounded_11 rfl ?_
  refine z_if_leN (tgt := 23) hb dX3_addBounded_12 (by decide) (by omega) (fun c_12 => ?_) (fun c_12 => ?_)
  · refine z_aload_n hb dX3_addBounded_23 rfl ?_
    refine z_aload_n hb dX3_addBounded_24 rfl ?_
    refine z_bipush (x := nI 107) hb dX3_addBounded_25 (by decide) ?_
    refine z_iload_n hb dX3_addBounded_27 rfl ?_
    refine z_iload_n hb dX3_addBounded_28 rfl ?_
    refine z_iload_n hb dX3_addBounded_29 rfl ?_
    refine z_call1 (b' := 0) (f' := 0) (rest := [.ref t]) (av := [.ref t, .int (nI 107), .int b, .int x, .int x]) (z_siteV hb ho zc2 z_tw_o q2915 q2917 qs54 ⟨_, _, _, _, zk_X3_newStep⟩ zy_X3_newStep zl_X3_newStep dX3_addBounded_30 : z_Site M _ _ _ _ _ ([.int (nI 107), .int b, .int x, .int x].reverse ++ .ref t :: [.ref t]) [.ref t] _) zk_X3_newStep q104 hrm (m_do_keep (u := 0) (v := 0) (u2 := 0) ht hw hrw c_12) (by omega) (by decide) (Nat.le_of_ble_eq_true rfl) (by omega) (by omega) ?_
    refine z_call1 (b' := 0) (f' := 0) (rest := []) (av := [.ref t, .int ((tC_go w0 w5 R S D 6 x b 0).2.2.1)]) (z_siteV hb ho zc2 z_tw_o q2871 q2873 qs46 ⟨_, _, _, _, zk_X3_commit⟩ zy_X3_commit zl_X3_commit dX3_addBounded_33 : z_Site M _ _ _ _ _ ([.int ((tC_go w0 w5 R S D 6 x b 0).2.2.1)].reverse ++ .ref t :: []) [] _) zk_X3_commit q104 hrm (m_X3_commit (w13 := 0) ((tC_go w0 w5 R S D 6 x b 0).2.2.1) ht hd8) (by omega) (by decide) (Nat.le_of_ble_eq_true rfl) (by omega) (by omega) ?_
    refine z_iret hb hr dX3_addBounded_36 ?_
    rw [hQ]
    have e : (tC_why w0 R S D 6 x b 0).1 = 0 := c_12
    rw [tw_opv, tw_op0, tw_op3, tw_op5, tw_op8, tw_opd, if_pos e, if_pos e, if_pos e, if_pos e, if_pos e, if_pos e]
    rw [e]
    exact ⟨rfl, rfl, rfl⟩
  · refine z_aload_n hb dX3_addBounded_15 rfl ?_
    refine z_iload_n hb dX3_addBounded_16 rfl ?_
    refine z_call1 (b' := 0) (f' := 0) (rest := []) (av := [.ref t, .int (nI ((tw_cKeep S x b).1))]) (z_siteV hb ho zc2 z_tw_o q2816 q2818 qs33 ⟨_, _, _, _, zk_X3_fail⟩ zy_X3_fail zl_X3_fail dX3_addBounded_17 : z_Site M _ _ _ _ _ ([.int (nI ((tw_cKeep S x b).1))].reverse ++ .ref t :: []) [] _) zk_X3_fail q104 hrm (m_X3_fail (nI ((tw_cKeep S x b).1)) ht) (by omega) (by decide) (Nat.le_of_ble_eq_true rfl) (by omega) (by omega) ?_
    refine z_goto (tgt := 36) hb dX3_addBounded_20 (by decide) ?_
    refine z_iret hb hr dX3_addBounded_36 ?_
    rw [hQ]
    have e : ¬(tC_why w0 R S D 6 x b 0).1 = 0 := fun (e9 : (tw_cKeep S x b).1 = 0) => by omega
    rw [tw_opv, tw_op0, tw_op3, tw_op5, tw_op8, tw_opd, if_neg e, if_neg e, if_neg e, if_neg e, if_neg e, if_neg e]
    exact ⟨rfl, rfl, rfl⟩

set_option maxHeartbeats 1000000 in
theorem m_X3_removeStep {l : Launch} {G : zG} {h : zH} {n : Nat} {t : Nat} {w0 : Nat → Int32} {w1 : Nat → Int32} {w2 : Nat → Int32} {w3 : Nat → Int32} {w4 : Nat → Int32} {w5 : Nat → Int64} {w6 : Nat → Int64} {w7 : Nat → Int64} {w8 : Nat → Int64} {w9 : Nat → Int64} {w10 : Nat → Int64} {w11 : Nat → Int64} {w12 : Int32} {w13 : Int32} {w14 : Int32} {w15 : Int32} {w16 : Int32} {w17 : Int32} {w18 : Bool} {w19 : Nat → Int32} {w20 : Int32} {w21 : Nat → Int32} {w22 : Nat → Int32} {w23 : Nat → Int32} {w24 : Int32} {w25 : Int32} {w26 : Int32} {w27 : Int32} {w28 : Bool} {R S D : Nat} {dep : Nat} {x : Int32}  (ht : z_n0 G ≤ t) (hw : z_ok w0 R S D) (hrw : z_rows w0 R D) (hd8 : dep ≤ 8) : z_C l G yX3_removeStep 8 0 0 [.ref t, .int x] (z_tw G t w0 w1 w2 w3 w4 w5 w6 w7 w8 w9 w10 w11 w12 (nI dep) w14 w15 w16 w17 w18 w19 w20 w21 w22 w23 w24 w25 w26 w27 w28 h) n (z_rv (.int (tw_opv w0 w5 R S D 7 x 0 0)) (z_tw G t (tw_op0 w0 w5 R S D 7 x 0 0) (va_cpy w0 w1 0 0 272) w2 (tw_op3 w0 R S D 7 x 0 0 w1 w3 dep) w4 (tw_op5 w0 w5 R S D 7 x 0 0) (va_cpy w5 w6 0 0 280) w7 (tw_op8 w0 R S D 7 x 0 0 w5 w6 w8 dep) w9 w10 w11 (nI ((tC_why w0 R S D 7 x 0 0).1)) (nI (tw_opd w0 R S D 7 x 0 0 dep)) w14 (tw_d15 (tC_why w0 R S D 7 x 0 0).2 w15) (tw_d16 (tC_why w0 R S D 7 x 0 0).2 w16) (tw_d17 (tC_why w0 R S D 7 x 0 0).2 w17) w18 w19 w20 w21 w22 w23 w24 w25 w26 w27 w28 h) n) := by
  refine z_start zk_X3_removeStep zpl_RX3 (Nat.le_of_ble_eq_true rfl) ?_
  intro hn0 M hl hG ho hb hN hr hm hH hrm hQ
  subst hl hG
  have ho : zm_o M = RX3 := ho
  obtain ⟨hR, hR4, hS, hS8, hD, hD6, hF⟩ := id hw
  have hle : (tC_why w0 R S D 7 x 0 0).1 ≤ 3 := tC_why_le (w0 := w0) (S := S) (k := 7) (a := x) (b := 0) (c := 0) (R := R) (D := D)
  show z_V M (z_tw (zm_G M) t w0 w1 w2 w3 w4 w5 w6 w7 w8 w9 w10 w11 w12 (nI dep) w14 w15 w16 w17 w18 w19 w20 w21 w22 w23 w24 w25 w26 w27 w28 h) n 0 0 0 [(0, .ref t), (1, .int x)] []
  refine z_aload_n hb dX3_removeStep_0 rfl ?_
  refine z_call0 (b' := 0) (f' := 0) (rest := []) (av := [.ref t]) (z_siteV hb ho zc2 z_tw_o q2792 q2794 qs30 ⟨_, _, _, _, zk_X3_begin⟩ zy_X3_begin zl_X3_begin dX3_removeStep_1 : z_Site M _ _ _ _ _ ([].reverse ++ .ref t :: []) [] _) zk_X3_begin q104 hrm (m_X3_begin ht) (by omega) (by decide) (Nat.le_of_ble_eq_true rfl) (by omega) (by omega) ?_
  refine z_aload_n hb dX3_removeStep_4 rfl ?_
  refine z_iload_n hb dX3_removeStep_5 rfl ?_
  refine z_call1 (b' := 0) (f' := 0) (rest := []) (av := [.ref t, .int x]) (z_siteV hb ho zc2 z_tw_o q2951 q2953 qs59 ⟨_, _, _, _, zk_X3_cannotCut⟩ zy_X3_cannotCut zl_X3_cannotCut dX3_removeStep_6 : z_Site M _ _ _ _ _ ([.int x].reverse ++ .ref t :: []) [] _) zk_X3_cannotCut q104 hrm (m_why_cut (u := 0) (v := 0) x ht hw) (by omega) (by decide) (Nat.le_of_ble_eq_true rfl) (by omega) (by omega) ?_
  refine z_istore_n (lv' := [(2, .int (nI ((tC_why w0 R S D 7 x 0 0).1))), (0, .ref t), (1, .int x)]) hb dX3_removeStep_9 (by rw [hN]; decide) rfl ?_
  refine z_iload_n hb dX3_removeStep_10 rfl ?_
  refine z_if_leN (tgt := 22) hb dX3_removeStep_11 (by decide) (by omega) (fun c_11 => ?_) (fun c_11 => ?_)
  · refine z_aload_n hb dX3_removeStep_22 rfl ?_
    refine z_aload_n hb dX3_removeStep_23 rfl ?_
    refine z_iload_n hb dX3_removeStep_24 rfl ?_
    refine z_call1 (b' := 0) (f' := 0) (rest := [.ref t]) (av := [.ref t, .int x]) (z_siteV hb ho zc2 z_tw_o q2959 q2961 qs61 ⟨_, _, _, _, zk_X3_cut⟩ zy_X3_cut zl_X3_cut dX3_removeStep_25 : z_Site M _ _ _ _ _ ([.int x].reverse ++ .ref t :: [.ref t]) [.ref t] _) zk_X3_cut q104 hrm (m_do_cut (u := 0) (v := 0) (u2 := 0) ht hw hrw c_11) (by omega) (by decide) (Nat.le_of_ble_eq_true rfl) (by omega) (by omega) ?_
    refine z_call1 (b' := 0) (f' := 0) (rest := []) (av := [.ref t, .int ((tC_go w0 w5 R S D 7 x 0 0).2.2.1)]) (z_siteV hb ho zc2 z_tw_o q2871 q2873 qs46 ⟨_, _, _, _, zk_X3_commit⟩ zy_X3_commit zl_X3_commit dX3_removeStep_28 : z_Site M _ _ _ _ _ ([.int ((tC_go w0 w5 R S D 7 x 0 0).2.2.1)].reverse ++ .ref t :: []) [] _) zk_X3_commit q104 hrm (m_X3_commit (w13 := 0) ((tC_go w0 w5 R S D 7 x 0 0).2.2.1) ht hd8) (by omega) (by decide) (Nat.le_of_ble_eq_true rfl) (by omega) (by omega) ?_
    refine z_iret hb hr dX3_removeStep_31 ?_
    rw [hQ]
    have e : (tC_why w0 R S D 7 x 0 0).1 = 0 := c_11
    rw [tw_opv, tw_op0, tw_op3, tw_op5, tw_op8, tw_opd, if_pos e, if_pos e, if_pos e, if_pos e, if_pos e, if_pos e]
    rw [e]
    exact ⟨rfl, rfl, rfl⟩
  · refine z_aload_n hb dX3_removeStep_14 rfl ?_
    refine z_iload_n hb dX3_removeStep_15 rfl ?_
    refine z_call1 (b' := 0) (f' := 0) (rest := []) (av := [.ref t, .int (nI ((tC_why w0 R S D 7 x 0 0).1))]) (z_siteV hb ho zc2 z_tw_o q2816 q2818 qs33 ⟨_, _, _, _, zk_X3_fail⟩ zy_X3_fail zl_X3_fail dX3_removeStep_16 : z_Site M _ _ _ _ _ ([.int (nI ((tC_why w0 R S D 7 x 0 0).1))].reverse ++ .ref t :: []) [] _) zk_X3_fail q104 hrm (m_X3_fail (nI ((tC_why w0 R S D 7 x 0 0).1)) ht) (by omega) (by decide) (Nat.le_of_ble_eq_true rfl) (by omega) (by omega) ?_
    refine z_goto (tgt := 31) hb dX3_removeStep_19 (by decide) ?_
    refine z_iret hb hr dX3_removeStep_31 ?_
    rw [hQ]
    have e : ¬(tC_why w0 R S D 7 x 0 0).1 = 0 := fun (e9 : (tC_why w0 R S D 7 x 0 0).1 = 0) => by omega
    rw [tw_opv, tw_op0, tw_op3, tw_op5, tw_op8, tw_opd, if_neg e, if_neg e, if_neg e, if_neg e, if_neg e, if_neg e]
    exact ⟨rfl, rfl, rfl⟩

set_option maxHeartbeats 1000000 in
theorem m_X3_repair {l : Launch} {G : zG} {h : zH} {n : Nat} {t : Nat} {w0 : Nat → Int32} {w1 : Nat → Int32} {w2 : Nat → Int32} {w3 : Nat → Int32} {w4 : Nat → Int32} {w5 : Nat → Int64} {w6 : Nat → Int64} {w7 : Nat → Int64} {w8 : Nat → Int64} {w9 : Nat → Int64} {w10 : Nat → Int64} {w11 : Nat → Int64} {w12 : Int32} {w13 : Int32} {w14 : Int32} {w15 : Int32} {w16 : Int32} {w17 : Int32} {w18 : Bool} {w19 : Nat → Int32} {w20 : Int32} {w21 : Nat → Int32} {w22 : Nat → Int32} {w23 : Nat → Int32} {w24 : Int32} {w25 : Int32} {w26 : Int32} {w27 : Int32} {w28 : Bool} {R S D : Nat} {dep : Nat} {x : Int32}  (ht : z_n0 G ≤ t) (hw : z_ok w0 R S D) (hrw : z_rows w0 R D) (hd8 : dep ≤ 8) : z_C l G yX3_repair 8 0 0 [.ref t, .int x] (z_tw G t w0 w1 w2 w3 w4 w5 w6 w7 w8 w9 w10 w11 w12 (nI dep) w14 w15 w16 w17 w18 w19 w20 w21 w22 w23 w24 w25 w26 w27 w28 h) n (z_rv (.int (tw_opv w0 w5 R S D 8 x 0 0)) (z_tw G t (tw_op0 w0 w5 R S D 8 x 0 0) (va_cpy w0 w1 0 0 272) w2 (tw_op3 w0 R S D 8 x 0 0 w1 w3 dep) w4 (tw_op5 w0 w5 R S D 8 x 0 0) (va_cpy w5 w6 0 0 280) w7 (tw_op8 w0 R S D 8 x 0 0 w5 w6 w8 dep) w9 w10 w11 (nI ((tC_why w0 R S D 8 x 0 0).1)) (nI (tw_opd w0 R S D 8 x 0 0 dep)) w14 (tw_d15 (tC_why w0 R S D 8 x 0 0).2 w15) (tw_d16 (tC_why w0 R S D 8 x 0 0).2 w16) (tw_d17 (tC_why w0 R S D 8 x 0 0).2 w17) w18 w19 w20 w21 w22 w23 w24 w25 w26 w27 w28 h) n) := by
  refine z_start zk_X3_repair zpl_RX3 (Nat.le_of_ble_eq_true rfl) ?_
  intro hn0 M hl hG ho hb hN hr hm hH hrm hQ
  subst hl hG
  have ho : zm_o M = RX3 := ho
  obtain ⟨hR, hR4, hS, hS8, hD, hD6, hF⟩ := id hw
  have hle : (tC_why w0 R S D 8 x 0 0).1 ≤ 3 := tC_why_le (w0 := w0) (S := S) (k := 8) (a := x) (b := 0) (c := 0) (R := R) (D := D)
  show z_V M (z_tw (zm_G M) t w0 w1 w2 w3 w4 w5 w6 w7 w8 w9 w10 w11 w12 (nI dep) w14 w15 w16 w17 w18 w19 w20 w21 w22 w23 w24 w25 w26 w27 w28 h) n 0 0 0 [(0, .ref t), (1, .int x)] []
  refine z_aload_n hb dX3_repair_0 rfl ?_
  refine z_call0 (b' := 0) (f' := 0) (rest := []) (av := [.ref t]) (z_siteV hb ho zc2 z_tw_o q2792 q2794 qs30 ⟨_, _, _, _, zk_X3_begin⟩ zy_X3_begin zl_X3_begin dX3_repair_1 : z_Site M _ _ _ _ _ ([].reverse ++ .ref t :: []) [] _) zk_X3_begin q104 hrm (m_X3_begin ht) (by omega) (by decide) (Nat.le_of_ble_eq_true rfl) (by omega) (by omega) ?_
  refine z_aload_n hb dX3_repair_4 rfl ?_
  refine z_iload_n hb dX3_repair_5 rfl ?_
  refine z_call1 (b' := 0) (f' := 0) (rest := []) (av := [.ref t, .int x]) (z_siteV hb ho zc2 z_tw_o q2967 q2969 qs62 ⟨_, _, _, _, zk_X3_cannotRepair⟩ zy_X3_cannotRepair zl_X3_cannotRepair dX3_repair_6 : z_Site M _ _ _ _ _ ([.int x].reverse ++ .ref t :: []) [] _) zk_X3_cannotRepair q104 hrm (m_why_rep (u := 0) (v := 0) x ht hw) (by omega) (by decide) (Nat.le_of_ble_eq_true rfl) (by omega) (by omega) ?_
  refine z_istore_n (lv' := [(2, .int (nI ((tC_why w0 R S D 8 x 0 0).1))), (0, .ref t), (1, .int x)]) hb dX3_repair_9 (by rw [hN]; decide) rfl ?_
  refine z_iload_n hb dX3_repair_10 rfl ?_
  refine z_if_leN (tgt := 22) hb dX3_repair_11 (by decide) (by omega) (fun c_11 => ?_) (fun c_11 => ?_)
  · refine z_aload_n hb dX3_repair_22 rfl ?_
    refine z_aload_n hb dX3_repair_23 rfl ?_
    refine z_iload_n hb dX3_repair_24 rfl ?_
    refine z_call1 (b' := 0) (f' := 0) (rest := [.ref t]) (av := [.ref t, .int x]) (z_siteV hb ho zc2 z_tw_o q2975 q2977 qs64 ⟨_, _, _, _, zk_X3_repairs⟩ zy_X3_repairs zl_X3_repairs dX3_repair_25 : z_Site M _ _ _ _ _ ([.int x].reverse ++ .ref t :: [.ref t]) [.ref t] _) zk_X3_repairs q104 hrm (m_do_rep (u := 0) (v := 0) (u2 := 0) ht hw hrw c_11) (by omega) (by decide) (Nat.le_of_ble_eq_true rfl) (by omega) (by omega) ?_
    refine z_call1 (b' := 0) (f' := 0) (rest := []) (av := [.ref t, .int ((tC_go w0 w5 R S D 8 x 0 0).2.2.1)]) (z_siteV hb ho zc2 z_tw_o q2871 q2873 qs46 ⟨_, _, _, _, zk_X3_commit⟩ zy_X3_commit zl_X3_commit dX3_repair_28 : z_Site M _ _ _ _ _ ([.int ((tC_go w0 w5 R S D 8 x 0 0).2.2.1)].reverse ++ .ref t :: []) [] _) zk_X3_commit q104 hrm (m_X3_commit (w13 := 0) ((tC_go w0 w5 R S D 8 x 0 0).2.2.1) ht hd8) (by omega) (by decide) (Nat.le_of_ble_eq_true rfl) (by omega) (by omega) ?_
    refine z_iret hb hr dX3_repair_31 ?_
    rw [hQ]
    have e : (tC_why w0 R S D 8 x 0 0).1 = 0 := c_11
    rw [tw_opv, tw_op0, tw_op3, tw_op5, tw_op8, tw_opd, if_pos e, if_pos e, if_pos e, if_pos e, if_pos e, if_pos e]
    rw [e]
    exact ⟨rfl, rfl, rfl⟩
  · refine z_aload_n hb dX3_repair_14 rfl ?_
    refine z_iload_n hb dX3_repair_15 rfl ?_
    refine z_call1 (b' := 0) (f' := 0) (rest := []) (av := [.ref t, .int (nI ((tC_why w0 R S D 8 x 0 0).1))]) (z_siteV hb ho zc2 z_tw_o q2816 q2818 qs33 ⟨_, _, _, _, zk_X3_fail⟩ zy_X3_fail zl_X3_fail dX3_repair_16 : z_Site M _ _ _ _ _ ([.int (nI ((tC_why w0 R S D 8 x 0 0).1))].reverse ++ .ref t :: []) [] _) zk_X3_fail q104 hrm (m_X3_fail (nI ((tC_why w0 R S D 8 x 0 0).1)) ht) (by omega) (by decide) (Nat.le_of_ble_eq_true rfl) (by omega) (by omega) ?_
    refine z_goto (tgt := 31) hb dX3_repair_19 (by decide) ?_
    refine z_iret hb hr dX3_repair_31 ?_
    rw [hQ]
    have e : ¬(tC_why w0 R S D 8 x 0 0).1 = 0 := fun (e9 : (tC_why w0 R S D 8 x 0 0).1 = 0) => by omega
    rw [tw_opv, tw_op0, tw_op3, tw_op5, tw_op8, tw_opd, if_neg e, if_neg e, if_neg e, if_neg e, if_neg e, if_neg e]
    exact ⟨rfl, rfl, rfl⟩

set_option maxHeartbeats 1000000 in
theorem m_X3_removeRow_no {l : Launch} {G : zG} {h : zH} {n : Nat} {t : Nat} {w0 : Nat → Int32} {w1 : Nat → Int32} {w2 : Nat → Int32} {w3 : Nat → Int32} {w4 : Nat → Int32} {w5 : Nat → Int64} {w6 : Nat → Int64} {w7 : Nat → Int64} {w8 : Nat → Int64} {w9 : Nat → Int64} {w10 : Nat → Int64} {w11 : Nat → Int64} {w12 : Int32} {w13 : Int32} {w14 : Int32} {w15 : Int32} {w16 : Int32} {w17 : Int32} {w18 : Bool} {w19 : Nat → Int32} {w20 : Int32} {w21 : Nat → Int32} {w22 : Nat → Int32} {w23 : Nat → Int32} {w24 : Int32} {w25 : Int32} {w26 : Int32} {w27 : Int32} {w28 : Bool} {R S D : Nat} {dep : Nat} {x : Int32}  (ht : z_n0 G ≤ t) (hw : z_ok w0 R S D) (hp : tw_row w0 R x = none) : z_C l G yX3_removeRow 8 0 0 [.ref t, .int x] (z_tw G t w0 w1 w2 w3 w4 w5 w6 w7 w8 w9 w10 w11 w12 (nI dep) w14 w15 w16 w17 w18 w19 w20 w21 w22 w23 w24 w25 w26 w27 w28 h) n (z_rv (.int (tw_opv w0 w5 R S D 1 x 0 0)) (z_tw G t (tw_op0 w0 w5 R S D 1 x 0 0) (va_cpy w0 w1 0 0 272) w2 (tw_op3 w0 R S D 1 x 0 0 w1 w3 dep) w4 (tw_op5 w0 w5 R S D 1 x 0 0) (va_cpy w5 w6 0 0 280) w7 (tw_op8 w0 R S D 1 x 0 0 w5 w6 w8 dep) w9 w10 w11 (nI ((tC_why w0 R S D 1 x 0 0).1)) (nI (tw_opd w0 R S D 1 x 0 0 dep)) w14 (tw_d15 (tC_why w0 R S D 1 x 0 0).2 w15) (tw_d16 (tC_why w0 R S D 1 x 0 0).2 w16) (tw_d17 (tC_why w0 R S D 1 x 0 0).2 w17) w18 w19 w20 w21 w22 w23 w24 w25 w26 w27 w28 h) n) := by
  refine z_start zk_X3_removeRow zpl_RX3 (Nat.le_of_ble_eq_true rfl) ?_
  intro hn0 M hl hG ho hb hN hr hm hH hrm hQ
  subst hl hG
  have ho : zm_o M = RX3 := ho
  obtain ⟨hR, hR4, hS, hS8, hD, hD6, hF⟩ := id hw
  show z_V M (z_tw (zm_G M) t w0 w1 w2 w3 w4 w5 w6 w7 w8 w9 w10 w11 w12 (nI dep) w14 w15 w16 w17 w18 w19 w20 w21 w22 w23 w24 w25 w26 w27 w28 h) n 0 0 0 [(0, .ref t), (1, .int x)] []
  refine z_aload_n hb dX3_removeRow_0 rfl ?_
  refine z_call0 (b' := 0) (f' := 0) (rest := []) (av := [.ref t]) (z_siteV hb ho zc2 z_tw_o q2792 q2794 qs30 ⟨_, _, _, _, zk_X3_begin⟩ zy_X3_begin zl_X3_begin dX3_removeRow_1 : z_Site M _ _ _ _ _ ([].reverse ++ .ref t :: []) [] _) zk_X3_begin q104 hrm (m_X3_begin ht) (by omega) (by decide) (Nat.le_of_ble_eq_true rfl) (by omega) (by omega) ?_
  refine z_aload_n hb dX3_removeRow_4 rfl ?_
  refine z_iload_n hb dX3_removeRow_5 rfl ?_
  refine z_call1 (b' := 0) (f' := 0) (rest := []) (av := [.ref t, .int x]) (z_siteV hb ho zc2 z_tw_o q2879 q2881 qs47 ⟨_, _, _, _, zk_X3_row⟩ zy_X3_row zl_X3_row dX3_removeRow_6 : z_Site M _ _ _ _ _ ([.int x].reverse ++ .ref t :: []) [] _) zk_X3_row q104 hrm (m_X3_row x ht hw) (by omega) (by decide) (Nat.le_of_ble_eq_true rfl) (by omega) (by omega) ?_
  refine z_if_lt (tgt := 24) hb dX3_removeRow_9 (by decide) (fun c_9 => ?_) (fun c_9 => ?_)
  · refine z_aload_n hb dX3_removeRow_24 rfl ?_
    refine z_iconst (x := nI 1) hb dX3_removeRow_25 (by decide) ?_
    refine z_call1 (b' := 0) (f' := 0) (rest := []) (av := [.ref t, .int (nI 1)]) (z_siteV hb ho zc2 z_tw_o q2816 q2818 qs33 ⟨_, _, _, _, zk_X3_fail⟩ zy_X3_fail zl_X3_fail dX3_removeRow_26 : z_Site M _ _ _ _ _ ([.int (nI 1)].reverse ++ .ref t :: []) [] _) zk_X3_fail q104 hrm (m_X3_fail (nI 1) ht) (by omega) (by decide) (Nat.le_of_ble_eq_true rfl) (by omega) (by omega) ?_
    refine z_iret hb hr dX3_removeRow_29 ?_
    rw [hQ]
    have e : ¬(tC_why w0 R S D 1 x 0 0).1 = 0 := by rw [tC_why, hp]; decide
    rw [tw_opv, tw_op0, tw_op3, tw_op5, tw_op8, tw_opd, if_neg e, if_neg e, if_neg e, if_neg e, if_neg e, if_neg e]
    rw [tC_why, hp]
    exact ⟨rfl, rfl, rfl⟩
  · rw [hp] at c_9; exact absurd c_9 (by decide)

set_option maxHeartbeats 1000000 in
theorem m_X3_removeRow_ok {l : Launch} {G : zG} {h : zH} {n : Nat} {t : Nat} {w0 : Nat → Int32} {w1 : Nat → Int32} {w2 : Nat → Int32} {w3 : Nat → Int32} {w4 : Nat → Int32} {w5 : Nat → Int64} {w6 : Nat → Int64} {w7 : Nat → Int64} {w8 : Nat → Int64} {w9 : Nat → Int64} {w10 : Nat → Int64} {w11 : Nat → Int64} {w12 : Int32} {w13 : Int32} {w14 : Int32} {w15 : Int32} {w16 : Int32} {w17 : Int32} {w18 : Bool} {w19 : Nat → Int32} {w20 : Int32} {w21 : Nat → Int32} {w22 : Nat → Int32} {w23 : Nat → Int32} {w24 : Int32} {w25 : Int32} {w26 : Int32} {w27 : Int32} {w28 : Bool} {R S D : Nat} {dep p : Nat} {x : Int32}  (ht : z_n0 G ≤ t) (hw : z_ok w0 R S D) (hrw : z_rows w0 R D) (hd8 : dep ≤ 8) (hp : tw_row w0 R x = some p) (hp4 : p < 40) : z_C l G yX3_removeRow 8 0 0 [.ref t, .int x] (z_tw G t w0 w1 w2 w3 w4 w5 w6 w7 w8 w9 w10 w11 w12 (nI dep) w14 w15 w16 w17 w18 w19 w20 w21 w22 w23 w24 w25 w26 w27 w28 h) n (z_rv (.int (tw_opv w0 w5 R S D 1 x 0 0)) (z_tw G t (tw_op0 w0 w5 R S D 1 x 0 0) (va_cpy w0 w1 0 0 272) w2 (tw_op3 w0 R S D 1 x 0 0 w1 w3 dep) w4 (tw_op5 w0 w5 R S D 1 x 0 0) (va_cpy w5 w6 0 0 280) w7 (tw_op8 w0 R S D 1 x 0 0 w5 w6 w8 dep) w9 w10 w11 (nI ((tC_why w0 R S D 1 x 0 0).1)) (nI (tw_opd w0 R S D 1 x 0 0 dep)) w14 (tw_d15 (tC_why w0 R S D 1 x 0 0).2 w15) (tw_d16 (tC_why w0 R S D 1 x 0 0).2 w16) (tw_d17 (tC_why w0 R S D 1 x 0 0).2 w17) w18 w19 w20 w21 w22 w23 w24 w25 w26 w27 w28 h) n) := by
  refine z_start zk_X3_removeRow zpl_RX3 (Nat.le_of_ble_eq_true rfl) ?_
  intro hn0 M hl hG ho hb hN hr hm hH hrm hQ
  subst hl hG
  have ho : zm_o M = RX3 := ho
  obtain ⟨hR, hR4, hS, hS8, hD, hD6, hF⟩ := id hw
  show z_V M (z_tw (zm_G M) t w0 w1 w2 w3 w4 w5 w6 w7 w8 w9 w10 w11 w12 (nI dep) w14 w15 w16 w17 w18 w19 w20 w21 w22 w23 w24 w25 w26 w27 w28 h) n 0 0 0 [(0, .ref t), (1, .int x)] []
  refine z_aload_n hb dX3_removeRow_0 rfl ?_
  refine z_call0 (b' := 0) (f' := 0) (rest := []) (av := [.ref t]) (z_siteV hb ho zc2 z_tw_o q2792 q2794 qs30 ⟨_, _, _, _, zk_X3_begin⟩ zy_X3_begin zl_X3_begin dX3_removeRow_1 : z_Site M _ _ _ _ _ ([].reverse ++ .ref t :: []) [] _) zk_X3_begin q104 hrm (m_X3_begin ht) (by omega) (by decide) (Nat.le_of_ble_eq_true rfl) (by omega) (by omega) ?_
  refine z_aload_n hb dX3_removeRow_4 rfl ?_
  refine z_iload_n hb dX3_removeRow_5 rfl ?_
  refine z_call1 (b' := 0) (f' := 0) (rest := []) (av := [.ref t, .int x]) (z_siteV hb ho zc2 z_tw_o q2879 q2881 qs47 ⟨_, _, _, _, zk_X3_row⟩ zy_X3_row zl_X3_row dX3_removeRow_6 : z_Site M _ _ _ _ _ ([.int x].reverse ++ .ref t :: []) [] _) zk_X3_row q104 hrm (m_X3_row x ht hw) (by omega) (by decide) (Nat.le_of_ble_eq_true rfl) (by omega) (by omega) ?_
  refine z_toI (y := nI p) (by rw [hp]; rfl) ?_
  refine z_if_ltN (tgt := 24) hb dX3_removeRow_9 (by decide) (by omega) ?_
  refine z_aload_n hb dX3_removeRow_12 rfl ?_
  refine z_aload_n hb dX3_removeRow_13 rfl ?_
  refine z_iload_n hb dX3_removeRow_14 rfl ?_
  refine z_call1 (b' := 0) (f' := 0) (rest := [.ref t]) (av := [.ref t, .int x]) (z_siteV hb ho zc2 z_tw_o q2883 q2885 qs48 ⟨_, _, _, _, zk_X3_goneRow⟩ zy_X3_goneRow zl_X3_goneRow dX3_removeRow_15 : z_Site M _ _ _ _ _ ([.int x].reverse ++ .ref t :: [.ref t]) [.ref t] _) zk_X3_goneRow q104 hrm (m_do_gone (u := 0) (v := 0) (u2 := 0) ht hw hrw (by rw [tC_why, hp])) (by omega) (by decide) (Nat.le_of_ble_eq_true rfl) (by omega) (by omega) ?_
  refine z_call1 (b' := 0) (f' := 0) (rest := []) (av := [.ref t, .int ((tC_go w0 w5 R S D 1 x 0 0).2.2.1)]) (z_siteV hb ho zc2 z_tw_o q2871 q2873 qs46 ⟨_, _, _, _, zk_X3_commit⟩ zy_X3_commit zl_X3_commit dX3_removeRow_18 : z_Site M _ _ _ _ _ ([.int ((tC_go w0 w5 R S D 1 x 0 0).2.2.1)].reverse ++ .ref t :: []) [] _) zk_X3_commit q104 hrm (m_X3_commit (w13 := 0) ((tC_go w0 w5 R S D 1 x 0 0).2.2.1) ht hd8) (by omega) (by decide) (Nat.le_of_ble_eq_true rfl) (by omega) (by omega) ?_
  refine z_goto (tgt := 29) hb dX3_removeRow_21 (by decide) ?_
  refine z_iret hb hr dX3_removeRow_29 ?_
  rw [hQ]
  have e : (tC_why w0 R S D 1 x 0 0).1 = 0 := (by rw [tC_why, hp])
  rw [tw_opv, tw_op0, tw_op3, tw_op5, tw_op8, tw_opd, if_pos e, if_pos e, if_pos e, if_pos e, if_pos e, if_pos e]
  rw [show tC_why w0 R S D 1 x 0 0 = (0, none) by rw [tC_why, hp]]
  exact ⟨rfl, rfl, rfl⟩

set_option maxHeartbeats 1000000 in
theorem m_X3_removeRow {l : Launch} {G : zG} {h : zH} {n : Nat} {t : Nat} {w0 : Nat → Int32} {w1 : Nat → Int32} {w2 : Nat → Int32} {w3 : Nat → Int32} {w4 : Nat → Int32} {w5 : Nat → Int64} {w6 : Nat → Int64} {w7 : Nat → Int64} {w8 : Nat → Int64} {w9 : Nat → Int64} {w10 : Nat → Int64} {w11 : Nat → Int64} {w12 : Int32} {w13 : Int32} {w14 : Int32} {w15 : Int32} {w16 : Int32} {w17 : Int32} {w18 : Bool} {w19 : Nat → Int32} {w20 : Int32} {w21 : Nat → Int32} {w22 : Nat → Int32} {w23 : Nat → Int32} {w24 : Int32} {w25 : Int32} {w26 : Int32} {w27 : Int32} {w28 : Bool} {R S D dep : Nat} {x : Int32} (ht : z_n0 G ≤ t) (hw : z_ok w0 R S D) (hrw : z_rows w0 R D) (hd8 : dep ≤ 8) : z_C l G yX3_removeRow 8 0 0 [.ref t, .int x] (z_tw G t w0 w1 w2 w3 w4 w5 w6 w7 w8 w9 w10 w11 w12 (nI dep) w14 w15 w16 w17 w18 w19 w20 w21 w22 w23 w24 w25 w26 w27 w28 h) n (z_rv (.int (tw_opv w0 w5 R S D 1 x 0 0)) (z_tw G t (tw_op0 w0 w5 R S D 1 x 0 0) (va_cpy w0 w1 0 0 272) w2 (tw_op3 w0 R S D 1 x 0 0 w1 w3 dep) w4 (tw_op5 w0 w5 R S D 1 x 0 0) (va_cpy w5 w6 0 0 280) w7 (tw_op8 w0 R S D 1 x 0 0 w5 w6 w8 dep) w9 w10 w11 (nI ((tC_why w0 R S D 1 x 0 0).1)) (nI (tw_opd w0 R S D 1 x 0 0 dep)) w14 (tw_d15 (tC_why w0 R S D 1 x 0 0).2 w15) (tw_d16 (tC_why w0 R S D 1 x 0 0).2 w16) (tw_d17 (tC_why w0 R S D 1 x 0 0).2 w17) w18 w19 w20 w21 w22 w23 w24 w25 w26 w27 w28 h) n) := by
  cases hp : tw_row w0 R x with
  | none => exact m_X3_removeRow_no (w13 := 0) ht hw hp
  | some p => exact m_X3_removeRow_ok (w13 := 0) ht hw hrw hd8 hp (by have := tw_row_lt hp; have := hw.2.1; omega)

