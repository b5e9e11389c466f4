set_option maxHeartbeats 1000000 in
theorem m_X3_why_0 {l : Launch} {G : zG} {h : zH} {n : Nat} {t : Nat} {w0 : Nat → Int32} {w1 : Nat → Int32} {w2 : Nat → Int32} {w3 : Nat → Int32} {w4 : Nat → Int32} {w5 : Nat → Int64} {w6 : Nat → Int64} {w7 : Nat → Int64} {w8 : Nat → Int64} {w9 : Nat → Int64} {w10 : Nat → Int64} {w11 : Nat → Int64} {w12 : Int32} {w13 : Int32} {w14 : Int32} {w15 : Int32} {w16 : Int32} {w17 : Int32} {w18 : Bool} {w19 : Nat → Int32} {w20 : Int32} {w21 : Nat → Int32} {w22 : Nat → Int32} {w23 : Nat → Int32} {w24 : Int32} {w25 : Int32} {w26 : Int32} {w27 : Int32} {w28 : Bool} {R S D : Nat} {a b c : Int32}  (ht : z_n0 G ≤ t) (hw : z_ok w0 R S D) : z_C l G yX3_why 5 0 0 [.ref t, .int (nI 0), .int a, .int b, .int c] (z_tw G t w0 w1 w2 w3 w4 w5 w6 w7 w8 w9 w10 w11 w12 w13 w14 w15 w16 w17 w18 w19 w20 w21 w22 w23 w24 w25 w26 w27 w28 h) n (z_rv (.int (nI ((tC_why w0 R S D 0 a b c).1))) (z_tw G t w0 w1 w2 w3 w4 w5 w6 w7 w8 w9 w10 w11 w12 w13 w14 (tw_d15 (tC_why w0 R S D 0 a b c).2 w15) (tw_d16 (tC_why w0 R S D 0 a b c).2 w16) (tw_d17 (tC_why w0 R S D 0 a b c).2 w17) w18 w19 w20 w21 w22 w23 w24 w25 w26 w27 w28 h) n) := by
  refine z_start zk_X3_why zpl_RX3 (Nat.le_of_ble_eq_true rfl) ?_
  intro hn0 M hl hG ho hb hN hr hm hH hrm hQ
  subst hl hG
  have ho : zm_o M = RX3 := ho
  obtain ⟨hR, hR4, hS, hS8, hD, hD6, hF⟩ := id hw
  show z_V M (z_tw (zm_G M) t w0 w1 w2 w3 w4 w5 w6 w7 w8 w9 w10 w11 w12 w13 w14 w15 w16 w17 w18 w19 w20 w21 w22 w23 w24 w25 w26 w27 w28 h) n 0 0 0 [(0, .ref t), (1, .int (nI 0)), (2, .int a), (3, .int b), (4, .int c)] []
  refine z_iload_n hb dX3_why_0 rfl ?_
  refine z_tableIn (off := 47) (tgt := 48) hb dX3_why_1 (by decide) (by decide) rfl (by decide) ?_
  refine z_aload_n hb dX3_why_48 rfl ?_
  refine z_iload_n hb dX3_why_49 rfl ?_
  refine z_iload_n hb dX3_why_50 rfl ?_
  refine z_iload hb dX3_why_51 rfl ?_
  refine z_call1 (b' := 0) (f' := 0) (rest := []) (av := [.ref t, .int a, .int b, .int c]) (z_siteV hb ho zc2 z_tw_o q2802 q2804 qs31 ⟨_, _, _, _, zk_X3_cannotRow⟩ zy_X3_cannotRow zl_X3_cannotRow dX3_why_53 : z_Site M _ _ _ _ _ ([.int a, .int b, .int c].reverse ++ .ref t :: []) [] _) zk_X3_cannotRow q104 hrm (m_X3_cannotRow a b c ht hw) (by omega) (by decide) (Nat.le_of_ble_eq_true rfl) (by omega) (by omega) ?_
  refine z_iret hb hr dX3_why_56 ?_
  rw [hQ]
  exact ⟨rfl, rfl, rfl⟩

set_option maxHeartbeats 1000000 in
theorem m_X3_why_1none {l : Launch} {G : zG} {h : zH} {n : Nat} {t : Nat} {w0 : Nat → Int32} {w1 : Nat → Int32} {w2 : Nat → Int32} {w3 : Nat → Int32} {w4 : Nat → Int32} {w5 : Nat → Int64} {w6 : Nat → Int64} {w7 : Nat → Int64} {w8 : Nat → Int64} {w9 : Nat → Int64} {w10 : Nat → Int64} {w11 : Nat → Int64} {w12 : Int32} {w13 : Int32} {w14 : Int32} {w15 : Int32} {w16 : Int32} {w17 : Int32} {w18 : Bool} {w19 : Nat → Int32} {w20 : Int32} {w21 : Nat → Int32} {w22 : Nat → Int32} {w23 : Nat → Int32} {w24 : Int32} {w25 : Int32} {w26 : Int32} {w27 : Int32} {w28 : Bool} {R S D : Nat} {a b c : Int32} {p : Nat}  (ht : z_n0 G ≤ t) (hw : z_ok w0 R S D) (hp : tw_row w0 R a = none) : z_C l G yX3_why 5 0 0 [.ref t, .int (nI 1), .int a, .int b, .int c] (z_tw G t w0 w1 w2 w3 w4 w5 w6 w7 w8 w9 w10 w11 w12 w13 w14 w15 w16 w17 w18 w19 w20 w21 w22 w23 w24 w25 w26 w27 w28 h) n (z_rv (.int (nI ((tC_why w0 R S D 1 a b c).1))) (z_tw G t w0 w1 w2 w3 w4 w5 w6 w7 w8 w9 w10 w11 w12 w13 w14 (tw_d15 (tC_why w0 R S D 1 a b c).2 w15) (tw_d16 (tC_why w0 R S D 1 a b c).2 w16) (tw_d17 (tC_why w0 R S D 1 a b c).2 w17) w18 w19 w20 w21 w22 w23 w24 w25 w26 w27 w28 h) n) := by
  refine z_start zk_X3_why zpl_RX3 (Nat.le_of_ble_eq_true rfl) ?_
  intro hn0 M hl hG ho hb hN hr hm hH hrm hQ
  subst hl hG
  have ho : zm_o M = RX3 := ho
  obtain ⟨hR, hR4, hS, hS8, hD, hD6, hF⟩ := id hw
  show z_V M (z_tw (zm_G M) t w0 w1 w2 w3 w4 w5 w6 w7 w8 w9 w10 w11 w12 w13 w14 w15 w16 w17 w18 w19 w20 w21 w22 w23 w24 w25 w26 w27 w28 h) n 0 0 0 [(0, .ref t), (1, .int (nI 1)), (2, .int a), (3, .int b), (4, .int c)] []
  refine z_iload_n hb dX3_why_0 rfl ?_
  refine z_tableIn (off := 56) (tgt := 57) hb dX3_why_1 (by decide) (by decide) rfl (by decide) ?_
  refine z_aload_n hb dX3_why_57 rfl ?_
  refine z_iload_n hb dX3_why_58 rfl ?_
  refine z_call1 (b' := 0) (f' := 0) (rest := []) (av := [.ref t, .int a]) (z_siteV hb ho zc2 z_tw_o q2879 q2881 qs47 ⟨_, _, _, _, zk_X3_row⟩ zy_X3_row zl_X3_row dX3_why_59 : z_Site M _ _ _ _ _ ([.int a].reverse ++ .ref t :: []) [] _) zk_X3_row q104 hrm (m_X3_row a ht hw) (by omega) (by decide) (Nat.le_of_ble_eq_true rfl) (by omega) (by omega) ?_
  refine z_if_lt (tgt := 69) hb dX3_why_62 (by decide) (fun c_62 => ?_) (fun c_62 => ?_)
  · refine z_iconst (x := nI 1) hb dX3_why_69 (by decide) ?_
    refine z_iret hb hr dX3_why_70 ?_
    rw [hQ]
    rw [tC_why, hp]; exact ⟨rfl, rfl, rfl⟩
  · rw [hp] at c_62; exact absurd c_62 (by decide)

set_option maxHeartbeats 1000000 in
theorem m_X3_why_1some {l : Launch} {G : zG} {h : zH} {n : Nat} {t : Nat} {w0 : Nat → Int32} {w1 : Nat → Int32} {w2 : Nat → Int32} {w3 : Nat → Int32} {w4 : Nat → Int32} {w5 : Nat → Int64} {w6 : Nat → Int64} {w7 : Nat → Int64} {w8 : Nat → Int64} {w9 : Nat → Int64} {w10 : Nat → Int64} {w11 : Nat → Int64} {w12 : Int32} {w13 : Int32} {w14 : Int32} {w15 : Int32} {w16 : Int32} {w17 : Int32} {w18 : Bool} {w19 : Nat → Int32} {w20 : Int32} {w21 : Nat → Int32} {w22 : Nat → Int32} {w23 : Nat → Int32} {w24 : Int32} {w25 : Int32} {w26 : Int32} {w27 : Int32} {w28 : Bool} {R S D : Nat} {a b c : Int32} {p : Nat}  (ht : z_n0 G ≤ t) (hw : z_ok w0 R S D) (hp : tw_row w0 R a = some p) : z_C l G yX3_why 5 0 0 [.ref t, .int (nI 1), .int a, .int b, .int c] (z_tw G t w0 w1 w2 w3 w4 w5 w6 w7 w8 w9 w10 w11 w12 w13 w14 w15 w16 w17 w18 w19 w20 w21 w22 w23 w24 w25 w26 w27 w28 h) n (z_rv (.int (nI ((tC_why w0 R S D 1 a b c).1))) (z_tw G t w0 w1 w2 w3 w4 w5 w6 w7 w8 w9 w10 w11 w12 w13 w14 (tw_d15 (tC_why w0 R S D 1 a b c).2 w15) (tw_d16 (tC_why w0 R S D 1 a b c).2 w16) (tw_d17 (tC_why w0 R S D 1 a b c).2 w17) w18 w19 w20 w21 w22 w23 w24 w25 w26 w27 w28 h) n) := by
  refine z_start zk_X3_why zpl_RX3 (Nat.le_of_ble_eq_true rfl) ?_
  intro hn0 M hl hG ho hb hN hr hm hH hrm hQ
  subst hl hG
  have ho : zm_o M = RX3 := ho
  obtain ⟨hR, hR4, hS, hS8, hD, hD6, hF⟩ := id hw
  show z_V M (z_tw (zm_G M) t w0 w1 w2 w3 w4 w5 w6 w7 w8 w9 w10 w11 w12 w13 w14 w15 w16 w17 w18 w19 w20 w21 w22 w23 w24 w25 w26 w27 w28 h) n 0 0 0 [(0, .ref t), (1, .int (nI 1)), (2, .int a), (3, .int b), (4, .int c)] []
  refine z_iload_n hb dX3_why_0 rfl ?_
  refine z_tableIn (off := 56) (tgt := 57) hb dX3_why_1 (by decide) (by decide) rfl (by decide) ?_
  refine z_aload_n hb dX3_why_57 rfl ?_
  refine z_iload_n hb dX3_why_58 rfl ?_
  refine z_call1 (b' := 0) (f' := 0) (rest := []) (av := [.ref t, .int a]) (z_siteV hb ho zc2 z_tw_o q2879 q2881 qs47 ⟨_, _, _, _, zk_X3_row⟩ zy_X3_row zl_X3_row dX3_why_59 : z_Site M _ _ _ _ _ ([.int a].reverse ++ .ref t :: []) [] _) zk_X3_row q104 hrm (m_X3_row a ht hw) (by omega) (by decide) (Nat.le_of_ble_eq_true rfl) (by omega) (by omega) ?_
  refine z_if_lt (tgt := 69) hb dX3_why_62 (by decide) (fun c_62 => ?_) (fun c_62 => ?_)
  · rw [hp] at c_62; exact absurd c_62 (nI_pos (by have := tw_row_lt hp; omega))
  · refine z_iconst (x := nI 0) hb dX3_why_65 (by decide) ?_
    refine z_goto (tgt := 70) hb dX3_why_66 (by decide) ?_
    refine z_iret hb hr dX3_why_70 ?_
    rw [hQ]
    rw [tC_why, hp]; exact ⟨rfl, rfl, rfl⟩

set_option maxHeartbeats 1000000 in
theorem m_X3_why_2 {l : Launch} {G : zG} {h : zH} {n : Nat} {t : Nat} {w0 : Nat → Int32} {w1 : Nat → Int32} {w2 : Nat → Int32} {w3 : Nat → Int32} {w4 : Nat → Int32} {w5 : Nat → Int64} {w6 : Nat → Int64} {w7 : Nat → Int64} {w8 : Nat → Int64} {w9 : Nat → Int64} {w10 : Nat → Int64} {w11 : Nat → Int64} {w12 : Int32} {w13 : Int32} {w14 : Int32} {w15 : Int32} {w16 : Int32} {w17 : Int32} {w18 : Bool} {w19 : Nat → Int32} {w20 : Int32} {w21 : Nat → Int32} {w22 : Nat → Int32} {w23 : Nat → Int32} {w24 : Int32} {w25 : Int32} {w26 : Int32} {w27 : Int32} {w28 : Bool} {R S D : Nat} {a b c : Int32}  (ht : z_n0 G ≤ t) (hw : z_ok w0 R S D) : z_C l G yX3_why 5 0 0 [.ref t, .int (nI 2), .int a, .int b, .int c] (z_tw G t w0 w1 w2 w3 w4 w5 w6 w7 w8 w9 w10 w11 w12 w13 w14 w15 w16 w17 w18 w19 w20 w21 w22 w23 w24 w25 w26 w27 w28 h) n (z_rv (.int (nI ((tC_why w0 R S D 2 a b c).1))) (z_tw G t w0 w1 w2 w3 w4 w5 w6 w7 w8 w9 w10 w11 w12 w13 w14 (tw_d15 (tC_why w0 R S D 2 a b c).2 w15) (tw_d16 (tC_why w0 R S D 2 a b c).2 w16) (tw_d17 (tC_why w0 R S D 2 a b c).2 w17) w18 w19 w20 w21 w22 w23 w24 w25 w26 w27 w28 h) n) := by
  refine z_start zk_X3_why zpl_RX3 (Nat.le_of_ble_eq_true rfl) ?_
  intro hn0 M hl hG ho hb hN hr hm hH hrm hQ
  subst hl hG
  have ho : zm_o M = RX3 := ho
  obtain ⟨hR, hR4, hS, hS8, hD, hD6, hF⟩ := id hw
  show z_V M (z_tw (zm_G M) t w0 w1 w2 w3 w4 w5 w6 w7 w8 w9 w10 w11 w12 w13 w14 w15 w16 w17 w18 w19 w20 w21 w22 w23 w24 w25 w26 w27 w28 h) n 0 0 0 [(0, .ref t), (1, .int (nI 2)), (2, .int a), (3, .int b), (4, .int c)] []
  refine z_iload_n hb dX3_why_0 rfl ?_
  refine z_tableIn (off := 70) (tgt := 71) hb dX3_why_1 (by decide) (by decide) rfl (by decide) ?_
  refine z_aload_n hb dX3_why_71 rfl ?_
  refine z_call1 (b' := 0) (f' := 0) (rest := []) (av := [.ref t]) (z_siteV hb ho zc2 z_tw_o q2891 q2893 qs49 ⟨_, _, _, _, zk_X3_cannotBegin⟩ zy_X3_cannotBegin zl_X3_cannotBegin dX3_why_72 : z_Site M _ _ _ _ _ ([].reverse ++ .ref t :: []) [] _) zk_X3_cannotBegin q104 hrm (m_X3_cannotBegin ht hw) (by omega) (by decide) (Nat.le_of_ble_eq_true rfl) (by omega) (by omega) ?_
  refine z_iret hb hr dX3_why_75 ?_
  rw [hQ]
  exact ⟨rfl, rfl, rfl⟩

set_option maxHeartbeats 1000000 in
theorem m_X3_why_3 {l : Launch} {G : zG} {h : zH} {n : Nat} {t : Nat} {w0 : Nat → Int32} {w1 : Nat → Int32} {w2 : Nat → Int32} {w3 : Nat → Int32} {w4 : Nat → Int32} {w5 : Nat → Int64} {w6 : Nat → Int64} {w7 : Nat → Int64} {w8 : Nat → Int64} {w9 : Nat → Int64} {w10 : Nat → Int64} {w11 : Nat → Int64} {w12 : Int32} {w13 : Int32} {w14 : Int32} {w15 : Int32} {w16 : Int32} {w17 : Int32} {w18 : Bool} {w19 : Nat → Int32} {w20 : Int32} {w21 : Nat → Int32} {w22 : Nat → Int32} {w23 : Nat → Int32} {w24 : Int32} {w25 : Int32} {w26 : Int32} {w27 : Int32} {w28 : Bool} {R S D : Nat} {a b c : Int32}  (ht : z_n0 G ≤ t) (hw : z_ok w0 R S D) : z_C l G yX3_why 5 0 0 [.ref t, .int (nI 3), .int a, .int b, .int c] (z_tw G t w0 w1 w2 w3 w4 w5 w6 w7 w8 w9 w10 w11 w12 w13 w14 w15 w16 w17 w18 w19 w20 w21 w22 w23 w24 w25 w26 w27 w28 h) n (z_rv (.int (nI ((tC_why w0 R S D 3 a b c).1))) (z_tw G t w0 w1 w2 w3 w4 w5 w6 w7 w8 w9 w10 w11 w12 w13 w14 (tw_d15 (tC_why w0 R S D 3 a b c).2 w15) (tw_d16 (tC_why w0 R S D 3 a b c).2 w16) (tw_d17 (tC_why w0 R S D 3 a b c).2 w17) w18 w19 w20 w21 w22 w23 w24 w25 w26 w27 w28 h) n) := by
  refine z_start zk_X3_why zpl_RX3 (Nat.le_of_ble_eq_true rfl) ?_
  intro hn0 M hl hG ho hb hN hr hm hH hrm hQ
  subst hl hG
  have ho : zm_o M = RX3 := ho
  obtain ⟨hR, hR4, hS, hS8, hD, hD6, hF⟩ := id hw
  show z_V M (z_tw (zm_G M) t w0 w1 w2 w3 w4 w5 w6 w7 w8 w9 w10 w11 w12 w13 w14 w15 w16 w17 w18 w19 w20 w21 w22 w23 w24 w25 w26 w27 w28 h) n 0 0 0 [(0, .ref t), (1, .int (nI 3)), (2, .int a), (3, .int b), (4, .int c)] []
  refine z_iload_n hb dX3_why_0 rfl ?_
  refine z_tableIn (off := 75) (tgt := 76) hb dX3_why_1 (by decide) (by decide) rfl (by decide) ?_
  refine z_aload_n hb dX3_why_76 rfl ?_
  refine z_iload_n hb dX3_why_77 rfl ?_
  refine z_iload_n hb dX3_why_78 rfl ?_
  refine z_call1 (b' := 0) (f' := 0) (rest := []) (av := [.ref t, .int a, .int b]) (z_siteV hb ho zc2 z_tw_o q2907 q2909 qs52 ⟨_, _, _, _, zk_X3_cannotBase⟩ zy_X3_cannotBase zl_X3_cannotBase dX3_why_79 : z_Site M _ _ _ _ _ ([.int a, .int b].reverse ++ .ref t :: []) [] _) zk_X3_cannotBase q104 hrm (m_X3_cannotBase a b ht hw) (by omega) (by decide) (Nat.le_of_ble_eq_true rfl) (by omega) (by omega) ?_
  refine z_iret hb hr dX3_why_82 ?_
  rw [hQ]
  exact ⟨rfl, rfl, rfl⟩

set_option maxHeartbeats 1000000 in
theorem m_X3_why_4 {l : Launch} {G : zG} {h : zH} {n : Nat} {t : Nat} {w0 : Nat → Int32} {w1 : Nat → Int32} {w2 : Nat → Int32} {w3 : Nat → Int32} {w4 : Nat → Int32} {w5 : Nat → Int64} {w6 : Nat → Int64} {w7 : Nat → Int64} {w8 : Nat → Int64} {w9 : Nat → Int64} {w10 : Nat → Int64} {w11 : Nat → Int64} {w12 : Int32} {w13 : Int32} {w14 : Int32} {w15 : Int32} {w16 : Int32} {w17 : Int32} {w18 : Bool} {w19 : Nat → Int32} {w20 : Int32} {w21 : Nat → Int32} {w22 : Nat → Int32} {w23 : Nat → Int32} {w24 : Int32} {w25 : Int32} {w26 : Int32} {w27 : Int32} {w28 : Bool} {R S D : Nat} {a b c : Int32}  (ht : z_n0 G ≤ t) (hw : z_ok w0 R S D) : z_C l G yX3_why 5 0 0 [.ref t, .int (nI 4), .int a, .int b, .int c] (z_tw G t w0 w1 w2 w3 w4 w5 w6 w7 w8 w9 w10 w11 w12 w13 w14 w15 w16 w17 w18 w19 w20 w21 w22 w23 w24 w25 w26 w27 w28 h) n (z_rv (.int (nI ((tC_why w0 R S D 4 a b c).1))) (z_tw G t w0 w1 w2 w3 w4 w5 w6 w7 w8 w9 w10 w11 w12 w13 w14 (tw_d15 (tC_why w0 R S D 4 a b c).2 w15) (tw_d16 (tC_why w0 R S D 4 a b c).2 w16) (tw_d17 (tC_why w0 R S D 4 a b c).2 w17) w18 w19 w20 w21 w22 w23 w24 w25 w26 w27 w28 h) n) := by
  refine z_start zk_X3_why zpl_RX3 (Nat.le_of_ble_eq_true rfl) ?_
  intro hn0 M hl hG ho hb hN hr hm hH hrm hQ
  subst hl hG
  have ho : zm_o M = RX3 := ho
  obtain ⟨hR, hR4, hS, hS8, hD, hD6, hF⟩ := id hw
  show z_V M (z_tw (zm_G M) t w0 w1 w2 w3 w4 w5 w6 w7 w8 w9 w10 w11 w12 w13 w14 w15 w16 w17 w18 w19 w20 w21 w22 w23 w24 w25 w26 w27 w28 h) n 0 0 0 [(0, .ref t), (1, .int (nI 4)), (2, .int a), (3, .int b), (4, .int c)] []
  refine z_iload_n hb dX3_why_0 rfl ?_
  refine z_tableIn (off := 82) (tgt := 83) hb dX3_why_1 (by decide) (by decide) rfl (by decide) ?_
  refine z_aload_n hb dX3_why_83 rfl ?_
  refine z_iload_n hb dX3_why_84 rfl ?_
  refine z_iload_n hb dX3_why_85 rfl ?_
  refine z_iload hb dX3_why_86 rfl ?_
  refine z_call1 (b' := 0) (f' := 0) (rest := []) (av := [.ref t, .int a, .int b, .int c]) (z_siteV hb ho zc2 z_tw_o q2923 q2925 qs55 ⟨_, _, _, _, zk_X3_cannotPair⟩ zy_X3_cannotPair zl_X3_cannotPair dX3_why_88 : z_Site M _ _ _ _ _ ([.int a, .int b, .int c].reverse ++ .ref t :: []) [] _) zk_X3_cannotPair q104 hrm (m_X3_cannotPair a b c ht hw) (by omega) (by decide) (Nat.le_of_ble_eq_true rfl) (by omega) (by omega) ?_
  refine z_iret hb hr dX3_why_91 ?_
  rw [hQ]
  exact ⟨rfl, rfl, rfl⟩

set_option maxHeartbeats 1000000 in
theorem m_X3_why_5 {l : Launch} {G : zG} {h : zH} {n : Nat} {t : Nat} {w0 : Nat → Int32} {w1 : Nat → Int32} {w2 : Nat → Int32} {w3 : Nat → Int32} {w4 : Nat → Int32} {w5 : Nat → Int64} {w6 : Nat → Int64} {w7 : Nat → Int64} {w8 : Nat → Int64} {w9 : Nat → Int64} {w10 : Nat → Int64} {w11 : Nat → Int64} {w12 : Int32} {w13 : Int32} {w14 : Int32} {w15 : Int32} {w16 : Int32} {w17 : Int32} {w18 : Bool} {w19 : Nat → Int32} {w20 : Int32} {w21 : Nat → Int32} {w22 : Nat → Int32} {w23 : Nat → Int32} {w24 : Int32} {w25 : Int32} {w26 : Int32} {w27 : Int32} {w28 : Bool} {R S D : Nat} {a b c : Int32}  (ht : z_n0 G ≤ t) (hw : z_ok w0 R S D) : z_C l G yX3_why 5 0 0 [.ref t, .int (nI 5), .int a, .int b, .int c] (z_tw G t w0 w1 w2 w3 w4 w5 w6 w7 w8 w9 w10 w11 w12 w13 w14 w15 w16 w17 w18 w19 w20 w21 w22 w23 w24 w25 w26 w27 w28 h) n (z_rv (.int (nI ((tC_why w0 R S D 5 a b c).1))) (z_tw G t w0 w1 w2 w3 w4 w5 w6 w7 w8 w9 w10 w11 w12 w13 w14 (tw_d15 (tC_why w0 R S D 5 a b c).2 w15) (tw_d16 (tC_why w0 R S D 5 a b c).2 w16) (tw_d17 (tC_why w0 R S D 5 a b c).2 w17) w18 w19 w20 w21 w22 w23 w24 w25 w26 w27 w28 h) n) := by
  refine z_start zk_X3_why zpl_RX3 (Nat.le_of_ble_eq_true rfl) ?_
  intro hn0 M hl hG ho hb hN hr hm hH hrm hQ
  subst hl hG
  have ho : zm_o M = RX3 := ho
  obtain ⟨hR, hR4, hS, hS8, hD, hD6, hF⟩ := id hw
  show z_V M (z_tw (zm_G M) t w0 w1 w2 w3 w4 w5 w6 w7 w8 w9 w10 w11 w12 w13 w14 w15 w16 w17 w18 w19 w20 w21 w22 w23 w24 w25 w26 w27 w28 h) n 0 0 0 [(0, .ref t), (1, .int (nI 5)), (2, .int a), (3, .int b), (4, .int c)] []
  refine z_iload_n hb dX3_why_0 rfl ?_
  refine z_tableIn (off := 91) (tgt := 92) hb dX3_why_1 (by decide) (by decide) rfl (by decide) ?_
  refine z_aload_n hb dX3_why_92 rfl ?_
  refine z_iload_n hb dX3_why_93 rfl ?_
  refine z_call1 (b' := 0) (f' := 0) (rest := []) (av := [.ref t, .int a]) (z_siteV hb ho zc2 z_tw_o q2935 q2937 qs57 ⟨_, _, _, _, zk_X3_cannotRun⟩ zy_X3_cannotRun zl_X3_cannotRun dX3_why_94 : z_Site M _ _ _ _ _ ([.int a].reverse ++ .ref t :: []) [] _) zk_X3_cannotRun q104 hrm (m_X3_cannotRun a ht hw) (by omega) (by decide) (Nat.le_of_ble_eq_true rfl) (by omega) (by omega) ?_
  refine z_iret hb hr dX3_why_97 ?_
  rw [hQ]
  exact ⟨rfl, rfl, rfl⟩

set_option maxHeartbeats 1000000 in
theorem m_X3_why_6 {l : Launch} {G : zG} {h : zH} {n : Nat} {t : Nat} {w0 : Nat → Int32} {w1 : Nat → Int32} {w2 : Nat → Int32} {w3 : Nat → Int32} {w4 : Nat → Int32} {w5 : Nat → Int64} {w6 : Nat → Int64} {w7 : Nat → Int64} {w8 : Nat → Int64} {w9 : Nat → Int64} {w10 : Nat → Int64} {w11 : Nat → Int64} {w12 : Int32} {w13 : Int32} {w14 : Int32} {w15 : Int32} {w16 : Int32} {w17 : Int32} {w18 : Bool} {w19 : Nat → Int32} {w20 : Int32} {w21 : Nat → Int32} {w22 : Nat → Int32} {w23 : Nat → Int32} {w24 : Int32} {w25 : Int32} {w26 : Int32} {w27 : Int32} {w28 : Bool} {R S D : Nat} {a b c : Int32}  (ht : z_n0 G ≤ t) (hw : z_ok w0 R S D) : z_C l G yX3_why 5 0 0 [.ref t, .int (nI 6), .int a, .int b, .int c] (z_tw G t w0 w1 w2 w3 w4 w5 w6 w7 w8 w9 w10 w11 w12 w13 w14 w15 w16 w17 w18 w19 w20 w21 w22 w23 w24 w25 w26 w27 w28 h) n (z_rv (.int (nI ((tC_why w0 R S D 6 a b c).1))) (z_tw G t w0 w1 w2 w3 w4 w5 w6 w7 w8 w9 w10 w11 w12 w13 w14 (tw_d15 (tC_why w0 R S D 6 a b c).2 w15) (tw_d16 (tC_why w0 R S D 6 a b c).2 w16) (tw_d17 (tC_why w0 R S D 6 a b c).2 w17) w18 w19 w20 w21 w22 w23 w24 w25 w26 w27 w28 h) n) := by
  refine z_start zk_X3_why zpl_RX3 (Nat.le_of_ble_eq_true rfl) ?_
  intro hn0 M hl hG ho hb hN hr hm hH hrm hQ
  subst hl hG
  have ho : zm_o M = RX3 := ho
  obtain ⟨hR, hR4, hS, hS8, hD, hD6, hF⟩ := id hw
  show z_V M (z_tw (zm_G M) t w0 w1 w2 w3 w4 w5 w6 w7 w8 w9 w10 w11 w12 w13 w14 w15 w16 w17 w18 w19 w20 w21 w22 w23 w24 w25 w26 w27 w28 h) n 0 0 0 [(0, .ref t), (1, .int (nI 6)), (2, .int a), (3, .int b), (4, .int c)] []
  refine z_iload_n hb dX3_why_0 rfl ?_
  refine z_tableIn (off := 97) (tgt := 98) hb dX3_why_1 (by decide) (by decide) rfl (by decide) ?_
  refine z_aload_n hb dX3_why_98 rfl ?_
  refine z_iload_n hb dX3_why_99 rfl ?_
  refine z_iload_n hb dX3_why_100 rfl ?_
  refine z_call1 (b' := 0) (f' := 0) (rest := []) (av := [.ref t, .int a, .int b]) (z_siteV hb ho zc2 z_tw_o q2943 q2945 qs58 ⟨_, _, _, _, zk_X3_cannotKeep⟩ zy_X3_cannotKeep zl_X3_cannotKeep dX3_why_101 : z_Site M _ _ _ _ _ ([.int a, .int b].reverse ++ .ref t :: []) [] _) zk_X3_cannotKeep q104 hrm (m_X3_cannotKeep a b ht hw) (by omega) (by decide) (Nat.le_of_ble_eq_true rfl) (by omega) (by omega) ?_
  refine z_iret hb hr dX3_why_104 ?_
  rw [hQ]
  exact ⟨rfl, rfl, rfl⟩

set_option maxHeartbeats 1000000 in
theorem m_X3_why_7 {l : Launch} {G : zG} {h : zH} {n : Nat} {t : Nat} {w0 : Nat → Int32} {w1 : Nat → Int32} {w2 : Nat → Int32} {w3 : Nat → Int32} {w4 : Nat → Int32} {w5 : Nat → Int64} {w6 : Nat → Int64} {w7 : Nat → Int64} {w8 : Nat → Int64} {w9 : Nat → Int64} {w10 : Nat → Int64} {w11 : Nat → Int64} {w12 : Int32} {w13 : Int32} {w14 : Int32} {w15 : Int32} {w16 : Int32} {w17 : Int32} {w18 : Bool} {w19 : Nat → Int32} {w20 : Int32} {w21 : Nat → Int32} {w22 : Nat → Int32} {w23 : Nat → Int32} {w24 : Int32} {w25 : Int32} {w26 : Int32} {w27 : Int32} {w28 : Bool} {R S D : Nat} {a b c : Int32}  (ht : z_n0 G ≤ t) (hw : z_ok w0 R S D) : z_C l G yX3_why 5 0 0 [.ref t, .int (nI 7), .int a, .int b, .int c] (z_tw G t w0 w1 w2 w3 w4 w5 w6 w7 w8 w9 w10 w11 w12 w13 w14 w15 w16 w17 w18 w19 w20 w21 w22 w23 w24 w25 w26 w27 w28 h) n (z_rv (.int (nI ((tC_why w0 R S D 7 a b c).1))) (z_tw G t w0 w1 w2 w3 w4 w5 w6 w7 w8 w9 w10 w11 w12 w13 w14 (tw_d15 (tC_why w0 R S D 7 a b c).2 w15) (tw_d16 (tC_why w0 R S D 7 a b c).2 w16) (tw_d17 (tC_why w0 R S D 7 a b c).2 w17) w18 w19 w20 w21 w22 w23 w24 w25 w26 w27 w28 h) n) := by
  refine z_start zk_X3_why zpl_RX3 (Nat.le_of_ble_eq_true rfl) ?_
  intro hn0 M hl hG ho hb hN hr hm hH hrm hQ
  subst hl hG
  have ho : zm_o M = RX3 := ho
  obtain ⟨hR, hR4, hS, hS8, hD, hD6, hF⟩ := id hw
  show z_V M (z_tw (zm_G M) t w0 w1 w2 w3 w4 w5 w6 w7 w8 w9 w10 w11 w12 w13 w14 w15 w16 w17 w18 w19 w20 w21 w22 w23 w24 w25 w26 w27 w28 h) n 0 0 0 [(0, .ref t), (1, .int (nI 7)), (2, .int a), (3, .int b), (4, .int c)] []
  refine z_iload_n hb dX3_why_0 rfl ?_
  refine z_tableIn (off := 104) (tgt := 105) hb dX3_why_1 (by decide) (by decide) rfl (by decide) ?_
  refine z_aload_n hb dX3_why_105 rfl ?_
  refine z_iload_n hb dX3_why_106 rfl ?_
  refine z_call1 (b' := 0) (f' := 0) (rest := []) (av := [.ref t, .int a]) (z_siteV hb ho zc2 z_tw_o q2951 q2953 qs59 ⟨_, _, _, _, zk_X3_cannotCut⟩ zy_X3_cannotCut zl_X3_cannotCut dX3_why_107 : z_Site M _ _ _ _ _ ([.int a].reverse ++ .ref t :: []) [] _) zk_X3_cannotCut q104 hrm (m_why_cut (u := b) (v := c) a ht hw) (by omega) (by decide) (Nat.le_of_ble_eq_true rfl) (by omega) (by omega) ?_
  refine z_iret hb hr dX3_why_110 ?_
  rw [hQ]
  exact ⟨rfl, rfl, rfl⟩

set_option maxHeartbeats 1000000 in
theorem m_X3_why_8 {l : Launch} {G : zG} {h : zH} {n : Nat} {t : Nat} {w0 : Nat → Int32} {w1 : Nat → Int32} {w2 : Nat → Int32} {w3 : Nat → Int32} {w4 : Nat → Int32} {w5 : Nat → Int64} {w6 : Nat → Int64} {w7 : Nat → Int64} {w8 : Nat → Int64} {w9 : Nat → Int64} {w10 : Nat → Int64} {w11 : Nat → Int64} {w12 : Int32} {w13 : Int32} {w14 : Int32} {w15 : Int32} {w16 : Int32} {w17 : Int32} {w18 : Bool} {w19 : Nat → Int32} {w20 : Int32} {w21 : Nat → Int32} {w22 : Nat → Int32} {w23 : Nat → Int32} {w24 : Int32} {w25 : Int32} {w26 : Int32} {w27 : Int32} {w28 : Bool} {R S D : Nat} {a b c : Int32}  (ht : z_n0 G ≤ t) (hw : z_ok w0 R S D) : z_C l G yX3_why 5 0 0 [.ref t, .int (nI 8), .int a, .int b, .int c] (z_tw G t w0 w1 w2 w3 w4 w5 w6 w7 w8 w9 w10 w11 w12 w13 w14 w15 w16 w17 w18 w19 w20 w21 w22 w23 w24 w25 w26 w27 w28 h) n (z_rv (.int (nI ((tC_why w0 R S D 8 a b c).1))) (z_tw G t w0 w1 w2 w3 w4 w5 w6 w7 w8 w9 w10 w11 w12 w13 w14 (tw_d15 (tC_why w0 R S D 8 a b c).2 w15) (tw_d16 (tC_why w0 R S D 8 a b c).2 w16) (tw_d17 (tC_why w0 R S D 8 a b c).2 w17) w18 w19 w20 w21 w22 w23 w24 w25 w26 w27 w28 h) n) := by
  refine z_start zk_X3_why zpl_RX3 (Nat.le_of_ble_eq_true rfl) ?_
  intro hn0 M hl hG ho hb hN hr hm hH hrm hQ
  subst hl hG
  have ho : zm_o M = RX3 := ho
  obtain ⟨hR, hR4, hS, hS8, hD, hD6, hF⟩ := id hw
  show z_V M (z_tw (zm_G M) t w0 w1 w2 w3 w4 w5 w6 w7 w8 w9 w10 w11 w12 w13 w14 w15 w16 w17 w18 w19 w20 w21 w22 w23 w24 w25 w26 w27 w28 h) n 0 0 0 [(0, .ref t), (1, .int (nI 8)), (2, .int a), (3, .int b), (4, .int c)] []
  refine z_iload_n hb dX3_why_0 rfl ?_
  refine z_tableOut (tgt := 111) hb dX3_why_1 (by decide) (by decide) ?_
  refine z_aload_n hb dX3_why_111 rfl ?_
  refine z_iload_n hb dX3_why_112 rfl ?_
  refine z_call1 (b' := 0) (f' := 0) (rest := []) (av := [.ref t, .int a]) (z_siteV hb ho zc2 z_tw_o q2967 q2969 qs62 ⟨_, _, _, _, zk_X3_cannotRepair⟩ zy_X3_cannotRepair zl_X3_cannotRepair dX3_why_113 : z_Site M _ _ _ _ _ ([.int a].reverse ++ .ref t :: []) [] _) zk_X3_cannotRepair q104 hrm (m_why_rep (u := b) (v := c) a ht hw) (by omega) (by decide) (Nat.le_of_ble_eq_true rfl) (by omega) (by omega) ?_
  refine z_iret hb hr dX3_why_116 ?_
  rw [hQ]
  exact ⟨rfl, rfl, rfl⟩

theorem m_X3_why {l : Launch} {G : zG} {h : zH} {n : Nat} {t : Nat} {w0 : Nat → Int32} {w1 : Nat → Int32} {w2 : Nat → Int32} {w3 : Nat → Int32} {w4 : Nat → Int32} {w5 : Nat → Int64} {w6 : Nat → Int64} {w7 : Nat → Int64} {w8 : Nat → Int64} {w9 : Nat → Int64} {w10 : Nat → Int64} {w11 : Nat → Int64} {w12 : Int32} {w13 : Int32} {w14 : Int32} {w15 : Int32} {w16 : Int32} {w17 : Int32} {w18 : Bool} {w19 : Nat → Int32} {w20 : Int32} {w21 : Nat → Int32} {w22 : Nat → Int32} {w23 : Nat → Int32} {w24 : Int32} {w25 : Int32} {w26 : Int32} {w27 : Int32} {w28 : Bool} {R S D : Nat} (kd : Nat) (a b c : Int32) (hkd : kd < 9) (ht : z_n0 G ≤ t) (hw : z_ok w0 R S D) : z_C l G yX3_why 5 0 0 [.ref t, .int (nI kd), .int a, .int b, .int c] (z_tw G t w0 w1 w2 w3 w4 w5 w6 w7 w8 w9 w10 w11 w12 w13 w14 w15 w16 w17 w18 w19 w20 w21 w22 w23 w24 w25 w26 w27 w28 h) n (z_rv (.int (nI (tC_why w0 R S D kd a b c).1)) (z_tw G t w0 w1 w2 w3 w4 w5 w6 w7 w8 w9 w10 w11 w12 w13 w14 (tw_d15 (tC_why w0 R S D kd a b c).2 w15) (tw_d16 (tC_why w0 R S D kd a b c).2 w16) (tw_d17 (tC_why w0 R S D kd a b c).2 w17) w18 w19 w20 w21 w22 w23 w24 w25 w26 w27 w28 h) n) := by
  match kd, hkd with
  | 0, _ => exact m_X3_why_0 ht hw
  | 1, _ =>
    cases hp : tw_row w0 R a with
    | none => exact m_X3_why_1none (p := 0) ht hw hp
    | some p => exact m_X3_why_1some ht hw hp
  | 2, _ => exact m_X3_why_2 ht hw
  | 3, _ => exact m_X3_why_3 ht hw
  | 4, _ => exact m_X3_why_4 ht hw
  | 5, _ => exact m_X3_why_5 ht hw
  | 6, _ => exact m_X3_why_6 ht hw
  | 7, _ => exact m_X3_why_7 ht hw
  | 8, _ => exact m_X3_why_8 ht hw

set_option maxHeartbeats 1000000 in
theorem m_X3_does_0 {l : Launch} {G : zG} {h : zH} {n : Nat} {t : Nat} {w0 : Nat → Int32} {w1 : Nat → Int32} {w2 : Nat → Int32} {w3 : Nat → Int32} {w4 : Nat → Int32} {w5 : Nat → Int64} {w6 : Nat → Int64} {w7 : Nat → Int64} {w8 : Nat → Int64} {w9 : Nat → Int64} {w10 : Nat → Int64} {w11 : Nat → Int64} {w12 : Int32} {w13 : Int32} {w14 : Int32} {w15 : Int32} {w16 : Int32} {w17 : Int32} {w18 : Bool} {w19 : Nat → Int32} {w20 : Int32} {w21 : Nat → Int32} {w22 : Nat → Int32} {w23 : Nat → Int32} {w24 : Int32} {w25 : Int32} {w26 : Int32} {w27 : Int32} {w28 : Bool} {R S D : Nat} {a b c : Int32}  (ht : z_n0 G ≤ t) (hw : z_ok w0 R S D) (hrw : z_rows w0 R D) (h0 : (tC_why w0 R S D 0 a b c).1 = 0) : z_C l G yX3_does 8 0 0 [.ref t, .int (nI 0), .int a, .int b, .int c] (z_tw G t w0 w1 w2 w3 w4 w5 w6 w7 w8 w9 w10 w11 w12 w13 w14 w15 w16 w17 w18 w19 w20 w21 w22 w23 w24 w25 w26 w27 w28 h) n (z_rv (.int ((tC_go w0 w5 R S D 0 a b c).2.2.1)) (z_tw G t ((tC_go w0 w5 R S D 0 a b c).1) w1 w2 w3 w4 ((tC_go w0 w5 R S D 0 a b c).2.1) w6 w7 w8 w9 w10 w11 w12 w13 w14 w15 w16 w17 w18 w19 w20 w21 w22 w23 w24 w25 w26 w27 w28 h) n) := by
  refine z_start zk_X3_does zpl_RX3 (Nat.le_of_ble_eq_true rfl) ?_
  intro hn0 M hl hG ho hb hN hr hm hH hrm hQ
  subst hl hG
  have ho : zm_o M = RX3 := ho
  obtain ⟨hR, hR4, hS, hS8, hD, hD6, hF⟩ := id hw
  show z_V M (z_tw (zm_G M) t w0 w1 w2 w3 w4 w5 w6 w7 w8 w9 w10 w11 w12 w13 w14 w15 w16 w17 w18 w19 w20 w21 w22 w23 w24 w25 w26 w27 w28 h) n 0 0 0 [(0, .ref t), (1, .int (nI 0)), (2, .int a), (3, .int b), (4, .int c)] []
  refine z_iload_n hb dX3_does_0 rfl ?_
  refine z_tableIn (off := 47) (tgt := 48) hb dX3_does_1 (by decide) (by decide) rfl (by decide) ?_
  refine z_aload_n hb dX3_does_48 rfl ?_
  refine z_iload_n hb dX3_does_49 rfl ?_
  refine z_bipush (x := nI 97) hb dX3_does_50 (by decide) ?_
  refine z_isub hb dX3_does_52 ?_
  refine z_iload_n hb dX3_does_53 rfl ?_
  refine z_iload hb dX3_does_54 rfl ?_
  refine z_call1 (b' := 0) (f' := 0) (rest := []) (av := [.ref t, .int (a - (nI 97)), .int b, .int c]) (z_siteV hb ho zc2 z_tw_o q2820 q2822 qs34 ⟨_, _, _, _, zk_X3_newRow⟩ zy_X3_newRow zl_X3_newRow dX3_does_56 : z_Site M _ _ _ _ _ ([.int (a - (nI 97)), .int b, .int c].reverse ++ .ref t :: []) [] _) zk_X3_newRow q104 hrm (m_do_row  (u := 0) (v := 0) (u2 := 0) ht hw hrw h0) (by omega) (by decide) (Nat.le_of_ble_eq_true rfl) (by omega) (by omega) ?_
  refine z_iret hb hr dX3_does_59 ?_
  rw [hQ]
  exact ⟨rfl, rfl, rfl⟩

set_option maxHeartbeats 1000000 in
theorem m_X3_does_1 {l : Launch} {G : zG} {h : zH} {n : Nat} {t : Nat} {w0 : Nat → Int32} {w1 : Nat → Int32} {w2 : Nat → Int32} {w3 : Nat → Int32} {w4 : Nat → Int32} {w5 : Nat → Int64} {w6 : Nat → Int64} {w7 : Nat → Int64} {w8 : Nat → Int64} {w9 : Nat → Int64} {w10 : Nat → Int64} {w11 : Nat → Int64} {w12 : Int32} {w13 : Int32} {w14 : Int32} {w15 : Int32} {w16 : Int32} {w17 : Int32} {w18 : Bool} {w19 : Nat → Int32} {w20 : Int32} {w21 : Nat → Int32} {w22 : Nat → Int32} {w23 : Nat → Int32} {w24 : Int32} {w25 : Int32} {w26 : Int32} {w27 : Int32} {w28 : Bool} {R S D : Nat} {a b c : Int32}  (ht : z_n0 G ≤ t) (hw : z_ok w0 R S D) (hrw : z_rows w0 R D) (h0 : (tC_why w0 R S D 1 a b c).1 = 0) : z_C l G yX3_does 8 0 0 [.ref t, .int (nI 1), .int a, .int b, .int c] (z_tw G t w0 w1 w2 w3 w4 w5 w6 w7 w8 w9 w10 w11 w12 w13 w14 w15 w16 w17 w18 w19 w20 w21 w22 w23 w24 w25 w26 w27 w28 h) n (z_rv (.int ((tC_go w0 w5 R S D 1 a b c).2.2.1)) (z_tw G t ((tC_go w0 w5 R S D 1 a b c).1) w1 w2 w3 w4 ((tC_go w0 w5 R S D 1 a b c).2.1) w6 w7 w8 w9 w10 w11 w12 w13 w14 w15 w16 w17 w18 w19 w20 w21 w22 w23 w24 w25 w26 w27 w28 h) n) := by
  refine z_start zk_X3_does zpl_RX3 (Nat.le_of_ble_eq_true rfl) ?_
  intro hn0 M hl hG ho hb hN hr hm hH hrm hQ
  subst hl hG
  have ho : zm_o M = RX3 := ho
  obtain ⟨hR, hR4, hS, hS8, hD, hD6, hF⟩ := id hw
  show z_V M (z_tw (zm_G M) t w0 w1 w2 w3 w4 w5 w6 w7 w8 w9 w10 w11 w12 w13 w14 w15 w16 w17 w18 w19 w20 w21 w22 w23 w24 w25 w26 w27 w28 h) n 0 0 0 [(0, .ref t), (1, .int (nI 1)), (2, .int a), (3, .int b), (4, .int c)] []
  refine z_iload_n hb dX3_does_0 rfl ?_
  refine z_tableIn (off := 59) (tgt := 60) hb dX3_does_1 (by decide) (by decide) rfl (by decide) ?_
  refine z_aload_n hb dX3_does_60 rfl ?_
  refine z_iload_n hb dX3_does_61 rfl ?_
  refine z_call1 (b' := 0) (f' := 0) (rest := []) (av := [.ref t, .int a]) (z_siteV hb ho zc2 z_tw_o q2883 q2885 qs48 ⟨_, _, _, _, zk_X3_goneRow⟩ zy_X3_goneRow zl_X3_goneRow dX3_does_62 : z_Site M _ _ _ _ _ ([.int a].reverse ++ .ref t :: []) [] _) zk_X3_goneRow q104 hrm (m_do_gone (u := b) (v := c) (u2 := 0) ht hw hrw h0) (by omega) (by decide) (Nat.le_of_ble_eq_true rfl) (by omega) (by omega) ?_
  refine z_iret hb hr dX3_does_65 ?_
  rw [hQ]
  exact ⟨rfl, rfl, rfl⟩

set_option maxHeartbeats 1000000 in
theorem m_X3_does_2 {l : Launch} {G : zG} {h : zH} {n : Nat} {t : Nat} {w0 : Nat → Int32} {w1 : Nat → Int32} {w2 : Nat → Int32} {w3 : Nat → Int32} {w4 : Nat → Int32} {w5 : Nat → Int64} {w6 : Nat → Int64} {w7 : Nat → Int64} {w8 : Nat → Int64} {w9 : Nat → Int64} {w10 : Nat → Int64} {w11 : Nat → Int64} {w12 : Int32} {w13 : Int32} {w14 : Int32} {w15 : Int32} {w16 : Int32} {w17 : Int32} {w18 : Bool} {w19 : Nat → Int32} {w20 : Int32} {w21 : Nat → Int32} {w22 : Nat → Int32} {w23 : Nat → Int32} {w24 : Int32} {w25 : Int32} {w26 : Int32} {w27 : Int32} {w28 : Bool} {R S D : Nat} {a b c : Int32}  (ht : z_n0 G ≤ t) (hw : z_ok w0 R S D) (hrw : z_rows w0 R D) (h0 : (tC_why w0 R S D 2 a b c).1 = 0) : z_C l G yX3_does 8 0 0 [.ref t, .int (nI 2), .int a, .int b, .int c] (z_tw G t w0 w1 w2 w3 w4 w5 w6 w7 w8 w9 w10 w11 w12 w13 w14 w15 w16 w17 w18 w19 w20 w21 w22 w23 w24 w25 w26 w27 w28 h) n (z_rv (.int ((tC_go w0 w5 R S D 2 a b c).2.2.1)) (z_tw G t ((tC_go w0 w5 R S D 2 a b c).1) w1 w2 w3 w4 ((tC_go w0 w5 R S D 2 a b c).2.1) w6 w7 w8 w9 w10 w11 w12 w13 w14 w15 w16 w17 w18 w19 w20 w21 w22 w23 w24 w25 w26 w27 w28 h) n) := by
  refine z_start zk_X3_does zpl_RX3 (Nat.le_of_ble_eq_true rfl) ?_
  intro hn0 M hl hG ho hb hN hr hm hH hrm hQ
  subst hl hG
  have ho : zm_o M = RX3 := ho
  obtain ⟨hR, hR4, hS, hS8, hD, hD6, hF⟩ := id hw
  show z_V M (z_tw (zm_G M) t w0 w1 w2 w3 w4 w5 w6 w7 w8 w9 w10 w11 w12 w13 w14 w15 w16 w17 w18 w19 w20 w21 w22 w23 w24 w25 w26 w27 w28 h) n 0 0 0 [(0, .ref t), (1, .int (nI 2)), (2, .int a), (3, .int b), (4, .int c)] []
  refine z_iload_n hb dX3_does_0 rfl ?_
  refine z_tableIn (off := 65) (tgt := 66) hb dX3_does_1 (by decide) (by decide) rfl (by decide) ?_
  refine z_aload_n hb dX3_does_66 rfl ?_
  refine z_call1 (b' := 0) (f' := 0) (rest := []) (av := [.ref t]) (z_siteV hb ho zc2 z_tw_o q2895 q2897 qs50 ⟨_, _, _, _, zk_X3_begins⟩ zy_X3_begins zl_X3_begins dX3_does_67 : z_Site M _ _ _ _ _ ([].reverse ++ .ref t :: []) [] _) zk_X3_begins q104 hrm (m_do_next (u := a) (v := b) (u2 := c) ht hw hrw h0) (by omega) (by decide) (Nat.le_of_ble_eq_true rfl) (by omega) (by omega) ?_
  refine z_iret hb hr dX3_does_70 ?_
  rw [hQ]
  exact ⟨rfl, rfl, rfl⟩

set_option maxHeartbeats 1000000 in
theorem m_X3_does_3 {l : Launch} {G : zG} {h : zH} {n : Nat} {t : Nat} {w0 : Nat → Int32} {w1 : Nat → Int32} {w2 : Nat → Int32} {w3 : Nat → Int32} {w4 : Nat → Int32} {w5 : Nat → Int64} {w6 : Nat → Int64} {w7 : Nat → Int64} {w8 : Nat → Int64} {w9 : Nat → Int64} {w10 : Nat → Int64} {w11 : Nat → Int64} {w12 : Int32} {w13 : Int32} {w14 : Int32} {w15 : Int32} {w16 : Int32} {w17 : Int32} {w18 : Bool} {w19 : Nat → Int32} {w20 : Int32} {w21 : Nat → Int32} {w22 : Nat → Int32} {w23 : Nat → Int32} {w24 : Int32} {w25 : Int32} {w26 : Int32} {w27 : Int32} {w28 : Bool} {R S D : Nat} {a b c : Int32}  (ht : z_n0 G ≤ t) (hw : z_ok w0 R S D) (hrw : z_rows w0 R D) (h0 : (tC_why w0 R S D 3 a b c).1 = 0) : z_C l G yX3_does 8 0 0 [.ref t, .int (nI 3), .int a, .int b, .int c] (z_tw G t w0 w1 w2 w3 w4 w5 w6 w7 w8 w9 w10 w11 w12 w13 w14 w15 w16 w17 w18 w19 w20 w21 w22 w23 w24 w25 w26 w27 w28 h) n (z_rv (.int ((tC_go w0 w5 R S D 3 a b c).2.2.1)) (z_tw G t ((tC_go w0 w5 R S D 3 a b c).1) w1 w2 w3 w4 ((tC_go w0 w5 R S D 3 a b c).2.1) w6 w7 w8 w9 w10 w11 w12 w13 w14 w15 w16 w17 w18 w19 w20 w21 w22 w23 w24 w25 w26 w27 w28 h) n) := by
  refine z_start zk_X3_does zpl_RX3 (Nat.le_of_ble_eq_true rfl) ?_
  intro hn0 M hl hG ho hb hN hr hm hH hrm hQ
  subst hl hG
  have ho : zm_o M = RX3 := ho
  obtain ⟨hR, hR4, hS, hS8, hD, hD6, hF⟩ := id hw
  show z_V M (z_tw (zm_G M) t w0 w1 w2 w3 w4 w5 w6 w7 w8 w9 w10 w11 w12 w13 w14 w15 w16 w17 w18 w19 w20 w21 w22 w23 w24 w25 w26 w27 w28 h) n 0 0 0 [(0, .ref t), (1, .int (nI 3)), (2, .int a), (3, .int b), (4, .int c)] []
  refine z_iload_n hb dX3_does_0 rfl ?_
  refine z_tableIn (off := 70) (tgt := 71) hb dX3_does_1 (by decide) (by decide) rfl (by decide) ?_
  refine z_aload_n hb dX3_does_71 rfl ?_
  refine z_iload_n hb dX3_does_72 rfl ?_
  refine z_iload_n hb dX3_does_73 rfl ?_
  refine z_iconst (x := nI 0) hb dX3_does_74 (by decide) ?_
  refine z_iconst (x := nI 0) hb dX3_does_75 (by decide) ?_
  refine z_call1 (b' := 0) (f' := 0) (rest := []) (av := [.ref t, .int a, .int b, .int (nI 0), .int (nI 0)]) (z_siteV hb ho zc2 z_tw_o q2915 q2917 qs54 ⟨_, _, _, _, zk_X3_newStep⟩ zy_X3_newStep zl_X3_newStep dX3_does_76 : z_Site M _ _ _ _ _ ([.int a, .int b, .int (nI 0), .int (nI 0)].reverse ++ .ref t :: []) [] _) zk_X3_newStep q104 hrm (m_do_base (u := c) (v := 0) (u2 := 0) ht hw hrw h0) (by omega) (by decide) (Nat.le_of_ble_eq_true rfl) (by omega) (by omega) ?_
  refine z_iret hb hr dX3_does_79 ?_
  rw [hQ]
  exact ⟨rfl, rfl, rfl⟩

set_option maxHeartbeats 1000000 in
theorem m_X3_does_4 {l : Launch} {G : zG} {h : zH} {n : Nat} {t : Nat} {w0 : Nat → Int32} {w1 : Nat → Int32} {w2 : Nat → Int32} {w3 : Nat → Int32} {w4 : Nat → Int32} {w5 : Nat → Int64} {w6 : Nat → Int64} {w7 : Nat → Int64} {w8 : Nat → Int64} {w9 : Nat → Int64} {w10 : Nat → Int64} {w11 : Nat → Int64} {w12 : Int32} {w13 : Int32} {w14 : Int32} {w15 : Int32} {w16 : Int32} {w17 : Int32} {w18 : Bool} {w19 : Nat → Int32} {w20 : Int32} {w21 : Nat → Int32} {w22 : Nat → Int32} {w23 : Nat → Int32} {w24 : Int32} {w25 : Int32} {w26 : Int32} {w27 : Int32} {w28 : Bool} {R S D : Nat} {a b c : Int32}  (ht : z_n0 G ≤ t) (hw : z_ok w0 R S D) (hrw : z_rows w0 R D) (h0 : (tC_why w0 R S D 4 a b c).1 = 0) : z_C l G yX3_does 8 0 0 [.ref t, .int (nI 4), .int a, .int b, .int c] (z_tw G t w0 w1 w2 w3 w4 w5 w6 w7 w8 w9 w10 w11 w12 w13 w14 w15 w16 w17 w18 w19 w20 w21 w22 w23 w24 w25 w26 w27 w28 h) n (z_rv (.int ((tC_go w0 w5 R S D 4 a b c).2.2.1)) (z_tw G t ((tC_go w0 w5 R S D 4 a b c).1) w1 w2 w3 w4 ((tC_go w0 w5 R S D 4 a b c).2.1) w6 w7 w8 w9 w10 w11 w12 w13 w14 w15 w16 w17 w18 w19 w20 w21 w22 w23 w24 w25 w26 w27 w28 h) n) := by
  refine z_start zk_X3_does zpl_RX3 (Nat.le_of_ble_eq_true rfl) ?_
  intro hn0 M hl hG ho hb hN hr hm hH hrm hQ
  subst hl hG
  have ho : zm_o M = RX3 := ho
  obtain ⟨hR, hR4, hS, hS8, hD, hD6, hF⟩ := id hw
  show z_V M (z_tw (zm_G M) t w0 w1 w2 w3 w4 w5 w6 w7 w8 w9 w10 w11 w12 w13 w14 w15 w16 w17 w18 w19 w20 w21 w22 w23 w24 w25 w26 w27 w28 h) n 0 0 0 [(0, .ref t), (1, .int (nI 4)), (2, .int a), (3, .int b), (4, .int c)] []
  refine z_iload_n hb dX3_does_0 rfl ?_
  refine z_tableIn (off := 79) (tgt := 80) hb dX3_does_1 (by decide) (by decide) rfl (by decide) ?_
  refine z_aload_n hb dX3_does_80 rfl ?_
  refine z_iload_n hb dX3_does_81 rfl ?_
  refine z_iconst (x := nI 0) hb dX3_does_82 (by decide) ?_
  refine z_iload_n hb dX3_does_83 rfl ?_
  refine z_iload hb dX3_does_84 rfl ?_
  refine z_call1 (b' := 0) (f' := 0) (rest := []) (av := [.ref t, .int a, .int (nI 0), .int b, .int c]) (z_siteV hb ho zc2 z_tw_o q2915 q2917 qs54 ⟨_, _, _, _, zk_X3_newStep⟩ zy_X3_newStep zl_X3_newStep dX3_does_86 : z_Site M _ _ _ _ _ ([.int a, .int (nI 0), .int b, .int c].reverse ++ .ref t :: []) [] _) zk_X3_newStep q104 hrm (m_do_pair  (u := 0) (v := 0) (u2 := 0) ht hw hrw h0) (by omega) (by decide) (Nat.le_of_ble_eq_true rfl) (by omega) (by omega) ?_
  refine z_iret hb hr dX3_does_89 ?_
  rw [hQ]
  exact ⟨rfl, rfl, rfl⟩

set_option maxHeartbeats 1000000 in
theorem m_X3_does_5 {l : Launch} {G : zG} {h : zH} {n : Nat} {t : Nat} {w0 : Nat → Int32} {w1 : Nat → Int32} {w2 : Nat → Int32} {w3 : Nat → Int32} {w4 : Nat → Int32} {w5 : Nat → Int64} {w6 : Nat → Int64} {w7 : Nat → Int64} {w8 : Nat → Int64} {w9 : Nat → Int64} {w10 : Nat → Int64} {w11 : Nat → Int64} {w12 : Int32} {w13 : Int32} {w14 : Int32} {w15 : Int32} {w16 : Int32} {w17 : Int32} {w18 : Bool} {w19 : Nat → Int32} {w20 : Int32} {w21 : Nat → Int32} {w22 : Nat → Int32} {w23 : Nat → Int32} {w24 : Int32} {w25 : Int32} {w26 : Int32} {w27 : Int32} {w28 : Bool} {R S D : Nat} {a b c : Int32}  (ht : z_n0 G ≤ t) (hw : z_ok w0 R S D) (hrw : z_rows w0 R D) (h0 : (tC_why w0 R S D 5 a b c).1 = 0) : z_C l G yX3_does 8 0 0 [.ref t, .int (nI 5), .int a, .int b, .int c] (z_tw G t w0 w1 w2 w3 w4 w5 w6 w7 w8 w9 w10 w11 w12 w13 w14 w15 w16 w17 w18 w19 w20 w21 w22 w23 w24 w25 w26 w27 w28 h) n (z_rv (.int ((tC_go w0 w5 R S D 5 a b c).2.2.1)) (z_tw G t ((tC_go w0 w5 R S D 5 a b c).1) w1 w2 w3 w4 ((tC_go w0 w5 R S D 5 a b c).2.1) w6 w7 w8 w9 w10 w11 w12 w13 w14 w15 w16 w17 w18 w19 w20 w21 w22 w23 w24 w25 w26 w27 w28 h) n) := by
  refine z_start zk_X3_does zpl_RX3 (Nat.le_of_ble_eq_true rfl) ?_
  intro hn0 M hl hG ho hb hN hr hm hH hrm hQ
  subst hl hG
  have ho : zm_o M = RX3 := ho
  obtain ⟨hR, hR4, hS, hS8, hD, hD6, hF⟩ := id hw
  show z_V M (z_tw (zm_G M) t w0 w1 w2 w3 w4 w5 w6 w7 w8 w9 w10 w11 w12 w13 w14 w15 w16 w17 w18 w19 w20 w21 w22 w23 w24 w25 w26 w27 w28 h) n 0 0 0 [(0, .ref t), (1, .int (nI 5)), (2, .int a), (3, .int b), (4, .int c)] []
  refine z_iload_n hb dX3_does_0 rfl ?_
  refine z_tableIn (off := 89) (tgt := 90) hb dX3_does_1 (by decide) (by decide) rfl (by decide) ?_
  refine z_aload_n hb dX3_does_90 rfl ?_
  refine z_bipush (x := nI 114) hb dX3_does_91 (by decide) ?_
  refine z_iconst (x := nI 0) hb dX3_does_93 (by decide) ?_
  refine z_iload_n hb dX3_does_94 rfl ?_
  refine z_iload_n hb dX3_does_95 rfl ?_
  refine z_call1 (b' := 0) (f' := 0) (rest := []) (av := [.ref t, .int (nI 114), .int (nI 0), .int a, .int a]) (z_siteV hb ho zc2 z_tw_o q2915 q2917 qs54 ⟨_, _, _, _, zk_X3_newStep⟩ zy_X3_newStep zl_X3_newStep dX3_does_96 : z_Site M _ _ _ _ _ ([.int (nI 114), .int (nI 0), .int a, .int a].reverse ++ .ref t :: []) [] _) zk_X3_newStep q104 hrm (m_do_run (u := b) (v := c) (u2 := 0) ht hw hrw h0) (by omega) (by decide) (Nat.le_of_ble_eq_true rfl) (by omega) (by omega) ?_
  refine z_iret hb hr dX3_does_99 ?_
  rw [hQ]
  exact ⟨rfl, rfl, rfl⟩

set_option maxHeartbeats 1000000 in
theorem m_X3_does_6 {l : Launch} {G : zG} {h : zH} {n : Nat} {t : Nat} {w0 : Nat → Int32} {w1 : Nat → Int32} {w2 : Nat → Int32} {w3 : Nat → Int32} {w4 : Nat → Int32} {w5 : Nat → Int64} {w6 : Nat → Int64} {w7 : Nat → Int64} {w8 : Nat → Int64} {w9 : Nat → Int64} {w10 : Nat → Int64} {w11 : Nat → Int64} {w12 : Int32} {w13 : Int32} {w14 : Int32} {w15 : Int32} {w16 : Int32} {w17 : Int32} {w18 : Bool} {w19 : Nat → Int32} {w20 : Int32} {w21 : Nat → Int32} {w22 : Nat → Int32} {w23 : Nat → Int32} {w24 : Int32} {w25 : Int32} {w26 : Int32} {w27 : Int32} {w28 : Bool} {R S D : Nat} {a b c : Int32}  (ht : z_n0 G ≤ t) (hw : z_ok w0 R S D) (hrw : z_rows w0 R D) (h0 : (tC_why w0 R S D 6 a b c).1 = 0) : z_C l G yX3_does 8 0 0 [.ref t, .int (nI 6), .int a, .int b, .int c] (z_tw G t w0 w1 w2 w3 w4 w5 w6 w7 w8 w9 w10 w11 w12 w13 w14 w15 w16 w17 w18 w19 w20 w21 w22 w23 w24 w25 w26 w27 w28 h) n (z_rv (.int ((tC_go w0 w5 R S D 6 a b c).2.2.1)) (z_tw G t ((tC_go w0 w5 R S D 6 a b c).1) w1 w2 w3 w4 ((tC_go w0 w5 R S D 6 a b c).2.1) w6 w7 w8 w9 w10 w11 w12 w13 w14 w15 w16 w17 w18 w19 w20 w21 w22 w23 w24 w25 w26 w27 w28 h) n) := by
  refine z_start zk_X3_does zpl_RX3 (Nat.le_of_ble_eq_true rfl) ?_
  intro hn0 M hl hG ho hb hN hr hm hH hrm hQ
  subst hl hG
  have ho : zm_o M = RX3 := ho
  obtain ⟨hR, hR4, hS, hS8, hD, hD6, hF⟩ := id hw
  show z_V M (z_tw (zm_G M) t w0 w1 w2 w3 w4 w5 w6 w7 w8 w9 w10 w11 w12 w13 w14 w15 w16 w17 w18 w19 w20 w21 w22 w23 w24 w25 w26 w27 w28 h) n 0 0 0 [(0, .ref t), (1, .int (nI 6)), (2, .int a), (3, .int b), (4, .int c)] []
  refine z_iload_n hb dX3_does_0 rfl ?_
  refine z_tableIn (off := 99) (tgt := 100) hb dX3_does_1 (by decide) (by decide) rfl (by decide) ?_
  refine z_aload_n hb dX3_does_100 rfl ?_
  refine z_bipush (x := nI 107) hb dX3_does_101 (by decide) ?_
  refine z_iload_n hb dX3_does_103 rfl ?_
  refine z_iload_n hb dX3_does_104 rfl ?_
  refine z_iload_n hb dX3_does_105 rfl ?_
  refine z_call1 (b' := 0) (f' := 0) (rest := []) (av := [.ref t, .int (nI 107), .int b, .int a, .int a]) (z_siteV hb ho zc2 z_tw_o q2915 q2917 qs54 ⟨_, _, _, _, zk_X3_newStep⟩ zy_X3_newStep zl_X3_newStep dX3_does_106 : z_Site M _ _ _ _ _ ([.int (nI 107), .int b, .int a, .int a].reverse ++ .ref t :: []) [] _) zk_X3_newStep q104 hrm (m_do_keep (u := c) (v := 0) (u2 := 0) ht hw hrw h0) (by omega) (by decide) (Nat.le_of_ble_eq_true rfl) (by omega) (by omega) ?_
  refine z_iret hb hr dX3_does_109 ?_
  rw [hQ]
  exact ⟨rfl, rfl, rfl⟩

set_option maxHeartbeats 1000000 in
theorem m_X3_does_7 {l : Launch} {G : zG} {h : zH} {n : Nat} {t : Nat} {w0 : Nat → Int32} {w1 : Nat → Int32} {w2 : Nat → Int32} {w3 : Nat → Int32} {w4 : Nat → Int32} {w5 : Nat → Int64} {w6 : Nat → Int64} {w7 : Nat → Int64} {w8 : Nat → Int64} {w9 : Nat → Int64} {w10 : Nat → Int64} {w11 : Nat → Int64} {w12 : Int32} {w13 : Int32} {w14 : Int32} {w15 : Int32} {w16 : Int32} {w17 : Int32} {w18 : Bool} {w19 : Nat → Int32} {w20 : Int32} {w21 : Nat → Int32} {w22 : Nat → Int32} {w23 : Nat → Int32} {w24 : Int32} {w25 : Int32} {w26 : Int32} {w27 : Int32} {w28 : Bool} {R S D : Nat} {a b c : Int32}  (ht : z_n0 G ≤ t) (hw : z_ok w0 R S D) (hrw : z_rows w0 R D) (h0 : (tC_why w0 R S D 7 a b c).1 = 0) : z_C l G yX3_does 8 0 0 [.ref t, .int (nI 7), .int a, .int b, .int c] (z_tw G t w0 w1 w2 w3 w4 w5 w6 w7 w8 w9 w10 w11 w12 w13 w14 w15 w16 w17 w18 w19 w20 w21 w22 w23 w24 w25 w26 w27 w28 h) n (z_rv (.int ((tC_go w0 w5 R S D 7 a b c).2.2.1)) (z_tw G t ((tC_go w0 w5 R S D 7 a b c).1) w1 w2 w3 w4 ((tC_go w0 w5 R S D 7 a b c).2.1) w6 w7 w8 w9 w10 w11 w12 w13 w14 w15 w16 w17 w18 w19 w20 w21 w22 w23 w24 w25 w26 w27 w28 h) n) := by
  refine z_start zk_X3_does zpl_RX3 (Nat.le_of_ble_eq_true rfl) ?_
  intro hn0 M hl hG ho hb hN hr hm hH hrm hQ
  subst hl hG
  have ho : zm_o M = RX3 := ho
  obtain ⟨hR, hR4, hS, hS8, hD, hD6, hF⟩ := id hw
  show z_V M (z_tw (zm_G M) t w0 w1 w2 w3 w4 w5 w6 w7 w8 w9 w10 w11 w12 w13 w14 w15 w16 w17 w18 w19 w20 w21 w22 w23 w24 w25 w26 w27 w28 h) n 0 0 0 [(0, .ref t), (1, .int (nI 7)), (2, .int a), (3, .int b), (4, .int c)] []
  refine z_iload_n hb dX3_does_0 rfl ?_
  refine z_tableIn (off := 109) (tgt := 110) hb dX3_does_1 (by decide) (by decide) rfl (by decide) ?_
  refine z_aload_n hb dX3_does_110 rfl ?_
  refine z_iload_n hb dX3_does_111 rfl ?_
  refine z_call1 (b' := 0) (f' := 0) (rest := []) (av := [.ref t, .int a]) (z_siteV hb ho zc2 z_tw_o q2959 q2961 qs61 ⟨_, _, _, _, zk_X3_cut⟩ zy_X3_cut zl_X3_cut dX3_does_112 : z_Site M _ _ _ _ _ ([.int a].reverse ++ .ref t :: []) [] _) zk_X3_cut q104 hrm (m_do_cut (u := b) (v := c) (u2 := 0) ht hw hrw h0) (by omega) (by decide) (Nat.le_of_ble_eq_true rfl) (by omega) (by omega) ?_
  refine z_iret hb hr dX3_does_115 ?_
  rw [hQ]
  exact ⟨rfl, rfl, rfl⟩

set_option maxHeartbeats 1000000 in
theorem m_X3_does_8 {l : Launch} {G : zG} {h : zH} {n : Nat} {t : Nat} {w0 : Nat → Int32} {w1 : Nat → Int32} {w2 : Nat → Int32} {w3 : Nat → Int32} {w4 : Nat → Int32} {w5 : Nat → Int64} {w6 : Nat → Int64} {w7 : Nat → Int64} {w8 : Nat → Int64} {w9 : Nat → Int64} {w10 : Nat → Int64} {w11 : Nat → Int64} {w12 : Int32} {w13 : Int32} {w14 : Int32} {w15 : Int32} {w16 : Int32} {w17 : Int32} {w18 : Bool} {w19 : Nat → Int32} {w20 : Int32} {w21 : Nat → Int32} {w22 : Nat → Int32} {w23 : Nat → Int32} {w24 : Int32} {w25 : Int32} {w26 : Int32} {w27 : Int32} {w28 : Bool} {R S D : Nat} {a b c : Int32}  (ht : z_n0 G ≤ t) (hw : z_ok w0 R S D) (hrw : z_rows w0 R D) (h0 : (tC_why w0 R S D 8 a b c).1 = 0) : z_C l G yX3_does 8 0 0 [.ref t, .int (nI 8), .int a, .int b, .int c] (z_tw G t w0 w1 w2 w3 w4 w5 w6 w7 w8 w9 w10 w11 w12 w13 w14 w15 w16 w17 w18 w19 w20 w21 w22 w23 w24 w25 w26 w27 w28 h) n (z_rv (.int ((tC_go w0 w5 R S D 8 a b c).2.2.1)) (z_tw G t ((tC_go w0 w5 R S D 8 a b c).1) w1 w2 w3 w4 ((tC_go w0 w5 R S D 8 a b c).2.1) w6 w7 w8 w9 w10 w11 w12 w13 w14 w15 w16 w17 w18 w19 w20 w21 w22 w23 w24 w25 w26 w27 w28 h) n) := by
  refine z_start zk_X3_does zpl_RX3 (Nat.le_of_ble_eq_true rfl) ?_
  intro hn0 M hl hG ho hb hN hr hm hH hrm hQ
  subst hl hG
  have ho : zm_o M = RX3 := ho
  obtain ⟨hR, hR4, hS, hS8, hD, hD6, hF⟩ := id hw
  show z_V M (z_tw (zm_G M) t w0 w1 w2 w3 w4 w5 w6 w7 w8 w9 w10 w11 w12 w13 w14 w15 w16 w17 w18 w19 w20 w21 w22 w23 w24 w25 w26 w27 w28 h) n 0 0 0 [(0, .ref t), (1, .int (nI 8)), (2, .int a), (3, .int b), (4, .int c)] []
  refine z_iload_n hb dX3_does_0 rfl ?_
  refine z_tableOut (tgt := 116) hb dX3_does_1 (by decide) (by decide) ?_
  refine z_aload_n hb dX3_does_116 rfl ?_
  refine z_iload_n hb dX3_does_117 rfl ?_
  refine z_call1 (b' := 0) (f' := 0) (rest := []) (av := [.ref t, .int a]) (z_siteV hb ho zc2 z_tw_o q2975 q2977 qs64 ⟨_, _, _, _, zk_X3_repairs⟩ zy_X3_repairs zl_X3_repairs dX3_does_118 : z_Site M _ _ _ _ _ ([.int a].reverse ++ .ref t :: []) [] _) zk_X3_repairs q104 hrm (m_do_rep (u := b) (v := c) (u2 := 0) ht hw hrw h0) (by omega) (by decide) (Nat.le_of_ble_eq_true rfl) (by omega) (by omega) ?_
  refine z_iret hb hr dX3_does_121 ?_
  rw [hQ]
  exact ⟨rfl, rfl, rfl⟩

theorem m_X3_does {l : Launch} {G : zG} {h : zH} {n : Nat} {t : Nat} {w0 : Nat → Int32} {w1 : Nat → Int32} {w2 : Nat → Int32} {w3 : Nat → Int32} {w4 : Nat → Int32} {w5 : Nat → Int64} {w6 : Nat → Int64} {w7 : Nat → Int64} {w8 : Nat → Int64} {w9 : Nat → Int64} {w10 : Nat → Int64} {w11 : Nat → Int64} {w12 : Int32} {w13 : Int32} {w14 : Int32} {w15 : Int32} {w16 : Int32} {w17 : Int32} {w18 : Bool} {w19 : Nat → Int32} {w20 : Int32} {w21 : Nat → Int32} {w22 : Nat → Int32} {w23 : Nat → Int32} {w24 : Int32} {w25 : Int32} {w26 : Int32} {w27 : Int32} {w28 : Bool} {R S D : Nat} (kd : Nat) (a b c : Int32) (hkd : kd < 9) (ht : z_n0 G ≤ t) (hw : z_ok w0 R S D) (hrw : z_rows w0 R D) (h0 : (tC_why w0 R S D kd a b c).1 = 0) : z_C l G yX3_does 8 0 0 [.ref t, .int (nI kd), .int a, .int b, .int c] (z_tw G t w0 w1 w2 w3 w4 w5 w6 w7 w8 w9 w10 w11 w12 w13 w14 w15 w16 w17 w18 w19 w20 w21 w22 w23 w24 w25 w26 w27 w28 h) n (z_rv (.int (tC_go w0 w5 R S D kd a b c).2.2.1) (z_tw G t ((tC_go w0 w5 R S D kd a b c).1) w1 w2 w3 w4 ((tC_go w0 w5 R S D kd a b c).2.1) w6 w7 w8 w9 w10 w11 w12 w13 w14 w15 w16 w17 w18 w19 w20 w21 w22 w23 w24 w25 w26 w27 w28 h) n) := by
  match kd, hkd with
  | 0, _ => exact m_X3_does_0 ht hw hrw h0
  | 1, _ => exact m_X3_does_1 ht hw hrw h0
  | 2, _ => exact m_X3_does_2 ht hw hrw h0
  | 3, _ => exact m_X3_does_3 ht hw hrw h0
  | 4, _ => exact m_X3_does_4 ht hw hrw h0
  | 5, _ => exact m_X3_does_5 ht hw hrw h0
  | 6, _ => exact m_X3_does_6 ht hw hrw h0
  | 7, _ => exact m_X3_does_7 ht hw hrw h0
  | 8, _ => exact m_X3_does_8 ht hw hrw h0

def tw_dnd (kd : Nat) : Nat := [2, 0, 1, 2, 3, 2, 3, 2, 2].getD kd 2

set_option maxHeartbeats 1000000 in
theorem m_X3_denied_0 {l : Launch} {G : zG} {h : zH} {n : Nat}   : z_C l G yX3_denied 1 0 0 [.int (nI 0)] h n (z_rv (.int (nI (tw_dnd 0))) h n) := by
  refine z_start zk_X3_denied zpl_RX3 (Nat.le_of_ble_eq_true rfl) ?_
  intro hn0 M hl hG ho hb hN hr hm hH hrm hQ
  subst hl hG
  have ho : zm_o M = RX3 := ho
  show z_V M h n 0 0 0 [(0, .int (nI 0))] []
  refine z_iload_n hb dX3_denied_0 rfl ?_
  refine z_iconst (x := nI 1) hb dX3_denied_1 (by decide) ?_
  refine z_icmp_neN (tgt := 9) hb dX3_denied_2 (by decide) (by omega) (by omega) (fun c_2 => ?_) (fun c_2 => ?_)
  · refine z_iload_n hb dX3_denied_9 rfl ?_
    refine z_iconst (x := nI 2) hb dX3_denied_10 (by decide) ?_
    refine z_icmp_neN (tgt := 18) hb dX3_denied_11 (by decide) (by omega) (by omega) (fun c_11 => ?_) (fun c_11 => ?_)
    · refine z_iload_n hb dX3_denied_18 rfl ?_
      refine z_iconst (x := nI 4) hb dX3_denied_19 (by decide) ?_
      refine z_icmp_eqN (tgt := 29) hb dX3_denied_20 (by decide) (by omega) (by omega) (fun c_20 => ?_) (fun c_20 => ?_)
      · exact absurd c_20 (by omega)
      · refine z_iload_n hb dX3_denied_23 rfl ?_
        refine z_bipush (x := nI 6) hb dX3_denied_24 (by decide) ?_
        refine z_icmp_neN (tgt := 33) hb dX3_denied_26 (by decide) (by omega) (by omega) (fun c_26 => ?_) (fun c_26 => ?_)
        · refine z_iconst (x := nI 2) hb dX3_denied_33 (by decide) ?_
          refine z_iret hb hr dX3_denied_34 ?_
          rw [hQ]
          exact ⟨rfl, rfl, rfl⟩
        · exact absurd c_26 (by omega)
    · exact absurd c_11 (by omega)
  · exact absurd c_2 (by omega)

set_option maxHeartbeats 1000000 in
theorem m_X3_denied_1 {l : Launch} {G : zG} {h : zH} {n : Nat}   : z_C l G yX3_denied 1 0 0 [.int (nI 1)] h n (z_rv (.int (nI (tw_dnd 1))) h n) := by
  refine z_start zk_X3_denied zpl_RX3 (Nat.le_of_ble_eq_true rfl) ?_
  intro hn0 M hl hG ho hb hN hr hm hH hrm hQ
  subst hl hG
  have ho : zm_o M = RX3 := ho
  show z_V M h n 0 0 0 [(0, .int (nI 1))] []
  refine z_iload_n hb dX3_denied_0 rfl ?_
  refine z_iconst (x := nI 1) hb dX3_denied_1 (by decide) ?_
  refine z_icmp_neN (tgt := 9) hb dX3_denied_2 (by decide) (by omega) (by omega) (fun c_2 => ?_) (fun c_2 => ?_)
  · exact absurd c_2 (by omega)
  · refine z_iconst (x := nI 0) hb dX3_denied_5 (by decide) ?_
    refine z_goto (tgt := 34) hb dX3_denied_6 (by decide) ?_
    refine z_iret hb hr dX3_denied_34 ?_
    rw [hQ]
    exact ⟨rfl, rfl, rfl⟩

set_option maxHeartbeats 1000000 in
theorem m_X3_denied_2 {l : Launch} {G : zG} {h : zH} {n : Nat}   : z_C l G yX3_denied 1 0 0 [.int (nI 2)] h n (z_rv (.int (nI (tw_dnd 2))) h n) := by
  refine z_start zk_X3_denied zpl_RX3 (Nat.le_of_ble_eq_true rfl) ?_
  intro hn0 M hl hG ho hb hN hr hm hH hrm hQ
  subst hl hG
  have ho : zm_o M = RX3 := ho
  show z_V M h n 0 0 0 [(0, .int (nI 2))] []
  refine z_iload_n hb dX3_denied_0 rfl ?_
  refine z_iconst (x := nI 1) hb dX3_denied_1 (by decide) ?_
  refine z_icmp_neN (tgt := 9) hb dX3_denied_2 (by decide) (by omega) (by omega) (fun c_2 => ?_) (fun c_2 => ?_)
  · refine z_iload_n hb dX3_denied_9 rfl ?_
    refine z_iconst (x := nI 2) hb dX3_denied_10 (by decide) ?_
    refine z_icmp_neN (tgt := 18) hb dX3_denied_11 (by decide) (by omega) (by omega) (fun c_11 => ?_) (fun c_11 => ?_)
    · exact absurd c_11 (by omega)
    · refine z_iconst (x := nI 1) hb dX3_denied_14 (by decide) ?_
      refine z_goto (tgt := 34) hb dX3_denied_15 (by decide) ?_
      refine z_iret hb hr dX3_denied_34 ?_
      rw [hQ]
      exact ⟨rfl, rfl, rfl⟩
  · exact absurd c_2 (by omega)

set_option maxHeartbeats 1000000 in
theorem m_X3_denied_3 {l : Launch} {G : zG} {h : zH} {n : Nat}   : z_C l G yX3_denied 1 0 0 [.int (nI 3)] h n (z_rv (.int (nI (tw_dnd 3))) h n) := by
  refine z_start zk_X3_denied zpl_RX3 (Nat.le_of_ble_eq_true rfl) ?_
  intro hn0 M hl hG ho hb hN hr hm hH hrm hQ
  subst hl hG
  have ho : zm_o M = RX3 := ho
  show z_V M h n 0 0 0 [(0, .int (nI 3))] []
  refine z_iload_n hb dX3_denied_0 rfl ?_
  refine z_iconst (x := nI 1) hb dX3_denied_1 (by decide) ?_
  refine z_icmp_neN (tgt := 9) hb dX3_denied_2 (by decide) (by omega) (by omega) (fun c_2 => ?_) (fun c_2 => ?_)
  · refine z_iload_n hb dX3_denied_9 rfl ?_
    refine z_iconst (x := nI 2) hb dX3_denied_10 (by decide) ?_
    refine z_icmp_neN (tgt := 18) hb dX3_denied_11 (by decide) (by omega) (by omega) (fun c_11 => ?_) (fun c_11 => ?_)
    · refine z_iload_n hb dX3_denied_18 rfl ?_
      refine z_iconst (x := nI 4) hb dX3_denied_19 (by decide) ?_
      refine z_icmp_eqN (tgt := 29) hb dX3_denied_20 (by decide) (by omega) (by omega) (fun c_20 => ?_) (fun c_20 => ?_)
      · exact absurd c_20 (by omega)
      · refine z_iload_n hb dX3_denied_23 rfl ?_
        refine z_bipush (x := nI 6) hb dX3_denied_24 (by decide) ?_
        refine z_icmp_neN (tgt := 33) hb dX3_denied_26 (by decide) (by omega) (by omega) (fun c_26 => ?_) (fun c_26 => ?_)
        · refine z_iconst (x := nI 2) hb dX3_denied_33 (by decide) ?_
          refine z_iret hb hr dX3_denied_34 ?_
          rw [hQ]
          exact ⟨rfl, rfl, rfl⟩
        · exact absurd c_26 (by omega)
    · exact absurd c_11 (by omega)
  · exact absurd c_2 (by omega)

set_option maxHeartbeats 1000000 in
theorem m_X3_denied_4 {l : Launch} {G : zG} {h : zH} {n : Nat}   : z_C l G yX3_denied 1 0 0 [.int (nI 4)] h n (z_rv (.int (nI (tw_dnd 4))) h n) := by
  refine z_start zk_X3_denied zpl_RX3 (Nat.le_of_ble_eq_true rfl) ?_
  intro hn0 M hl hG ho hb hN hr hm hH hrm hQ
  subst hl hG
  have ho : zm_o M = RX3 := ho
  show z_V M h n 0 0 0 [(0, .int (nI 4))] []
  refine z_iload_n hb dX3_denied_0 rfl ?_
  refine z_iconst (x := nI 1) hb dX3_denied_1 (by decide) ?_
  refine z_icmp_neN (tgt := 9) hb dX3_denied_2 (by decide) (by omega) (by omega) (fun c_2 => ?_) (fun c_2 => ?_)
  · refine z_iload_n hb dX3_denied_9 rfl ?_
    refine z_iconst (x := nI 2) hb dX3_denied_10 (by decide) ?_
    refine z_icmp_neN (tgt := 18) hb dX3_denied_11 (by decide) (by omega) (by omega) (fun c_11 => ?_) (fun c_11 => ?_)
    · refine z_iload_n hb dX3_denied_18 rfl ?_
      refine z_iconst (x := nI 4) hb dX3_denied_19 (by decide) ?_
      refine z_icmp_eqN (tgt := 29) hb dX3_denied_20 (by decide) (by omega) (by omega) (fun c_20 => ?_) (fun c_20 => ?_)
      · refine z_iconst (x := nI 3) hb dX3_denied_29 (by decide) ?_
        refine z_goto (tgt := 34) hb dX3_denied_30 (by decide) ?_
        refine z_iret hb hr dX3_denied_34 ?_
        rw [hQ]
        exact ⟨rfl, rfl, rfl⟩
      · exact absurd c_20 (by omega)
    · exact absurd c_11 (by omega)
  · exact absurd c_2 (by omega)

set_option maxHeartbeats 1000000 in
theorem m_X3_denied_5 {l : Launch} {G : zG} {h : zH} {n : Nat}   : z_C l G yX3_denied 1 0 0 [.int (nI 5)] h n (z_rv (.int (nI (tw_dnd 5))) h n) := by
  refine z_start zk_X3_denied zpl_RX3 (Nat.le_of_ble_eq_true rfl) ?_
  intro hn0 M hl hG ho hb hN hr hm hH hrm hQ
  subst hl hG
  have ho : zm_o M = RX3 := ho
  show z_V M h n 0 0 0 [(0, .int (nI 5))] []
  refine z_iload_n hb dX3_denied_0 rfl ?_
  refine z_iconst (x := nI 1) hb dX3_denied_1 (by decide) ?_
  refine z_icmp_neN (tgt := 9) hb dX3_denied_2 (by decide) (by omega) (by omega) (fun c_2 => ?_) (fun c_2 => ?_)
  · refine z_iload_n hb dX3_denied_9 rfl ?_
    refine z_iconst (x := nI 2) hb dX3_denied_10 (by decide) ?_
    refine z_icmp_neN (tgt := 18) hb dX3_denied_11 (by decide) (by omega) (by omega) (fun c_11 => ?_) (fun c_11 => ?_)
    · refine z_iload_n hb dX3_denied_18 rfl ?_
      refine z_iconst (x := nI 4) hb dX3_denied_19 (by decide) ?_
      refine z_icmp_eqN (tgt := 29) hb dX3_denied_20 (by decide) (by omega) (by omega) (fun c_20 => ?_) (fun c_20 => ?_)
      · exact absurd c_20 (by omega)
      · refine z_iload_n hb dX3_denied_23 rfl ?_
        refine z_bipush (x := nI 6) hb dX3_denied_24 (by decide) ?_
        refine z_icmp_neN (tgt := 33) hb dX3_denied_26 (by decide) (by omega) (by omega) (fun c_26 => ?_) (fun c_26 => ?_)
        · refine z_iconst (x := nI 2) hb dX3_denied_33 (by decide) ?_
          refine z_iret hb hr dX3_denied_34 ?_
          rw [hQ]
          exact ⟨rfl, rfl, rfl⟩
        · exact absurd c_26 (by omega)
    · exact absurd c_11 (by omega)
  · exact absurd c_2 (by omega)

set_option maxHeartbeats 1000000 in
theorem m_X3_denied_6 {l : Launch} {G : zG} {h : zH} {n : Nat}   : z_C l G yX3_denied 1 0 0 [.int (nI 6)] h n (z_rv (.int (nI (tw_dnd 6))) h n) := by
  refine z_start zk_X3_denied zpl_RX3 (Nat.le_of_ble_eq_true rfl) ?_
  intro hn0 M hl hG ho hb hN hr hm hH hrm hQ
  subst hl hG
  have ho : zm_o M = RX3 := ho
  show z_V M h n 0 0 0 [(0, .int (nI 6))] []
  refine z_iload_n hb dX3_denied_0 rfl ?_
  refine z_iconst (x := nI 1) hb dX3_denied_1 (by decide) ?_
  refine z_icmp_neN (tgt := 9) hb dX3_denied_2 (by decide) (by omega) (by omega) (fun c_2 => ?_) (fun c_2 => ?_)
  · refine z_iload_n hb dX3_denied_9 rfl ?_
    refine z_iconst (x := nI 2) hb dX3_denied_10 (by decide) ?_
    refine z_icmp_neN (tgt := 18) hb dX3_denied_11 (by decide) (by omega) (by omega) (fun c_11 => ?_) (fun c_11 => ?_)
    · refine z_iload_n hb dX3_denied_18 rfl ?_
      refine z_iconst (x := nI 4) hb dX3_denied_19 (by decide) ?_
      refine z_icmp_eqN (tgt := 29) hb dX3_denied_20 (by decide) (by omega) (by omega) (fun c_20 => ?_) (fun c_20 => ?_)
      · exact absurd c_20 (by omega)
      · refine z_iload_n hb dX3_denied_23 rfl ?_
        refine z_bipush (x := nI 6) hb dX3_denied_24 (by decide) ?_
        refine z_icmp_neN (tgt := 33) hb dX3_denied_26 (by decide) (by omega) (by omega) (fun c_26 => ?_) (fun c_26 => ?_)
        · exact absurd c_26 (by omega)
        · refine z_iconst (x := nI 3) hb dX3_denied_29 (by decide) ?_
          refine z_goto (tgt := 34) hb dX3_denied_30 (by decide) ?_
          refine z_iret hb hr dX3_denied_34 ?_
          rw [hQ]
          exact ⟨rfl, rfl, rfl⟩
    · exact absurd c_11 (by omega)
  · exact absurd c_2 (by omega)

set_option maxHeartbeats 1000000 in
theorem m_X3_denied_7 {l : Launch} {G : zG} {h : zH} {n : Nat}   : z_C l G yX3_denied 1 0 0 [.int (nI 7)] h n (z_rv (.int (nI (tw_dnd 7))) h n) := by
  refine z_start zk_X3_denied zpl_RX3 (Nat.le_of_ble_eq_true rfl) ?_
  intro hn0 M hl hG ho hb hN hr hm hH hrm hQ
  subst hl hG
  have ho : zm_o M = RX3 := ho
  show z_V M h n 0 0 0 [(0, .int (nI 7))] []
  refine z_iload_n hb dX3_denied_0 rfl ?_
  refine z_iconst (x := nI 1) hb dX3_denied_1 (by decide) ?_
  refine z_icmp_neN (tgt := 9) hb dX3_denied_2 (by decide) (by omega) (by omega) (fun c_2 => ?_) (fun c_2 => ?_)
  · refine z_iload_n hb dX3_denied_9 rfl ?_
    refine z_iconst (x := nI 2) hb dX3_denied_10 (by decide) ?_
    refine z_icmp_neN (tgt := 18) hb dX3_denied_11 (by decide) (by omega) (by omega) (fun c_11 => ?_) (fun c_11 => ?_)
    · refine z_iload_n hb dX3_denied_18 rfl ?_
      refine z_iconst (x := nI 4) hb dX3_denied_19 (by decide) ?_
      refine z_icmp_eqN (tgt := 29) hb dX3_denied_20 (by decide) (by omega) (by omega) (fun c_20 => ?_) (fun c_20 => ?_)
      · exact absurd c_20 (by omega)
      · refine z_iload_n hb dX3_denied_23 rfl ?_
        refine z_bipush (x := nI 6) hb dX3_denied_24 (by decide) ?_
        refine z_icmp_neN (tgt := 33) hb dX3_denied_26 (by decide) (by omega) (by omega) (fun c_26 => ?_) (fun c_26 => ?_)
        · refine z_iconst (x := nI 2) hb dX3_denied_33 (by decide) ?_
          refine z_iret hb hr dX3_denied_34 ?_
          rw [hQ]
          exact ⟨rfl, rfl, rfl⟩
        · exact absurd c_26 (by omega)
    · exact absurd c_11 (by omega)
  · exact absurd c_2 (by omega)

set_option maxHeartbeats 1000000 in
theorem m_X3_denied_8 {l : Launch} {G : zG} {h : zH} {n : Nat}   : z_C l G yX3_denied 1 0 0 [.int (nI 8)] h n (z_rv (.int (nI (tw_dnd 8))) h n) := by
  refine z_start zk_X3_denied zpl_RX3 (Nat.le_of_ble_eq_true rfl) ?_
  intro hn0 M hl hG ho hb hN hr hm hH hrm hQ
  subst hl hG
  have ho : zm_o M = RX3 := ho
  show z_V M h n 0 0 0 [(0, .int (nI 8))] []
  refine z_iload_n hb dX3_denied_0 rfl ?_
  refine z_iconst (x := nI 1) hb dX3_denied_1 (by decide) ?_
  refine z_icmp_neN (tgt := 9) hb dX3_denied_2 (by decide) (by omega) (by omega) (fun c_2 => ?_) (fun c_2 => ?_)
  · refine z_iload_n hb dX3_denied_9 rfl ?_
    refine z_iconst (x := nI 2) hb dX3_denied_10 (by decide) ?_
    refine z_icmp_neN (tgt := 18) hb dX3_denied_11 (by decide) (by omega) (by omega) (fun c_11 => ?_) (fun c_11 => ?_)
    · refine z_iload_n hb dX3_denied_18 rfl ?_
      refine z_iconst (x := nI 4) hb dX3_denied_19 (by decide) ?_
      refine z_icmp_eqN (tgt := 29) hb dX3_denied_20 (by decide) (by omega) (by omega) (fun c_20 => ?_) (fun c_20 => ?_)
      · exact absurd c_20 (by omega)
      · refine z_iload_n hb dX3_denied_23 rfl ?_
        refine z_bipush (x := nI 6) hb dX3_denied_24 (by decide) ?_
        refine z_icmp_neN (tgt := 33) hb dX3_denied_26 (by decide) (by omega) (by omega) (fun c_26 => ?_) (fun c_26 => ?_)
        · refine z_iconst (x := nI 2) hb dX3_denied_33 (by decide) ?_
          refine z_iret hb hr dX3_denied_34 ?_
          rw [hQ]
          exact ⟨rfl, rfl, rfl⟩
        · exact absurd c_26 (by omega)
    · exact absurd c_11 (by omega)
  · exact absurd c_2 (by omega)

theorem m_X3_denied {l : Launch} {G : zG} {h : zH} {n : Nat} (kd : Nat) (hkd : kd < 9) : z_C l G yX3_denied 1 0 0 [.int (nI kd)] h n (z_rv (.int (nI (tw_dnd kd))) h n) := by
  match kd, hkd with
  | 0, _ => exact m_X3_denied_0
  | 1, _ => exact m_X3_denied_1
  | 2, _ => exact m_X3_denied_2
  | 3, _ => exact m_X3_denied_3
  | 4, _ => exact m_X3_denied_4
  | 5, _ => exact m_X3_denied_5
  | 6, _ => exact m_X3_denied_6
  | 7, _ => exact m_X3_denied_7
  | 8, _ => exact m_X3_denied_8

