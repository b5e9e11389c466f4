def tw_c3 (w1 w3 : Nat → Int32) (dep : Nat) : Nat → Int32 := if dep < 8 then va_cpy w1 w3 0 (272 * dep) 272 else va_cpy w1 (tw_sh w3 272 7) 0 1904 272
def tw_c8 (w6 w8 : Nat → Int64) (dep : Nat) : Nat → Int64 := if dep < 8 then va_cpy w6 w8 0 (280 * dep) 280 else va_cpy w6 (tw_sh w8 280 7) 0 1960 280
def tw_dep (dep : Nat) : Nat := if dep < 8 then dep + 1 else 8
theorem m_X3_commit {l : Launch} {G : zG} {h : zH} {n : Nat} {t : Nat} {w0 : Nat → Int32} {w1 : Nat → Int32} {w2 : Nat → Int32} {w3 : Nat → Int32} {w4 : Nat → Int32} {w5 : Nat → Int64} {w6 : Nat → Int64} {w7 : Nat → Int64} {w8 : Nat → Int64} {w9 : Nat → Int64} {w10 : Nat → Int64} {w11 : Nat → Int64} {w12 : Int32} {w13 : Int32} {w14 : Int32} {w15 : Int32} {w16 : Int32} {w17 : Int32} {w18 : Bool} {w19 : Nat → Int32} {w20 : Int32} {w21 : Nat → Int32} {w22 : Nat → Int32} {w23 : Nat → Int32} {w24 : Int32} {w25 : Int32} {w26 : Int32} {w27 : Int32} {w28 : Bool} {dep : Nat} (v : Int32) (ht : z_n0 G ≤ t) (hd8 : dep ≤ 8) : z_C l G yX3_commit 2 0 0 [.ref t, .int v] (z_tw G t w0 w1 w2 w3 w4 w5 w6 w7 w8 w9 w10 w11 w12 (nI dep) w14 w15 w16 w17 w18 w19 w20 w21 w22 w23 w24 w25 w26 w27 w28 h) n (z_rv (.int v) (z_tw G t w0 w1 w2 (tw_c3 w1 w3 dep) w4 w5 w6 w7 (tw_c8 w6 w8 dep) w9 w10 w11 w12 (nI (tw_dep dep)) w14 w15 w16 w17 w18 w19 w20 w21 w22 w23 w24 w25 w26 w27 w28 h) n) := by
  rcases Nat.lt_or_ge dep 8 with h8 | h8
  · rw [tw_c3, tw_c8, tw_dep, if_pos h8, if_pos h8, if_pos h8]
    exact m_X3_commit_lt (w13 := 0) v ht h8
  · obtain rfl : dep = 8 := by omega
    exact m_X3_commit_8 (w13 := 0) v ht
/-- a denial's three numbers -/
def tw_d15 (o : Option (Nat × Nat)) (x : Int32) : Int32 := match o with
  | none => x
  | some q => nI q.1
def tw_d16 (o : Option (Nat × Nat)) (x : Int32) : Int32 := match o with
  | none => x
  | some q => nI q.2
def tw_d17 (o : Option (Nat × Nat)) (x : Int32) : Int32 := match o with
  | none => x
  | some _ => nI 0
def tw_isS (S : Nat) (x : Int32) : Bool := decide (nI 0 ≤ x ∧ x ≤ nI S - nI 1)
def tw_cRow (R D : Nat) (c x a : Int32) : Nat × Option (Nat × Nat) := if (decide (nI 97 ≤ c ∧ c ≤ nI 101) && (decide (nI 0 ≤ x ∧ x ≤ nI 6) && decide (nI 0 ≤ a ∧ a ≤ nI 99))) = false then (1, none) else if nI D < x then (2, some (2, D)) else if R = 40 then (2, some (1, 40)) else (0, none)
def tw_cBegin (D : Nat) : Nat × Option (Nat × Nat) := if D = 6 then (1, some (2, D)) else (0, none)
def tw_cStep (S c : Nat) : Nat × Option (Nat × Nat) := if S = 8 then (c, some (1, 8)) else (0, none)
def tw_isK (c : Int32) : Bool := decide (c = nI 115) || (decide (c = nI 110) || decide (c = nI 120))
def tw_cBase (S : Nat) (c b : Int32) : Nat × Option (Nat × Nat) := if (tw_isK c && decide (nI 0 ≤ b ∧ b ≤ nI 99)) = false then (1, none) else tw_cStep S 2
def tw_cPair (S : Nat) (c x y : Int32) : Nat × Option (Nat × Nat) := if (decide (c = nI 43) || decide (c = nI 45)) = false then (1, none) else if (tw_isS S x && tw_isS S y) = false then (2, none) else tw_cStep S 3
def tw_cRun (S : Nat) (x : Int32) : Nat × Option (Nat × Nat) := if tw_isS S x = false then (1, none) else tw_cStep S 2
def tw_cKeep (S : Nat) (x b : Int32) : Nat × Option (Nat × Nat) := if tw_isS S x = false then (1, none) else if decide (nI 0 ≤ b ∧ b ≤ nI 99) = false then (2, none) else tw_cStep S 3
def tw_inpt (w0 : Nat → Int32) (k o : Nat) : Bool := !tw_base w0 o && (decide (w0 (176 + 4 * o + 2) = nI k) || decide (w0 (176 + 4 * o + 3) = nI k))
def tw_inpF (w0 : Nat → Int32) (k j : Nat) : Nat → Option Nat
  | 0 => none
  | d + 1 => if tw_inpt w0 k j then some j else tw_inpF w0 k (j + 1) d
def tw_cCut (w0 : Nat → Int32) (S k : Nat) : Nat × Option (Nat × Nat) := match tw_inpF w0 k (k + 1) (S - (k + 1)) with
  | none => (0, none)
  | some j => (2, some (4, j))
def tw_anyS (w0 : Nat → Int32) (e : Nat) : Nat → Bool
  | 0 => false
  | k + 1 => tw_anyS w0 e k || tw_st w0 k e
def tw_stF (w0 : Nat → Int32) (S e : Nat) : Nat → Option Nat
  | 0 => none
  | d + 1 => if tw_anyS w0 e S then some e else tw_stF w0 S (e + 1) d
def tw_cRep (w0 : Nat → Int32) (S d : Nat) : Nat × Option (Nat × Nat) := match tw_stF w0 S 0 d with
  | none => (0, none)
  | some e => (2, some (3, e))
theorem tw_anyS_of {w0 : Nat → Int32} {e k : Nat} (h : tw_st w0 k e = true) : ∀ {S : Nat}, k < S → tw_anyS w0 e S = true
  | S + 1, hk => by
    rw [tw_anyS]
    rcases Nat.lt_or_ge k S with q | q
    · rw [tw_anyS_of h q]; rfl
    · obtain rfl : k = S := by omega
      rw [h]; simp

set_option maxHeartbeats 1000000 in
theorem m_X3_cannotRow {l : Launch} {G : zG} {h : zH} {n : Nat} {t : Nat} {w0 : Nat → Int32} {w1 : Nat → Int32} {w2 : Nat → Int32} {w3 : Nat → Int32} {w4 : Nat → Int32} {w5 : Nat → Int64} {w6 : Nat → Int64} {w7 : Nat → Int64} {w8 : Nat → Int64} {w9 : Nat → Int64} {w10 : Nat → Int64} {w11 : Nat → Int64} {w12 : Int32} {w13 : Int32} {w14 : Int32} {w15 : Int32} {w16 : Int32} {w17 : Int32} {w18 : Bool} {w19 : Nat → Int32} {w20 : Int32} {w21 : Nat → Int32} {w22 : Nat → Int32} {w23 : Nat → Int32} {w24 : Int32} {w25 : Int32} {w26 : Int32} {w27 : Int32} {w28 : Bool} {R S D : Nat}  (c : Int32) (x : Int32) (a : Int32) (ht : z_n0 G ≤ t) (hw : z_ok w0 R S D) : z_C l G yX3_cannotRow 3 0 0 [.ref t, .int c, .int x, .int a] (z_tw G t w0 w1 w2 w3 w4 w5 w6 w7 w8 w9 w10 w11 w12 w13 w14 w15 w16 w17 w18 w19 w20 w21 w22 w23 w24 w25 w26 w27 w28 h) n (z_rv (.int (nI ((tw_cRow R D c x a).1))) (z_tw G t w0 w1 w2 w3 w4 w5 w6 w7 w8 w9 w10 w11 w12 w13 w14 (tw_d15 (tw_cRow R D c x a).2 w15) (tw_d16 (tw_cRow R D c x a).2 w16) (tw_d17 (tw_cRow R D c x a).2 w17) w18 w19 w20 w21 w22 w23 w24 w25 w26 w27 w28 h) n) := by
  refine z_start zk_X3_cannotRow zpl_RX3 (Nat.le_of_ble_eq_true rfl) ?_
  intro hn0 M hl hG ho hb hN hr hm hH hrm hQ
  subst hl hG
  have ho : zm_o M = RX3 := ho
  obtain ⟨hR, hR4, hS, hS8, hD, hD6, hF⟩ := id hw
  show z_V M (z_tw (zm_G M) t w0 w1 w2 w3 w4 w5 w6 w7 w8 w9 w10 w11 w12 w13 w14 w15 w16 w17 w18 w19 w20 w21 w22 w23 w24 w25 w26 w27 w28 h) n 0 0 0 [(0, .ref t), (1, .int c), (2, .int x), (3, .int a)] []
  refine z_iload_n hb dX3_cannotRow_0 rfl ?_
  refine z_call1 (b' := 0) (f' := 0) (rest := []) (av := [.int c]) (z_siteS hb ho q2806 q2807 q104 ⟨_, _, _, _, zk_X3_isGroup⟩ zy_X3_isGroup zl_X3_isGroup dX3_cannotRow_1 : z_Site M _ _ _ _ _ ([.int c].reverse ++ []) [] _) zk_X3_isGroup q104 hrm (m_X3_isGroup c ht) (by omega) (by decide) (Nat.le_of_ble_eq_true rfl) (by omega) (by omega) ?_
  refine z_ifb_eq (tgt := 27) hb dX3_cannotRow_4 (by decide) (fun c_4 => ?_) (fun c_4 => ?_)
  · refine z_iconst (x := nI 1) hb dX3_cannotRow_27 (by decide) ?_
    refine z_iret hb hr dX3_cannotRow_28 ?_
    rw [hQ]
    have e : tw_cRow R D c x a = (1, none) := by simp [tw_cRow, c_4, Int32.not_le]
    rw [e]; exact ⟨rfl, rfl, rfl⟩
  · refine z_iload_n hb dX3_cannotRow_7 rfl ?_
    refine z_iconst (x := nI 0) hb dX3_cannotRow_8 (by decide) ?_
    refine z_bipush (x := nI 6) hb dX3_cannotRow_9 (by decide) ?_
    refine z_call1 (b' := 0) (f' := 0) (rest := []) (av := [.int x, .int (nI 0), .int (nI 6)]) (z_siteS hb ho q2809 q2810 q104 ⟨_, _, _, _, zk_X3_in⟩ zy_X3_in zl_X3_in dX3_cannotRow_11 : z_Site M _ _ _ _ _ ([.int x, .int (nI 0), .int (nI 6)].reverse ++ []) [] _) zk_X3_in q104 hrm (m_X3_in x (nI 0) (nI 6) ht) (by omega) (by decide) (Nat.le_of_ble_eq_true rfl) (by omega) (by omega) ?_
    refine z_ifb_eq (tgt := 27) hb dX3_cannotRow_14 (by decide) (fun c_14 => ?_) (fun c_14 => ?_)
    · refine z_iconst (x := nI 1) hb dX3_cannotRow_27 (by decide) ?_
      refine z_iret hb hr dX3_cannotRow_28 ?_
      rw [hQ]
      have e : tw_cRow R D c x a = (1, none) := by simp [tw_cRow, c_4, c_14, Int32.not_le]
      rw [e]; exact ⟨rfl, rfl, rfl⟩
    · refine z_iload_n hb dX3_cannotRow_17 rfl ?_
      refine z_iconst (x := nI 0) hb dX3_cannotRow_18 (by decide) ?_
      refine z_bipush (x := nI 99) hb dX3_cannotRow_19 (by decide) ?_
      refine z_call1 (b' := 0) (f' := 0) (rest := []) (av := [.int a, .int (nI 0), .int (nI 99)]) (z_siteS hb ho q2809 q2810 q104 ⟨_, _, _, _, zk_X3_in⟩ zy_X3_in zl_X3_in dX3_cannotRow_21 : z_Site M _ _ _ _ _ ([.int a, .int (nI 0), .int (nI 99)].reverse ++ []) [] _) zk_X3_in q104 hrm (m_X3_in a (nI 0) (nI 99) ht) (by omega) (by decide) (Nat.le_of_ble_eq_true rfl) (by omega) (by omega) ?_
      refine z_ifb_ne (tgt := 29) hb dX3_cannotRow_24 (by decide) (fun c_24 => ?_) (fun c_24 => ?_)
      · refine z_iload_n hb dX3_cannotRow_29 rfl ?_
        refine z_aload_n hb dX3_cannotRow_30 rfl ?_
        refine z_get (k := 0) (C := RX3) (T := TX3) (N := 29) hb ho zc2 in_X3 (zf_RX3_7 _) dX3_cannotRow_31 z_tw_o (by decide) rfl ?_
        refine z_iconst (x := nI 0) hb dX3_cannotRow_34 (by decide) ?_
        refine z_iald (j := 0) hb dX3_cannotRow_35 z_tw_r0 rfl (by omega) (by omega) ?_
        refine z_toI (y := nI D) hD ?_
        refine z_icmp_le (tgt := 52) hb dX3_cannotRow_36 (by decide) (fun c_36 => ?_) (fun c_36 => ?_)
        · refine z_aload_n hb dX3_cannotRow_52 rfl ?_
          refine z_get (k := 0) (C := RX3) (T := TX3) (N := 29) hb ho zc2 in_X3 (zf_RX3_7 _) dX3_cannotRow_53 z_tw_o (by decide) rfl ?_
          refine z_iconst (x := nI 1) hb dX3_cannotRow_56 (by decide) ?_
          refine z_iald (j := 1) hb dX3_cannotRow_57 z_tw_r0 rfl (by omega) (by omega) ?_
          refine z_toI (y := nI R) hR ?_
          refine z_bipush (x := nI 40) hb dX3_cannotRow_58 (by decide) ?_
          refine z_icmp_neN (tgt := 74) hb dX3_cannotRow_60 (by decide) (by omega) (by omega) (fun c_60 => ?_) (fun c_60 => ?_)
          · refine z_iconst (x := nI 0) hb dX3_cannotRow_74 (by decide) ?_
            refine z_iret hb hr dX3_cannotRow_75 ?_
            rw [hQ]
            have e : tw_cRow R D c x a = (0, none) := by simp [tw_cRow, c_4, c_14, c_24, Int32.not_lt.mpr c_36, c_60, Int32.not_le]
            rw [e]; exact ⟨rfl, rfl, rfl⟩
          · refine z_aload_n hb dX3_cannotRow_63 rfl ?_
            refine z_iconst (x := nI 1) hb dX3_cannotRow_64 (by decide) ?_
            refine z_bipush (x := nI 40) hb dX3_cannotRow_65 (by decide) ?_
            refine z_iconst (x := nI 2) hb dX3_cannotRow_67 (by decide) ?_
            refine z_call1 (b' := 0) (f' := 0) (rest := []) (av := [.ref t, .int (nI 1), .int (nI 40), .int (nI 2)]) (z_siteV hb ho zc2 z_tw_o q2812 q2814 qs32 ⟨_, _, _, _, zk_X3_deny⟩ zy_X3_deny zl_X3_deny dX3_cannotRow_68 : z_Site M _ _ _ _ _ ([.int (nI 1), .int (nI 40), .int (nI 2)].reverse ++ .ref t :: []) [] _) zk_X3_deny q104 hrm (m_X3_deny (nI 1) (nI 40) (nI 2) ht) (by omega) (by decide) (Nat.le_of_ble_eq_true rfl) (by omega) (by omega) ?_
            refine z_goto (tgt := 75) hb dX3_cannotRow_71 (by decide) ?_
            refine z_iret hb hr dX3_cannotRow_75 ?_
            rw [hQ]
            have e : tw_cRow R D c x a = (2, some (1, 40)) := by simp [tw_cRow, c_4, c_14, c_24, Int32.not_lt.mpr c_36, c_60, Int32.not_le]
            rw [e]; exact ⟨rfl, rfl, rfl⟩
        · refine z_aload_n hb dX3_cannotRow_39 rfl ?_
          refine z_iconst (x := nI 2) hb dX3_cannotRow_40 (by decide) ?_
          refine z_aload_n hb dX3_cannotRow_41 rfl ?_
          refine z_get (k := 0) (C := RX3) (T := TX3) (N := 29) hb ho zc2 in_X3 (zf_RX3_7 _) dX3_cannotRow_42 z_tw_o (by decide) rfl ?_
          refine z_iconst (x := nI 0) hb dX3_cannotRow_45 (by decide) ?_
          refine z_iald (j := 0) hb dX3_cannotRow_46 z_tw_r0 rfl (by omega) (by omega) ?_
          refine z_toI (y := nI D) hD ?_
          refine z_iconst (x := nI 2) hb dX3_cannotRow_47 (by decide) ?_
          refine z_call1 (b' := 0) (f' := 0) (rest := []) (av := [.ref t, .int (nI 2), .int (nI D), .int (nI 2)]) (z_siteV hb ho zc2 z_tw_o q2812 q2814 qs32 ⟨_, _, _, _, zk_X3_deny⟩ zy_X3_deny zl_X3_deny dX3_cannotRow_48 : z_Site M _ _ _ _ _ ([.int (nI 2), .int (nI D), .int (nI 2)].reverse ++ .ref t :: []) [] _) zk_X3_deny q104 hrm (m_X3_deny (nI 2) (nI D) (nI 2) ht) (by omega) (by decide) (Nat.le_of_ble_eq_true rfl) (by omega) (by omega) ?_
          refine z_iret hb hr dX3_cannotRow_51 ?_
          rw [hQ]
          have e : tw_cRow R D c x a = (2, some (2, D)) := by simp [tw_cRow, c_4, c_14, c_24, Int32.not_le.mp c_36, Int32.not_le]
          rw [e]; exact ⟨rfl, rfl, rfl⟩
      · refine z_iconst (x := nI 1) hb dX3_cannotRow_27 (by decide) ?_
        refine z_iret hb hr dX3_cannotRow_28 ?_
        rw [hQ]
        have e : tw_cRow R D c x a = (1, none) := by simp [tw_cRow, c_4, c_14, c_24, Int32.not_le]
        rw [e]; exact ⟨rfl, rfl, rfl⟩

set_option maxHeartbeats 1000000 in
theorem m_X3_cannotBegin {l : Launch} {G : zG} {h : zH} {n : Nat} {t : Nat} {w0 : Nat → Int32} {w1 : Nat → Int32} {w2 : Nat → Int32} {w3 : Nat → Int32} {w4 : Nat → Int32} {w5 : Nat → Int64} {w6 : Nat → Int64} {w7 : Nat → Int64} {w8 : Nat → Int64} {w9 : Nat → Int64} {w10 : Nat → Int64} {w11 : Nat → Int64} {w12 : Int32} {w13 : Int32} {w14 : Int32} {w15 : Int32} {w16 : Int32} {w17 : Int32} {w18 : Bool} {w19 : Nat → Int32} {w20 : Int32} {w21 : Nat → Int32} {w22 : Nat → Int32} {w23 : Nat → Int32} {w24 : Int32} {w25 : Int32} {w26 : Int32} {w27 : Int32} {w28 : Bool} {R S D : Nat}   (ht : z_n0 G ≤ t) (hw : z_ok w0 R S D) : z_C l G yX3_cannotBegin 2 0 0 [.ref t] (z_tw G t w0 w1 w2 w3 w4 w5 w6 w7 w8 w9 w10 w11 w12 w13 w14 w15 w16 w17 w18 w19 w20 w21 w22 w23 w24 w25 w26 w27 w28 h) n (z_rv (.int (nI ((tw_cBegin D).1))) (z_tw G t w0 w1 w2 w3 w4 w5 w6 w7 w8 w9 w10 w11 w12 w13 w14 (tw_d15 (tw_cBegin D).2 w15) (tw_d16 (tw_cBegin D).2 w16) (tw_d17 (tw_cBegin D).2 w17) w18 w19 w20 w21 w22 w23 w24 w25 w26 w27 w28 h) n) := by
  refine z_start zk_X3_cannotBegin zpl_RX3 (Nat.le_of_ble_eq_true rfl) ?_
  intro hn0 M hl hG ho hb hN hr hm hH hrm hQ
  subst hl hG
  have ho : zm_o M = RX3 := ho
  obtain ⟨hR, hR4, hS, hS8, hD, hD6, hF⟩ := id hw
  show z_V M (z_tw (zm_G M) t w0 w1 w2 w3 w4 w5 w6 w7 w8 w9 w10 w11 w12 w13 w14 w15 w16 w17 w18 w19 w20 w21 w22 w23 w24 w25 w26 w27 w28 h) n 0 0 0 [(0, .ref t)] []
  refine z_aload_n hb dX3_cannotBegin_0 rfl ?_
  refine z_get (k := 0) (C := RX3) (T := TX3) (N := 29) hb ho zc2 in_X3 (zf_RX3_7 _) dX3_cannotBegin_1 z_tw_o (by decide) rfl ?_
  refine z_iconst (x := nI 0) hb dX3_cannotBegin_4 (by decide) ?_
  refine z_iald (j := 0) hb dX3_cannotBegin_5 z_tw_r0 rfl (by omega) (by omega) ?_
  refine z_toI (y := nI D) hD ?_
  refine z_bipush (x := nI 6) hb dX3_cannotBegin_6 (by decide) ?_
  refine z_icmp_neN (tgt := 26) hb dX3_cannotBegin_8 (by decide) (by omega) (by omega) (fun c_8 => ?_) (fun c_8 => ?_)
  · refine z_iconst (x := nI 0) hb dX3_cannotBegin_26 (by decide) ?_
    refine z_iret hb hr dX3_cannotBegin_27 ?_
    rw [hQ]
    have e : tw_cBegin D = (0, none) := by simp [tw_cBegin, c_8, Int32.not_le]
    rw [e]; exact ⟨rfl, rfl, rfl⟩
  · refine z_aload_n hb dX3_cannotBegin_11 rfl ?_
    refine z_iconst (x := nI 2) hb dX3_cannotBegin_12 (by decide) ?_
    refine z_aload_n hb dX3_cannotBegin_13 rfl ?_
    refine z_get (k := 0) (C := RX3) (T := TX3) (N := 29) hb ho zc2 in_X3 (zf_RX3_7 _) dX3_cannotBegin_14 z_tw_o (by decide) rfl ?_
    refine z_iconst (x := nI 0) hb dX3_cannotBegin_17 (by decide) ?_
    refine z_iald (j := 0) hb dX3_cannotBegin_18 z_tw_r0 rfl (by omega) (by omega) ?_
    refine z_toI (y := nI D) hD ?_
    refine z_iconst (x := nI 1) hb dX3_cannotBegin_19 (by decide) ?_
    refine z_call1 (b' := 0) (f' := 0) (rest := []) (av := [.ref t, .int (nI 2), .int (nI D), .int (nI 1)]) (z_siteV hb ho zc2 z_tw_o q2812 q2814 qs32 ⟨_, _, _, _, zk_X3_deny⟩ zy_X3_deny zl_X3_deny dX3_cannotBegin_20 : z_Site M _ _ _ _ _ ([.int (nI 2), .int (nI D), .int (nI 1)].reverse ++ .ref t :: []) [] _) zk_X3_deny q104 hrm (m_X3_deny (nI 2) (nI D) (nI 1) ht) (by omega) (by decide) (Nat.le_of_ble_eq_true rfl) (by omega) (by omega) ?_
    refine z_goto (tgt := 27) hb dX3_cannotBegin_23 (by decide) ?_
    refine z_iret hb hr dX3_cannotBegin_27 ?_
    rw [hQ]
    have e : tw_cBegin D = (1, some (2, D)) := by simp [tw_cBegin, c_8, Int32.not_le]
    rw [e]; exact ⟨rfl, rfl, rfl⟩

set_option maxHeartbeats 1000000 in
theorem m_X3_cannotStep {l : Launch} {G : zG} {h : zH} {n : Nat} {t : Nat} {w0 : Nat → Int32} {w1 : Nat → Int32} {w2 : Nat → Int32} {w3 : Nat → Int32} {w4 : Nat → Int32} {w5 : Nat → Int64} {w6 : Nat → Int64} {w7 : Nat → Int64} {w8 : Nat → Int64} {w9 : Nat → Int64} {w10 : Nat → Int64} {w11 : Nat → Int64} {w12 : Int32} {w13 : Int32} {w14 : Int32} {w15 : Int32} {w16 : Int32} {w17 : Int32} {w18 : Bool} {w19 : Nat → Int32} {w20 : Int32} {w21 : Nat → Int32} {w22 : Nat → Int32} {w23 : Nat → Int32} {w24 : Int32} {w25 : Int32} {w26 : Int32} {w27 : Int32} {w28 : Bool} {R S D : Nat}  (c : Nat) (ht : z_n0 G ≤ t) (hw : z_ok w0 R S D) : z_C l G yX3_cannotStep 2 0 0 [.ref t, .int (nI c)] (z_tw G t w0 w1 w2 w3 w4 w5 w6 w7 w8 w9 w10 w11 w12 w13 w14 w15 w16 w17 w18 w19 w20 w21 w22 w23 w24 w25 w26 w27 w28 h) n (z_rv (.int (nI ((tw_cStep S c).1))) (z_tw G t w0 w1 w2 w3 w4 w5 w6 w7 w8 w9 w10 w11 w12 w13 w14 (tw_d15 (tw_cStep S c).2 w15) (tw_d16 (tw_cStep S c).2 w16) (tw_d17 (tw_cStep S c).2 w17) w18 w19 w20 w21 w22 w23 w24 w25 w26 w27 w28 h) n) := by
  refine z_start zk_X3_cannotStep zpl_RX3 (Nat.le_of_ble_eq_true rfl) ?_
  intro hn0 M hl hG ho hb hN hr hm hH hrm hQ
  subst hl hG
  have ho : zm_o M = RX3 := ho
  obtain ⟨hR, hR4, hS, hS8, hD, hD6, hF⟩ := id hw
  show z_V M (z_tw (zm_G M) t w0 w1 w2 w3 w4 w5 w6 w7 w8 w9 w10 w11 w12 w13 w14 w15 w16 w17 w18 w19 w20 w21 w22 w23 w24 w25 w26 w27 w28 h) n 0 0 0 [(0, .ref t), (1, .int (nI c))] []
  refine z_aload_n hb dX3_cannotStep_0 rfl ?_
  refine z_get (k := 0) (C := RX3) (T := TX3) (N := 29) hb ho zc2 in_X3 (zf_RX3_7 _) dX3_cannotStep_1 z_tw_o (by decide) rfl ?_
  refine z_iconst (x := nI 3) hb dX3_cannotStep_4 (by decide) ?_
  refine z_iald (j := 3) hb dX3_cannotStep_5 z_tw_r0 rfl (by omega) (by omega) ?_
  refine z_toI (y := nI S) hS ?_
  refine z_bipush (x := nI 8) hb dX3_cannotStep_6 (by decide) ?_
  refine z_icmp_neN (tgt := 22) hb dX3_cannotStep_8 (by decide) (by omega) (by omega) (fun c_8 => ?_) (fun c_8 => ?_)
  · refine z_iconst (x := nI 0) hb dX3_cannotStep_22 (by decide) ?_
    refine z_iret hb hr dX3_cannotStep_23 ?_
    rw [hQ]
    have e : tw_cStep S c = (0, none) := by simp [tw_cStep, c_8, Int32.not_le]
    rw [e]; exact ⟨rfl, rfl, rfl⟩
  · refine z_aload_n hb dX3_cannotStep_11 rfl ?_
    refine z_iconst (x := nI 1) hb dX3_cannotStep_12 (by decide) ?_
    refine z_bipush (x := nI 8) hb dX3_cannotStep_13 (by decide) ?_
    refine z_iload_n hb dX3_cannotStep_15 rfl ?_
    refine z_call1 (b' := 0) (f' := 0) (rest := []) (av := [.ref t, .int (nI 1), .int (nI 8), .int (nI c)]) (z_siteV hb ho zc2 z_tw_o q2812 q2814 qs32 ⟨_, _, _, _, zk_X3_deny⟩ zy_X3_deny zl_X3_deny dX3_cannotStep_16 : z_Site M _ _ _ _ _ ([.int (nI 1), .int (nI 8), .int (nI c)].reverse ++ .ref t :: []) [] _) zk_X3_deny q104 hrm (m_X3_deny (nI 1) (nI 8) (nI c) ht) (by omega) (by decide) (Nat.le_of_ble_eq_true rfl) (by omega) (by omega) ?_
    refine z_goto (tgt := 23) hb dX3_cannotStep_19 (by decide) ?_
    refine z_iret hb hr dX3_cannotStep_23 ?_
    rw [hQ]
    have e : tw_cStep S c = (c, some (1, 8)) := by simp [tw_cStep, c_8, Int32.not_le]
    rw [e]; exact ⟨rfl, rfl, rfl⟩

set_option maxHeartbeats 1000000 in
theorem m_X3_cannotBase {l : Launch} {G : zG} {h : zH} {n : Nat} {t : Nat} {w0 : Nat → Int32} {w1 : Nat → Int32} {w2 : Nat → Int32} {w3 : Nat → Int32} {w4 : Nat → Int32} {w5 : Nat → Int64} {w6 : Nat → Int64} {w7 : Nat → Int64} {w8 : Nat → Int64} {w9 : Nat → Int64} {w10 : Nat → Int64} {w11 : Nat → Int64} {w12 : Int32} {w13 : Int32} {w14 : Int32} {w15 : Int32} {w16 : Int32} {w17 : Int32} {w18 : Bool} {w19 : Nat → Int32} {w20 : Int32} {w21 : Nat → Int32} {w22 : Nat → Int32} {w23 : Nat → Int32} {w24 : Int32} {w25 : Int32} {w26 : Int32} {w27 : Int32} {w28 : Bool} {R S D : Nat}  (c : Int32) (b : Int32) (ht : z_n0 G ≤ t) (hw : z_ok w0 R S D) : z_C l G yX3_cannotBase 3 0 0 [.ref t, .int c, .int b] (z_tw G t w0 w1 w2 w3 w4 w5 w6 w7 w8 w9 w10 w11 w12 w13 w14 w15 w16 w17 w18 w19 w20 w21 w22 w23 w24 w25 w26 w27 w28 h) n (z_rv (.int (nI ((tw_cBase S c b).1))) (z_tw G t w0 w1 w2 w3 w4 w5 w6 w7 w8 w9 w10 w11 w12 w13 w14 (tw_d15 (tw_cBase S c b).2 w15) (tw_d16 (tw_cBase S c b).2 w16) (tw_d17 (tw_cBase S c b).2 w17) w18 w19 w20 w21 w22 w23 w24 w25 w26 w27 w28 h) n) := by
  refine z_start zk_X3_cannotBase zpl_RX3 (Nat.le_of_ble_eq_true rfl) ?_
  intro hn0 M hl hG ho hb hN hr hm hH hrm hQ
  subst hl hG
  have ho : zm_o M = RX3 := ho
  obtain ⟨hR, hR4, hS, hS8, hD, hD6, hF⟩ := id hw
  show z_V M (z_tw (zm_G M) t w0 w1 w2 w3 w4 w5 w6 w7 w8 w9 w10 w11 w12 w13 w14 w15 w16 w17 w18 w19 w20 w21 w22 w23 w24 w25 w26 w27 w28 h) n 0 0 0 [(0, .ref t), (1, .int c), (2, .int b)] []
  refine z_iload_n hb dX3_cannotBase_0 rfl ?_
  refine z_bipush (x := nI 115) hb dX3_cannotBase_1 (by decide) ?_
  refine z_icmp_eq (tgt := 18) hb dX3_cannotBase_3 (by decide) (fun c_3 => ?_) (fun c_3 => ?_)
  · refine z_iconst (x := nI 1) hb dX3_cannotBase_18 (by decide) ?_
    refine z_goto (tgt := 23) hb dX3_cannotBase_19 (by decide) ?_
    refine z_istore_n (lv' := [(3, .int (nI 1)), (0, .ref t), (1, .int c), (2, .int b)]) hb dX3_cannotBase_23 (by rw [hN]; decide) rfl ?_
    refine z_iload_n hb dX3_cannotBase_24 rfl ?_
    refine z_if_eqN (tgt := 38) hb dX3_cannotBase_25 (by decide) (by omega) (fun c_25 => ?_) (fun c_25 => ?_)
    · refine z_iconst (x := nI 1) hb dX3_cannotBase_38 (by decide) ?_
      refine z_goto (tgt := 47) hb dX3_cannotBase_39 (by decide) ?_
      refine z_iret hb hr dX3_cannotBase_47 ?_
      rw [hQ]
      first
      | exact absurd c_25 (by decide)
      | (have e : tw_cBase S c b = (1, none) := by simp [tw_cBase, tw_isK, c_3]
         rw [e]; exact ⟨rfl, rfl, rfl⟩)
    · refine z_iload_n hb dX3_cannotBase_28 rfl ?_
      refine z_iconst (x := nI 0) hb dX3_cannotBase_29 (by decide) ?_
      refine z_bipush (x := nI 99) hb dX3_cannotBase_30 (by decide) ?_
      refine z_call1 (b' := 0) (f' := 0) (rest := []) (av := [.int b, .int (nI 0), .int (nI 99)]) (z_siteS hb ho q2809 q2810 q104 ⟨_, _, _, _, zk_X3_in⟩ zy_X3_in zl_X3_in dX3_cannotBase_32 : z_Site M _ _ _ _ _ ([.int b, .int (nI 0), .int (nI 99)].reverse ++ []) [] _) zk_X3_in q104 hrm (m_X3_in b (nI 0) (nI 99) ht) (by omega) (by decide) (Nat.le_of_ble_eq_true rfl) (by omega) (by omega) ?_
      refine z_ifb_ne (tgt := 42) hb dX3_cannotBase_35 (by decide) (fun c_35 => ?_) (fun c_35 => ?_)
      · refine z_aload_n hb dX3_cannotBase_42 rfl ?_
        refine z_iconst (x := nI 2) hb dX3_cannotBase_43 (by decide) ?_
        refine z_call1 (b' := 0) (f' := 0) (rest := []) (av := [.ref t, .int (nI 2)]) (z_siteV hb ho zc2 z_tw_o q2911 q2913 qs53 ⟨_, _, _, _, zk_X3_cannotStep⟩ zy_X3_cannotStep zl_X3_cannotStep dX3_cannotBase_44 : z_Site M _ _ _ _ _ ([.int (nI 2)].reverse ++ .ref t :: []) [] _) zk_X3_cannotStep q104 hrm (m_X3_cannotStep 2 ht hw) (by omega) (by decide) (Nat.le_of_ble_eq_true rfl) (by omega) (by omega) ?_
        refine z_iret hb hr dX3_cannotBase_47 ?_
        rw [hQ]
        first
        | exact absurd c_25 (by decide)
        | (have e : tw_cBase S c b = tw_cStep S 2 := by simp [tw_cBase, tw_isK, c_3, c_35]
           rw [e]; exact ⟨rfl, rfl, rfl⟩)
      · refine z_iconst (x := nI 1) hb dX3_cannotBase_38 (by decide) ?_
        refine z_goto (tgt := 47) hb dX3_cannotBase_39 (by decide) ?_
        refine z_iret hb hr dX3_cannotBase_47 ?_
        rw [hQ]
        first
        | exact absurd c_25 (by decide)
        | (have e : tw_cBase S c b = (1, none) := by simp [tw_cBase, tw_isK, c_3, c_35]
           rw [e]; exact ⟨rfl, rfl, rfl⟩)
  · refine z_iload_n hb dX3_cannotBase_6 rfl ?_
    refine z_bipush (x := nI 110) hb dX3_cannotBase_7 (by decide) ?_
    refine z_icmp_eq (tgt := 18) hb dX3_cannotBase_9 (by decide) (fun c_9 => ?_) (fun c_9 => ?_)
    · refine z_iconst (x := nI 1) hb dX3_cannotBase_18 (by decide) ?_
      refine z_goto (tgt := 23) hb dX3_cannotBase_19 (by decide) ?_
      refine z_istore_n (lv' := [(3, .int (nI 1)), (0, .ref t), (1, .int c), (2, .int b)]) hb dX3_cannotBase_23 (by rw [hN]; decide) rfl ?_
      refine z_iload_n hb dX3_cannotBase_24 rfl ?_
      refine z_if_eqN (tgt := 38) hb dX3_cannotBase_25 (by decide) (by omega) (fun c_25 => ?_) (fun c_25 => ?_)
      · refine z_iconst (x := nI 1) hb dX3_cannotBase_38 (by decide) ?_
        refine z_goto (tgt := 47) hb dX3_cannotBase_39 (by decide) ?_
        refine z_iret hb hr dX3_cannotBase_47 ?_
        rw [hQ]
        first
        | exact absurd c_25 (by decide)
        | (have e : tw_cBase S c b = (1, none) := by simp [tw_cBase, tw_isK, c_3, c_9]
           rw [e]; exact ⟨rfl, rfl, rfl⟩)
      · refine z_iload_n hb dX3_cannotBase_28 rfl ?_
        refine z_iconst (x := nI 0) hb dX3_cannotBase_29 (by decide) ?_
        refine z_bipush (x := nI 99) hb dX3_cannotBase_30 (by decide) ?_
        refine z_call1 (b' := 0) (f' := 0) (rest := []) (av := [.int b, .int (nI 0), .int (nI 99)]) (z_siteS hb ho q2809 q2810 q104 ⟨_, _, _, _, zk_X3_in⟩ zy_X3_in zl_X3_in dX3_cannotBase_32 : z_Site M _ _ _ _ _ ([.int b, .int (nI 0), .int (nI 99)].reverse ++ []) [] _) zk_X3_in q104 hrm (m_X3_in b (nI 0) (nI 99) ht) (by omega) (by decide) (Nat.le_of_ble_eq_true rfl) (by omega) (by omega) ?_
        refine z_ifb_ne (tgt := 42) hb dX3_cannotBase_35 (by decide) (fun c_35 => ?_) (fun c_35 => ?_)
        · refine z_aload_n hb dX3_cannotBase_42 rfl ?_
          refine z_iconst (x := nI 2) hb dX3_cannotBase_43 (by decide) ?_
          refine z_call1 (b' := 0) (f' := 0) (rest := []) (av := [.ref t, .int (nI 2)]) (z_siteV hb ho zc2 z_tw_o q2911 q2913 qs53 ⟨_, _, _, _, zk_X3_cannotStep⟩ zy_X3_cannotStep zl_X3_cannotStep dX3_cannotBase_44 : z_Site M _ _ _ _ _ ([.int (nI 2)].reverse ++ .ref t :: []) [] _) zk_X3_cannotStep q104 hrm (m_X3_cannotStep 2 ht hw) (by omega) (by decide) (Nat.le_of_ble_eq_true rfl) (by omega) (by omega) ?_
          refine z_iret hb hr dX3_cannotBase_47 ?_
          rw [hQ]
          first
          | exact absurd c_25 (by decide)
          | (have e : tw_cBase S c b = tw_cStep S 2 := by simp [tw_cBase, tw_isK, c_3, c_9, c_35]
             rw [e]; exact ⟨rfl, rfl, rfl⟩)
        · refine z_iconst (x := nI 1) hb dX3_cannotBase_38 (by decide) ?_
          refine z_goto (tgt := 47) hb dX3_cannotBase_39 (by decide) ?_
          refine z_iret hb hr dX3_cannotBase_47 ?_
          rw [hQ]
          first
          | exact absurd c_25 (by decide)
          | (have e : tw_cBase S c b = (1, none) := by simp [tw_cBase, tw_isK, c_3, c_9, c_35]
             rw [e]; exact ⟨rfl, rfl, rfl⟩)
    · refine z_iload_n hb dX3_cannotBase_12 rfl ?_
      refine z_bipush (x := nI 120) hb dX3_cannotBase_13 (by decide) ?_
      refine z_icmp_ne (tgt := 22) hb dX3_cannotBase_15 (by decide) (fun c_15 => ?_) (fun c_15 => ?_)
      · refine z_iconst (x := nI 0) hb dX3_cannotBase_22 (by decide) ?_
        refine z_istore_n (lv' := [(3, .int (nI 0)), (0, .ref t), (1, .int c), (2, .int b)]) hb dX3_cannotBase_23 (by rw [hN]; decide) rfl ?_
        refine z_iload_n hb dX3_cannotBase_24 rfl ?_
        refine z_if_eqN (tgt := 38) hb dX3_cannotBase_25 (by decide) (by omega) (fun c_25 => ?_) (fun c_25 => ?_)
        · refine z_iconst (x := nI 1) hb dX3_cannotBase_38 (by decide) ?_
          refine z_goto (tgt := 47) hb dX3_cannotBase_39 (by decide) ?_
          refine z_iret hb hr dX3_cannotBase_47 ?_
          rw [hQ]
          first
          | exact absurd c_25 (by decide)
          | (have e : tw_cBase S c b = (1, none) := by simp [tw_cBase, tw_isK, c_3, c_9, c_15]
             rw [e]; exact ⟨rfl, rfl, rfl⟩)
        · refine z_iload_n hb dX3_cannotBase_28 rfl ?_
          refine z_iconst (x := nI 0) hb dX3_cannotBase_29 (by decide) ?_
          refine z_bipush (x := nI 99) hb dX3_cannotBase_30 (by decide) ?_
          refine z_call1 (b' := 0) (f' := 0) (rest := []) (av := [.int b, .int (nI 0), .int (nI 99)]) (z_siteS hb ho q2809 q2810 q104 ⟨_, _, _, _, zk_X3_in⟩ zy_X3_in zl_X3_in dX3_cannotBase_32 : z_Site M _ _ _ _ _ ([.int b, .int (nI 0), .int (nI 99)].reverse ++ []) [] _) zk_X3_in q104 hrm (m_X3_in b (nI 0) (nI 99) ht) (by omega) (by decide) (Nat.le_of_ble_eq_true rfl) (by omega) (by omega) ?_
          refine z_ifb_ne (tgt := 42) hb dX3_cannotBase_35 (by decide) (fun c_35 => ?_) (fun c_35 => ?_)
          · refine z_aload_n hb dX3_cannotBase_42 rfl ?_
            refine z_iconst (x := nI 2) hb dX3_cannotBase_43 (by decide) ?_
            refine z_call1 (b' := 0) (f' := 0) (rest := []) (av := [.ref t, .int (nI 2)]) (z_siteV hb ho zc2 z_tw_o q2911 q2913 qs53 ⟨_, _, _, _, zk_X3_cannotStep⟩ zy_X3_cannotStep zl_X3_cannotStep dX3_cannotBase_44 : z_Site M _ _ _ _ _ ([.int (nI 2)].reverse ++ .ref t :: []) [] _) zk_X3_cannotStep q104 hrm (m_X3_cannotStep 2 ht hw) (by omega) (by decide) (Nat.le_of_ble_eq_true rfl) (by omega) (by omega) ?_
            refine z_iret hb hr dX3_cannotBase_47 ?_
            rw [hQ]
            first
            | exact absurd c_25 (by decide)
            | (have e : tw_cBase S c b = tw_cStep S 2 := by simp [tw_cBase, tw_isK, c_3, c_9, c_15, c_35]
               rw [e]; exact ⟨rfl, rfl, rfl⟩)
          · refine z_iconst (x := nI 1) hb dX3_cannotBase_38 (by decide) ?_
            refine z_goto (tgt := 47) hb dX3_cannotBase_39 (by decide) ?_
            refine z_iret hb hr dX3_cannotBase_47 ?_
            rw [hQ]
            first
            | exact absurd c_25 (by decide)
            | (have e : tw_cBase S c b = (1, none) := by simp [tw_cBase, tw_isK, c_3, c_9, c_15, c_35]
               rw [e]; exact ⟨rfl, rfl, rfl⟩)
      · refine z_iconst (x := nI 1) hb dX3_cannotBase_18 (by decide) ?_
        refine z_goto (tgt := 23) hb dX3_cannotBase_19 (by decide) ?_
        refine z_istore_n (lv' := [(3, .int (nI 1)), (0, .ref t), (1, .int c), (2, .int b)]) hb dX3_cannotBase_23 (by rw [hN]; decide) rfl ?_
        refine z_iload_n hb dX3_cannotBase_24 rfl ?_
        refine z_if_eqN (tgt := 38) hb dX3_cannotBase_25 (by decide) (by omega) (fun c_25 => ?_) (fun c_25 => ?_)
        · refine z_iconst (x := nI 1) hb dX3_cannotBase_38 (by decide) ?_
          refine z_goto (tgt := 47) hb dX3_cannotBase_39 (by decide) ?_
          refine z_iret hb hr dX3_cannotBase_47 ?_
          rw [hQ]
          first
          | exact absurd c_25 (by decide)
          | (have e : tw_cBase S c b = (1, none) := by simp [tw_cBase, tw_isK, c_3, c_9, c_15]
             rw [e]; exact ⟨rfl, rfl, rfl⟩)
        · refine z_iload_n hb dX3_cannotBase_28 rfl ?_
          refine z_iconst (x := nI 0) hb dX3_cannotBase_29 (by decide) ?_
          refine z_bipush (x := nI 99) hb dX3_cannotBase_30 (by decide) ?_
          refine z_call1 (b' := 0) (f' := 0) (rest := []) (av := [.int b, .int (nI 0), .int (nI 99)]) (z_siteS hb ho q2809 q2810 q104 ⟨_, _, _, _, zk_X3_in⟩ zy_X3_in zl_X3_in dX3_cannotBase_32 : z_Site M _ _ _ _ _ ([.int b, .int (nI 0), .int (nI 99)].reverse ++ []) [] _) zk_X3_in q104 hrm (m_X3_in b (nI 0) (nI 99) ht) (by omega) (by decide) (Nat.le_of_ble_eq_true rfl) (by omega) (by omega) ?_
          refine z_ifb_ne (tgt := 42) hb dX3_cannotBase_35 (by decide) (fun c_35 => ?_) (fun c_35 => ?_)
          · refine z_aload_n hb dX3_cannotBase_42 rfl ?_
            refine z_iconst (x := nI 2) hb dX3_cannotBase_43 (by decide) ?_
            refine z_call1 (b' := 0) (f' := 0) (rest := []) (av := [.ref t, .int (nI 2)]) (z_siteV hb ho zc2 z_tw_o q2911 q2913 qs53 ⟨_, _, _, _, zk_X3_cannotStep⟩ zy_X3_cannotStep zl_X3_cannotStep dX3_cannotBase_44 : z_Site M _ _ _ _ _ ([.int (nI 2)].reverse ++ .ref t :: []) [] _) zk_X3_cannotStep q104 hrm (m_X3_cannotStep 2 ht hw) (by omega) (by decide) (Nat.le_of_ble_eq_true rfl) (by omega) (by omega) ?_
            refine z_iret hb hr dX3_cannotBase_47 ?_
            rw [hQ]
            first
            | exact absurd c_25 (by decide)
            | (have e : tw_cBase S c b = tw_cStep S 2 := by simp [tw_cBase, tw_isK, c_3, c_9, c_15, c_35]
               rw [e]; exact ⟨rfl, rfl, rfl⟩)
          · refine z_iconst (x := nI 1) hb dX3_cannotBase_38 (by decide) ?_
            refine z_goto (tgt := 47) hb dX3_cannotBase_39 (by decide) ?_
            refine z_iret hb hr dX3_cannotBase_47 ?_
            rw [hQ]
            first
            | exact absurd c_25 (by decide)
            | (have e : tw_cBase S c b = (1, none) := by simp [tw_cBase, tw_isK, c_3, c_9, c_15, c_35]
               rw [e]; exact ⟨rfl, rfl, rfl⟩)

set_option maxHeartbeats 1000000 in
theorem m_X3_cannotPair {l : Launch} {G : zG} {h : zH} {n : Nat} {t : Nat} {w0 : Nat → Int32} {w1 : Nat → Int32} {w2 : Nat → Int32} {w3 : Nat → Int32} {w4 : Nat → Int32} {w5 : Nat → Int64} {w6 : Nat → Int64} {w7 : Nat → Int64} {w8 : Nat → Int64} {w9 : Nat → Int64} {w10 : Nat → Int64} {w11 : Nat → Int64} {w12 : Int32} {w13 : Int32} {w14 : Int32} {w15 : Int32} {w16 : Int32} {w17 : Int32} {w18 : Bool} {w19 : Nat → Int32} {w20 : Int32} {w21 : Nat → Int32} {w22 : Nat → Int32} {w23 : Nat → Int32} {w24 : Int32} {w25 : Int32} {w26 : Int32} {w27 : Int32} {w28 : Bool} {R S D : Nat}  (c : Int32) (x : Int32) (y : Int32) (ht : z_n0 G ≤ t) (hw : z_ok w0 R S D) : z_C l G yX3_cannotPair 3 0 0 [.ref t, .int c, .int x, .int y] (z_tw G t w0 w1 w2 w3 w4 w5 w6 w7 w8 w9 w10 w11 w12 w13 w14 w15 w16 w17 w18 w19 w20 w21 w22 w23 w24 w25 w26 w27 w28 h) n (z_rv (.int (nI ((tw_cPair S c x y).1))) (z_tw G t w0 w1 w2 w3 w4 w5 w6 w7 w8 w9 w10 w11 w12 w13 w14 (tw_d15 (tw_cPair S c x y).2 w15) (tw_d16 (tw_cPair S c x y).2 w16) (tw_d17 (tw_cPair S c x y).2 w17) w18 w19 w20 w21 w22 w23 w24 w25 w26 w27 w28 h) n) := by
  refine z_start zk_X3_cannotPair zpl_RX3 (Nat.le_of_ble_eq_true rfl) ?_
  intro hn0 M hl hG ho hb hN hr hm hH hrm hQ
  subst hl hG
  have ho : zm_o M = RX3 := ho
  obtain ⟨hR, hR4, hS, hS8, hD, hD6, hF⟩ := id hw
  show z_V M (z_tw (zm_G M) t w0 w1 w2 w3 w4 w5 w6 w7 w8 w9 w10 w11 w12 w13 w14 w15 w16 w17 w18 w19 w20 w21 w22 w23 w24 w25 w26 w27 w28 h) n 0 0 0 [(0, .ref t), (1, .int c), (2, .int x), (3, .int y)] []
  refine z_iload_n hb dX3_cannotPair_0 rfl ?_
  refine z_bipush (x := nI 43) hb dX3_cannotPair_1 (by decide) ?_
  refine z_icmp_eq (tgt := 14) hb dX3_cannotPair_3 (by decide) (fun c_3 => ?_) (fun c_3 => ?_)
  · refine z_aload_n hb dX3_cannotPair_14 rfl ?_
    refine z_iload_n hb dX3_cannotPair_15 rfl ?_
    refine z_call1 (b' := 0) (f' := 0) (rest := []) (av := [.ref t, .int x]) (z_siteV hb ho zc2 z_tw_o q2927 q2929 qs56 ⟨_, _, _, _, zk_X3_isStep⟩ zy_X3_isStep zl_X3_isStep dX3_cannotPair_16 : z_Site M _ _ _ _ _ ([.int x].reverse ++ .ref t :: []) [] _) zk_X3_isStep q104 hrm (m_X3_isStep x ht hw) (by omega) (by decide) (Nat.le_of_ble_eq_true rfl) (by omega) (by omega) ?_
    refine z_ifb_eq (tgt := 30) hb dX3_cannotPair_19 (by decide) (fun c_19 => ?_) (fun c_19 => ?_)
    · refine z_iconst (x := nI 2) hb dX3_cannotPair_30 (by decide) ?_
      refine z_goto (tgt := 39) hb dX3_cannotPair_31 (by decide) ?_
      refine z_iret hb hr dX3_cannotPair_39 ?_
      rw [hQ]
      have e : tw_cPair S c x y = (2, none) := by simp [tw_cPair, tw_isS, c_3, c_19]
      rw [e]; exact ⟨rfl, rfl, rfl⟩
    · refine z_aload_n hb dX3_cannotPair_22 rfl ?_
      refine z_iload_n hb dX3_cannotPair_23 rfl ?_
      refine z_call1 (b' := 0) (f' := 0) (rest := []) (av := [.ref t, .int y]) (z_siteV hb ho zc2 z_tw_o q2927 q2929 qs56 ⟨_, _, _, _, zk_X3_isStep⟩ zy_X3_isStep zl_X3_isStep dX3_cannotPair_24 : z_Site M _ _ _ _ _ ([.int y].reverse ++ .ref t :: []) [] _) zk_X3_isStep q104 hrm (m_X3_isStep y ht hw) (by omega) (by decide) (Nat.le_of_ble_eq_true rfl) (by omega) (by omega) ?_
      refine z_ifb_ne (tgt := 34) hb dX3_cannotPair_27 (by decide) (fun c_27 => ?_) (fun c_27 => ?_)
      · refine z_aload_n hb dX3_cannotPair_34 rfl ?_
        refine z_iconst (x := nI 3) hb dX3_cannotPair_35 (by decide) ?_
        refine z_call1 (b' := 0) (f' := 0) (rest := []) (av := [.ref t, .int (nI 3)]) (z_siteV hb ho zc2 z_tw_o q2911 q2913 qs53 ⟨_, _, _, _, zk_X3_cannotStep⟩ zy_X3_cannotStep zl_X3_cannotStep dX3_cannotPair_36 : z_Site M _ _ _ _ _ ([.int (nI 3)].reverse ++ .ref t :: []) [] _) zk_X3_cannotStep q104 hrm (m_X3_cannotStep 3 ht hw) (by omega) (by decide) (Nat.le_of_ble_eq_true rfl) (by omega) (by omega) ?_
        refine z_iret hb hr dX3_cannotPair_39 ?_
        rw [hQ]
        have e : tw_cPair S c x y = tw_cStep S 3 := by simp [tw_cPair, tw_isS, c_3, c_19, c_27]
        rw [e]; exact ⟨rfl, rfl, rfl⟩
      · refine z_iconst (x := nI 2) hb dX3_cannotPair_30 (by decide) ?_
        refine z_goto (tgt := 39) hb dX3_cannotPair_31 (by decide) ?_
        refine z_iret hb hr dX3_cannotPair_39 ?_
        rw [hQ]
        have e : tw_cPair S c x y = (2, none) := by simp [tw_cPair, tw_isS, c_3, c_19, c_27]
        rw [e]; exact ⟨rfl, rfl, rfl⟩
  · refine z_iload_n hb dX3_cannotPair_6 rfl ?_
    refine z_bipush (x := nI 45) hb dX3_cannotPair_7 (by decide) ?_
    refine z_icmp_eq (tgt := 14) hb dX3_cannotPair_9 (by decide) (fun c_9 => ?_) (fun c_9 => ?_)
    · refine z_aload_n hb dX3_cannotPair_14 rfl ?_
      refine z_iload_n hb dX3_cannotPair_15 rfl ?_
      refine z_call1 (b' := 0) (f' := 0) (rest := []) (av := [.ref t, .int x]) (z_siteV hb ho zc2 z_tw_o q2927 q2929 qs56 ⟨_, _, _, _, zk_X3_isStep⟩ zy_X3_isStep zl_X3_isStep dX3_cannotPair_16 : z_Site M _ _ _ _ _ ([.int x].reverse ++ .ref t :: []) [] _) zk_X3_isStep q104 hrm (m_X3_isStep x ht hw) (by omega) (by decide) (Nat.le_of_ble_eq_true rfl) (by omega) (by omega) ?_
      refine z_ifb_eq (tgt := 30) hb dX3_cannotPair_19 (by decide) (fun c_19 => ?_) (fun c_19 => ?_)
      · refine z_iconst (x := nI 2) hb dX3_cannotPair_30 (by decide) ?_
        refine z_goto (tgt := 39) hb dX3_cannotPair_31 (by decide) ?_
        refine z_iret hb hr dX3_cannotPair_39 ?_
        rw [hQ]
        have e : tw_cPair S c x y = (2, none) := by simp [tw_cPair, tw_isS, c_3, c_9, c_19]
        rw [e]; exact ⟨rfl, rfl, rfl⟩
      · refine z_aload_n hb dX3_cannotPair_22 rfl ?_
        refine z_iload_n hb dX3_cannotPair_23 rfl ?_
        refine z_call1 (b' := 0) (f' := 0) (rest := []) (av := [.ref t, .int y]) (z_siteV hb ho zc2 z_tw_o q2927 q2929 qs56 ⟨_, _, _, _, zk_X3_isStep⟩ zy_X3_isStep zl_X3_isStep dX3_cannotPair_24 : z_Site M _ _ _ _ _ ([.int y].reverse ++ .ref t :: []) [] _) zk_X3_isStep q104 hrm (m_X3_isStep y ht hw) (by omega) (by decide) (Nat.le_of_ble_eq_true rfl) (by omega) (by omega) ?_
        refine z_ifb_ne (tgt := 34) hb dX3_cannotPair_27 (by decide) (fun c_27 => ?_) (fun c_27 => ?_)
        · refine z_aload_n hb dX3_cannotPair_34 rfl ?_
          refine z_iconst (x := nI 3) hb dX3_cannotPair_35 (by decide) ?_
          refine z_call1 (b' := 0) (f' := 0) (rest := []) (av := [.ref t, .int (nI 3)]) (z_siteV hb ho zc2 z_tw_o q2911 q2913 qs53 ⟨_, _, _, _, zk_X3_cannotStep⟩ zy_X3_cannotStep zl_X3_cannotStep dX3_cannotPair_36 : z_Site M _ _ _ _ _ ([.int (nI 3)].reverse ++ .ref t :: []) [] _) zk_X3_cannotStep q104 hrm (m_X3_cannotStep 3 ht hw) (by omega) (by decide) (Nat.le_of_ble_eq_true rfl) (by omega) (by omega) ?_
          refine z_iret hb hr dX3_cannotPair_39 ?_
          rw [hQ]
          have e : tw_cPair S c x y = tw_cStep S 3 := by simp [tw_cPair, tw_isS, c_3, c_9, c_19, c_27]
          rw [e]; exact ⟨rfl, rfl, rfl⟩
        · refine z_iconst (x := nI 2) hb dX3_cannotPair_30 (by decide) ?_
          refine z_goto (tgt := 39) hb dX3_cannotPair_31 (by decide) ?_
          refine z_iret hb hr dX3_cannotPair_39 ?_
          rw [hQ]
          have e : tw_cPair S c x y = (2, none) := by simp [tw_cPair, tw_isS, c_3, c_9, c_19, c_27]
          rw [e]; exact ⟨rfl, rfl, rfl⟩
    · refine z_iconst (x := nI 1) hb dX3_cannotPair_12 (by decide) ?_
      refine z_iret hb hr dX3_cannotPair_13 ?_
      rw [hQ]
      have e : tw_cPair S c x y = (1, none) := by simp [tw_cPair, tw_isS, c_3, c_9]
      rw [e]; exact ⟨rfl, rfl, rfl⟩

set_option maxHeartbeats 1000000 in
theorem m_X3_cannotRun {l : Launch} {G : zG} {h : zH} {n : Nat} {t : Nat} {w0 : Nat → Int32} {w1 : Nat → Int32} {w2 : Nat → Int32} {w3 : Nat → Int32} {w4 : Nat → Int32} {w5 : Nat → Int64} {w6 : Nat → Int64} {w7 : Nat → Int64} {w8 : Nat → Int64} {w9 : Nat → Int64} {w10 : Nat → Int64} {w11 : Nat → Int64} {w12 : Int32} {w13 : Int32} {w14 : Int32} {w15 : Int32} {w16 : Int32} {w17 : Int32} {w18 : Bool} {w19 : Nat → Int32} {w20 : Int32} {w21 : Nat → Int32} {w22 : Nat → Int32} {w23 : Nat → Int32} {w24 : Int32} {w25 : Int32} {w26 : Int32} {w27 : Int32} {w28 : Bool} {R S D : Nat}  (x : Int32) (ht : z_n0 G ≤ t) (hw : z_ok w0 R S D) : z_C l G yX3_cannotRun 3 0 0 [.ref t, .int x] (z_tw G t w0 w1 w2 w3 w4 w5 w6 w7 w8 w9 w10 w11 w12 w13 w14 w15 w16 w17 w18 w19 w20 w21 w22 w23 w24 w25 w26 w27 w28 h) n (z_rv (.int (nI ((tw_cRun S x).1))) (z_tw G t w0 w1 w2 w3 w4 w5 w6 w7 w8 w9 w10 w11 w12 w13 w14 (tw_d15 (tw_cRun S x).2 w15) (tw_d16 (tw_cRun S x).2 w16) (tw_d17 (tw_cRun S x).2 w17) w18 w19 w20 w21 w22 w23 w24 w25 w26 w27 w28 h) n) := by
  refine z_start zk_X3_cannotRun zpl_RX3 (Nat.le_of_ble_eq_true rfl) ?_
  intro hn0 M hl hG ho hb hN hr hm hH hrm hQ
  subst hl hG
  have ho : zm_o M = RX3 := ho
  obtain ⟨hR, hR4, hS, hS8, hD, hD6, hF⟩ := id hw
  show z_V M (z_tw (zm_G M) t w0 w1 w2 w3 w4 w5 w6 w7 w8 w9 w10 w11 w12 w13 w14 w15 w16 w17 w18 w19 w20 w21 w22 w23 w24 w25 w26 w27 w28 h) n 0 0 0 [(0, .ref t), (1, .int x)] []
  refine z_aload_n hb dX3_cannotRun_0 rfl ?_
  refine z_iload_n hb dX3_cannotRun_1 rfl ?_
  refine z_call1 (b' := 0) (f' := 0) (rest := []) (av := [.ref t, .int x]) (z_siteV hb ho zc2 z_tw_o q2927 q2929 qs56 ⟨_, _, _, _, zk_X3_isStep⟩ zy_X3_isStep zl_X3_isStep dX3_cannotRun_2 : z_Site M _ _ _ _ _ ([.int x].reverse ++ .ref t :: []) [] _) zk_X3_isStep q104 hrm (m_X3_isStep x ht hw) (by omega) (by decide) (Nat.le_of_ble_eq_true rfl) (by omega) (by omega) ?_
  refine z_ifb_ne (tgt := 12) hb dX3_cannotRun_5 (by decide) (fun c_5 => ?_) (fun c_5 => ?_)
  · refine z_aload_n hb dX3_cannotRun_12 rfl ?_
    refine z_iconst (x := nI 2) hb dX3_cannotRun_13 (by decide) ?_
    refine z_call1 (b' := 0) (f' := 0) (rest := []) (av := [.ref t, .int (nI 2)]) (z_siteV hb ho zc2 z_tw_o q2911 q2913 qs53 ⟨_, _, _, _, zk_X3_cannotStep⟩ zy_X3_cannotStep zl_X3_cannotStep dX3_cannotRun_14 : z_Site M _ _ _ _ _ ([.int (nI 2)].reverse ++ .ref t :: []) [] _) zk_X3_cannotStep q104 hrm (m_X3_cannotStep 2 ht hw) (by omega) (by decide) (Nat.le_of_ble_eq_true rfl) (by omega) (by omega) ?_
    refine z_iret hb hr dX3_cannotRun_17 ?_
    rw [hQ]
    have e : tw_cRun S x = tw_cStep S 2 := by simp [tw_cRun, tw_isS, c_5]
    rw [e]; exact ⟨rfl, rfl, rfl⟩
  · refine z_iconst (x := nI 1) hb dX3_cannotRun_8 (by decide) ?_
    refine z_goto (tgt := 17) hb dX3_cannotRun_9 (by decide) ?_
    refine z_iret hb hr dX3_cannotRun_17 ?_
    rw [hQ]
    have e : tw_cRun S x = (1, none) := by simp [tw_cRun, tw_isS, c_5]
    rw [e]; exact ⟨rfl, rfl, rfl⟩

set_option maxHeartbeats 1000000 in
theorem m_X3_cannotKeep {l : Launch} {G : zG} {h : zH} {n : Nat} {t : Nat} {w0 : Nat → Int32} {w1 : Nat → Int32} {w2 : Nat → Int32} {w3 : Nat → Int32} {w4 : Nat → Int32} {w5 : Nat → Int64} {w6 : Nat → Int64} {w7 : Nat → Int64} {w8 : Nat → Int64} {w9 : Nat → Int64} {w10 : Nat → Int64} {w11 : Nat → Int64} {w12 : Int32} {w13 : Int32} {w14 : Int32} {w15 : Int32} {w16 : Int32} {w17 : Int32} {w18 : Bool} {w19 : Nat → Int32} {w20 : Int32} {w21 : Nat → Int32} {w22 : Nat → Int32} {w23 : Nat → Int32} {w24 : Int32} {w25 : Int32} {w26 : Int32} {w27 : Int32} {w28 : Bool} {R S D : Nat}  (x : Int32) (b : Int32) (ht : z_n0 G ≤ t) (hw : z_ok w0 R S D) : z_C l G yX3_cannotKeep 3 0 0 [.ref t, .int x, .int b] (z_tw G t w0 w1 w2 w3 w4 w5 w6 w7 w8 w9 w10 w11 w12 w13 w14 w15 w16 w17 w18 w19 w20 w21 w22 w23 w24 w25 w26 w27 w28 h) n (z_rv (.int (nI ((tw_cKeep S x b).1))) (z_tw G t w0 w1 w2 w3 w4 w5 w6 w7 w8 w9 w10 w11 w12 w13 w14 (tw_d15 (tw_cKeep S x b).2 w15) (tw_d16 (tw_cKeep S x b).2 w16) (tw_d17 (tw_cKeep S x b).2 w17) w18 w19 w20 w21 w22 w23 w24 w25 w26 w27 w28 h) n) := by
  refine z_start zk_X3_cannotKeep zpl_RX3 (Nat.le_of_ble_eq_true rfl) ?_
  intro hn0 M hl hG ho hb hN hr hm hH hrm hQ
  subst hl hG
  have ho : zm_o M = RX3 := ho
  obtain ⟨hR, hR4, hS, hS8, hD, hD6, hF⟩ := id hw
  show z_V M (z_tw (zm_G M) t w0 w1 w2 w3 w4 w5 w6 w7 w8 w9 w10 w11 w12 w13 w14 w15 w16 w17 w18 w19 w20 w21 w22 w23 w24 w25 w26 w27 w28 h) n 0 0 0 [(0, .ref t), (1, .int x), (2, .int b)] []
  refine z_aload_n hb dX3_cannotKeep_0 rfl ?_
  refine z_iload_n hb dX3_cannotKeep_1 rfl ?_
  refine z_call1 (b' := 0) (f' := 0) (rest := []) (av := [.ref t, .int x]) (z_siteV hb ho zc2 z_tw_o q2927 q2929 qs56 ⟨_, _, _, _, zk_X3_isStep⟩ zy_X3_isStep zl_X3_isStep dX3_cannotKeep_2 : z_Site M _ _ _ _ _ ([.int x].reverse ++ .ref t :: []) [] _) zk_X3_isStep q104 hrm (m_X3_isStep x ht hw) (by omega) (by decide) (Nat.le_of_ble_eq_true rfl) (by omega) (by omega) ?_
  refine z_ifb_ne (tgt := 12) hb dX3_cannotKeep_5 (by decide) (fun c_5 => ?_) (fun c_5 => ?_)
  · refine z_iload_n hb dX3_cannotKeep_12 rfl ?_
    refine z_iconst (x := nI 0) hb dX3_cannotKeep_13 (by decide) ?_
    refine z_bipush (x := nI 99) hb dX3_cannotKeep_14 (by decide) ?_
    refine z_call1 (b' := 0) (f' := 0) (rest := []) (av := [.int b, .int (nI 0), .int (nI 99)]) (z_siteS hb ho q2809 q2810 q104 ⟨_, _, _, _, zk_X3_in⟩ zy_X3_in zl_X3_in dX3_cannotKeep_16 : z_Site M _ _ _ _ _ ([.int b, .int (nI 0), .int (nI 99)].reverse ++ []) [] _) zk_X3_in q104 hrm (m_X3_in b (nI 0) (nI 99) ht) (by omega) (by decide) (Nat.le_of_ble_eq_true rfl) (by omega) (by omega) ?_
    refine z_ifb_ne (tgt := 26) hb dX3_cannotKeep_19 (by decide) (fun c_19 => ?_) (fun c_19 => ?_)
    · refine z_aload_n hb dX3_cannotKeep_26 rfl ?_
      refine z_iconst (x := nI 3) hb dX3_cannotKeep_27 (by decide) ?_
      refine z_call1 (b' := 0) (f' := 0) (rest := []) (av := [.ref t, .int (nI 3)]) (z_siteV hb ho zc2 z_tw_o q2911 q2913 qs53 ⟨_, _, _, _, zk_X3_cannotStep⟩ zy_X3_cannotStep zl_X3_cannotStep dX3_cannotKeep_28 : z_Site M _ _ _ _ _ ([.int (nI 3)].reverse ++ .ref t :: []) [] _) zk_X3_cannotStep q104 hrm (m_X3_cannotStep 3 ht hw) (by omega) (by decide) (Nat.le_of_ble_eq_true rfl) (by omega) (by omega) ?_
      refine z_iret hb hr dX3_cannotKeep_31 ?_
      rw [hQ]
      have e : tw_cKeep S x b = tw_cStep S 3 := by simp [tw_cKeep, tw_isS, c_5, c_19]
      rw [e]; exact ⟨rfl, rfl, rfl⟩
    · refine z_iconst (x := nI 2) hb dX3_cannotKeep_22 (by decide) ?_
      refine z_goto (tgt := 31) hb dX3_cannotKeep_23 (by decide) ?_
      refine z_iret hb hr dX3_cannotKeep_31 ?_
      rw [hQ]
      have e : tw_cKeep S x b = (2, none) := by simp [tw_cKeep, tw_isS, c_5, c_19]
      rw [e]; exact ⟨rfl, rfl, rfl⟩
  · refine z_iconst (x := nI 1) hb dX3_cannotKeep_8 (by decide) ?_
    refine z_goto (tgt := 31) hb dX3_cannotKeep_9 (by decide) ?_
    refine z_iret hb hr dX3_cannotKeep_31 ?_
    rw [hQ]
    have e : tw_cKeep S x b = (1, none) := by simp [tw_cKeep, tw_isS, c_5]
    rw [e]; exact ⟨rfl, rfl, rfl⟩

set_option maxHeartbeats 1000000 in
theorem m_X3_isInput {l : Launch} {G : zG} {h : zH} {n : Nat} {t : Nat} {w0 : Nat → Int32} {w1 : Nat → Int32} {w2 : Nat → Int32} {w3 : Nat → Int32} {w4 : Nat → Int32} {w5 : Nat → Int64} {w6 : Nat → Int64} {w7 : Nat → Int64} {w8 : Nat → Int64} {w9 : Nat → Int64} {w10 : Nat → Int64} {w11 : Nat → Int64} {w12 : Int32} {w13 : Int32} {w14 : Int32} {w15 : Int32} {w16 : Int32} {w17 : Int32} {w18 : Bool} {w19 : Nat → Int32} {w20 : Int32} {w21 : Nat → Int32} {w22 : Nat → Int32} {w23 : Nat → Int32} {w24 : Int32} {w25 : Int32} {w26 : Int32} {w27 : Int32} {w28 : Bool}  (k : Nat) (o : Nat) (ht : z_n0 G ≤ t) (ho8 : o < 8) : z_C l G yX3_isInput 3 0 0 [.ref t, .int (nI k), .int (nI o)] (z_tw G t w0 w1 w2 w3 w4 w5 w6 w7 w8 w9 w10 w11 w12 w13 w14 w15 w16 w17 w18 w19 w20 w21 w22 w23 w24 w25 w26 w27 w28 h) n (z_rv (.int (z_b (tw_inpt w0 k o))) (z_tw G t w0 w1 w2 w3 w4 w5 w6 w7 w8 w9 w10 w11 w12 w13 w14 w15 w16 w17 w18 w19 w20 w21 w22 w23 w24 w25 w26 w27 w28 h) n) := by
  refine z_start zk_X3_isInput zpl_RX3 (Nat.le_of_ble_eq_true rfl) ?_
  intro hn0 M hl hG ho hb hN hr hm hH hrm hQ
  subst hl hG
  have ho : zm_o M = RX3 := ho
  show z_V M (z_tw (zm_G M) t w0 w1 w2 w3 w4 w5 w6 w7 w8 w9 w10 w11 w12 w13 w14 w15 w16 w17 w18 w19 w20 w21 w22 w23 w24 w25 w26 w27 w28 h) n 0 0 0 [(0, .ref t), (1, .int (nI k)), (2, .int (nI o))] []
  refine z_aload_n hb dX3_isInput_0 rfl ?_
  refine z_iload_n hb dX3_isInput_1 rfl ?_
  refine z_call1 (b' := 0) (f' := 0) (rest := []) (av := [.ref t, .int (nI o)]) (z_siteV hb ho zc2 z_tw_o q2843 q2845 qs39 ⟨_, _, _, _, zk_X3_isBase⟩ zy_X3_isBase zl_X3_isBase dX3_isInput_2 : z_Site M _ _ _ _ _ ([.int (nI o)].reverse ++ .ref t :: []) [] _) zk_X3_isBase q104 hrm (m_X3_isBase o ht (by omega)) (by omega) (by decide) (Nat.le_of_ble_eq_true rfl) (by omega) (by omega) ?_
  refine z_ifb_ne (tgt := 32) hb dX3_isInput_5 (by decide) (fun c_5 => ?_) (fun c_5 => ?_)
  · refine z_iconst (x := nI 0) hb dX3_isInput_32 (by decide) ?_
    refine z_zret hb hr rfl dX3_isInput_33 ?_
    rw [hQ]
    exact z_rvb0 (by simp [tw_inpt, c_5])
  · refine z_aload_n hb dX3_isInput_8 rfl ?_
    refine z_iload_n hb dX3_isInput_9 rfl ?_
    refine z_iconst (x := nI 2) hb dX3_isInput_10 (by decide) ?_
    refine z_call1 (b' := 0) (f' := 0) (rest := []) (av := [.ref t, .int (nI o), .int (nI 2)]) (z_siteV hb ho zc2 z_tw_o q2847 q2849 qs40 ⟨_, _, _, _, zk_X3_s⟩ zy_X3_s zl_X3_s dX3_isInput_11 : z_Site M _ _ _ _ _ ([.int (nI o), .int (nI 2)].reverse ++ .ref t :: []) [] _) zk_X3_s q104 hrm (m_X3_s o 2 ht (by omega)) (by omega) (by decide) (Nat.le_of_ble_eq_true rfl) (by omega) (by omega) ?_
    refine z_iload_n hb dX3_isInput_14 rfl ?_
    refine z_icmp_eq (tgt := 28) hb dX3_isInput_15 (by decide) (fun c_15 => ?_) (fun c_15 => ?_)
    · refine z_iconst (x := nI 1) hb dX3_isInput_28 (by decide) ?_
      refine z_goto (tgt := 33) hb dX3_isInput_29 (by decide) ?_
      refine z_zret hb hr rfl dX3_isInput_33 ?_
      rw [hQ]
      exact z_rvb1 (by simp [tw_inpt, c_5, c_15])
    · refine z_aload_n hb dX3_isInput_18 rfl ?_
      refine z_iload_n hb dX3_isInput_19 rfl ?_
      refine z_iconst (x := nI 3) hb dX3_isInput_20 (by decide) ?_
      refine z_call1 (b' := 0) (f' := 0) (rest := []) (av := [.ref t, .int (nI o), .int (nI 3)]) (z_siteV hb ho zc2 z_tw_o q2847 q2849 qs40 ⟨_, _, _, _, zk_X3_s⟩ zy_X3_s zl_X3_s dX3_isInput_21 : z_Site M _ _ _ _ _ ([.int (nI o), .int (nI 3)].reverse ++ .ref t :: []) [] _) zk_X3_s q104 hrm (m_X3_s o 3 ht (by omega)) (by omega) (by decide) (Nat.le_of_ble_eq_true rfl) (by omega) (by omega) ?_
      refine z_iload_n hb dX3_isInput_24 rfl ?_
      refine z_icmp_ne (tgt := 32) hb dX3_isInput_25 (by decide) (fun c_25 => ?_) (fun c_25 => ?_)
      · refine z_iconst (x := nI 0) hb dX3_isInput_32 (by decide) ?_
        refine z_zret hb hr rfl dX3_isInput_33 ?_
        rw [hQ]
        exact z_rvb0 (by simp [tw_inpt, c_5, c_15, c_25])
      · refine z_iconst (x := nI 1) hb dX3_isInput_28 (by decide) ?_
        refine z_goto (tgt := 33) hb dX3_isInput_29 (by decide) ?_
        refine z_zret hb hr rfl dX3_isInput_33 ?_
        rw [hQ]
        exact z_rvb1 (by simp [tw_inpt, c_5, c_15, c_25])

theorem z_isS {S k : Nat} (hk : k < S) (hS : S ≤ 8) : tw_isS S (nI k) = true := by
  unfold tw_isS
  rw [pk_sub (by omega)]
  exact decide_eq_true ⟨(nI_leI (by omega) (by omega)).mpr (by omega), (nI_leI (by omega) (by omega)).mpr (by omega)⟩
theorem z_isS_of {S : Nat} {x : Int32} (hS : S ≤ 8) (h : tw_isS S x = true) : ∃ k, k < S ∧ x = nI k := by
  unfold tw_isS at h
  have h1 := of_decide_eq_true h
  obtain ⟨j, hj, rfl⟩ := nI_of (x := x) (by
    have h2 := h1.1
    rw [Int32.le_iff_toInt_le, nI_toInt (by omega)] at h2
    rw [Int32.lt_iff_toInt_lt, Int32.toInt_zero]
    omega)
  refine ⟨j, ?_, rfl⟩
  have h2 := h1.2
  rcases Nat.eq_zero_or_pos S with q | q
  · subst q
    rw [Int32.le_iff_toInt_le, nI_toInt hj, show nI 0 - nI 1 = -1 from rfl] at h2
    have : (-1 : Int32).toInt = -1 := rfl
    omega
  · rw [pk_sub (by omega)] at h2
    have := (nI_leI hj (by omega)).mp h2
    omega
theorem z_inN {a b c : Nat} (h1 : a ≤ b) (h2 : b ≤ c) (hc : c < 2 ^ 31) : decide (nI a ≤ nI b ∧ nI b ≤ nI c) = true := decide_eq_true ⟨(nI_leI (by omega) (by omega)).mpr h1, (nI_leI (by omega) hc).mpr h2⟩
theorem z_inN_of {b : Int32} {c : Nat} (hc : c < 2 ^ 31) (h : decide (nI 0 ≤ b ∧ b ≤ nI c) = true) : ∃ k, k ≤ c ∧ b = nI k := by
  have h1 := of_decide_eq_true h
  obtain ⟨j, hj, rfl⟩ := nI_of (x := b) (by
    have h2 := h1.1
    rw [Int32.le_iff_toInt_le, nI_toInt (by omega)] at h2
    rw [Int32.lt_iff_toInt_lt, Int32.toInt_zero]
    omega)
  exact ⟨j, (nI_leI hj hc).mp h1.2, rfl⟩

set_option maxHeartbeats 1000000 in
theorem m_X3_cannotCut {l : Launch} {G : zG} {h : zH} {n : Nat} {t : Nat} {w0 : Nat → Int32} {w1 : Nat → Int32} {w2 : Nat → Int32} {w3 : Nat → Int32} {w4 : Nat → Int32} {w5 : Nat → Int64} {w6 : Nat → Int64} {w7 : Nat → Int64} {w8 : Nat → Int64} {w9 : Nat → Int64} {w10 : Nat → Int64} {w11 : Nat → Int64} {w12 : Int32} {w13 : Int32} {w14 : Int32} {w15 : Int32} {w16 : Int32} {w17 : Int32} {w18 : Bool} {w19 : Nat → Int32} {w20 : Int32} {w21 : Nat → Int32} {w22 : Nat → Int32} {w23 : Nat → Int32} {w24 : Int32} {w25 : Int32} {w26 : Int32} {w27 : Int32} {w28 : Bool} {R S D : Nat} {k : Nat}  (ht : z_n0 G ≤ t) (hw : z_ok w0 R S D) (hkS : k < S) : z_C l G yX3_cannotCut 4 0 0 [.ref t, .int (nI k)] (z_tw G t w0 w1 w2 w3 w4 w5 w6 w7 w8 w9 w10 w11 w12 w13 w14 w15 w16 w17 w18 w19 w20 w21 w22 w23 w24 w25 w26 w27 w28 h) n (z_rv (.int (nI ((tw_cCut w0 S k).1))) (z_tw G t w0 w1 w2 w3 w4 w5 w6 w7 w8 w9 w10 w11 w12 w13 w14 (tw_d15 (tw_cCut w0 S k).2 w15) (tw_d16 (tw_cCut w0 S k).2 w16) (tw_d17 (tw_cCut w0 S k).2 w17) w18 w19 w20 w21 w22 w23 w24 w25 w26 w27 w28 h) n) := by
  refine z_start zk_X3_cannotCut zpl_RX3 (Nat.le_of_ble_eq_true rfl) ?_
  intro hn0 M hl hG ho hb hN hr hm hH hrm hQ
  subst hl hG
  have ho : zm_o M = RX3 := ho
  obtain ⟨hR, hR4, hS, hS8, hD, hD6, hF⟩ := id hw
  show z_V M (z_tw (zm_G M) t w0 w1 w2 w3 w4 w5 w6 w7 w8 w9 w10 w11 w12 w13 w14 w15 w16 w17 w18 w19 w20 w21 w22 w23 w24 w25 w26 w27 w28 h) n 0 0 0 [(0, .ref t), (1, .int (nI k))] []
  refine z_aload_n hb dX3_cannotCut_0 rfl ?_
  refine z_iload_n hb dX3_cannotCut_1 rfl ?_
  refine z_call1 (b' := 0) (f' := 0) (rest := []) (av := [.ref t, .int (nI k)]) (z_siteV hb ho zc2 z_tw_o q2927 q2929 qs56 ⟨_, _, _, _, zk_X3_isStep⟩ zy_X3_isStep zl_X3_isStep dX3_cannotCut_2 : z_Site M _ _ _ _ _ ([.int (nI k)].reverse ++ .ref t :: []) [] _) zk_X3_isStep q104 hrm (m_X3_isStep (nI k) ht hw) (by omega) (by decide) (Nat.le_of_ble_eq_true rfl) (by omega) (by omega) ?_
  refine z_ifb_ne (tgt := 10) hb dX3_cannotCut_5 (by decide) (fun c_5 => ?_) (fun c_5 => ?_)
  · refine z_iload_n hb dX3_cannotCut_10 rfl ?_
    refine z_iconst (x := nI 1) hb dX3_cannotCut_11 (by decide) ?_
    refine z_iadd hb dX3_cannotCut_12 ?_
    refine z_toI (y := nI (k + 1)) (nI_add k 1) ?_
    refine z_istore_n (lv' := [(2, .int (nI (k + 1))), (0, .ref t), (1, .int (nI k))]) hb dX3_cannotCut_13 (by rw [hN]; decide) rfl ?_
    have lp_14 : ∀ (k9_14 : Nat) (j : Nat), S - j < k9_14 → (j ≤ S) → (tw_inpF w0 k j (S - j) = tw_inpF w0 k (k + 1) (S - (k + 1))) → z_V M (z_tw (zm_G M) t w0 w1 w2 w3 w4 w5 w6 w7 w8 w9 w10 w11 w12 w13 w14 w15 w16 w17 w18 w19 w20 w21 w22 w23 w24 w25 w26 w27 w28 h) n 0 0 14 [(2, .int (nI j)), (0, .ref t), (1, .int (nI k))] [] := by
      intro k9_14
      induction k9_14 with
      | zero => intro j hk9_14; exact absurd hk9_14 (Nat.not_lt_zero _)
      | succ k9_14 ih_14 =>
        intro j hk9_14 hj he
        refine z_iload_n hb dX3_cannotCut_14 rfl ?_
        refine z_aload_n hb dX3_cannotCut_15 rfl ?_
        refine z_get (k := 0) (C := RX3) (T := TX3) (N := 29) hb ho zc2 in_X3 (zf_RX3_7 _) dX3_cannotCut_16 z_tw_o (by decide) rfl ?_
        refine z_iconst (x := nI 3) hb dX3_cannotCut_19 (by decide) ?_
        refine z_iald (j := 3) hb dX3_cannotCut_20 z_tw_r0 rfl (by omega) (by omega) ?_
        refine z_toI (y := nI S) hS ?_
        refine z_icmp_geN (tgt := 47) hb dX3_cannotCut_21 (by decide) (by omega) (by omega) (fun c_21 => ?_) (fun c_21 => ?_)
        · refine z_iconst (x := nI 0) hb dX3_cannotCut_47 (by decide) ?_
          refine z_iret hb hr dX3_cannotCut_48 ?_
          rw [hQ]
          rw [show tw_cCut w0 S k = (0, none) by rw [tw_cCut, ← he, show S - j = 0 by omega]; rfl]; exact ⟨rfl, rfl, rfl⟩
        · refine z_aload_n hb dX3_cannotCut_24 rfl ?_
          refine z_iload_n hb dX3_cannotCut_25 rfl ?_
          refine z_iload_n hb dX3_cannotCut_26 rfl ?_
          refine z_call1 (b' := 0) (f' := 0) (rest := []) (av := [.ref t, .int (nI k), .int (nI j)]) (z_siteV hb ho zc2 z_tw_o q2955 q2957 qs60 ⟨_, _, _, _, zk_X3_isInput⟩ zy_X3_isInput zl_X3_isInput dX3_cannotCut_27 : z_Site M _ _ _ _ _ ([.int (nI k), .int (nI j)].reverse ++ .ref t :: []) [] _) zk_X3_isInput q104 hrm (m_X3_isInput k j ht (by omega)) (by omega) (by decide) (Nat.le_of_ble_eq_true rfl) (by omega) (by omega) ?_
          refine z_ifb_eq (tgt := 41) hb dX3_cannotCut_30 (by decide) (fun c_30 => ?_) (fun c_30 => ?_)
          · refine z_iinc (k0 := 0) (lv' := [(2, .int (nI (j + 1))), (0, .ref t), (1, .int (nI k))]) hb dX3_cannotCut_41 rfl (nI_1 j) (by rw [hN]; decide) rfl ?_
            refine z_goto (tgt := 14) hb dX3_cannotCut_44 (by decide) ?_
            refine z_lv [0, 1, 2] (lv' := [(2, .int (nI (j + 1))), (0, .ref t), (1, .int (nI k))]) rfl ?_
            exact ih_14 (j + 1) (by omega) (by omega) (by rw [← he, show S - j = (S - (j + 1)) + 1 by omega, tw_inpF, if_neg (by simp [c_30])])
          · refine z_aload_n hb dX3_cannotCut_33 rfl ?_
            refine z_iconst (x := nI 4) hb dX3_cannotCut_34 (by decide) ?_
            refine z_iload_n hb dX3_cannotCut_35 rfl ?_
            refine z_iconst (x := nI 2) hb dX3_cannotCut_36 (by decide) ?_
            refine z_call1 (b' := 0) (f' := 0) (rest := []) (av := [.ref t, .int (nI 4), .int (nI j), .int (nI 2)]) (z_siteV hb ho zc2 z_tw_o q2812 q2814 qs32 ⟨_, _, _, _, zk_X3_deny⟩ zy_X3_deny zl_X3_deny dX3_cannotCut_37 : z_Site M _ _ _ _ _ ([.int (nI 4), .int (nI j), .int (nI 2)].reverse ++ .ref t :: []) [] _) zk_X3_deny q104 hrm (m_X3_deny (nI 4) (nI j) (nI 2) ht) (by omega) (by decide) (Nat.le_of_ble_eq_true rfl) (by omega) (by omega) ?_
            refine z_iret hb hr dX3_cannotCut_40 ?_
            rw [hQ]
            rw [show tw_cCut w0 S k = (2, some (4, j)) by rw [tw_cCut, ← he, show S - j = (S - (j + 1)) + 1 by omega, tw_inpF, if_pos c_30]]; exact ⟨rfl, rfl, rfl⟩
    refine z_lv [0, 1, 2] (lv' := [(2, .int (nI (k + 1))), (0, .ref t), (1, .int (nI k))]) rfl ?_
    exact lp_14 _ (k + 1) (Nat.lt_succ_self _) (by omega) rfl
  · exact absurd (z_isS hkS hS8) (by simp [tw_isS, c_5])

set_option maxHeartbeats 1000000 in
theorem m_X3_cannotCut_no {l : Launch} {G : zG} {h : zH} {n : Nat} {t : Nat} {w0 : Nat → Int32} {w1 : Nat → Int32} {w2 : Nat → Int32} {w3 : Nat → Int32} {w4 : Nat → Int32} {w5 : Nat → Int64} {w6 : Nat → Int64} {w7 : Nat → Int64} {w8 : Nat → Int64} {w9 : Nat → Int64} {w10 : Nat → Int64} {w11 : Nat → Int64} {w12 : Int32} {w13 : Int32} {w14 : Int32} {w15 : Int32} {w16 : Int32} {w17 : Int32} {w18 : Bool} {w19 : Nat → Int32} {w20 : Int32} {w21 : Nat → Int32} {w22 : Nat → Int32} {w23 : Nat → Int32} {w24 : Int32} {w25 : Int32} {w26 : Int32} {w27 : Int32} {w28 : Bool} {R S D : Nat} {x : Int32}  (ht : z_n0 G ≤ t) (hw : z_ok w0 R S D) (hx : tw_isS S x = false) : z_C l G yX3_cannotCut 4 0 0 [.ref t, .int x] (z_tw G t w0 w1 w2 w3 w4 w5 w6 w7 w8 w9 w10 w11 w12 w13 w14 w15 w16 w17 w18 w19 w20 w21 w22 w23 w24 w25 w26 w27 w28 h) n (z_rv (.int (nI 1)) (z_tw G t w0 w1 w2 w3 w4 w5 w6 w7 w8 w9 w10 w11 w12 w13 w14 w15 w16 w17 w18 w19 w20 w21 w22 w23 w24 w25 w26 w27 w28 h) n) := by
  refine z_start zk_X3_cannotCut zpl_RX3 (Nat.le_of_ble_eq_true rfl) ?_
  intro hn0 M hl hG ho hb hN hr hm hH hrm hQ
  subst hl hG
  have ho : zm_o M = RX3 := ho
  obtain ⟨hR, hR4, hS, hS8, hD, hD6, hF⟩ := id hw
  show z_V M (z_tw (zm_G M) t w0 w1 w2 w3 w4 w5 w6 w7 w8 w9 w10 w11 w12 w13 w14 w15 w16 w17 w18 w19 w20 w21 w22 w23 w24 w25 w26 w27 w28 h) n 0 0 0 [(0, .ref t), (1, .int x)] []
  refine z_aload_n hb dX3_cannotCut_0 rfl ?_
  refine z_iload_n hb dX3_cannotCut_1 rfl ?_
  refine z_call1 (b' := 0) (f' := 0) (rest := []) (av := [.ref t, .int x]) (z_siteV hb ho zc2 z_tw_o q2927 q2929 qs56 ⟨_, _, _, _, zk_X3_isStep⟩ zy_X3_isStep zl_X3_isStep dX3_cannotCut_2 : z_Site M _ _ _ _ _ ([.int x].reverse ++ .ref t :: []) [] _) zk_X3_isStep q104 hrm (m_X3_isStep x ht hw) (by omega) (by decide) (Nat.le_of_ble_eq_true rfl) (by omega) (by omega) ?_
  refine z_ifb_ne (tgt := 10) hb dX3_cannotCut_5 (by decide) (fun c_5 => ?_) (fun c_5 => ?_)
  · exact absurd hx (by simp [tw_isS, c_5])
  · refine z_iconst (x := nI 1) hb dX3_cannotCut_8 (by decide) ?_
    refine z_iret hb hr dX3_cannotCut_9 ?_
    rw [hQ]
    exact ⟨rfl, rfl, rfl⟩

set_option maxHeartbeats 1000000 in
theorem m_X3_cannotRepair_no {l : Launch} {G : zG} {h : zH} {n : Nat} {t : Nat} {w0 : Nat → Int32} {w1 : Nat → Int32} {w2 : Nat → Int32} {w3 : Nat → Int32} {w4 : Nat → Int32} {w5 : Nat → Int64} {w6 : Nat → Int64} {w7 : Nat → Int64} {w8 : Nat → Int64} {w9 : Nat → Int64} {w10 : Nat → Int64} {w11 : Nat → Int64} {w12 : Int32} {w13 : Int32} {w14 : Int32} {w15 : Int32} {w16 : Int32} {w17 : Int32} {w18 : Bool} {w19 : Nat → Int32} {w20 : Int32} {w21 : Nat → Int32} {w22 : Nat → Int32} {w23 : Nat → Int32} {w24 : Int32} {w25 : Int32} {w26 : Int32} {w27 : Int32} {w28 : Bool} {R S D : Nat} {x : Int32}  (ht : z_n0 G ≤ t) (hw : z_ok w0 R S D) (hx : decide (nI 0 ≤ x ∧ x ≤ nI D) = false) : z_C l G yX3_cannotRepair 4 0 0 [.ref t, .int x] (z_tw G t w0 w1 w2 w3 w4 w5 w6 w7 w8 w9 w10 w11 w12 w13 w14 w15 w16 w17 w18 w19 w20 w21 w22 w23 w24 w25 w26 w27 w28 h) n (z_rv (.int (nI 1)) (z_tw G t w0 w1 w2 w3 w4 w5 w6 w7 w8 w9 w10 w11 w12 w13 w14 w15 w16 w17 w18 w19 w20 w21 w22 w23 w24 w25 w26 w27 w28 h) n) := by
  refine z_start zk_X3_cannotRepair zpl_RX3 (Nat.le_of_ble_eq_true rfl) ?_
  intro hn0 M hl hG ho hb hN hr hm hH hrm hQ
  subst hl hG
  have ho : zm_o M = RX3 := ho
  obtain ⟨hR, hR4, hS, hS8, hD, hD6, hF⟩ := id hw
  show z_V M (z_tw (zm_G M) t w0 w1 w2 w3 w4 w5 w6 w7 w8 w9 w10 w11 w12 w13 w14 w15 w16 w17 w18 w19 w20 w21 w22 w23 w24 w25 w26 w27 w28 h) n 0 0 0 [(0, .ref t), (1, .int x)] []
  refine z_aload_n hb dX3_cannotRepair_0 rfl ?_
  refine z_iload_n hb dX3_cannotRepair_1 rfl ?_
  refine z_call1 (b' := 0) (f' := 0) (rest := []) (av := [.ref t, .int x]) (z_siteV hb ho zc2 z_tw_o q2971 q2973 qs63 ⟨_, _, _, _, zk_X3_isDay⟩ zy_X3_isDay zl_X3_isDay dX3_cannotRepair_2 : z_Site M _ _ _ _ _ ([.int x].reverse ++ .ref t :: []) [] _) zk_X3_isDay q104 hrm (m_X3_isDay x ht hw) (by omega) (by decide) (Nat.le_of_ble_eq_true rfl) (by omega) (by omega) ?_
  refine z_ifb_ne (tgt := 10) hb dX3_cannotRepair_5 (by decide) (fun c_5 => ?_) (fun c_5 => ?_)
  · exact absurd hx (by simp [c_5])
  · refine z_iconst (x := nI 1) hb dX3_cannotRepair_8 (by decide) ?_
    refine z_iret hb hr dX3_cannotRepair_9 ?_
    rw [hQ]
    exact ⟨rfl, rfl, rfl⟩

set_option maxHeartbeats 1000000 in
theorem m_X3_cannotRepair {l : Launch} {G : zG} {h : zH} {n : Nat} {t : Nat} {w0 : Nat → Int32} {w1 : Nat → Int32} {w2 : Nat → Int32} {w3 : Nat → Int32} {w4 : Nat → Int32} {w5 : Nat → Int64} {w6 : Nat → Int64} {w7 : Nat → Int64} {w8 : Nat → Int64} {w9 : Nat → Int64} {w10 : Nat → Int64} {w11 : Nat → Int64} {w12 : Int32} {w13 : Int32} {w14 : Int32} {w15 : Int32} {w16 : Int32} {w17 : Int32} {w18 : Bool} {w19 : Nat → Int32} {w20 : Int32} {w21 : Nat → Int32} {w22 : Nat → Int32} {w23 : Nat → Int32} {w24 : Int32} {w25 : Int32} {w26 : Int32} {w27 : Int32} {w28 : Bool} {R S D : Nat} {d : Nat}  (ht : z_n0 G ≤ t) (hw : z_ok w0 R S D) (hd : d ≤ D) : z_C l G yX3_cannotRepair 4 0 0 [.ref t, .int (nI d)] (z_tw G t w0 w1 w2 w3 w4 w5 w6 w7 w8 w9 w10 w11 w12 w13 w14 w15 w16 w17 w18 w19 w20 w21 w22 w23 w24 w25 w26 w27 w28 h) n (z_rv (.int (nI ((tw_cRep w0 S d).1))) (z_tw G t w0 w1 w2 w3 w4 w5 w6 w7 w8 w9 w10 w11 w12 w13 w14 (tw_d15 (tw_cRep w0 S d).2 w15) (tw_d16 (tw_cRep w0 S d).2 w16) (tw_d17 (tw_cRep w0 S d).2 w17) w18 w19 w20 w21 w22 w23 w24 w25 w26 w27 w28 h) n) := by
  refine z_start zk_X3_cannotRepair zpl_RX3 (Nat.le_of_ble_eq_true rfl) ?_
  intro hn0 M hl hG ho hb hN hr hm hH hrm hQ
  subst hl hG
  have ho : zm_o M = RX3 := ho
  obtain ⟨hR, hR4, hS, hS8, hD, hD6, hF⟩ := id hw
  show z_V M (z_tw (zm_G M) t w0 w1 w2 w3 w4 w5 w6 w7 w8 w9 w10 w11 w12 w13 w14 w15 w16 w17 w18 w19 w20 w21 w22 w23 w24 w25 w26 w27 w28 h) n 0 0 0 [(0, .ref t), (1, .int (nI d))] []
  refine z_aload_n hb dX3_cannotRepair_0 rfl ?_
  refine z_iload_n hb dX3_cannotRepair_1 rfl ?_
  refine z_call1 (b' := 0) (f' := 0) (rest := []) (av := [.ref t, .int (nI d)]) (z_siteV hb ho zc2 z_tw_o q2971 q2973 qs63 ⟨_, _, _, _, zk_X3_isDay⟩ zy_X3_isDay zl_X3_isDay dX3_cannotRepair_2 : z_Site M _ _ _ _ _ ([.int (nI d)].reverse ++ .ref t :: []) [] _) zk_X3_isDay q104 hrm (m_X3_isDay (nI d) ht hw) (by omega) (by decide) (Nat.le_of_ble_eq_true rfl) (by omega) (by omega) ?_
  refine z_ifb_ne (tgt := 10) hb dX3_cannotRepair_5 (by decide) (fun c_5 => ?_) (fun c_5 => ?_)
  · refine z_iconst (x := nI 0) hb dX3_cannotRepair_10 (by decide) ?_
    refine z_istore_n (lv' := [(2, .int (nI 0)), (0, .ref t), (1, .int (nI d))]) hb dX3_cannotRepair_11 (by rw [hN]; decide) rfl ?_
    have lp_12 : ∀ (k9_12 : Nat) (e : Nat), d - e < k9_12 → (e ≤ d) → (tw_stF w0 S e (d - e) = tw_stF w0 S 0 d) → z_V M (z_tw (zm_G M) t w0 w1 w2 w3 w4 w5 w6 w7 w8 w9 w10 w11 w12 w13 w14 w15 w16 w17 w18 w19 w20 w21 w22 w23 w24 w25 w26 w27 w28 h) n 0 0 12 [(2, .int (nI e)), (0, .ref t), (1, .int (nI d))] [] := by
      intro k9_12
      induction k9_12 with
      | zero => intro e hk9_12; exact absurd hk9_12 (Nat.not_lt_zero _)
      | succ k9_12 ih_12 =>
        intro e hk9_12 he hf
        refine z_iload_n hb dX3_cannotRepair_12 rfl ?_
        refine z_iload_n hb dX3_cannotRepair_13 rfl ?_
        refine z_icmp_geN (tgt := 58) hb dX3_cannotRepair_14 (by decide) (by omega) (by omega) (fun c_14 => ?_) (fun c_14 => ?_)
        · refine z_iconst (x := nI 0) hb dX3_cannotRepair_58 (by decide) ?_
          refine z_iret hb hr dX3_cannotRepair_59 ?_
          rw [hQ]
          rw [show tw_cRep w0 S d = (0, none) by rw [tw_cRep, ← hf, show d - e = 0 by omega]; rfl]; exact ⟨rfl, rfl, rfl⟩
        · refine z_iconst (x := nI 0) hb dX3_cannotRepair_17 (by decide) ?_
          refine z_istore_n (lv' := [(3, .int (nI 0)), (2, .int (nI e)), (0, .ref t), (1, .int (nI d))]) hb dX3_cannotRepair_18 (by rw [hN]; decide) rfl ?_
          have lp_19 : ∀ (k9_19 : Nat) (k : Nat), S - k < k9_19 → (k ≤ S) → (tw_anyS w0 e k = false) → z_V M (z_tw (zm_G M) t w0 w1 w2 w3 w4 w5 w6 w7 w8 w9 w10 w11 w12 w13 w14 w15 w16 w17 w18 w19 w20 w21 w22 w23 w24 w25 w26 w27 w28 h) n 0 0 19 [(3, .int (nI k)), (2, .int (nI e)), (0, .ref t), (1, .int (nI d))] [] := by
            intro k9_19
            induction k9_19 with
            | zero => intro k hk9_19; exact absurd hk9_19 (Nat.not_lt_zero _)
            | succ k9_19 ih_19 =>
              intro k hk9_19 hk ha
              refine z_iload_n hb dX3_cannotRepair_19 rfl ?_
              refine z_aload_n hb dX3_cannotRepair_20 rfl ?_
              refine z_get (k := 0) (C := RX3) (T := TX3) (N := 29) hb ho zc2 in_X3 (zf_RX3_7 _) dX3_cannotRepair_21 z_tw_o (by decide) rfl ?_
              refine z_iconst (x := nI 3) hb dX3_cannotRepair_24 (by decide) ?_
              refine z_iald (j := 3) hb dX3_cannotRepair_25 z_tw_r0 rfl (by omega) (by omega) ?_
              refine z_toI (y := nI S) hS ?_
              refine z_icmp_geN (tgt := 52) hb dX3_cannotRepair_26 (by decide) (by omega) (by omega) (fun c_26 => ?_) (fun c_26 => ?_)
              · refine z_iinc (k0 := 1) (lv' := [(2, .int (nI (e + 1))), (3, .int (nI k)), (0, .ref t), (1, .int (nI d))]) hb dX3_cannotRepair_52 rfl (nI_1 e) (by rw [hN]; decide) rfl ?_
                refine z_goto (tgt := 12) hb dX3_cannotRepair_55 (by decide) ?_
                refine z_lv [0, 2, 3] (lv' := [(2, .int (nI (e + 1))), (0, .ref t), (1, .int (nI d))]) rfl ?_
                exact ih_12 (e + 1) (by omega) (by omega) (by rw [← hf, show d - e = (d - (e + 1)) + 1 by omega, tw_stF, if_neg (by rw [show S = k by omega, ha]; decide)])
              · refine z_aload_n hb dX3_cannotRepair_29 rfl ?_
                refine z_iload_n hb dX3_cannotRepair_30 rfl ?_
                refine z_iload_n hb dX3_cannotRepair_31 rfl ?_
                refine z_call1 (b' := 0) (f' := 0) (rest := []) (av := [.ref t, .int (nI k), .int (nI e)]) (z_siteV hb ho zc2 z_tw_o q2828 q2830 qs36 ⟨_, _, _, _, zk_X3_isStaleNow⟩ zy_X3_isStaleNow zl_X3_isStaleNow dX3_cannotRepair_32 : z_Site M _ _ _ _ _ ([.int (nI k), .int (nI e)].reverse ++ .ref t :: []) [] _) zk_X3_isStaleNow q104 hrm (m_X3_isStaleNow k e ht (by omega) (by omega)) (by omega) (by decide) (Nat.le_of_ble_eq_true rfl) (by omega) (by omega) ?_
                refine z_ifb_eq (tgt := 46) hb dX3_cannotRepair_35 (by decide) (fun c_35 => ?_) (fun c_35 => ?_)
                · refine z_iinc (k0 := 0) (lv' := [(3, .int (nI (k + 1))), (2, .int (nI e)), (0, .ref t), (1, .int (nI d))]) hb dX3_cannotRepair_46 rfl (nI_1 k) (by rw [hN]; decide) rfl ?_
                  refine z_goto (tgt := 19) hb dX3_cannotRepair_49 (by decide) ?_
                  refine z_lv [0, 1, 2, 3] (lv' := [(3, .int (nI (k + 1))), (2, .int (nI e)), (0, .ref t), (1, .int (nI d))]) rfl ?_
                  exact ih_19 (k + 1) (by omega) (by omega) (by rw [tw_anyS, ha, c_35]; rfl)
                · refine z_aload_n hb dX3_cannotRepair_38 rfl ?_
                  refine z_iconst (x := nI 3) hb dX3_cannotRepair_39 (by decide) ?_
                  refine z_iload_n hb dX3_cannotRepair_40 rfl ?_
                  refine z_iconst (x := nI 2) hb dX3_cannotRepair_41 (by decide) ?_
                  refine z_call1 (b' := 0) (f' := 0) (rest := []) (av := [.ref t, .int (nI 3), .int (nI e), .int (nI 2)]) (z_siteV hb ho zc2 z_tw_o q2812 q2814 qs32 ⟨_, _, _, _, zk_X3_deny⟩ zy_X3_deny zl_X3_deny dX3_cannotRepair_42 : z_Site M _ _ _ _ _ ([.int (nI 3), .int (nI e), .int (nI 2)].reverse ++ .ref t :: []) [] _) zk_X3_deny q104 hrm (m_X3_deny (nI 3) (nI e) (nI 2) ht) (by omega) (by decide) (Nat.le_of_ble_eq_true rfl) (by omega) (by omega) ?_
                  refine z_iret hb hr dX3_cannotRepair_45 ?_
                  rw [hQ]
                  rw [show tw_cRep w0 S d = (3 - 1, some (3, e)) by rw [tw_cRep, ← hf, show d - e = (d - (e + 1)) + 1 by omega, tw_stF, if_pos (tw_anyS_of c_35 (by omega))]]; exact ⟨rfl, rfl, rfl⟩
          refine z_lv [0, 1, 2, 3] (lv' := [(3, .int (nI 0)), (2, .int (nI e)), (0, .ref t), (1, .int (nI d))]) rfl ?_
          exact lp_19 _ 0 (Nat.lt_succ_self _) (Nat.zero_le _) rfl
    refine z_lv [0, 1, 2] (lv' := [(2, .int (nI 0)), (0, .ref t), (1, .int (nI d))]) rfl ?_
    exact lp_12 _ 0 (Nat.lt_succ_self _) (Nat.zero_le _) rfl
  · exact absurd (z_inN (Nat.zero_le d) hd (by omega)) (by simp [c_5])

