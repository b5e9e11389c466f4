theorem z_i2cN {q : Nat} (hq : q < 65536) : ((nI q).toUInt32 % 65536).toInt32 = nI q := by
  have h := (pk_charN hq).1
  have h2 := pk_nc (nI q)
  have : narrow .char (.int (nI q)) = .int ((nI q).toUInt32 % 65536).toInt32 := rfl
  rw [this] at h
  injection h
theorem z_inR {k n : Nat} (hk : k < n) (hn : n < 2 ^ 31) : decide (nI 0 ≤ nI k ∧ nI k ≤ nI n - nI 1) = true := by
  rw [pk_sub (by omega)]
  exact decide_eq_true ⟨(nI_leI (by omega) (by omega)).mpr (by omega), (nI_leI (by omega) (by omega)).mpr (by omega)⟩
/-- how many rows are ahead of row k -/
def tw_ah (w0 : Nat → Int32) (k : Nat) : Nat → Nat
  | 0 => 0
  | o + 1 => tw_ah w0 k o + (decide (w0 (16 + 4 * k + 3) < w0 (16 + 4 * o + 3)) || (decide (w0 (16 + 4 * o + 3) = w0 (16 + 4 * k + 3)) && decide (o < k))).toNat
theorem tw_ah_le (w0 : Nat → Int32) (k : Nat) : ∀ o, tw_ah w0 k o ≤ o
  | 0 => Nat.le_refl _
  | o + 1 => by
    have := tw_ah_le w0 k o
    have : ∀ c : Bool, c.toNat ≤ 1 := by decide
    rw [tw_ah]
    have := this (decide (w0 (16 + 4 * k + 3) < w0 (16 + 4 * o + 3)) || (decide (w0 (16 + 4 * o + 3) = w0 (16 + 4 * k + 3)) && decide (o < k)))
    omega
def tw_rk (w0 : Nat → Int32) (R : Nat) (x : Int32) (k : Nat) : Nat → Option Nat
  | 0 => none
  | d + 1 => if nI (tw_ah w0 k R) = x then some k else tw_rk w0 R x (k + 1) d
def tw_rv (w0 : Nat → Int32) (o : Option Nat) : Int32 := match o with
  | none => 0
  | some k => w0 (16 + 4 * k)
def tw_ask (S D : Nat) (x d c : Int32) : Nat := if tw_isS S x = false then 1 else if (decide (nI 0 ≤ d ∧ d ≤ nI D) && decide (nI 97 ≤ c ∧ c ≤ nI 101)) then 0 else 2
theorem tw_ask_le (S D : Nat) (x d c : Int32) : tw_ask S D x d c ≤ 2 := by
  unfold tw_ask
  split
  · decide
  · split <;> decide

set_option maxHeartbeats 1000000 in
theorem m_X3_today {l : Launch} {G : zG} {h : zH} {n : Nat} {t : Nat} {w0 : Nat → Int32} {w1 : Nat → Int32} {w2 : Nat → Int32} {w3 : Nat → Int32} {w4 : Nat → Int32} {w5 : Nat → Int64} {w6 : Nat → Int64} {w7 : Nat → Int64} {w8 : Nat → Int64} {w9 : Nat → Int64} {w10 : Nat → Int64} {w11 : Nat → Int64} {w12 : Int32} {w13 : Int32} {w14 : Int32} {w15 : Int32} {w16 : Int32} {w17 : Int32} {w18 : Bool} {w19 : Nat → Int32} {w20 : Int32} {w21 : Nat → Int32} {w22 : Nat → Int32} {w23 : Nat → Int32} {w24 : Int32} {w25 : Int32} {w26 : Int32} {w27 : Int32} {w28 : Bool} {R S D : Nat}   (ht : z_n0 G ≤ t) (hw : z_ok w0 R S D) : z_C l G yX3_today 2 0 0 [.ref t] (z_tw G t w0 w1 w2 w3 w4 w5 w6 w7 w8 w9 w10 w11 w12 w13 w14 w15 w16 w17 w18 w19 w20 w21 w22 w23 w24 w25 w26 w27 w28 h) n (z_rv (.int (nI D)) (z_tw G t w0 w1 w2 w3 w4 w5 w6 w7 w8 w9 w10 w11 (nI 0) w13 w14 w15 w16 w17 w18 w19 w20 w21 w22 w23 w24 w25 w26 w27 w28 h) n) := by
  refine z_start zk_X3_today zpl_RX3 (Nat.le_of_ble_eq_true rfl) ?_
  intro hn0 M hl hG ho hb hN hr hm hH hrm hQ
  subst hl hG
  have ho : zm_o M = RX3 := ho
  obtain ⟨hR, hR4, hS, hS8, hD, hD6, hF⟩ := id hw
  show z_V M (z_tw (zm_G M) t w0 w1 w2 w3 w4 w5 w6 w7 w8 w9 w10 w11 w12 w13 w14 w15 w16 w17 w18 w19 w20 w21 w22 w23 w24 w25 w26 w27 w28 h) n 0 0 0 [(0, .ref t)] []
  refine z_aload_n hb dX3_today_0 rfl ?_
  refine z_aload_n hb dX3_today_1 rfl ?_
  refine z_get (k := 0) (C := RX3) (T := TX3) (N := 29) hb ho zc2 in_X3 (zf_RX3_7 _) dX3_today_2 z_tw_o (by decide) rfl ?_
  refine z_iconst (x := nI 0) hb dX3_today_5 (by decide) ?_
  refine z_iald (j := 0) hb dX3_today_6 z_tw_r0 rfl (by omega) (by omega) ?_
  refine z_toI (y := nI D) hD ?_
  refine z_call1 (b' := 0) (f' := 0) (rest := []) (av := [.ref t, .int (nI D)]) (z_siteV hb ho zc2 z_tw_o q2983 q2985 qs65 ⟨_, _, _, _, zk_X3_plain⟩ zy_X3_plain zl_X3_plain dX3_today_7 : z_Site M _ _ _ _ _ ([.int (nI D)].reverse ++ .ref t :: []) [] _) zk_X3_plain q104 hrm (m_X3_plain (nI D) ht) (by omega) (by decide) (Nat.le_of_ble_eq_true rfl) (by omega) (by omega) ?_
  refine z_iret hb hr dX3_today_10 ?_
  rw [hQ]
  exact ⟨rfl, rfl, rfl⟩

set_option maxHeartbeats 1000000 in
theorem m_X3_rows {l : Launch} {G : zG} {h : zH} {n : Nat} {t : Nat} {w0 : Nat → Int32} {w1 : Nat → Int32} {w2 : Nat → Int32} {w3 : Nat → Int32} {w4 : Nat → Int32} {w5 : Nat → Int64} {w6 : Nat → Int64} {w7 : Nat → Int64} {w8 : Nat → Int64} {w9 : Nat → Int64} {w10 : Nat → Int64} {w11 : Nat → Int64} {w12 : Int32} {w13 : Int32} {w14 : Int32} {w15 : Int32} {w16 : Int32} {w17 : Int32} {w18 : Bool} {w19 : Nat → Int32} {w20 : Int32} {w21 : Nat → Int32} {w22 : Nat → Int32} {w23 : Nat → Int32} {w24 : Int32} {w25 : Int32} {w26 : Int32} {w27 : Int32} {w28 : Bool} {R S D : Nat}   (ht : z_n0 G ≤ t) (hw : z_ok w0 R S D) : z_C l G yX3_rows 2 0 0 [.ref t] (z_tw G t w0 w1 w2 w3 w4 w5 w6 w7 w8 w9 w10 w11 w12 w13 w14 w15 w16 w17 w18 w19 w20 w21 w22 w23 w24 w25 w26 w27 w28 h) n (z_rv (.int (nI R)) (z_tw G t w0 w1 w2 w3 w4 w5 w6 w7 w8 w9 w10 w11 (nI 0) w13 w14 w15 w16 w17 w18 w19 w20 w21 w22 w23 w24 w25 w26 w27 w28 h) n) := by
  refine z_start zk_X3_rows zpl_RX3 (Nat.le_of_ble_eq_true rfl) ?_
  intro hn0 M hl hG ho hb hN hr hm hH hrm hQ
  subst hl hG
  have ho : zm_o M = RX3 := ho
  obtain ⟨hR, hR4, hS, hS8, hD, hD6, hF⟩ := id hw
  show z_V M (z_tw (zm_G M) t w0 w1 w2 w3 w4 w5 w6 w7 w8 w9 w10 w11 w12 w13 w14 w15 w16 w17 w18 w19 w20 w21 w22 w23 w24 w25 w26 w27 w28 h) n 0 0 0 [(0, .ref t)] []
  refine z_aload_n hb dX3_rows_0 rfl ?_
  refine z_aload_n hb dX3_rows_1 rfl ?_
  refine z_get (k := 0) (C := RX3) (T := TX3) (N := 29) hb ho zc2 in_X3 (zf_RX3_7 _) dX3_rows_2 z_tw_o (by decide) rfl ?_
  refine z_iconst (x := nI 1) hb dX3_rows_5 (by decide) ?_
  refine z_iald (j := 1) hb dX3_rows_6 z_tw_r0 rfl (by omega) (by omega) ?_
  refine z_toI (y := nI R) hR ?_
  refine z_call1 (b' := 0) (f' := 0) (rest := []) (av := [.ref t, .int (nI R)]) (z_siteV hb ho zc2 z_tw_o q2983 q2985 qs65 ⟨_, _, _, _, zk_X3_plain⟩ zy_X3_plain zl_X3_plain dX3_rows_7 : z_Site M _ _ _ _ _ ([.int (nI R)].reverse ++ .ref t :: []) [] _) zk_X3_plain q104 hrm (m_X3_plain (nI R) ht) (by omega) (by decide) (Nat.le_of_ble_eq_true rfl) (by omega) (by omega) ?_
  refine z_iret hb hr dX3_rows_10 ?_
  rw [hQ]
  exact ⟨rfl, rfl, rfl⟩

set_option maxHeartbeats 1000000 in
theorem m_X3_steps {l : Launch} {G : zG} {h : zH} {n : Nat} {t : Nat} {w0 : Nat → Int32} {w1 : Nat → Int32} {w2 : Nat → Int32} {w3 : Nat → Int32} {w4 : Nat → Int32} {w5 : Nat → Int64} {w6 : Nat → Int64} {w7 : Nat → Int64} {w8 : Nat → Int64} {w9 : Nat → Int64} {w10 : Nat → Int64} {w11 : Nat → Int64} {w12 : Int32} {w13 : Int32} {w14 : Int32} {w15 : Int32} {w16 : Int32} {w17 : Int32} {w18 : Bool} {w19 : Nat → Int32} {w20 : Int32} {w21 : Nat → Int32} {w22 : Nat → Int32} {w23 : Nat → Int32} {w24 : Int32} {w25 : Int32} {w26 : Int32} {w27 : Int32} {w28 : Bool} {R S D : Nat}   (ht : z_n0 G ≤ t) (hw : z_ok w0 R S D) : z_C l G yX3_steps 2 0 0 [.ref t] (z_tw G t w0 w1 w2 w3 w4 w5 w6 w7 w8 w9 w10 w11 w12 w13 w14 w15 w16 w17 w18 w19 w20 w21 w22 w23 w24 w25 w26 w27 w28 h) n (z_rv (.int (nI S)) (z_tw G t w0 w1 w2 w3 w4 w5 w6 w7 w8 w9 w10 w11 (nI 0) w13 w14 w15 w16 w17 w18 w19 w20 w21 w22 w23 w24 w25 w26 w27 w28 h) n) := by
  refine z_start zk_X3_steps zpl_RX3 (Nat.le_of_ble_eq_true rfl) ?_
  intro hn0 M hl hG ho hb hN hr hm hH hrm hQ
  subst hl hG
  have ho : zm_o M = RX3 := ho
  obtain ⟨hR, hR4, hS, hS8, hD, hD6, hF⟩ := id hw
  show z_V M (z_tw (zm_G M) t w0 w1 w2 w3 w4 w5 w6 w7 w8 w9 w10 w11 w12 w13 w14 w15 w16 w17 w18 w19 w20 w21 w22 w23 w24 w25 w26 w27 w28 h) n 0 0 0 [(0, .ref t)] []
  refine z_aload_n hb dX3_steps_0 rfl ?_
  refine z_aload_n hb dX3_steps_1 rfl ?_
  refine z_get (k := 0) (C := RX3) (T := TX3) (N := 29) hb ho zc2 in_X3 (zf_RX3_7 _) dX3_steps_2 z_tw_o (by decide) rfl ?_
  refine z_iconst (x := nI 3) hb dX3_steps_5 (by decide) ?_
  refine z_iald (j := 3) hb dX3_steps_6 z_tw_r0 rfl (by omega) (by omega) ?_
  refine z_toI (y := nI S) hS ?_
  refine z_call1 (b' := 0) (f' := 0) (rest := []) (av := [.ref t, .int (nI S)]) (z_siteV hb ho zc2 z_tw_o q2983 q2985 qs65 ⟨_, _, _, _, zk_X3_plain⟩ zy_X3_plain zl_X3_plain dX3_steps_7 : z_Site M _ _ _ _ _ ([.int (nI S)].reverse ++ .ref t :: []) [] _) zk_X3_plain q104 hrm (m_X3_plain (nI S) ht) (by omega) (by decide) (Nat.le_of_ble_eq_true rfl) (by omega) (by omega) ?_
  refine z_iret hb hr dX3_steps_10 ?_
  rw [hQ]
  exact ⟨rfl, rfl, rfl⟩

set_option maxHeartbeats 1000000 in
theorem m_X3_added {l : Launch} {G : zG} {h : zH} {n : Nat} {t : Nat} {w0 : Nat → Int32} {w1 : Nat → Int32} {w2 : Nat → Int32} {w3 : Nat → Int32} {w4 : Nat → Int32} {w5 : Nat → Int64} {w6 : Nat → Int64} {w7 : Nat → Int64} {w8 : Nat → Int64} {w9 : Nat → Int64} {w10 : Nat → Int64} {w11 : Nat → Int64} {w12 : Int32} {w13 : Int32} {w14 : Int32} {w15 : Int32} {w16 : Int32} {w17 : Int32} {w18 : Bool} {w19 : Nat → Int32} {w20 : Int32} {w21 : Nat → Int32} {w22 : Nat → Int32} {w23 : Nat → Int32} {w24 : Int32} {w25 : Int32} {w26 : Int32} {w27 : Int32} {w28 : Bool}   (ht : z_n0 G ≤ t) : z_C l G yX3_added 2 0 0 [.ref t] (z_tw G t w0 w1 w2 w3 w4 w5 w6 w7 w8 w9 w10 w11 w12 w13 w14 w15 w16 w17 w18 w19 w20 w21 w22 w23 w24 w25 w26 w27 w28 h) n (z_rv (.int (w0 2)) (z_tw G t w0 w1 w2 w3 w4 w5 w6 w7 w8 w9 w10 w11 (nI 0) w13 w14 w15 w16 w17 w18 w19 w20 w21 w22 w23 w24 w25 w26 w27 w28 h) n) := by
  refine z_start zk_X3_added zpl_RX3 (Nat.le_of_ble_eq_true rfl) ?_
  intro hn0 M hl hG ho hb hN hr hm hH hrm hQ
  subst hl hG
  have ho : zm_o M = RX3 := ho
  show z_V M (z_tw (zm_G M) t w0 w1 w2 w3 w4 w5 w6 w7 w8 w9 w10 w11 w12 w13 w14 w15 w16 w17 w18 w19 w20 w21 w22 w23 w24 w25 w26 w27 w28 h) n 0 0 0 [(0, .ref t)] []
  refine z_aload_n hb dX3_added_0 rfl ?_
  refine z_aload_n hb dX3_added_1 rfl ?_
  refine z_get (k := 0) (C := RX3) (T := TX3) (N := 29) hb ho zc2 in_X3 (zf_RX3_7 _) dX3_added_2 z_tw_o (by decide) rfl ?_
  refine z_iconst (x := nI 2) hb dX3_added_5 (by decide) ?_
  refine z_iald (j := 2) hb dX3_added_6 z_tw_r0 rfl (by omega) (by omega) ?_
  refine z_call1 (b' := 0) (f' := 0) (rest := []) (av := [.ref t, .int (w0 2)]) (z_siteV hb ho zc2 z_tw_o q2983 q2985 qs65 ⟨_, _, _, _, zk_X3_plain⟩ zy_X3_plain zl_X3_plain dX3_added_7 : z_Site M _ _ _ _ _ ([.int (w0 2)].reverse ++ .ref t :: []) [] _) zk_X3_plain q104 hrm (m_X3_plain (w0 2) ht) (by omega) (by decide) (Nat.le_of_ble_eq_true rfl) (by omega) (by omega) ?_
  refine z_iret hb hr dX3_added_10 ?_
  rw [hQ]
  exact ⟨rfl, rfl, rfl⟩

set_option maxHeartbeats 1000000 in
theorem m_X3_removed {l : Launch} {G : zG} {h : zH} {n : Nat} {t : Nat} {w0 : Nat → Int32} {w1 : Nat → Int32} {w2 : Nat → Int32} {w3 : Nat → Int32} {w4 : Nat → Int32} {w5 : Nat → Int64} {w6 : Nat → Int64} {w7 : Nat → Int64} {w8 : Nat → Int64} {w9 : Nat → Int64} {w10 : Nat → Int64} {w11 : Nat → Int64} {w12 : Int32} {w13 : Int32} {w14 : Int32} {w15 : Int32} {w16 : Int32} {w17 : Int32} {w18 : Bool} {w19 : Nat → Int32} {w20 : Int32} {w21 : Nat → Int32} {w22 : Nat → Int32} {w23 : Nat → Int32} {w24 : Int32} {w25 : Int32} {w26 : Int32} {w27 : Int32} {w28 : Bool}   (ht : z_n0 G ≤ t) : z_C l G yX3_removed 2 0 0 [.ref t] (z_tw G t w0 w1 w2 w3 w4 w5 w6 w7 w8 w9 w10 w11 w12 w13 w14 w15 w16 w17 w18 w19 w20 w21 w22 w23 w24 w25 w26 w27 w28 h) n (z_rv (.int (w0 4)) (z_tw G t w0 w1 w2 w3 w4 w5 w6 w7 w8 w9 w10 w11 (nI 0) w13 w14 w15 w16 w17 w18 w19 w20 w21 w22 w23 w24 w25 w26 w27 w28 h) n) := by
  refine z_start zk_X3_removed zpl_RX3 (Nat.le_of_ble_eq_true rfl) ?_
  intro hn0 M hl hG ho hb hN hr hm hH hrm hQ
  subst hl hG
  have ho : zm_o M = RX3 := ho
  show z_V M (z_tw (zm_G M) t w0 w1 w2 w3 w4 w5 w6 w7 w8 w9 w10 w11 w12 w13 w14 w15 w16 w17 w18 w19 w20 w21 w22 w23 w24 w25 w26 w27 w28 h) n 0 0 0 [(0, .ref t)] []
  refine z_aload_n hb dX3_removed_0 rfl ?_
  refine z_aload_n hb dX3_removed_1 rfl ?_
  refine z_get (k := 0) (C := RX3) (T := TX3) (N := 29) hb ho zc2 in_X3 (zf_RX3_7 _) dX3_removed_2 z_tw_o (by decide) rfl ?_
  refine z_iconst (x := nI 4) hb dX3_removed_5 (by decide) ?_
  refine z_iald (j := 4) hb dX3_removed_6 z_tw_r0 rfl (by omega) (by omega) ?_
  refine z_call1 (b' := 0) (f' := 0) (rest := []) (av := [.ref t, .int (w0 4)]) (z_siteV hb ho zc2 z_tw_o q2983 q2985 qs65 ⟨_, _, _, _, zk_X3_plain⟩ zy_X3_plain zl_X3_plain dX3_removed_7 : z_Site M _ _ _ _ _ ([.int (w0 4)].reverse ++ .ref t :: []) [] _) zk_X3_plain q104 hrm (m_X3_plain (w0 4) ht) (by omega) (by decide) (Nat.le_of_ble_eq_true rfl) (by omega) (by omega) ?_
  refine z_iret hb hr dX3_removed_10 ?_
  rw [hQ]
  exact ⟨rfl, rfl, rfl⟩

set_option maxHeartbeats 1000000 in
theorem m_X3_late {l : Launch} {G : zG} {h : zH} {n : Nat} {t : Nat} {w0 : Nat → Int32} {w1 : Nat → Int32} {w2 : Nat → Int32} {w3 : Nat → Int32} {w4 : Nat → Int32} {w5 : Nat → Int64} {w6 : Nat → Int64} {w7 : Nat → Int64} {w8 : Nat → Int64} {w9 : Nat → Int64} {w10 : Nat → Int64} {w11 : Nat → Int64} {w12 : Int32} {w13 : Int32} {w14 : Int32} {w15 : Int32} {w16 : Int32} {w17 : Int32} {w18 : Bool} {w19 : Nat → Int32} {w20 : Int32} {w21 : Nat → Int32} {w22 : Nat → Int32} {w23 : Nat → Int32} {w24 : Int32} {w25 : Int32} {w26 : Int32} {w27 : Int32} {w28 : Bool}   (ht : z_n0 G ≤ t) : z_C l G yX3_late 2 0 0 [.ref t] (z_tw G t w0 w1 w2 w3 w4 w5 w6 w7 w8 w9 w10 w11 w12 w13 w14 w15 w16 w17 w18 w19 w20 w21 w22 w23 w24 w25 w26 w27 w28 h) n (z_rv (.int (w0 5)) (z_tw G t w0 w1 w2 w3 w4 w5 w6 w7 w8 w9 w10 w11 (nI 0) w13 w14 w15 w16 w17 w18 w19 w20 w21 w22 w23 w24 w25 w26 w27 w28 h) n) := by
  refine z_start zk_X3_late zpl_RX3 (Nat.le_of_ble_eq_true rfl) ?_
  intro hn0 M hl hG ho hb hN hr hm hH hrm hQ
  subst hl hG
  have ho : zm_o M = RX3 := ho
  show z_V M (z_tw (zm_G M) t w0 w1 w2 w3 w4 w5 w6 w7 w8 w9 w10 w11 w12 w13 w14 w15 w16 w17 w18 w19 w20 w21 w22 w23 w24 w25 w26 w27 w28 h) n 0 0 0 [(0, .ref t)] []
  refine z_aload_n hb dX3_late_0 rfl ?_
  refine z_aload_n hb dX3_late_1 rfl ?_
  refine z_get (k := 0) (C := RX3) (T := TX3) (N := 29) hb ho zc2 in_X3 (zf_RX3_7 _) dX3_late_2 z_tw_o (by decide) rfl ?_
  refine z_iconst (x := nI 5) hb dX3_late_5 (by decide) ?_
  refine z_iald (j := 5) hb dX3_late_6 z_tw_r0 rfl (by omega) (by omega) ?_
  refine z_call1 (b' := 0) (f' := 0) (rest := []) (av := [.ref t, .int (w0 5)]) (z_siteV hb ho zc2 z_tw_o q2983 q2985 qs65 ⟨_, _, _, _, zk_X3_plain⟩ zy_X3_plain zl_X3_plain dX3_late_7 : z_Site M _ _ _ _ _ ([.int (w0 5)].reverse ++ .ref t :: []) [] _) zk_X3_plain q104 hrm (m_X3_plain (w0 5) ht) (by omega) (by decide) (Nat.le_of_ble_eq_true rfl) (by omega) (by omega) ?_
  refine z_iret hb hr dX3_late_10 ?_
  rw [hQ]
  exact ⟨rfl, rfl, rfl⟩

set_option maxHeartbeats 1000000 in
theorem m_X3_repaired {l : Launch} {G : zG} {h : zH} {n : Nat} {t : Nat} {w0 : Nat → Int32} {w1 : Nat → Int32} {w2 : Nat → Int32} {w3 : Nat → Int32} {w4 : Nat → Int32} {w5 : Nat → Int64} {w6 : Nat → Int64} {w7 : Nat → Int64} {w8 : Nat → Int64} {w9 : Nat → Int64} {w10 : Nat → Int64} {w11 : Nat → Int64} {w12 : Int32} {w13 : Int32} {w14 : Int32} {w15 : Int32} {w16 : Int32} {w17 : Int32} {w18 : Bool} {w19 : Nat → Int32} {w20 : Int32} {w21 : Nat → Int32} {w22 : Nat → Int32} {w23 : Nat → Int32} {w24 : Int32} {w25 : Int32} {w26 : Int32} {w27 : Int32} {w28 : Bool}   (ht : z_n0 G ≤ t) : z_C l G yX3_repaired 2 0 0 [.ref t] (z_tw G t w0 w1 w2 w3 w4 w5 w6 w7 w8 w9 w10 w11 w12 w13 w14 w15 w16 w17 w18 w19 w20 w21 w22 w23 w24 w25 w26 w27 w28 h) n (z_rv (.int (w0 6)) (z_tw G t w0 w1 w2 w3 w4 w5 w6 w7 w8 w9 w10 w11 (nI 0) w13 w14 w15 w16 w17 w18 w19 w20 w21 w22 w23 w24 w25 w26 w27 w28 h) n) := by
  refine z_start zk_X3_repaired zpl_RX3 (Nat.le_of_ble_eq_true rfl) ?_
  intro hn0 M hl hG ho hb hN hr hm hH hrm hQ
  subst hl hG
  have ho : zm_o M = RX3 := ho
  show z_V M (z_tw (zm_G M) t w0 w1 w2 w3 w4 w5 w6 w7 w8 w9 w10 w11 w12 w13 w14 w15 w16 w17 w18 w19 w20 w21 w22 w23 w24 w25 w26 w27 w28 h) n 0 0 0 [(0, .ref t)] []
  refine z_aload_n hb dX3_repaired_0 rfl ?_
  refine z_aload_n hb dX3_repaired_1 rfl ?_
  refine z_get (k := 0) (C := RX3) (T := TX3) (N := 29) hb ho zc2 in_X3 (zf_RX3_7 _) dX3_repaired_2 z_tw_o (by decide) rfl ?_
  refine z_bipush (x := nI 6) hb dX3_repaired_5 (by decide) ?_
  refine z_iald (j := 6) hb dX3_repaired_7 z_tw_r0 rfl (by omega) (by omega) ?_
  refine z_call1 (b' := 0) (f' := 0) (rest := []) (av := [.ref t, .int (w0 6)]) (z_siteV hb ho zc2 z_tw_o q2983 q2985 qs65 ⟨_, _, _, _, zk_X3_plain⟩ zy_X3_plain zl_X3_plain dX3_repaired_8 : z_Site M _ _ _ _ _ ([.int (w0 6)].reverse ++ .ref t :: []) [] _) zk_X3_plain q104 hrm (m_X3_plain (w0 6) ht) (by omega) (by decide) (Nat.le_of_ble_eq_true rfl) (by omega) (by omega) ?_
  refine z_iret hb hr dX3_repaired_11 ?_
  rw [hQ]
  exact ⟨rfl, rfl, rfl⟩

set_option maxHeartbeats 1000000 in
theorem m_X3_undoCount {l : Launch} {G : zG} {h : zH} {n : Nat} {t : Nat} {w0 : Nat → Int32} {w1 : Nat → Int32} {w2 : Nat → Int32} {w3 : Nat → Int32} {w4 : Nat → Int32} {w5 : Nat → Int64} {w6 : Nat → Int64} {w7 : Nat → Int64} {w8 : Nat → Int64} {w9 : Nat → Int64} {w10 : Nat → Int64} {w11 : Nat → Int64} {w12 : Int32} {w13 : Int32} {w14 : Int32} {w15 : Int32} {w16 : Int32} {w17 : Int32} {w18 : Bool} {w19 : Nat → Int32} {w20 : Int32} {w21 : Nat → Int32} {w22 : Nat → Int32} {w23 : Nat → Int32} {w24 : Int32} {w25 : Int32} {w26 : Int32} {w27 : Int32} {w28 : Bool}   (ht : z_n0 G ≤ t) : z_C l G yX3_undoCount 2 0 0 [.ref t] (z_tw G t w0 w1 w2 w3 w4 w5 w6 w7 w8 w9 w10 w11 w12 w13 w14 w15 w16 w17 w18 w19 w20 w21 w22 w23 w24 w25 w26 w27 w28 h) n (z_rv (.int w13) (z_tw G t w0 w1 w2 w3 w4 w5 w6 w7 w8 w9 w10 w11 (nI 0) w13 w14 w15 w16 w17 w18 w19 w20 w21 w22 w23 w24 w25 w26 w27 w28 h) n) := by
  refine z_start zk_X3_undoCount zpl_RX3 (Nat.le_of_ble_eq_true rfl) ?_
  intro hn0 M hl hG ho hb hN hr hm hH hrm hQ
  subst hl hG
  have ho : zm_o M = RX3 := ho
  show z_V M (z_tw (zm_G M) t w0 w1 w2 w3 w4 w5 w6 w7 w8 w9 w10 w11 w12 w13 w14 w15 w16 w17 w18 w19 w20 w21 w22 w23 w24 w25 w26 w27 w28 h) n 0 0 0 [(0, .ref t)] []
  refine z_aload_n hb dX3_undoCount_0 rfl ?_
  refine z_aload_n hb dX3_undoCount_1 rfl ?_
  refine z_get (k := 13) (C := RX3) (T := TX3) (N := 29) hb ho zc2 in_X3 (zf_RX3_51 _) dX3_undoCount_2 z_tw_o (by decide) rfl ?_
  refine z_call1 (b' := 0) (f' := 0) (rest := []) (av := [.ref t, .int w13]) (z_siteV hb ho zc2 z_tw_o q2983 q2985 qs65 ⟨_, _, _, _, zk_X3_plain⟩ zy_X3_plain zl_X3_plain dX3_undoCount_5 : z_Site M _ _ _ _ _ ([.int w13].reverse ++ .ref t :: []) [] _) zk_X3_plain q104 hrm (m_X3_plain w13 ht) (by omega) (by decide) (Nat.le_of_ble_eq_true rfl) (by omega) (by omega) ?_
  refine z_iret hb hr dX3_undoCount_8 ?_
  rw [hQ]
  exact ⟨rfl, rfl, rfl⟩

set_option maxHeartbeats 1000000 in
theorem m_X3_rowAt_no {l : Launch} {G : zG} {h : zH} {n : Nat} {t : Nat} {w0 : Nat → Int32} {w1 : Nat → Int32} {w2 : Nat → Int32} {w3 : Nat → Int32} {w4 : Nat → Int32} {w5 : Nat → Int64} {w6 : Nat → Int64} {w7 : Nat → Int64} {w8 : Nat → Int64} {w9 : Nat → Int64} {w10 : Nat → Int64} {w11 : Nat → Int64} {w12 : Int32} {w13 : Int32} {w14 : Int32} {w15 : Int32} {w16 : Int32} {w17 : Int32} {w18 : Bool} {w19 : Nat → Int32} {w20 : Int32} {w21 : Nat → Int32} {w22 : Nat → Int32} {w23 : Nat → Int32} {w24 : Int32} {w25 : Int32} {w26 : Int32} {w27 : Int32} {w28 : Bool} {R S D : Nat} {x : Int32}  (ht : z_n0 G ≤ t) (hw : z_ok w0 R S D) (hx : decide (nI 0 ≤ x ∧ x ≤ nI R - nI 1) = false) : z_C l G yX3_rowAt 2 0 0 [.ref t, .int x] (z_tw G t w0 w1 w2 w3 w4 w5 w6 w7 w8 w9 w10 w11 w12 w13 w14 w15 w16 w17 w18 w19 w20 w21 w22 w23 w24 w25 w26 w27 w28 h) n (z_rv (.int (nI 0)) (z_tw G t w0 w1 w2 w3 w4 w5 w6 w7 w8 w9 w10 w11 (nI 1) w13 w14 w15 w16 w17 w18 w19 w20 w21 w22 w23 w24 w25 w26 w27 w28 h) n) := by
  refine z_start zk_X3_rowAt zpl_RX3 (Nat.le_of_ble_eq_true rfl) ?_
  intro hn0 M hl hG ho hb hN hr hm hH hrm hQ
  subst hl hG
  have ho : zm_o M = RX3 := ho
  obtain ⟨hR, hR4, hS, hS8, hD, hD6, hF⟩ := id hw
  show z_V M (z_tw (zm_G M) t w0 w1 w2 w3 w4 w5 w6 w7 w8 w9 w10 w11 w12 w13 w14 w15 w16 w17 w18 w19 w20 w21 w22 w23 w24 w25 w26 w27 w28 h) n 0 0 0 [(0, .ref t), (1, .int x)] []
  refine z_aload_n hb dX3_rowAt_0 rfl ?_
  refine z_iload_n hb dX3_rowAt_1 rfl ?_
  refine z_iconst (x := nI 0) hb dX3_rowAt_2 (by decide) ?_
  refine z_aload_n hb dX3_rowAt_3 rfl ?_
  refine z_get (k := 0) (C := RX3) (T := TX3) (N := 29) hb ho zc2 in_X3 (zf_RX3_7 _) dX3_rowAt_4 z_tw_o (by decide) rfl ?_
  refine z_iconst (x := nI 1) hb dX3_rowAt_7 (by decide) ?_
  refine z_iald (j := 1) hb dX3_rowAt_8 z_tw_r0 rfl (by omega) (by omega) ?_
  refine z_toI (y := nI R) hR ?_
  refine z_iconst (x := nI 1) hb dX3_rowAt_9 (by decide) ?_
  refine z_isub hb dX3_rowAt_10 ?_
  refine z_call1 (b' := 0) (f' := 0) (rest := [.ref t]) (av := [.int x, .int (nI 0), .int ((nI R) - (nI 1))]) (z_siteS hb ho q2809 q2810 q104 ⟨_, _, _, _, zk_X3_in⟩ zy_X3_in zl_X3_in dX3_rowAt_11 : z_Site M _ _ _ _ _ ([.int x, .int (nI 0), .int ((nI R) - (nI 1))].reverse ++ [.ref t]) [.ref t] _) zk_X3_in q104 hrm (m_X3_in x (nI 0) ((nI R) - (nI 1)) ht) (by omega) (by decide) (Nat.le_of_ble_eq_true rfl) (by omega) (by omega) ?_
  refine z_call1 (b' := 0) (f' := 0) (rest := []) (av := [.ref t, .int (z_b (decide ((nI 0) ≤ x ∧ x ≤ ((nI R) - (nI 1)))))]) (z_siteV hb ho zc2 z_tw_o q2995 q2997 qs66 ⟨_, _, _, _, zk_X3_checked⟩ zy_X3_checked zl_X3_checked dX3_rowAt_14 : z_Site M _ _ _ _ _ ([.int (z_b (decide ((nI 0) ≤ x ∧ x ≤ ((nI R) - (nI 1)))))].reverse ++ .ref t :: []) [] _) zk_X3_checked q104 hrm (m_X3_checked (decide ((nI 0) ≤ x ∧ x ≤ ((nI R) - (nI 1)))) ht) (by omega) (by decide) (Nat.le_of_ble_eq_true rfl) (by omega) (by omega) ?_
  refine z_ifb_le (tgt := 24) hb dX3_rowAt_17 (by decide) (fun c_17 => ?_) (fun c_17 => ?_)
  · rw [hx] at c_17; exact absurd c_17 (by decide)
  · refine z_iconst (x := nI 0) hb dX3_rowAt_20 (by decide) ?_
    refine z_goto (tgt := 30) hb dX3_rowAt_21 (by decide) ?_
    refine z_iret hb hr dX3_rowAt_30 ?_
    rw [hQ]
    rw [hx]; exact ⟨rfl, rfl, rfl⟩

set_option maxHeartbeats 1000000 in
theorem m_X3_rowAt_ok {l : Launch} {G : zG} {h : zH} {n : Nat} {t : Nat} {w0 : Nat → Int32} {w1 : Nat → Int32} {w2 : Nat → Int32} {w3 : Nat → Int32} {w4 : Nat → Int32} {w5 : Nat → Int64} {w6 : Nat → Int64} {w7 : Nat → Int64} {w8 : Nat → Int64} {w9 : Nat → Int64} {w10 : Nat → Int64} {w11 : Nat → Int64} {w12 : Int32} {w13 : Int32} {w14 : Int32} {w15 : Int32} {w16 : Int32} {w17 : Int32} {w18 : Bool} {w19 : Nat → Int32} {w20 : Int32} {w21 : Nat → Int32} {w22 : Nat → Int32} {w23 : Nat → Int32} {w24 : Int32} {w25 : Int32} {w26 : Int32} {w27 : Int32} {w28 : Bool} {R S D : Nat} {p : Nat}  (ht : z_n0 G ≤ t) (hw : z_ok w0 R S D) (hp : p < R) : z_C l G yX3_rowAt 2 0 0 [.ref t, .int (nI p)] (z_tw G t w0 w1 w2 w3 w4 w5 w6 w7 w8 w9 w10 w11 w12 w13 w14 w15 w16 w17 w18 w19 w20 w21 w22 w23 w24 w25 w26 w27 w28 h) n (z_rv (.int (w0 (16 + 4 * p))) (z_tw G t w0 w1 w2 w3 w4 w5 w6 w7 w8 w9 w10 w11 (nI 0) w13 w14 w15 w16 w17 w18 w19 w20 w21 w22 w23 w24 w25 w26 w27 w28 h) n) := by
  refine z_start zk_X3_rowAt zpl_RX3 (Nat.le_of_ble_eq_true rfl) ?_
  intro hn0 M hl hG ho hb hN hr hm hH hrm hQ
  subst hl hG
  have ho : zm_o M = RX3 := ho
  obtain ⟨hR, hR4, hS, hS8, hD, hD6, hF⟩ := id hw
  have hx := z_inR hp (by omega)
  show z_V M (z_tw (zm_G M) t w0 w1 w2 w3 w4 w5 w6 w7 w8 w9 w10 w11 w12 w13 w14 w15 w16 w17 w18 w19 w20 w21 w22 w23 w24 w25 w26 w27 w28 h) n 0 0 0 [(0, .ref t), (1, .int (nI p))] []
  refine z_aload_n hb dX3_rowAt_0 rfl ?_
  refine z_iload_n hb dX3_rowAt_1 rfl ?_
  refine z_iconst (x := nI 0) hb dX3_rowAt_2 (by decide) ?_
  refine z_aload_n hb dX3_rowAt_3 rfl ?_
  refine z_get (k := 0) (C := RX3) (T := TX3) (N := 29) hb ho zc2 in_X3 (zf_RX3_7 _) dX3_rowAt_4 z_tw_o (by decide) rfl ?_
  refine z_iconst (x := nI 1) hb dX3_rowAt_7 (by decide) ?_
  refine z_iald (j := 1) hb dX3_rowAt_8 z_tw_r0 rfl (by omega) (by omega) ?_
  refine z_toI (y := nI R) hR ?_
  refine z_iconst (x := nI 1) hb dX3_rowAt_9 (by decide) ?_
  refine z_isub hb dX3_rowAt_10 ?_
  refine z_call1 (b' := 0) (f' := 0) (rest := [.ref t]) (av := [.int (nI p), .int (nI 0), .int ((nI R) - (nI 1))]) (z_siteS hb ho q2809 q2810 q104 ⟨_, _, _, _, zk_X3_in⟩ zy_X3_in zl_X3_in dX3_rowAt_11 : z_Site M _ _ _ _ _ ([.int (nI p), .int (nI 0), .int ((nI R) - (nI 1))].reverse ++ [.ref t]) [.ref t] _) zk_X3_in q104 hrm (m_X3_in (nI p) (nI 0) ((nI R) - (nI 1)) ht) (by omega) (by decide) (Nat.le_of_ble_eq_true rfl) (by omega) (by omega) ?_
  refine z_call1 (b' := 0) (f' := 0) (rest := []) (av := [.ref t, .int (z_b (decide ((nI 0) ≤ (nI p) ∧ (nI p) ≤ ((nI R) - (nI 1)))))]) (z_siteV hb ho zc2 z_tw_o q2995 q2997 qs66 ⟨_, _, _, _, zk_X3_checked⟩ zy_X3_checked zl_X3_checked dX3_rowAt_14 : z_Site M _ _ _ _ _ ([.int (z_b (decide ((nI 0) ≤ (nI p) ∧ (nI p) ≤ ((nI R) - (nI 1)))))].reverse ++ .ref t :: []) [] _) zk_X3_checked q104 hrm (m_X3_checked (decide ((nI 0) ≤ (nI p) ∧ (nI p) ≤ ((nI R) - (nI 1)))) ht) (by omega) (by decide) (Nat.le_of_ble_eq_true rfl) (by omega) (by omega) ?_
  refine z_ifb_le (tgt := 24) hb dX3_rowAt_17 (by decide) (fun c_17 => ?_) (fun c_17 => ?_)
  · refine z_aload_n hb dX3_rowAt_24 rfl ?_
    refine z_iload_n hb dX3_rowAt_25 rfl ?_
    refine z_iconst (x := nI 0) hb dX3_rowAt_26 (by decide) ?_
    refine z_call1 (b' := 0) (f' := 0) (rest := []) (av := [.ref t, .int (nI p), .int (nI 0)]) (z_siteV hb ho zc2 z_tw_o q2859 q2861 qs43 ⟨_, _, _, _, zk_X3_r⟩ zy_X3_r zl_X3_r dX3_rowAt_27 : z_Site M _ _ _ _ _ ([.int (nI p), .int (nI 0)].reverse ++ .ref t :: []) [] _) zk_X3_r q104 hrm (m_X3_r p 0 ht (by omega)) (by omega) (by decide) (Nat.le_of_ble_eq_true rfl) (by omega) (by omega) ?_
    refine z_toI (y := w0 (16 + 4 * p)) rfl ?_
    refine z_iret hb hr dX3_rowAt_30 ?_
    rw [hQ]
    rw [hx]; exact ⟨rfl, rfl, rfl⟩
  · rw [hx] at c_17; exact absurd c_17 (by decide)

set_option maxHeartbeats 1000000 in
theorem m_X3_dayOf_no {l : Launch} {G : zG} {h : zH} {n : Nat} {t : Nat} {w0 : Nat → Int32} {w1 : Nat → Int32} {w2 : Nat → Int32} {w3 : Nat → Int32} {w4 : Nat → Int32} {w5 : Nat → Int64} {w6 : Nat → Int64} {w7 : Nat → Int64} {w8 : Nat → Int64} {w9 : Nat → Int64} {w10 : Nat → Int64} {w11 : Nat → Int64} {w12 : Int32} {w13 : Int32} {w14 : Int32} {w15 : Int32} {w16 : Int32} {w17 : Int32} {w18 : Bool} {w19 : Nat → Int32} {w20 : Int32} {w21 : Nat → Int32} {w22 : Nat → Int32} {w23 : Nat → Int32} {w24 : Int32} {w25 : Int32} {w26 : Int32} {w27 : Int32} {w28 : Bool} {R S D : Nat} {x : Int32}  (ht : z_n0 G ≤ t) (hw : z_ok w0 R S D) (hp : tw_row w0 R x = none) : z_C l G yX3_dayOf 3 0 0 [.ref t, .int x] (z_tw G t w0 w1 w2 w3 w4 w5 w6 w7 w8 w9 w10 w11 w12 w13 w14 w15 w16 w17 w18 w19 w20 w21 w22 w23 w24 w25 w26 w27 w28 h) n (z_rv (.int (nI 0)) (z_tw G t w0 w1 w2 w3 w4 w5 w6 w7 w8 w9 w10 w11 (nI 1) w13 w14 w15 w16 w17 w18 w19 w20 w21 w22 w23 w24 w25 w26 w27 w28 h) n) := by
  refine z_start zk_X3_dayOf zpl_RX3 (Nat.le_of_ble_eq_true rfl) ?_
  intro hn0 M hl hG ho hb hN hr hm hH hrm hQ
  subst hl hG
  have ho : zm_o M = RX3 := ho
  obtain ⟨hR, hR4, hS, hS8, hD, hD6, hF⟩ := id hw
  show z_V M (z_tw (zm_G M) t w0 w1 w2 w3 w4 w5 w6 w7 w8 w9 w10 w11 w12 w13 w14 w15 w16 w17 w18 w19 w20 w21 w22 w23 w24 w25 w26 w27 w28 h) n 0 0 0 [(0, .ref t), (1, .int x)] []
  refine z_aload_n hb dX3_dayOf_0 rfl ?_
  refine z_aload_n hb dX3_dayOf_1 rfl ?_
  refine z_iload_n hb dX3_dayOf_2 rfl ?_
  refine z_call1 (b' := 0) (f' := 0) (rest := [.ref t]) (av := [.ref t, .int x]) (z_siteV hb ho zc2 z_tw_o q2879 q2881 qs47 ⟨_, _, _, _, zk_X3_row⟩ zy_X3_row zl_X3_row dX3_dayOf_3 : z_Site M _ _ _ _ _ ([.int x].reverse ++ .ref t :: [.ref t]) [.ref t] _) zk_X3_row q104 hrm (m_X3_row x ht hw) (by omega) (by decide) (Nat.le_of_ble_eq_true rfl) (by omega) (by omega) ?_
  refine z_if_lt (tgt := 13) hb dX3_dayOf_6 (by decide) (fun c_6 => ?_) (fun c_6 => ?_)
  · refine z_iconst (x := nI 0) hb dX3_dayOf_13 (by decide) ?_
    refine z_call1 (b' := 0) (f' := 0) (rest := []) (av := [.ref t, .int (nI 0)]) (z_siteV hb ho zc2 z_tw_o q2995 q2997 qs66 ⟨_, _, _, _, zk_X3_checked⟩ zy_X3_checked zl_X3_checked dX3_dayOf_14 : z_Site M _ _ _ _ _ ([.int (nI 0)].reverse ++ .ref t :: []) [] _) zk_X3_checked q104 hrm (m_X3_checked false ht) (by omega) (by decide) (Nat.le_of_ble_eq_true rfl) (by omega) (by omega) ?_
    refine z_ifb_le (tgt := 24) hb dX3_dayOf_17 (by decide) (fun c_17 => ?_) (fun c_17 => ?_)
    · exact absurd c_17 (by decide)
    · refine z_iconst (x := nI 0) hb dX3_dayOf_20 (by decide) ?_
      refine z_goto (tgt := 34) hb dX3_dayOf_21 (by decide) ?_
      refine z_iret hb hr dX3_dayOf_34 ?_
      rw [hQ]
      exact ⟨rfl, rfl, rfl⟩
  · rw [hp] at c_6; exact absurd c_6 (by decide)

set_option maxHeartbeats 1000000 in
theorem m_X3_dayOf_ok {l : Launch} {G : zG} {h : zH} {n : Nat} {t : Nat} {w0 : Nat → Int32} {w1 : Nat → Int32} {w2 : Nat → Int32} {w3 : Nat → Int32} {w4 : Nat → Int32} {w5 : Nat → Int64} {w6 : Nat → Int64} {w7 : Nat → Int64} {w8 : Nat → Int64} {w9 : Nat → Int64} {w10 : Nat → Int64} {w11 : Nat → Int64} {w12 : Int32} {w13 : Int32} {w14 : Int32} {w15 : Int32} {w16 : Int32} {w17 : Int32} {w18 : Bool} {w19 : Nat → Int32} {w20 : Int32} {w21 : Nat → Int32} {w22 : Nat → Int32} {w23 : Nat → Int32} {w24 : Int32} {w25 : Int32} {w26 : Int32} {w27 : Int32} {w28 : Bool} {R S D : Nat} {x : Int32} {p : Nat}  (ht : z_n0 G ≤ t) (hw : z_ok w0 R S D) (hp : tw_row w0 R x = some p) : z_C l G yX3_dayOf 3 0 0 [.ref t, .int x] (z_tw G t w0 w1 w2 w3 w4 w5 w6 w7 w8 w9 w10 w11 w12 w13 w14 w15 w16 w17 w18 w19 w20 w21 w22 w23 w24 w25 w26 w27 w28 h) n (z_rv (.int (w0 (16 + 4 * p + 1))) (z_tw G t w0 w1 w2 w3 w4 w5 w6 w7 w8 w9 w10 w11 (nI 0) w13 w14 w15 w16 w17 w18 w19 w20 w21 w22 w23 w24 w25 w26 w27 w28 h) n) := by
  refine z_start zk_X3_dayOf zpl_RX3 (Nat.le_of_ble_eq_true rfl) ?_
  intro hn0 M hl hG ho hb hN hr hm hH hrm hQ
  subst hl hG
  have ho : zm_o M = RX3 := ho
  obtain ⟨hR, hR4, hS, hS8, hD, hD6, hF⟩ := id hw
  have hp4 := tw_row_lt hp
  show z_V M (z_tw (zm_G M) t w0 w1 w2 w3 w4 w5 w6 w7 w8 w9 w10 w11 w12 w13 w14 w15 w16 w17 w18 w19 w20 w21 w22 w23 w24 w25 w26 w27 w28 h) n 0 0 0 [(0, .ref t), (1, .int x)] []
  refine z_aload_n hb dX3_dayOf_0 rfl ?_
  refine z_aload_n hb dX3_dayOf_1 rfl ?_
  refine z_iload_n hb dX3_dayOf_2 rfl ?_
  refine z_call1 (b' := 0) (f' := 0) (rest := [.ref t]) (av := [.ref t, .int x]) (z_siteV hb ho zc2 z_tw_o q2879 q2881 qs47 ⟨_, _, _, _, zk_X3_row⟩ zy_X3_row zl_X3_row dX3_dayOf_3 : z_Site M _ _ _ _ _ ([.int x].reverse ++ .ref t :: [.ref t]) [.ref t] _) zk_X3_row q104 hrm (m_X3_row x ht hw) (by omega) (by decide) (Nat.le_of_ble_eq_true rfl) (by omega) (by omega) ?_
  refine z_toI (y := nI p) (by rw [hp]; rfl) ?_
  refine z_if_ltN (tgt := 13) hb dX3_dayOf_6 (by decide) (by omega) ?_
  refine z_iconst (x := nI 1) hb dX3_dayOf_9 (by decide) ?_
  refine z_goto (tgt := 14) hb dX3_dayOf_10 (by decide) ?_
  refine z_call1 (b' := 0) (f' := 0) (rest := []) (av := [.ref t, .int (nI 1)]) (z_siteV hb ho zc2 z_tw_o q2995 q2997 qs66 ⟨_, _, _, _, zk_X3_checked⟩ zy_X3_checked zl_X3_checked dX3_dayOf_14 : z_Site M _ _ _ _ _ ([.int (nI 1)].reverse ++ .ref t :: []) [] _) zk_X3_checked q104 hrm (m_X3_checked true ht) (by omega) (by decide) (Nat.le_of_ble_eq_true rfl) (by omega) (by omega) ?_
  refine z_ifb_le (tgt := 24) hb dX3_dayOf_17 (by decide) (fun c_17 => ?_) (fun c_17 => ?_)
  · refine z_aload_n hb dX3_dayOf_24 rfl ?_
    refine z_aload_n hb dX3_dayOf_25 rfl ?_
    refine z_iload_n hb dX3_dayOf_26 rfl ?_
    refine z_call1 (b' := 0) (f' := 0) (rest := [.ref t]) (av := [.ref t, .int x]) (z_siteV hb ho zc2 z_tw_o q2879 q2881 qs47 ⟨_, _, _, _, zk_X3_row⟩ zy_X3_row zl_X3_row dX3_dayOf_27 : z_Site M _ _ _ _ _ ([.int x].reverse ++ .ref t :: [.ref t]) [.ref t] _) zk_X3_row q104 hrm (m_X3_row x ht hw) (by omega) (by decide) (Nat.le_of_ble_eq_true rfl) (by omega) (by omega) ?_
    refine z_toI (y := nI p) (by rw [hp]; rfl) ?_
    refine z_iconst (x := nI 1) hb dX3_dayOf_30 (by decide) ?_
    refine z_call1 (b' := 0) (f' := 0) (rest := []) (av := [.ref t, .int (nI p), .int (nI 1)]) (z_siteV hb ho zc2 z_tw_o q2859 q2861 qs43 ⟨_, _, _, _, zk_X3_r⟩ zy_X3_r zl_X3_r dX3_dayOf_31 : z_Site M _ _ _ _ _ ([.int (nI p), .int (nI 1)].reverse ++ .ref t :: []) [] _) zk_X3_r q104 hrm (m_X3_r p 1 ht (by omega)) (by omega) (by decide) (Nat.le_of_ble_eq_true rfl) (by omega) (by omega) ?_
    refine z_iret hb hr dX3_dayOf_34 ?_
    rw [hQ]
    exact ⟨rfl, rfl, rfl⟩
  · exact absurd c_17 (by decide)

set_option maxHeartbeats 1000000 in
theorem m_X3_groupOf_no {l : Launch} {G : zG} {h : zH} {n : Nat} {t : Nat} {w0 : Nat → Int32} {w1 : Nat → Int32} {w2 : Nat → Int32} {w3 : Nat → Int32} {w4 : Nat → Int32} {w5 : Nat → Int64} {w6 : Nat → Int64} {w7 : Nat → Int64} {w8 : Nat → Int64} {w9 : Nat → Int64} {w10 : Nat → Int64} {w11 : Nat → Int64} {w12 : Int32} {w13 : Int32} {w14 : Int32} {w15 : Int32} {w16 : Int32} {w17 : Int32} {w18 : Bool} {w19 : Nat → Int32} {w20 : Int32} {w21 : Nat → Int32} {w22 : Nat → Int32} {w23 : Nat → Int32} {w24 : Int32} {w25 : Int32} {w26 : Int32} {w27 : Int32} {w28 : Bool} {R S D : Nat} {x : Int32}  (ht : z_n0 G ≤ t) (hw : z_ok w0 R S D) (hp : tw_row w0 R x = none) : z_C l G yX3_groupOf 3 0 0 [.ref t, .int x] (z_tw G t w0 w1 w2 w3 w4 w5 w6 w7 w8 w9 w10 w11 w12 w13 w14 w15 w16 w17 w18 w19 w20 w21 w22 w23 w24 w25 w26 w27 w28 h) n (z_rv (.int (nI 32)) (z_tw G t w0 w1 w2 w3 w4 w5 w6 w7 w8 w9 w10 w11 (nI 1) w13 w14 w15 w16 w17 w18 w19 w20 w21 w22 w23 w24 w25 w26 w27 w28 h) n) := by
  refine z_start zk_X3_groupOf zpl_RX3 (Nat.le_of_ble_eq_true rfl) ?_
  intro hn0 M hl hG ho hb hN hr hm hH hrm hQ
  subst hl hG
  have ho : zm_o M = RX3 := ho
  obtain ⟨hR, hR4, hS, hS8, hD, hD6, hF⟩ := id hw
  show z_V M (z_tw (zm_G M) t w0 w1 w2 w3 w4 w5 w6 w7 w8 w9 w10 w11 w12 w13 w14 w15 w16 w17 w18 w19 w20 w21 w22 w23 w24 w25 w26 w27 w28 h) n 0 0 0 [(0, .ref t), (1, .int x)] []
  refine z_aload_n hb dX3_groupOf_0 rfl ?_
  refine z_aload_n hb dX3_groupOf_1 rfl ?_
  refine z_iload_n hb dX3_groupOf_2 rfl ?_
  refine z_call1 (b' := 0) (f' := 0) (rest := [.ref t]) (av := [.ref t, .int x]) (z_siteV hb ho zc2 z_tw_o q2879 q2881 qs47 ⟨_, _, _, _, zk_X3_row⟩ zy_X3_row zl_X3_row dX3_groupOf_3 : z_Site M _ _ _ _ _ ([.int x].reverse ++ .ref t :: [.ref t]) [.ref t] _) zk_X3_row q104 hrm (m_X3_row x ht hw) (by omega) (by decide) (Nat.le_of_ble_eq_true rfl) (by omega) (by omega) ?_
  refine z_if_lt (tgt := 13) hb dX3_groupOf_6 (by decide) (fun c_6 => ?_) (fun c_6 => ?_)
  · refine z_iconst (x := nI 0) hb dX3_groupOf_13 (by decide) ?_
    refine z_call1 (b' := 0) (f' := 0) (rest := []) (av := [.ref t, .int (nI 0)]) (z_siteV hb ho zc2 z_tw_o q2995 q2997 qs66 ⟨_, _, _, _, zk_X3_checked⟩ zy_X3_checked zl_X3_checked dX3_groupOf_14 : z_Site M _ _ _ _ _ ([.int (nI 0)].reverse ++ .ref t :: []) [] _) zk_X3_checked q104 hrm (m_X3_checked false ht) (by omega) (by decide) (Nat.le_of_ble_eq_true rfl) (by omega) (by omega) ?_
    refine z_ifb_le (tgt := 25) hb dX3_groupOf_17 (by decide) (fun c_17 => ?_) (fun c_17 => ?_)
    · exact absurd c_17 (by decide)
    · refine z_bipush (x := nI 32) hb dX3_groupOf_20 (by decide) ?_
      refine z_goto (tgt := 39) hb dX3_groupOf_22 (by decide) ?_
      refine z_zret hb hr rfl dX3_groupOf_39 ?_
      rw [hQ]
      exact ⟨rfl, rfl, rfl⟩
  · rw [hp] at c_6; exact absurd c_6 (by decide)

set_option maxHeartbeats 1000000 in
theorem m_X3_groupOf_ok {l : Launch} {G : zG} {h : zH} {n : Nat} {t : Nat} {w0 : Nat → Int32} {w1 : Nat → Int32} {w2 : Nat → Int32} {w3 : Nat → Int32} {w4 : Nat → Int32} {w5 : Nat → Int64} {w6 : Nat → Int64} {w7 : Nat → Int64} {w8 : Nat → Int64} {w9 : Nat → Int64} {w10 : Nat → Int64} {w11 : Nat → Int64} {w12 : Int32} {w13 : Int32} {w14 : Int32} {w15 : Int32} {w16 : Int32} {w17 : Int32} {w18 : Bool} {w19 : Nat → Int32} {w20 : Int32} {w21 : Nat → Int32} {w22 : Nat → Int32} {w23 : Nat → Int32} {w24 : Int32} {w25 : Int32} {w26 : Int32} {w27 : Int32} {w28 : Bool} {R S D : Nat} {x : Int32} {p g : Nat}  (ht : z_n0 G ≤ t) (hw : z_ok w0 R S D) (hp : tw_row w0 R x = some p) (hg : w0 (16 + 4 * p + 2) = nI g) (hg5 : g < 5) : z_C l G yX3_groupOf 3 0 0 [.ref t, .int x] (z_tw G t w0 w1 w2 w3 w4 w5 w6 w7 w8 w9 w10 w11 w12 w13 w14 w15 w16 w17 w18 w19 w20 w21 w22 w23 w24 w25 w26 w27 w28 h) n (z_rv (.int (nI (97 + g))) (z_tw G t w0 w1 w2 w3 w4 w5 w6 w7 w8 w9 w10 w11 (nI 0) w13 w14 w15 w16 w17 w18 w19 w20 w21 w22 w23 w24 w25 w26 w27 w28 h) n) := by
  refine z_start zk_X3_groupOf zpl_RX3 (Nat.le_of_ble_eq_true rfl) ?_
  intro hn0 M hl hG ho hb hN hr hm hH hrm hQ
  subst hl hG
  have ho : zm_o M = RX3 := ho
  obtain ⟨hR, hR4, hS, hS8, hD, hD6, hF⟩ := id hw
  have hp4 := tw_row_lt hp
  show z_V M (z_tw (zm_G M) t w0 w1 w2 w3 w4 w5 w6 w7 w8 w9 w10 w11 w12 w13 w14 w15 w16 w17 w18 w19 w20 w21 w22 w23 w24 w25 w26 w27 w28 h) n 0 0 0 [(0, .ref t), (1, .int x)] []
  refine z_aload_n hb dX3_groupOf_0 rfl ?_
  refine z_aload_n hb dX3_groupOf_1 rfl ?_
  refine z_iload_n hb dX3_groupOf_2 rfl ?_
  refine z_call1 (b' := 0) (f' := 0) (rest := [.ref t]) (av := [.ref t, .int x]) (z_siteV hb ho zc2 z_tw_o q2879 q2881 qs47 ⟨_, _, _, _, zk_X3_row⟩ zy_X3_row zl_X3_row dX3_groupOf_3 : z_Site M _ _ _ _ _ ([.int x].reverse ++ .ref t :: [.ref t]) [.ref t] _) zk_X3_row q104 hrm (m_X3_row x ht hw) (by omega) (by decide) (Nat.le_of_ble_eq_true rfl) (by omega) (by omega) ?_
  refine z_toI (y := nI p) (by rw [hp]; rfl) ?_
  refine z_if_ltN (tgt := 13) hb dX3_groupOf_6 (by decide) (by omega) ?_
  refine z_iconst (x := nI 1) hb dX3_groupOf_9 (by decide) ?_
  refine z_goto (tgt := 14) hb dX3_groupOf_10 (by decide) ?_
  refine z_call1 (b' := 0) (f' := 0) (rest := []) (av := [.ref t, .int (nI 1)]) (z_siteV hb ho zc2 z_tw_o q2995 q2997 qs66 ⟨_, _, _, _, zk_X3_checked⟩ zy_X3_checked zl_X3_checked dX3_groupOf_14 : z_Site M _ _ _ _ _ ([.int (nI 1)].reverse ++ .ref t :: []) [] _) zk_X3_checked q104 hrm (m_X3_checked true ht) (by omega) (by decide) (Nat.le_of_ble_eq_true rfl) (by omega) (by omega) ?_
  refine z_ifb_le (tgt := 25) hb dX3_groupOf_17 (by decide) (fun c_17 => ?_) (fun c_17 => ?_)
  · refine z_bipush (x := nI 97) hb dX3_groupOf_25 (by decide) ?_
    refine z_aload_n hb dX3_groupOf_27 rfl ?_
    refine z_aload_n hb dX3_groupOf_28 rfl ?_
    refine z_iload_n hb dX3_groupOf_29 rfl ?_
    refine z_call1 (b' := 0) (f' := 0) (rest := [.ref t, .int (nI 97)]) (av := [.ref t, .int x]) (z_siteV hb ho zc2 z_tw_o q2879 q2881 qs47 ⟨_, _, _, _, zk_X3_row⟩ zy_X3_row zl_X3_row dX3_groupOf_30 : z_Site M _ _ _ _ _ ([.int x].reverse ++ .ref t :: [.ref t, .int (nI 97)]) [.ref t, .int (nI 97)] _) zk_X3_row q104 hrm (m_X3_row x ht hw) (by omega) (by decide) (Nat.le_of_ble_eq_true rfl) (by omega) (by omega) ?_
    refine z_toI (y := nI p) (by rw [hp]; rfl) ?_
    refine z_iconst (x := nI 2) hb dX3_groupOf_33 (by decide) ?_
    refine z_call1 (b' := 0) (f' := 0) (rest := [.int (nI 97)]) (av := [.ref t, .int (nI p), .int (nI 2)]) (z_siteV hb ho zc2 z_tw_o q2859 q2861 qs43 ⟨_, _, _, _, zk_X3_r⟩ zy_X3_r zl_X3_r dX3_groupOf_34 : z_Site M _ _ _ _ _ ([.int (nI p), .int (nI 2)].reverse ++ .ref t :: [.int (nI 97)]) [.int (nI 97)] _) zk_X3_r q104 hrm (m_X3_r p 2 ht (by omega)) (by omega) (by decide) (Nat.le_of_ble_eq_true rfl) (by omega) (by omega) ?_
    refine z_toI (y := nI g) hg ?_
    refine z_iadd hb dX3_groupOf_37 ?_
    refine z_toI (y := nI (97 + g)) (nI_add 97 g) ?_
    refine z_i2c hb dX3_groupOf_38 (z_i2cN (by omega)) ?_
    refine z_zret hb hr (pk_charN (by omega)).1 dX3_groupOf_39 ?_
    rw [hQ]
    exact ⟨rfl, rfl, rfl⟩
  · exact absurd c_17 (by decide)

set_option maxHeartbeats 1000000 in
theorem m_X3_rowByAmount {l : Launch} {G : zG} {h : zH} {n : Nat} {t : Nat} {w0 : Nat → Int32} {w1 : Nat → Int32} {w2 : Nat → Int32} {w3 : Nat → Int32} {w4 : Nat → Int32} {w5 : Nat → Int64} {w6 : Nat → Int64} {w7 : Nat → Int64} {w8 : Nat → Int64} {w9 : Nat → Int64} {w10 : Nat → Int64} {w11 : Nat → Int64} {w12 : Int32} {w13 : Int32} {w14 : Int32} {w15 : Int32} {w16 : Int32} {w17 : Int32} {w18 : Bool} {w19 : Nat → Int32} {w20 : Int32} {w21 : Nat → Int32} {w22 : Nat → Int32} {w23 : Nat → Int32} {w24 : Int32} {w25 : Int32} {w26 : Int32} {w27 : Int32} {w28 : Bool} {R S D : Nat} {x : Int32}  (ht : z_n0 G ≤ t) (hw : z_ok w0 R S D) : z_C l G yX3_rowByAmount 2 0 0 [.ref t, .int x] (z_tw G t w0 w1 w2 w3 w4 w5 w6 w7 w8 w9 w10 w11 w12 w13 w14 w15 w16 w17 w18 w19 w20 w21 w22 w23 w24 w25 w26 w27 w28 h) n (z_rv (.int (tw_rv w0 (tw_rk w0 R x 0 R))) (z_tw G t w0 w1 w2 w3 w4 w5 w6 w7 w8 w9 w10 w11 (z_b (tw_rk w0 R x 0 R).isNone) w13 w14 w15 w16 w17 w18 w19 w20 w21 w22 w23 w24 w25 w26 w27 w28 h) n) := by
  refine z_start zk_X3_rowByAmount zpl_RX3 (Nat.le_of_ble_eq_true rfl) ?_
  intro hn0 M hl hG ho hb hN hr hm hH hrm hQ
  subst hl hG
  have ho : zm_o M = RX3 := ho
  obtain ⟨hR, hR4, hS, hS8, hD, hD6, hF⟩ := id hw
  show z_V M (z_tw (zm_G M) t w0 w1 w2 w3 w4 w5 w6 w7 w8 w9 w10 w11 w12 w13 w14 w15 w16 w17 w18 w19 w20 w21 w22 w23 w24 w25 w26 w27 w28 h) n 0 0 0 [(0, .ref t), (1, .int x)] []
  refine z_aload_n hb dX3_rowByAmount_0 rfl ?_
  refine z_iconst (x := nI 0) hb dX3_rowByAmount_1 (by decide) ?_
  refine z_put (k := 12) (C := RX3) (T := TX3) (N := 29) hb ho zc2 in_X3 tyX3_ok nmX3 (zf_RX3_47 _) dX3_rowByAmount_2 z_tw_o ht (by decide) (Or.inl rfl) rfl rfl rfl (Nat.le_of_ble_eq_true rfl) ?_
  refine z_hh z_tw_u12 ?_
  refine z_iconst (x := nI 0) hb dX3_rowByAmount_5 (by decide) ?_
  refine z_istore_n (lv' := [(2, .int (nI 0)), (0, .ref t), (1, .int x)]) hb dX3_rowByAmount_6 (by rw [hN]; decide) rfl ?_
  have lp_7 : ∀ (k9_7 : Nat) (k : Nat), R - k < k9_7 → (k ≤ R) → (tw_rk w0 R x k (R - k) = tw_rk w0 R x 0 R) → z_V M (z_tw (zm_G M) t w0 w1 w2 w3 w4 w5 w6 w7 w8 w9 w10 w11 (nI 0) w13 w14 w15 w16 w17 w18 w19 w20 w21 w22 w23 w24 w25 w26 w27 w28 h) n 0 0 7 [(2, .int (nI k)), (0, .ref t), (1, .int x)] [] := by
    intro k9_7
    induction k9_7 with
    | zero => intro k hk9_7; exact absurd hk9_7 (Nat.not_lt_zero _)
    | succ k9_7 ih_7 =>
      intro k hk9_7 hk he
      refine z_iload_n hb dX3_rowByAmount_7 rfl ?_
      refine z_aload_n hb dX3_rowByAmount_8 rfl ?_
      refine z_get (k := 0) (C := RX3) (T := TX3) (N := 29) hb ho zc2 in_X3 (zf_RX3_7 _) dX3_rowByAmount_9 z_tw_o (by decide) rfl ?_
      refine z_iconst (x := nI 1) hb dX3_rowByAmount_12 (by decide) ?_
      refine z_iald (j := 1) hb dX3_rowByAmount_13 z_tw_r0 rfl (by omega) (by omega) ?_
      refine z_toI (y := nI R) hR ?_
      refine z_icmp_geN (tgt := 103) hb dX3_rowByAmount_14 (by decide) (by omega) (by omega) (fun c_14 => ?_) (fun c_14 => ?_)
      · refine z_aload_n hb dX3_rowByAmount_103 rfl ?_
        refine z_iconst (x := nI 1) hb dX3_rowByAmount_104 (by decide) ?_
        refine z_call1 (b' := 0) (f' := 0) (rest := []) (av := [.ref t, .int (nI 1)]) (z_siteV hb ho zc2 z_tw_o q2816 q2818 qs33 ⟨_, _, _, _, zk_X3_fail⟩ zy_X3_fail zl_X3_fail dX3_rowByAmount_105 : z_Site M _ _ _ _ _ ([.int (nI 1)].reverse ++ .ref t :: []) [] _) zk_X3_fail q104 hrm (m_X3_fail (nI 1) ht) (by omega) (by decide) (Nat.le_of_ble_eq_true rfl) (by omega) (by omega) ?_
        refine z_iret hb hr dX3_rowByAmount_108 ?_
        rw [hQ]
        rw [show tw_rk w0 R x 0 R = none by rw [← he, show R - k = 0 by omega]; rfl]; exact ⟨rfl, rfl, rfl⟩
      · refine z_iconst (x := nI 0) hb dX3_rowByAmount_17 (by decide) ?_
        refine z_istore_n (lv' := [(3, .int (nI 0)), (2, .int (nI k)), (0, .ref t), (1, .int x)]) hb dX3_rowByAmount_18 (by rw [hN]; decide) rfl ?_
        refine z_iconst (x := nI 0) hb dX3_rowByAmount_19 (by decide) ?_
        refine z_istore (lv' := [(4, .int (nI 0)), (3, .int (nI 0)), (2, .int (nI k)), (0, .ref t), (1, .int x)]) hb dX3_rowByAmount_20 (by rw [hN]; decide) rfl ?_
        have lp_22 : ∀ (k9_22 : Nat) (o : Nat) (c : Nat), R - o < k9_22 → (o ≤ R) → (c = tw_ah w0 k o) → z_V M (z_tw (zm_G M) t w0 w1 w2 w3 w4 w5 w6 w7 w8 w9 w10 w11 (nI 0) w13 w14 w15 w16 w17 w18 w19 w20 w21 w22 w23 w24 w25 w26 w27 w28 h) n 0 0 22 [(4, .int (nI o)), (3, .int (nI c)), (2, .int (nI k)), (0, .ref t), (1, .int x)] [] := by
          intro k9_22
          induction k9_22 with
          | zero => intro o c hk9_22; exact absurd hk9_22 (Nat.not_lt_zero _)
          | succ k9_22 ih_22 =>
            intro o c hk9_22 ho2 hc
            refine z_iload hb dX3_rowByAmount_22 rfl ?_
            refine z_aload_n hb dX3_rowByAmount_24 rfl ?_
            refine z_get (k := 0) (C := RX3) (T := TX3) (N := 29) hb ho zc2 in_X3 (zf_RX3_7 _) dX3_rowByAmount_25 z_tw_o (by decide) rfl ?_
            refine z_iconst (x := nI 1) hb dX3_rowByAmount_28 (by decide) ?_
            refine z_iald (j := 1) hb dX3_rowByAmount_29 z_tw_r0 rfl (by omega) (by omega) ?_
            refine z_toI (y := nI R) hR ?_
            refine z_icmp_geN (tgt := 85) hb dX3_rowByAmount_30 (by decide) (by omega) (by omega) (fun c_30 => ?_) (fun c_30 => ?_)
            · refine z_iload_n hb dX3_rowByAmount_85 rfl ?_
              refine z_iload_n hb dX3_rowByAmount_86 rfl ?_
              refine z_icmp_ne (tgt := 97) hb dX3_rowByAmount_87 (by decide) (fun c_87 => ?_) (fun c_87 => ?_)
              · refine z_iinc (k0 := 2) (lv' := [(2, .int (nI (k + 1))), (4, .int (nI o)), (3, .int (nI c)), (0, .ref t), (1, .int x)]) hb dX3_rowByAmount_97 rfl (nI_1 k) (by rw [hN]; decide) rfl ?_
                refine z_goto (tgt := 7) hb dX3_rowByAmount_100 (by decide) ?_
                refine z_lv [0, 3, 4] (lv' := [(2, .int (nI (k + 1))), (0, .ref t), (1, .int x)]) rfl ?_
                exact ih_7 (k + 1) (by omega) (by omega) (by rw [← he, show R - k = (R - (k + 1)) + 1 by omega, tw_rk, if_neg (by rw [show R = o by omega, ← hc]; exact c_87)])
              · refine z_aload_n hb dX3_rowByAmount_90 rfl ?_
                refine z_iload_n hb dX3_rowByAmount_91 rfl ?_
                refine z_iconst (x := nI 0) hb dX3_rowByAmount_92 (by decide) ?_
                refine z_call1 (b' := 0) (f' := 0) (rest := []) (av := [.ref t, .int (nI k), .int (nI 0)]) (z_siteV hb ho zc2 z_tw_o q2859 q2861 qs43 ⟨_, _, _, _, zk_X3_r⟩ zy_X3_r zl_X3_r dX3_rowByAmount_93 : z_Site M _ _ _ _ _ ([.int (nI k), .int (nI 0)].reverse ++ .ref t :: []) [] _) zk_X3_r q104 hrm (m_X3_r k 0 ht (by omega)) (by omega) (by decide) (Nat.le_of_ble_eq_true rfl) (by omega) (by omega) ?_
                refine z_toI (y := w0 (16 + 4 * k)) rfl ?_
                refine z_iret hb hr dX3_rowByAmount_96 ?_
                rw [hQ]
                rw [show tw_rk w0 R x 0 R = some k by rw [← he, show R - k = (R - (k + 1)) + 1 by omega, tw_rk, if_pos (by rw [show R = o by omega, ← hc]; exact c_87)]]; exact ⟨rfl, rfl, rfl⟩
            · refine z_iload_n hb dX3_rowByAmount_33 rfl ?_
              refine z_aload_n hb dX3_rowByAmount_34 rfl ?_
              refine z_iload hb dX3_rowByAmount_35 rfl ?_
              refine z_iconst (x := nI 3) hb dX3_rowByAmount_37 (by decide) ?_
              refine z_call1 (b' := 0) (f' := 0) (rest := [.int (nI c)]) (av := [.ref t, .int (nI o), .int (nI 3)]) (z_siteV hb ho zc2 z_tw_o q2859 q2861 qs43 ⟨_, _, _, _, zk_X3_r⟩ zy_X3_r zl_X3_r dX3_rowByAmount_38 : z_Site M _ _ _ _ _ ([.int (nI o), .int (nI 3)].reverse ++ .ref t :: [.int (nI c)]) [.int (nI c)] _) zk_X3_r q104 hrm (m_X3_r o 3 ht (by omega)) (by omega) (by decide) (Nat.le_of_ble_eq_true rfl) (by omega) (by omega) ?_
              refine z_aload_n hb dX3_rowByAmount_41 rfl ?_
              refine z_iload_n hb dX3_rowByAmount_42 rfl ?_
              refine z_iconst (x := nI 3) hb dX3_rowByAmount_43 (by decide) ?_
              refine z_call1 (b' := 0) (f' := 0) (rest := [.int (w0 (16 + 4 * o + 3)), .int (nI c)]) (av := [.ref t, .int (nI k), .int (nI 3)]) (z_siteV hb ho zc2 z_tw_o q2859 q2861 qs43 ⟨_, _, _, _, zk_X3_r⟩ zy_X3_r zl_X3_r dX3_rowByAmount_44 : z_Site M _ _ _ _ _ ([.int (nI k), .int (nI 3)].reverse ++ .ref t :: [.int (w0 (16 + 4 * o + 3)), .int (nI c)]) [.int (w0 (16 + 4 * o + 3)), .int (nI c)] _) zk_X3_r q104 hrm (m_X3_r k 3 ht (by omega)) (by omega) (by decide) (Nat.le_of_ble_eq_true rfl) (by omega) (by omega) ?_
              refine z_icmp_gt (tgt := 72) hb dX3_rowByAmount_47 (by decide) (fun c_47 => ?_) (fun c_47 => ?_)
              · refine z_iconst (x := nI 1) hb dX3_rowByAmount_72 (by decide) ?_
                refine z_goto (tgt := 77) hb dX3_rowByAmount_73 (by decide) ?_
                refine z_iadd hb dX3_rowByAmount_77 ?_
                refine z_toI (y := nI (c + 1)) (nI_add c 1) ?_
                refine z_istore_n (lv' := [(3, .int (nI (c + 1))), (4, .int (nI o)), (2, .int (nI k)), (0, .ref t), (1, .int x)]) hb dX3_rowByAmount_78 (by rw [hN]; decide) rfl ?_
                refine z_iinc (k0 := 1) (lv' := [(4, .int (nI (o + 1))), (3, .int (nI (c + 1))), (2, .int (nI k)), (0, .ref t), (1, .int x)]) hb dX3_rowByAmount_79 rfl (nI_1 o) (by rw [hN]; decide) rfl ?_
                refine z_goto (tgt := 22) hb dX3_rowByAmount_82 (by decide) ?_
                refine z_lv [0, 1, 2, 3, 4] (lv' := [(4, .int (nI (o + 1))), (3, .int (nI (c + 1))), (2, .int (nI k)), (0, .ref t), (1, .int x)]) rfl ?_
                exact ih_22 (o + 1) _ (by omega) (by omega) (by rw [hc, tw_ah]; simp [c_47])
              · refine z_aload_n hb dX3_rowByAmount_50 rfl ?_
                refine z_iload hb dX3_rowByAmount_51 rfl ?_
                refine z_iconst (x := nI 3) hb dX3_rowByAmount_53 (by decide) ?_
                refine z_call1 (b' := 0) (f' := 0) (rest := [.int (nI c)]) (av := [.ref t, .int (nI o), .int (nI 3)]) (z_siteV hb ho zc2 z_tw_o q2859 q2861 qs43 ⟨_, _, _, _, zk_X3_r⟩ zy_X3_r zl_X3_r dX3_rowByAmount_54 : z_Site M _ _ _ _ _ ([.int (nI o), .int (nI 3)].reverse ++ .ref t :: [.int (nI c)]) [.int (nI c)] _) zk_X3_r q104 hrm (m_X3_r o 3 ht (by omega)) (by omega) (by decide) (Nat.le_of_ble_eq_true rfl) (by omega) (by omega) ?_
                refine z_aload_n hb dX3_rowByAmount_57 rfl ?_
                refine z_iload_n hb dX3_rowByAmount_58 rfl ?_
                refine z_iconst (x := nI 3) hb dX3_rowByAmount_59 (by decide) ?_
                refine z_call1 (b' := 0) (f' := 0) (rest := [.int (w0 (16 + 4 * o + 3)), .int (nI c)]) (av := [.ref t, .int (nI k), .int (nI 3)]) (z_siteV hb ho zc2 z_tw_o q2859 q2861 qs43 ⟨_, _, _, _, zk_X3_r⟩ zy_X3_r zl_X3_r dX3_rowByAmount_60 : z_Site M _ _ _ _ _ ([.int (nI k), .int (nI 3)].reverse ++ .ref t :: [.int (w0 (16 + 4 * o + 3)), .int (nI c)]) [.int (w0 (16 + 4 * o + 3)), .int (nI c)] _) zk_X3_r q104 hrm (m_X3_r k 3 ht (by omega)) (by omega) (by decide) (Nat.le_of_ble_eq_true rfl) (by omega) (by omega) ?_
                refine z_icmp_ne (tgt := 76) hb dX3_rowByAmount_63 (by decide) (fun c_63 => ?_) (fun c_63 => ?_)
                · refine z_iconst (x := nI 0) hb dX3_rowByAmount_76 (by decide) ?_
                  refine z_iadd hb dX3_rowByAmount_77 ?_
                  refine z_toI (y := nI c) (nI_add c 0) ?_
                  refine z_istore_n (lv' := [(3, .int (nI c)), (4, .int (nI o)), (2, .int (nI k)), (0, .ref t), (1, .int x)]) hb dX3_rowByAmount_78 (by rw [hN]; decide) rfl ?_
                  refine z_iinc (k0 := 1) (lv' := [(4, .int (nI (o + 1))), (3, .int (nI c)), (2, .int (nI k)), (0, .ref t), (1, .int x)]) hb dX3_rowByAmount_79 rfl (nI_1 o) (by rw [hN]; decide) rfl ?_
                  refine z_goto (tgt := 22) hb dX3_rowByAmount_82 (by decide) ?_
                  refine z_lv [0, 1, 2, 3, 4] (lv' := [(4, .int (nI (o + 1))), (3, .int (nI c)), (2, .int (nI k)), (0, .ref t), (1, .int x)]) rfl ?_
                  exact ih_22 (o + 1) _ (by omega) (by omega) (by rw [hc, tw_ah]; simp [c_47, c_63])
                · refine z_iload hb dX3_rowByAmount_66 rfl ?_
                  refine z_iload_n hb dX3_rowByAmount_68 rfl ?_
                  refine z_icmp_geN (tgt := 76) hb dX3_rowByAmount_69 (by decide) (by omega) (by omega) (fun c_69 => ?_) (fun c_69 => ?_)
                  · refine z_iconst (x := nI 0) hb dX3_rowByAmount_76 (by decide) ?_
                    refine z_iadd hb dX3_rowByAmount_77 ?_
                    refine z_toI (y := nI c) (nI_add c 0) ?_
                    refine z_istore_n (lv' := [(3, .int (nI c)), (4, .int (nI o)), (2, .int (nI k)), (0, .ref t), (1, .int x)]) hb dX3_rowByAmount_78 (by rw [hN]; decide) rfl ?_
                    refine z_iinc (k0 := 1) (lv' := [(4, .int (nI (o + 1))), (3, .int (nI c)), (2, .int (nI k)), (0, .ref t), (1, .int x)]) hb dX3_rowByAmount_79 rfl (nI_1 o) (by rw [hN]; decide) rfl ?_
                    refine z_goto (tgt := 22) hb dX3_rowByAmount_82 (by decide) ?_
                    refine z_lv [0, 1, 2, 3, 4] (lv' := [(4, .int (nI (o + 1))), (3, .int (nI c)), (2, .int (nI k)), (0, .ref t), (1, .int x)]) rfl ?_
                    exact ih_22 (o + 1) _ (by omega) (by omega) (by rw [hc, tw_ah]; simp [c_47, c_63, c_69])
                  · refine z_iconst (x := nI 1) hb dX3_rowByAmount_72 (by decide) ?_
                    refine z_goto (tgt := 77) hb dX3_rowByAmount_73 (by decide) ?_
                    refine z_iadd hb dX3_rowByAmount_77 ?_
                    refine z_toI (y := nI (c + 1)) (nI_add c 1) ?_
                    refine z_istore_n (lv' := [(3, .int (nI (c + 1))), (4, .int (nI o)), (2, .int (nI k)), (0, .ref t), (1, .int x)]) hb dX3_rowByAmount_78 (by rw [hN]; decide) rfl ?_
                    refine z_iinc (k0 := 1) (lv' := [(4, .int (nI (o + 1))), (3, .int (nI (c + 1))), (2, .int (nI k)), (0, .ref t), (1, .int x)]) hb dX3_rowByAmount_79 rfl (nI_1 o) (by rw [hN]; decide) rfl ?_
                    refine z_goto (tgt := 22) hb dX3_rowByAmount_82 (by decide) ?_
                    refine z_lv [0, 1, 2, 3, 4] (lv' := [(4, .int (nI (o + 1))), (3, .int (nI (c + 1))), (2, .int (nI k)), (0, .ref t), (1, .int x)]) rfl ?_
                    exact ih_22 (o + 1) _ (by omega) (by omega) (by rw [hc, tw_ah]; simp [c_47, c_63, c_69])
        refine z_lv [0, 1, 2, 3, 4] (lv' := [(4, .int (nI 0)), (3, .int (nI 0)), (2, .int (nI k)), (0, .ref t), (1, .int x)]) rfl ?_
        exact lp_22 _ 0 0 (Nat.lt_succ_self _) (Nat.zero_le _) rfl
  refine z_lv [0, 1, 2] (lv' := [(2, .int (nI 0)), (0, .ref t), (1, .int x)]) rfl ?_
  exact lp_7 _ 0 (Nat.lt_succ_self _) (Nat.zero_le _) rfl

set_option maxHeartbeats 1000000 in
theorem m_X3_kind_no {l : Launch} {G : zG} {h : zH} {n : Nat} {t : Nat} {w0 : Nat → Int32} {w1 : Nat → Int32} {w2 : Nat → Int32} {w3 : Nat → Int32} {w4 : Nat → Int32} {w5 : Nat → Int64} {w6 : Nat → Int64} {w7 : Nat → Int64} {w8 : Nat → Int64} {w9 : Nat → Int64} {w10 : Nat → Int64} {w11 : Nat → Int64} {w12 : Int32} {w13 : Int32} {w14 : Int32} {w15 : Int32} {w16 : Int32} {w17 : Int32} {w18 : Bool} {w19 : Nat → Int32} {w20 : Int32} {w21 : Nat → Int32} {w22 : Nat → Int32} {w23 : Nat → Int32} {w24 : Int32} {w25 : Int32} {w26 : Int32} {w27 : Int32} {w28 : Bool} {R S D : Nat} {x : Int32}  (ht : z_n0 G ≤ t) (hw : z_ok w0 R S D) (hx : tw_isS S x = false) : z_C l G yX3_kind 3 0 0 [.ref t, .int x] (z_tw G t w0 w1 w2 w3 w4 w5 w6 w7 w8 w9 w10 w11 w12 w13 w14 w15 w16 w17 w18 w19 w20 w21 w22 w23 w24 w25 w26 w27 w28 h) n (z_rv (.int (nI 32)) (z_tw G t w0 w1 w2 w3 w4 w5 w6 w7 w8 w9 w10 w11 (nI 1) w13 w14 w15 w16 w17 w18 w19 w20 w21 w22 w23 w24 w25 w26 w27 w28 h) n) := by
  refine z_start zk_X3_kind zpl_RX3 (Nat.le_of_ble_eq_true rfl) ?_
  intro hn0 M hl hG ho hb hN hr hm hH hrm hQ
  subst hl hG
  have ho : zm_o M = RX3 := ho
  obtain ⟨hR, hR4, hS, hS8, hD, hD6, hF⟩ := id hw
  unfold tw_isS at hx
  show z_V M (z_tw (zm_G M) t w0 w1 w2 w3 w4 w5 w6 w7 w8 w9 w10 w11 w12 w13 w14 w15 w16 w17 w18 w19 w20 w21 w22 w23 w24 w25 w26 w27 w28 h) n 0 0 0 [(0, .ref t), (1, .int x)] []
  refine z_aload_n hb dX3_kind_0 rfl ?_
  refine z_aload_n hb dX3_kind_1 rfl ?_
  refine z_iload_n hb dX3_kind_2 rfl ?_
  refine z_call1 (b' := 0) (f' := 0) (rest := [.ref t]) (av := [.ref t, .int x]) (z_siteV hb ho zc2 z_tw_o q2927 q2929 qs56 ⟨_, _, _, _, zk_X3_isStep⟩ zy_X3_isStep zl_X3_isStep dX3_kind_3 : z_Site M _ _ _ _ _ ([.int x].reverse ++ .ref t :: [.ref t]) [.ref t] _) zk_X3_isStep q104 hrm (m_X3_isStep x ht hw) (by omega) (by decide) (Nat.le_of_ble_eq_true rfl) (by omega) (by omega) ?_
  refine z_call1 (b' := 0) (f' := 0) (rest := []) (av := [.ref t, .int (z_b (decide (nI 0 ≤ x ∧ x ≤ nI S - nI 1)))]) (z_siteV hb ho zc2 z_tw_o q2995 q2997 qs66 ⟨_, _, _, _, zk_X3_checked⟩ zy_X3_checked zl_X3_checked dX3_kind_6 : z_Site M _ _ _ _ _ ([.int (z_b (decide (nI 0 ≤ x ∧ x ≤ nI S - nI 1)))].reverse ++ .ref t :: []) [] _) zk_X3_checked q104 hrm (m_X3_checked (decide (nI 0 ≤ x ∧ x ≤ nI S - nI 1)) ht) (by omega) (by decide) (Nat.le_of_ble_eq_true rfl) (by omega) (by omega) ?_
  refine z_ifb_le (tgt := 17) hb dX3_kind_9 (by decide) (fun c_9 => ?_) (fun c_9 => ?_)
  · rw [hx] at c_9; exact absurd c_9 (by decide)
  · refine z_bipush (x := nI 32) hb dX3_kind_12 (by decide) ?_
    refine z_goto (tgt := 24) hb dX3_kind_14 (by decide) ?_
    refine z_zret hb hr rfl dX3_kind_24 ?_
    rw [hQ]
    rw [hx]; exact ⟨rfl, rfl, rfl⟩

set_option maxHeartbeats 1000000 in
theorem m_X3_kind_ok {l : Launch} {G : zG} {h : zH} {n : Nat} {t : Nat} {w0 : Nat → Int32} {w1 : Nat → Int32} {w2 : Nat → Int32} {w3 : Nat → Int32} {w4 : Nat → Int32} {w5 : Nat → Int64} {w6 : Nat → Int64} {w7 : Nat → Int64} {w8 : Nat → Int64} {w9 : Nat → Int64} {w10 : Nat → Int64} {w11 : Nat → Int64} {w12 : Int32} {w13 : Int32} {w14 : Int32} {w15 : Int32} {w16 : Int32} {w17 : Int32} {w18 : Bool} {w19 : Nat → Int32} {w20 : Int32} {w21 : Nat → Int32} {w22 : Nat → Int32} {w23 : Nat → Int32} {w24 : Int32} {w25 : Int32} {w26 : Int32} {w27 : Int32} {w28 : Bool} {R S D : Nat} {k : Nat}  (ht : z_n0 G ≤ t) (hw : z_ok w0 R S D) (hkS : k < S) : z_C l G yX3_kind 3 0 0 [.ref t, .int (nI k)] (z_tw G t w0 w1 w2 w3 w4 w5 w6 w7 w8 w9 w10 w11 w12 w13 w14 w15 w16 w17 w18 w19 w20 w21 w22 w23 w24 w25 w26 w27 w28 h) n (z_rv (.int (((w0 (176 + 4 * k)).toUInt32 % 65536).toInt32)) (z_tw G t w0 w1 w2 w3 w4 w5 w6 w7 w8 w9 w10 w11 (nI 0) w13 w14 w15 w16 w17 w18 w19 w20 w21 w22 w23 w24 w25 w26 w27 w28 h) n) := by
  refine z_start zk_X3_kind zpl_RX3 (Nat.le_of_ble_eq_true rfl) ?_
  intro hn0 M hl hG ho hb hN hr hm hH hrm hQ
  subst hl hG
  have ho : zm_o M = RX3 := ho
  obtain ⟨hR, hR4, hS, hS8, hD, hD6, hF⟩ := id hw
  have hx := z_inR hkS (by omega)
  show z_V M (z_tw (zm_G M) t w0 w1 w2 w3 w4 w5 w6 w7 w8 w9 w10 w11 w12 w13 w14 w15 w16 w17 w18 w19 w20 w21 w22 w23 w24 w25 w26 w27 w28 h) n 0 0 0 [(0, .ref t), (1, .int (nI k))] []
  refine z_aload_n hb dX3_kind_0 rfl ?_
  refine z_aload_n hb dX3_kind_1 rfl ?_
  refine z_iload_n hb dX3_kind_2 rfl ?_
  refine z_call1 (b' := 0) (f' := 0) (rest := [.ref t]) (av := [.ref t, .int (nI k)]) (z_siteV hb ho zc2 z_tw_o q2927 q2929 qs56 ⟨_, _, _, _, zk_X3_isStep⟩ zy_X3_isStep zl_X3_isStep dX3_kind_3 : z_Site M _ _ _ _ _ ([.int (nI k)].reverse ++ .ref t :: [.ref t]) [.ref t] _) zk_X3_isStep q104 hrm (m_X3_isStep (nI k) ht hw) (by omega) (by decide) (Nat.le_of_ble_eq_true rfl) (by omega) (by omega) ?_
  refine z_call1 (b' := 0) (f' := 0) (rest := []) (av := [.ref t, .int (z_b (decide (nI 0 ≤ (nI k) ∧ (nI k) ≤ nI S - nI 1)))]) (z_siteV hb ho zc2 z_tw_o q2995 q2997 qs66 ⟨_, _, _, _, zk_X3_checked⟩ zy_X3_checked zl_X3_checked dX3_kind_6 : z_Site M _ _ _ _ _ ([.int (z_b (decide (nI 0 ≤ (nI k) ∧ (nI k) ≤ nI S - nI 1)))].reverse ++ .ref t :: []) [] _) zk_X3_checked q104 hrm (m_X3_checked (decide (nI 0 ≤ (nI k) ∧ (nI k) ≤ nI S - nI 1)) ht) (by omega) (by decide) (Nat.le_of_ble_eq_true rfl) (by omega) (by omega) ?_
  refine z_ifb_le (tgt := 17) hb dX3_kind_9 (by decide) (fun c_9 => ?_) (fun c_9 => ?_)
  · refine z_aload_n hb dX3_kind_17 rfl ?_
    refine z_iload_n hb dX3_kind_18 rfl ?_
    refine z_iconst (x := nI 0) hb dX3_kind_19 (by decide) ?_
    refine z_call1 (b' := 0) (f' := 0) (rest := []) (av := [.ref t, .int (nI k), .int (nI 0)]) (z_siteV hb ho zc2 z_tw_o q2847 q2849 qs40 ⟨_, _, _, _, zk_X3_s⟩ zy_X3_s zl_X3_s dX3_kind_20 : z_Site M _ _ _ _ _ ([.int (nI k), .int (nI 0)].reverse ++ .ref t :: []) [] _) zk_X3_s q104 hrm (m_X3_s k 0 ht (by omega)) (by omega) (by decide) (Nat.le_of_ble_eq_true rfl) (by omega) (by omega) ?_
    refine z_toI (y := w0 (176 + 4 * k)) rfl ?_
    refine z_i2c hb dX3_kind_23 rfl ?_
    refine z_zret hb hr (pk_nc _) dX3_kind_24 ?_
    rw [hQ]
    rw [hx]; exact ⟨rfl, rfl, rfl⟩
  · rw [hx] at c_9; exact absurd c_9 (by decide)

set_option maxHeartbeats 1000000 in
theorem m_X3_cannotAsk {l : Launch} {G : zG} {h : zH} {n : Nat} {t : Nat} {w0 : Nat → Int32} {w1 : Nat → Int32} {w2 : Nat → Int32} {w3 : Nat → Int32} {w4 : Nat → Int32} {w5 : Nat → Int64} {w6 : Nat → Int64} {w7 : Nat → Int64} {w8 : Nat → Int64} {w9 : Nat → Int64} {w10 : Nat → Int64} {w11 : Nat → Int64} {w12 : Int32} {w13 : Int32} {w14 : Int32} {w15 : Int32} {w16 : Int32} {w17 : Int32} {w18 : Bool} {w19 : Nat → Int32} {w20 : Int32} {w21 : Nat → Int32} {w22 : Nat → Int32} {w23 : Nat → Int32} {w24 : Int32} {w25 : Int32} {w26 : Int32} {w27 : Int32} {w28 : Bool} {R S D : Nat}  (x : Int32) (d : Int32) (c : Int32) (ht : z_n0 G ≤ t) (hw : z_ok w0 R S D) : z_C l G yX3_cannotAsk 3 0 0 [.ref t, .int x, .int d, .int c] (z_tw G t w0 w1 w2 w3 w4 w5 w6 w7 w8 w9 w10 w11 w12 w13 w14 w15 w16 w17 w18 w19 w20 w21 w22 w23 w24 w25 w26 w27 w28 h) n (z_rv (.int (nI (tw_ask S D x d c))) (z_tw G t w0 w1 w2 w3 w4 w5 w6 w7 w8 w9 w10 w11 w12 w13 w14 w15 w16 w17 w18 w19 w20 w21 w22 w23 w24 w25 w26 w27 w28 h) n) := by
  refine z_start zk_X3_cannotAsk zpl_RX3 (Nat.le_of_ble_eq_true rfl) ?_
  intro hn0 M hl hG ho hb hN hr hm hH hrm hQ
  subst hl hG
  have ho : zm_o M = RX3 := ho
  obtain ⟨hR, hR4, hS, hS8, hD, hD6, hF⟩ := id hw
  show z_V M (z_tw (zm_G M) t w0 w1 w2 w3 w4 w5 w6 w7 w8 w9 w10 w11 w12 w13 w14 w15 w16 w17 w18 w19 w20 w21 w22 w23 w24 w25 w26 w27 w28 h) n 0 0 0 [(0, .ref t), (1, .int x), (2, .int d), (3, .int c)] []
  refine z_aload_n hb dX3_cannotAsk_0 rfl ?_
  refine z_iload_n hb dX3_cannotAsk_1 rfl ?_
  refine z_call1 (b' := 0) (f' := 0) (rest := []) (av := [.ref t, .int x]) (z_siteV hb ho zc2 z_tw_o q2927 q2929 qs56 ⟨_, _, _, _, zk_X3_isStep⟩ zy_X3_isStep zl_X3_isStep dX3_cannotAsk_2 : z_Site M _ _ _ _ _ ([.int x].reverse ++ .ref t :: []) [] _) zk_X3_isStep q104 hrm (m_X3_isStep x ht hw) (by omega) (by decide) (Nat.le_of_ble_eq_true rfl) (by omega) (by omega) ?_
  refine z_ifb_ne (tgt := 10) hb dX3_cannotAsk_5 (by decide) (fun c_5 => ?_) (fun c_5 => ?_)
  · refine z_aload_n hb dX3_cannotAsk_10 rfl ?_
    refine z_iload_n hb dX3_cannotAsk_11 rfl ?_
    refine z_call1 (b' := 0) (f' := 0) (rest := []) (av := [.ref t, .int d]) (z_siteV hb ho zc2 z_tw_o q2971 q2973 qs63 ⟨_, _, _, _, zk_X3_isDay⟩ zy_X3_isDay zl_X3_isDay dX3_cannotAsk_12 : z_Site M _ _ _ _ _ ([.int d].reverse ++ .ref t :: []) [] _) zk_X3_isDay q104 hrm (m_X3_isDay d ht hw) (by omega) (by decide) (Nat.le_of_ble_eq_true rfl) (by omega) (by omega) ?_
    refine z_ifb_eq (tgt := 29) hb dX3_cannotAsk_15 (by decide) (fun c_15 => ?_) (fun c_15 => ?_)
    · refine z_iconst (x := nI 2) hb dX3_cannotAsk_29 (by decide) ?_
      refine z_iret hb hr dX3_cannotAsk_30 ?_
      rw [hQ]
      exact z_rve (by rw [show tw_ask S D x d c = 2 by simp [tw_ask, tw_isS, c_5, c_15]])
    · refine z_iload_n hb dX3_cannotAsk_18 rfl ?_
      refine z_call1 (b' := 0) (f' := 0) (rest := []) (av := [.int c]) (z_siteS hb ho q2806 q2807 q104 ⟨_, _, _, _, zk_X3_isGroup⟩ zy_X3_isGroup zl_X3_isGroup dX3_cannotAsk_19 : z_Site M _ _ _ _ _ ([.int c].reverse ++ []) [] _) zk_X3_isGroup q104 hrm (m_X3_isGroup c ht) (by omega) (by decide) (Nat.le_of_ble_eq_true rfl) (by omega) (by omega) ?_
      refine z_ifb_eq (tgt := 29) hb dX3_cannotAsk_22 (by decide) (fun c_22 => ?_) (fun c_22 => ?_)
      · refine z_iconst (x := nI 2) hb dX3_cannotAsk_29 (by decide) ?_
        refine z_iret hb hr dX3_cannotAsk_30 ?_
        rw [hQ]
        exact z_rve (by rw [show tw_ask S D x d c = 2 by simp [tw_ask, tw_isS, c_5, c_15, c_22]])
      · refine z_iconst (x := nI 0) hb dX3_cannotAsk_25 (by decide) ?_
        refine z_goto (tgt := 30) hb dX3_cannotAsk_26 (by decide) ?_
        refine z_iret hb hr dX3_cannotAsk_30 ?_
        rw [hQ]
        exact z_rve (by rw [show tw_ask S D x d c = 0 by simp [tw_ask, tw_isS, c_5, c_15, c_22]])
  · refine z_iconst (x := nI 1) hb dX3_cannotAsk_8 (by decide) ?_
    refine z_iret hb hr dX3_cannotAsk_9 ?_
    rw [hQ]
    exact z_rve (by rw [show tw_ask S D x d c = 1 by simp [tw_ask, tw_isS, c_5]])

