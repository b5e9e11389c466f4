def tw_own (w0 : Nat → Int32) (k : Nat) (d g : Int32) : Nat → Int64
  | 0 => 0
  | p + 1 => tw_own w0 k d g p ||| (if tw_cnt w0 p k d g then 1 <<< ((nI p).toInt64 &&& 63) else 0)
def tw_lb0 (w0 : Nat → Int32) (R g k d : Nat) (b : Nat → Int64) : Nat → Int64 := va_up b (7 * k + d) (if tw_base w0 k then tw_own w0 k (nI d) (nI g) R else b (7 * tw_f w0 k + d) ||| b (7 * tw_s w0 k + d))
def tw_lbr (w0 : Nat → Int32) (k d : Nat) (b : Nat → Int64) : Nat → (Nat → Int64)
  | 0 => b
  | e + 1 => va_up (tw_lbr w0 k d b e) (7 * k + d) (tw_lbr w0 k d b e (7 * k + d) ||| tw_lbr w0 k d b e (7 * tw_f w0 k + e))
def tw_lb1 (w0 : Nat → Int32) (R g k d : Nat) (b : Nat → Int64) : Nat → Int64 := if w0 (176 + 4 * k) = nI 114 then tw_lbr w0 k d (tw_lb0 w0 R g k d b) d else tw_lb0 w0 R g k d b
def tw_lb2 (w0 : Nat → Int32) (R g k : Nat) (b : Nat → Int64) : Nat → (Nat → Int64)
  | 0 => b
  | d + 1 => tw_lb1 w0 R g k d (tw_lb2 w0 R g k b d)
def tw_lb (w0 : Nat → Int32) (R g D : Nat) (b : Nat → Int64) : Nat → (Nat → Int64)
  | 0 => b
  | k + 1 => tw_lb2 w0 R g k (tw_lb w0 R g D b k) (D + 1)
def tw_bit (v : Int64) (p : Nat) : Bool := decide ((v >>> ((nI p).toInt64 &&& 63)) &&& 1 = 1)
def tw_bc (v : Int64) : Nat → Nat
  | 0 => 0
  | p + 1 => tw_bc v p + (tw_bit v p).toNat
def tw_rc1 (b : Nat → Int64) (p k : Nat) : Nat → Nat
  | 0 => 0
  | d + 1 => tw_rc1 b p k d + (tw_bit (b (7 * k + d)) p).toNat
def tw_rc (b : Nat → Int64) (p D : Nat) : Nat → Nat
  | 0 => 0
  | k + 1 => tw_rc b p D k + tw_rc1 b p k (D + 1)
def tw_pl (x : Int32) (k : Nat) : Bool := decide ((x >>> (nI k &&& 31)) &&& nI 1 = nI 1)
def tw_lc1 (w0 : Nat → Int32) (R : Nat) (x : Int32) (u : Nat → Int64) (k : Nat) : Int64 := if tw_pl x k then 1 else 1 + (if tw_base w0 k then (nI R).toInt64 else
  if w0 (176 + 4 * k) = nI 107 then u (tw_f w0 k) else if w0 (176 + 4 * k) = nI 114 then 7 * u (tw_f w0 k) else u (tw_f w0 k) + u (tw_s w0 k))
def tw_lc (w0 : Nat → Int32) (R : Nat) (x : Int32) (u : Nat → Int64) : Nat → (Nat → Int64)
  | 0 => u
  | k + 1 => va_up (tw_lc w0 R x u k) k (tw_lc1 w0 R x (tw_lc w0 R x u k) k)
def tw_sum8 (u : Nat → Int64) : Nat → Int64
  | 0 => 0
  | k + 1 => tw_sum8 u k + u k
def tw_wh (w0 : Nat → Int32) (R S : Nat) (x : Int32) (u : Nat → Int64) : Int64 := tw_sum8 (tw_lc w0 R x u S) S
def tw_many (x : Int32) : Nat → Int32
  | 0 => nI 0
  | j + 1 => tw_many x j + ((x >>> (nI j &&& 31)) &&& nI 1)
def tw_bs1 (w0 : Nat → Int32) (R S : Nat) (x : Int32) (p : Nat) (q : Nat × (Nat → Int64)) : Nat × (Nat → Int64) :=
  if x < tw_many (nI p) 8 then q else (if tw_wh w0 R S (nI p) q.2 < tw_wh w0 R S (nI q.1) (tw_lc w0 R (nI p) q.2 S) then p else q.1, tw_lc w0 R (nI q.1) (tw_lc w0 R (nI p) q.2 S) S)
def tw_bs (w0 : Nat → Int32) (R S : Nat) (x : Int32) (u : Nat → Int64) : Nat → Nat × (Nat → Int64)
  | 0 => (0, u)
  | p + 1 => tw_bs1 w0 R S x (p + 1) (tw_bs w0 R S x u p)
def tw_best (w0 : Nat → Int32) (R S : Nat) (x : Int32) (u : Nat → Int64) : Nat × (Nat → Int64) := tw_bs w0 R S x u (2 ^ S - 1)
theorem z_shl1 : ∀ {S : Nat}, S ≤ 8 → nI 1 <<< (nI S &&& 31) = nI (2 ^ S) := by
  intro S h
  have : ∀ S : Nat, S < 9 → nI 1 <<< (nI S &&& 31) = nI (2 ^ S) := by decide
  exact this S (by omega)
theorem z_pow8 {S : Nat} (h : S ≤ 8) : 2 ^ S ≤ 256 ∧ 1 ≤ 2 ^ S := ⟨Nat.pow_le_pow_right (by omega) h, Nat.one_le_two_pow⟩
theorem tw_bs_lt {w0 : Nat → Int32} {R S : Nat} {x : Int32} {u : Nat → Int64} : ∀ p : Nat, (tw_bs w0 R S x u p).1 ≤ p
  | 0 => Nat.le_refl _
  | p + 1 => by
    have h := @tw_bs_lt w0 R S x u p
    rw [tw_bs, tw_bs1]
    split
    · omega
    · simp only []
      split <;> omega
def tw_am (w0 : Nat → Int32) : Nat → Int32
  | 0 => nI 0
  | p + 1 => tw_am w0 p + w0 (16 + 4 * p + 3)

set_option maxHeartbeats 1000000 in
theorem m_X3_ownRows {l : Launch} {G : zG} {h : zH} {n : Nat} {t : Nat} {w0 : Nat → Int32} {w1 : Nat → Int32} {w2 : Nat → Int32} {w3 : Nat → Int32} {w4 : Nat → Int32} {w5 : Nat → Int64} {w6 : Nat → Int64} {w7 : Nat → Int64} {w8 : Nat → Int64} {w9 : Nat → Int64} {w10 : Nat → Int64} {w11 : Nat → Int64} {w12 : Int32} {w13 : Int32} {w14 : Int32} {w15 : Int32} {w16 : Int32} {w17 : Int32} {w18 : Bool} {w19 : Nat → Int32} {w20 : Int32} {w21 : Nat → Int32} {w22 : Nat → Int32} {w23 : Nat → Int32} {w24 : Int32} {w25 : Int32} {w26 : Int32} {w27 : Int32} {w28 : Bool} {R S D : Nat}  (k : Nat) (d : Int32) (g : Int32) (ht : z_n0 G ≤ t) (hw : z_ok w0 R S D) (hk8 : k < 8) : z_C l G yX3_ownRows 3 0 0 [.ref t, .int (nI k), .int d, .int g] (z_tw G t w0 w1 w2 w3 w4 w5 w6 w7 w8 w9 w10 w11 w12 w13 w14 w15 w16 w17 w18 w19 w20 w21 w22 w23 w24 w25 w26 w27 w28 h) n (z_rv (.long (tw_own w0 k d g R)) (z_tw G t w0 w1 w2 w3 w4 w5 w6 w7 w8 w9 w10 w11 w12 w13 w14 w15 w16 w17 w18 w19 w20 w21 w22 w23 w24 w25 w26 w27 w28 h) n) := by
  refine z_start zk_X3_ownRows zpl_RX3 (Nat.le_of_ble_eq_true rfl) ?_
  intro hn0 M hl hG ho hb hN hr hm hH hrm hQ
  subst hl hG
  have ho : zm_o M = RX3 := ho
  obtain ⟨hR, hR4, hS, hS8, hD, hD6, hF⟩ := id hw
  show z_V M (z_tw (zm_G M) t w0 w1 w2 w3 w4 w5 w6 w7 w8 w9 w10 w11 w12 w13 w14 w15 w16 w17 w18 w19 w20 w21 w22 w23 w24 w25 w26 w27 w28 h) n 0 0 0 [(0, .ref t), (1, .int (nI k)), (2, .int d), (3, .int g)] []
  refine z_lconst (x := 0) hb dX3_ownRows_0 rfl ?_
  refine z_lstore (lv' := [(4, .long 0), (0, .ref t), (1, .int (nI k)), (2, .int d), (3, .int g)]) hb dX3_ownRows_1 (by rw [hN]; decide) rfl ?_
  refine z_iconst (x := nI 0) hb dX3_ownRows_3 (by decide) ?_
  refine z_istore (lv' := [(6, .int (nI 0)), (4, .long 0), (0, .ref t), (1, .int (nI k)), (2, .int d), (3, .int g)]) hb dX3_ownRows_4 (by rw [hN]; decide) rfl ?_
  have lp_6 : ∀ (k9_6 : Nat) (p : Nat) (v : Int64), R - p < k9_6 → (p ≤ R) → (v = tw_own w0 k d g p) → z_V M (z_tw (zm_G M) t w0 w1 w2 w3 w4 w5 w6 w7 w8 w9 w10 w11 w12 w13 w14 w15 w16 w17 w18 w19 w20 w21 w22 w23 w24 w25 w26 w27 w28 h) n 0 0 6 [(6, .int (nI p)), (4, .long v), (0, .ref t), (1, .int (nI k)), (2, .int d), (3, .int g)] [] := by
    intro k9_6
    induction k9_6 with
    | zero => intro p v hk9_6; exact absurd hk9_6 (Nat.not_lt_zero _)
    | succ k9_6 ih_6 =>
      intro p v hk9_6 hp hv
      refine z_iload hb dX3_ownRows_6 rfl ?_
      refine z_aload_n hb dX3_ownRows_8 rfl ?_
      refine z_get (k := 0) (C := RX3) (T := TX3) (N := 29) hb ho zc2 in_X3 (zf_RX3_7 _) dX3_ownRows_9 z_tw_o (by decide) rfl ?_
      refine z_iconst (x := nI 1) hb dX3_ownRows_12 (by decide) ?_
      refine z_iald (j := 1) hb dX3_ownRows_13 z_tw_r0 rfl (by omega) (by omega) ?_
      refine z_toI (y := nI R) hR ?_
      refine z_icmp_geN (tgt := 48) hb dX3_ownRows_14 (by decide) (by omega) (by omega) (fun c_14 => ?_) (fun c_14 => ?_)
      · refine z_lload hb dX3_ownRows_48 rfl ?_
        refine z_lret hb hr dX3_ownRows_50 ?_
        rw [hQ]
        exact z_rve (by rw [hv, show p = R by omega])
      · refine z_lload hb dX3_ownRows_17 rfl ?_
        refine z_aload_n hb dX3_ownRows_19 rfl ?_
        refine z_iload hb dX3_ownRows_20 rfl ?_
        refine z_iload_n hb dX3_ownRows_22 rfl ?_
        refine z_iload_n hb dX3_ownRows_23 rfl ?_
        refine z_iload_n hb dX3_ownRows_24 rfl ?_
        refine z_call1 (b' := 0) (f' := 0) (rest := [.long v]) (av := [.ref t, .int (nI p), .int (nI k), .int d, .int g]) (z_siteV hb ho zc2 z_tw_o q2855 q2857 qs42 ⟨_, _, _, _, zk_X3_counts⟩ zy_X3_counts zl_X3_counts dX3_ownRows_25 : z_Site M _ _ _ _ _ ([.int (nI p), .int (nI k), .int d, .int g].reverse ++ .ref t :: [.long v]) [.long v] _) zk_X3_counts q104 hrm (m_X3_counts p k d g ht (by omega) (by omega)) (by omega) (by decide) (Nat.le_of_ble_eq_true rfl) (by omega) (by omega) ?_
        refine z_ifb_eq (tgt := 38) hb dX3_ownRows_28 (by decide) (fun c_28 => ?_) (fun c_28 => ?_)
        · refine z_lconst (x := 0) hb dX3_ownRows_38 rfl ?_
          refine z_lor hb dX3_ownRows_39 ?_
          refine z_lstore (lv' := [(4, .long (v ||| 0)), (6, .int (nI p)), (0, .ref t), (1, .int (nI k)), (2, .int d), (3, .int g)]) hb dX3_ownRows_40 (by rw [hN]; decide) rfl ?_
          refine z_iinc (k0 := 1) (lv' := [(6, .int (nI (p + 1))), (4, .long (v ||| 0)), (0, .ref t), (1, .int (nI k)), (2, .int d), (3, .int g)]) hb dX3_ownRows_42 rfl (nI_1 p) (by rw [hN]; decide) rfl ?_
          refine z_goto (tgt := 6) hb dX3_ownRows_45 (by decide) ?_
          refine z_lv [0, 1, 2, 3, 4, 5] (lv' := [(6, .int (nI (p + 1))), (4, .long (v ||| 0)), (0, .ref t), (1, .int (nI k)), (2, .int d), (3, .int g)]) rfl ?_
          exact ih_6 (p + 1) _ (by omega) (by omega) (by rw [hv, tw_own, if_neg (by simp [c_28])])
        · refine z_lconst (x := 1) hb dX3_ownRows_31 rfl ?_
          refine z_iload hb dX3_ownRows_32 rfl ?_
          refine z_lshl hb dX3_ownRows_34 rfl ?_
          refine z_goto (tgt := 39) hb dX3_ownRows_35 (by decide) ?_
          refine z_lor hb dX3_ownRows_39 ?_
          refine z_lstore (lv' := [(4, .long (v ||| (1 <<< ((nI p).toInt64 &&& 63)))), (6, .int (nI p)), (0, .ref t), (1, .int (nI k)), (2, .int d), (3, .int g)]) hb dX3_ownRows_40 (by rw [hN]; decide) rfl ?_
          refine z_iinc (k0 := 1) (lv' := [(6, .int (nI (p + 1))), (4, .long (v ||| (1 <<< ((nI p).toInt64 &&& 63)))), (0, .ref t), (1, .int (nI k)), (2, .int d), (3, .int g)]) hb dX3_ownRows_42 rfl (nI_1 p) (by rw [hN]; decide) rfl ?_
          refine z_goto (tgt := 6) hb dX3_ownRows_45 (by decide) ?_
          refine z_lv [0, 1, 2, 3, 4, 5] (lv' := [(6, .int (nI (p + 1))), (4, .long (v ||| (1 <<< ((nI p).toInt64 &&& 63)))), (0, .ref t), (1, .int (nI k)), (2, .int d), (3, .int g)]) rfl ?_
          exact ih_6 (p + 1) _ (by omega) (by omega) (by rw [hv, tw_own, if_pos c_28])
  refine z_lv [0, 1, 2, 3, 4, 5] (lv' := [(6, .int (nI 0)), (4, .long 0), (0, .ref t), (1, .int (nI k)), (2, .int d), (3, .int g)]) rfl ?_
  exact lp_6 _ 0 _ (Nat.lt_succ_self _) (Nat.zero_le _) rfl

set_option maxHeartbeats 1000000 in
theorem m_X3_layBehind {l : Launch} {G : zG} {h : zH} {n : Nat} {t : Nat} {w0 : Nat → Int32} {w1 : Nat → Int32} {w2 : Nat → Int32} {w3 : Nat → Int32} {w4 : Nat → Int32} {w5 : Nat → Int64} {w6 : Nat → Int64} {w7 : Nat → Int64} {w8 : Nat → Int64} {w9 : Nat → Int64} {w10 : Nat → Int64} {w11 : Nat → Int64} {w12 : Int32} {w13 : Int32} {w14 : Int32} {w15 : Int32} {w16 : Int32} {w17 : Int32} {w18 : Bool} {w19 : Nat → Int32} {w20 : Int32} {w21 : Nat → Int32} {w22 : Nat → Int32} {w23 : Nat → Int32} {w24 : Int32} {w25 : Int32} {w26 : Int32} {w27 : Int32} {w28 : Bool} {R S D : Nat}  (g : Nat) (ht : z_n0 G ≤ t) (hw : z_ok w0 R S D) : z_C l G yX3_layBehind 4 0 0 [.ref t, .int (nI g)] (z_tw G t w0 w1 w2 w3 w4 w5 w6 w7 w8 w9 w10 w11 w12 w13 w14 w15 w16 w17 w18 w19 w20 w21 w22 w23 w24 w25 w26 w27 w28 h) n (z_r0 (z_tw G t w0 w1 w2 w3 w4 w5 w6 w7 w8 w9 (tw_lb w0 R g D w10 S) w11 w12 w13 w14 w15 w16 w17 w18 w19 w20 w21 w22 w23 w24 w25 w26 w27 w28 h) n) := by
  refine z_start zk_X3_layBehind zpl_RX3 (Nat.le_of_ble_eq_true rfl) ?_
  intro hn0 M hl hG ho hb hN hr hm hH hrm hQ
  subst hl hG
  have ho : zm_o M = RX3 := ho
  obtain ⟨hR, hR4, hS, hS8, hD, hD6, hF⟩ := id hw
  show z_V M (z_tw (zm_G M) t w0 w1 w2 w3 w4 w5 w6 w7 w8 w9 w10 w11 w12 w13 w14 w15 w16 w17 w18 w19 w20 w21 w22 w23 w24 w25 w26 w27 w28 h) n 0 0 0 [(0, .ref t), (1, .int (nI g))] []
  refine z_iconst (x := nI 0) hb dX3_layBehind_0 (by decide) ?_
  refine z_istore_n (lv' := [(2, .int (nI 0)), (0, .ref t), (1, .int (nI g))]) hb dX3_layBehind_1 (by rw [hN]; decide) rfl ?_
  have lp_2 : ∀ (k9_2 : Nat) (k : Nat) (b1 : Nat → Int64), S - k < k9_2 → (k ≤ S) → (b1 = tw_lb w0 R g D w10 k) → z_V M (z_tw (zm_G M) t w0 w1 w2 w3 w4 w5 w6 w7 w8 w9 b1 w11 w12 w13 w14 w15 w16 w17 w18 w19 w20 w21 w22 w23 w24 w25 w26 w27 w28 h) n 0 0 2 [(2, .int (nI k)), (0, .ref t), (1, .int (nI g))] [] := by
    intro k9_2
    induction k9_2 with
    | zero => intro k b1 hk9_2; exact absurd hk9_2 (Nat.not_lt_zero _)
    | succ k9_2 ih_2 =>
      intro k b1 hk9_2 hk hb1
      refine z_iload_n hb dX3_layBehind_2 rfl ?_
      refine z_aload_n hb dX3_layBehind_3 rfl ?_
      refine z_get (k := 0) (C := RX3) (T := TX3) (N := 29) hb ho zc2 in_X3 (zf_RX3_7 _) dX3_layBehind_4 z_tw_o (by decide) rfl ?_
      refine z_iconst (x := nI 3) hb dX3_layBehind_7 (by decide) ?_
      refine z_iald (j := 3) hb dX3_layBehind_8 z_tw_r0 rfl (by omega) (by omega) ?_
      refine z_toI (y := nI S) hS ?_
      refine z_icmp_geN (tgt := 155) hb dX3_layBehind_9 (by decide) (by omega) (by omega) (fun c_9 => ?_) (fun c_9 => ?_)
      · refine z_vret hb hr dX3_layBehind_155 ?_
        rw [hQ]
        rw [hb1, show k = S by omega]; exact ⟨rfl, rfl, rfl⟩
      · refine z_iconst (x := nI 0) hb dX3_layBehind_12 (by decide) ?_
        refine z_istore_n (lv' := [(3, .int (nI 0)), (2, .int (nI k)), (0, .ref t), (1, .int (nI g))]) hb dX3_layBehind_13 (by rw [hN]; decide) rfl ?_
        have lp_14 : ∀ (k9_14 : Nat) (d : Nat) (b2 : Nat → Int64), D + 1 - d < k9_14 → (d ≤ D + 1) → (b2 = tw_lb2 w0 R g k b1 d) → z_V M (z_tw (zm_G M) t w0 w1 w2 w3 w4 w5 w6 w7 w8 w9 b2 w11 w12 w13 w14 w15 w16 w17 w18 w19 w20 w21 w22 w23 w24 w25 w26 w27 w28 h) n 0 0 14 [(3, .int (nI d)), (2, .int (nI k)), (0, .ref t), (1, .int (nI g))] [] := by
          intro k9_14
          induction k9_14 with
          | zero => intro d b2 hk9_14; exact absurd hk9_14 (Nat.not_lt_zero _)
          | succ k9_14 ih_14 =>
            intro d b2 hk9_14 hd hb2
            refine z_iload_n hb dX3_layBehind_14 rfl ?_
            refine z_aload_n hb dX3_layBehind_15 rfl ?_
            refine z_get (k := 0) (C := RX3) (T := TX3) (N := 29) hb ho zc2 in_X3 (zf_RX3_7 _) dX3_layBehind_16 z_tw_o (by decide) rfl ?_
            refine z_iconst (x := nI 0) hb dX3_layBehind_19 (by decide) ?_
            refine z_iald (j := 0) hb dX3_layBehind_20 z_tw_r0 rfl (by omega) (by omega) ?_
            refine z_toI (y := nI D) hD ?_
            refine z_icmp_gtN (tgt := 149) hb dX3_layBehind_21 (by decide) (by omega) (by omega) (fun c_21 => ?_) (fun c_21 => ?_)
            · refine z_iinc (k0 := 1) (lv' := [(2, .int (nI (k + 1))), (3, .int (nI d)), (0, .ref t), (1, .int (nI g))]) hb dX3_layBehind_149 rfl (nI_1 k) (by rw [hN]; decide) rfl ?_
              refine z_goto (tgt := 2) hb dX3_layBehind_152 (by decide) ?_
              refine z_lv [0, 2, 3] (lv' := [(2, .int (nI (k + 1))), (0, .ref t), (1, .int (nI g))]) rfl ?_
              exact ih_2 (k + 1) _ (by omega) (by omega) (by rw [hb2, show d = D + 1 by omega, hb1]; rfl)
            · obtain ⟨hF1, hF2, hF3, hF4⟩ := hF k (by omega)
              refine z_bipush (x := nI 7) hb dX3_layBehind_24 (by decide) ?_
              refine z_iload_n hb dX3_layBehind_26 rfl ?_
              refine z_imul hb dX3_layBehind_27 ?_
              refine z_toI (y := nI (7 * k)) (pk_mul 7 k) ?_
              refine z_iload_n hb dX3_layBehind_28 rfl ?_
              refine z_iadd hb dX3_layBehind_29 ?_
              refine z_toI (y := nI (7 * k + d)) (nI_add (7 * k) d) ?_
              refine z_istore (lv' := [(4, .int (nI (7 * k + d))), (3, .int (nI d)), (2, .int (nI k)), (0, .ref t), (1, .int (nI g))]) hb dX3_layBehind_30 (by rw [hN]; decide) rfl ?_
              refine z_aload_n hb dX3_layBehind_32 rfl ?_
              refine z_get (k := 10) (C := RX3) (T := TX3) (N := 29) hb ho zc2 in_X3 (zf_RX3_41 _) dX3_layBehind_33 z_tw_o (by decide) rfl ?_
              refine z_iload hb dX3_layBehind_36 rfl ?_
              refine z_aload_n hb dX3_layBehind_38 rfl ?_
              refine z_iload_n hb dX3_layBehind_39 rfl ?_
              refine z_call1 (b' := 0) (f' := 0) (rest := [.int (nI (7 * k + d)), .ref (t + 11)]) (av := [.ref t, .int (nI k)]) (z_siteV hb ho zc2 z_tw_o q2843 q2845 qs39 ⟨_, _, _, _, zk_X3_isBase⟩ zy_X3_isBase zl_X3_isBase dX3_layBehind_40 : z_Site M _ _ _ _ _ ([.int (nI k)].reverse ++ .ref t :: [.int (nI (7 * k + d)), .ref (t + 11)]) [.int (nI (7 * k + d)), .ref (t + 11)] _) zk_X3_isBase q104 hrm (m_X3_isBase k ht (by omega)) (by omega) (by decide) (Nat.le_of_ble_eq_true rfl) (by omega) (by omega) ?_
              refine z_ifb_eq (tgt := 56) hb dX3_layBehind_43 (by decide) (fun c_43 => ?_) (fun c_43 => ?_)
              · refine z_aload_n hb dX3_layBehind_56 rfl ?_
                refine z_get (k := 10) (C := RX3) (T := TX3) (N := 29) hb ho zc2 in_X3 (zf_RX3_41 _) dX3_layBehind_57 z_tw_o (by decide) rfl ?_
                refine z_bipush (x := nI 7) hb dX3_layBehind_60 (by decide) ?_
                refine z_aload_n hb dX3_layBehind_62 rfl ?_
                refine z_iload_n hb dX3_layBehind_63 rfl ?_
                refine z_iconst (x := nI 2) hb dX3_layBehind_64 (by decide) ?_
                refine z_call1 (b' := 0) (f' := 0) (rest := [.int (nI 7), .ref (t + 11), .int (nI (7 * k + d)), .ref (t + 11)]) (av := [.ref t, .int (nI k), .int (nI 2)]) (z_siteV hb ho zc2 z_tw_o q2847 q2849 qs40 ⟨_, _, _, _, zk_X3_s⟩ zy_X3_s zl_X3_s dX3_layBehind_65 : z_Site M _ _ _ _ _ ([.int (nI k), .int (nI 2)].reverse ++ .ref t :: [.int (nI 7), .ref (t + 11), .int (nI (7 * k + d)), .ref (t + 11)]) [.int (nI 7), .ref (t + 11), .int (nI (7 * k + d)), .ref (t + 11)] _) zk_X3_s q104 hrm (m_X3_s k 2 ht (by omega)) (by omega) (by decide) (Nat.le_of_ble_eq_true rfl) (by omega) (by omega) ?_
                refine z_toI (y := nI (tw_f w0 k)) (hF k (by omega)).1 ?_
                refine z_imul hb dX3_layBehind_68 ?_
                refine z_toI (y := nI (7 * (tw_f w0 k))) (pk_mul 7 (tw_f w0 k)) ?_
                refine z_iload_n hb dX3_layBehind_69 rfl ?_
                refine z_iadd hb dX3_layBehind_70 ?_
                refine z_toI (y := nI (7 * (tw_f w0 k) + d)) (nI_add (7 * (tw_f w0 k)) d) ?_
                refine z_lald (j := 7 * (tw_f w0 k) + d) hb dX3_layBehind_71 z_tw_r10 rfl (by omega) (by omega) ?_
                refine z_aload_n hb dX3_layBehind_72 rfl ?_
                refine z_get (k := 10) (C := RX3) (T := TX3) (N := 29) hb ho zc2 in_X3 (zf_RX3_41 _) dX3_layBehind_73 z_tw_o (by decide) rfl ?_
                refine z_bipush (x := nI 7) hb dX3_layBehind_76 (by decide) ?_
                refine z_aload_n hb dX3_layBehind_78 rfl ?_
                refine z_iload_n hb dX3_layBehind_79 rfl ?_
                refine z_iconst (x := nI 3) hb dX3_layBehind_80 (by decide) ?_
                refine z_call1 (b' := 0) (f' := 0) (rest := [.int (nI 7), .ref (t + 11), .long (b2 (7 * (tw_f w0 k) + d)), .int (nI (7 * k + d)), .ref (t + 11)]) (av := [.ref t, .int (nI k), .int (nI 3)]) (z_siteV hb ho zc2 z_tw_o q2847 q2849 qs40 ⟨_, _, _, _, zk_X3_s⟩ zy_X3_s zl_X3_s dX3_layBehind_81 : z_Site M _ _ _ _ _ ([.int (nI k), .int (nI 3)].reverse ++ .ref t :: [.int (nI 7), .ref (t + 11), .long (b2 (7 * (tw_f w0 k) + d)), .int (nI (7 * k + d)), .ref (t + 11)]) [.int (nI 7), .ref (t + 11), .long (b2 (7 * (tw_f w0 k) + d)), .int (nI (7 * k + d)), .ref (t + 11)] _) zk_X3_s q104 hrm (m_X3_s k 3 ht (by omega)) (by omega) (by decide) (Nat.le_of_ble_eq_true rfl) (by omega) (by omega) ?_
                refine z_toI (y := nI (tw_s w0 k)) (hF k (by omega)).2.2.1 ?_
                refine z_imul hb dX3_layBehind_84 ?_
                refine z_toI (y := nI (7 * (tw_s w0 k))) (pk_mul 7 (tw_s w0 k)) ?_
                refine z_iload_n hb dX3_layBehind_85 rfl ?_
                refine z_iadd hb dX3_layBehind_86 ?_
                refine z_toI (y := nI (7 * (tw_s w0 k) + d)) (nI_add (7 * (tw_s w0 k)) d) ?_
                refine z_lald (j := 7 * (tw_s w0 k) + d) hb dX3_layBehind_87 z_tw_r10 rfl (by omega) (by omega) ?_
                refine z_lor hb dX3_layBehind_88 ?_
                refine z_last (j := 7 * k + d) hb dX3_layBehind_89 z_tw_r10 (by omega) rfl (by omega) (by omega) ?_
                refine z_hh z_tw_u10 ?_
                refine z_iconst (x := nI 0) hb dX3_layBehind_90 (by decide) ?_
                refine z_istore (lv' := [(5, .int (nI 0)), (4, .int (nI (7 * k + d))), (3, .int (nI d)), (2, .int (nI k)), (0, .ref t), (1, .int (nI g))]) hb dX3_layBehind_91 (by rw [hN]; decide) rfl ?_
                have lp_93 : ∀ (k9_93 : Nat) (e : Nat) (b3 : Nat → Int64), d - e < k9_93 → (e ≤ d) → (b3 = tw_lbr w0 k d (tw_lb0 w0 R g k d b2) e) → (e = 0 ∨ w0 (176 + 4 * k) = nI 114) → z_V M (z_tw (zm_G M) t w0 w1 w2 w3 w4 w5 w6 w7 w8 w9 b3 w11 w12 w13 w14 w15 w16 w17 w18 w19 w20 w21 w22 w23 w24 w25 w26 w27 w28 h) n 0 0 93 [(5, .int (nI e)), (4, .int (nI (7 * k + d))), (3, .int (nI d)), (2, .int (nI k)), (0, .ref t), (1, .int (nI g))] [] := by
                  intro k9_93
                  induction k9_93 with
                  | zero => intro e b3 hk9_93; exact absurd hk9_93 (Nat.not_lt_zero _)
                  | succ k9_93 ih_93 =>
                    intro e b3 hk9_93 he hb3 hz
                    refine z_iload hb dX3_layBehind_93 rfl ?_
                    refine z_iload_n hb dX3_layBehind_95 rfl ?_
                    refine z_icmp_geN (tgt := 143) hb dX3_layBehind_96 (by decide) (by omega) (by omega) (fun c_96 => ?_) (fun c_96 => ?_)
                    · refine z_iinc (k0 := 2) (lv' := [(3, .int (nI (d + 1))), (5, .int (nI e)), (4, .int (nI (7 * k + d))), (2, .int (nI k)), (0, .ref t), (1, .int (nI g))]) hb dX3_layBehind_143 rfl (nI_1 d) (by rw [hN]; decide) rfl ?_
                      refine z_goto (tgt := 14) hb dX3_layBehind_146 (by decide) ?_
                      refine z_lv [0, 3, 4, 5] (lv' := [(3, .int (nI (d + 1))), (2, .int (nI k)), (0, .ref t), (1, .int (nI g))]) rfl ?_
                      exact ih_14 (d + 1) _ (by omega) (by omega) (by rw [tw_lb2, ← hb2, tw_lb1]; exact hz.elim (fun hz => by rw [hb3, show e = 0 from hz, show d = 0 by omega]; split <;> rfl) (fun hz => by rw [if_pos hz, hb3, show e = d by omega]))
                    · refine z_aload_n hb dX3_layBehind_99 rfl ?_
                      refine z_iload_n hb dX3_layBehind_100 rfl ?_
                      refine z_iconst (x := nI 0) hb dX3_layBehind_101 (by decide) ?_
                      refine z_call1 (b' := 0) (f' := 0) (rest := []) (av := [.ref t, .int (nI k), .int (nI 0)]) (z_siteV hb ho zc2 z_tw_o q2847 q2849 qs40 ⟨_, _, _, _, zk_X3_s⟩ zy_X3_s zl_X3_s dX3_layBehind_102 : z_Site M _ _ _ _ _ ([.int (nI k), .int (nI 0)].reverse ++ .ref t :: []) [] _) zk_X3_s q104 hrm (m_X3_s k 0 ht (by omega)) (by omega) (by decide) (Nat.le_of_ble_eq_true rfl) (by omega) (by omega) ?_
                      refine z_toI (y := w0 (176 + 4 * k)) rfl ?_
                      refine z_bipush (x := nI 114) hb dX3_layBehind_105 (by decide) ?_
                      refine z_icmp_ne (tgt := 143) hb dX3_layBehind_107 (by decide) (fun c_107 => ?_) (fun c_107 => ?_)
                      · refine z_iinc (k0 := 2) (lv' := [(3, .int (nI (d + 1))), (5, .int (nI e)), (4, .int (nI (7 * k + d))), (2, .int (nI k)), (0, .ref t), (1, .int (nI g))]) hb dX3_layBehind_143 rfl (nI_1 d) (by rw [hN]; decide) rfl ?_
                        refine z_goto (tgt := 14) hb dX3_layBehind_146 (by decide) ?_
                        refine z_lv [0, 3, 4, 5] (lv' := [(3, .int (nI (d + 1))), (2, .int (nI k)), (0, .ref t), (1, .int (nI g))]) rfl ?_
                        exact ih_14 (d + 1) _ (by omega) (by omega) (by rw [tw_lb2, ← hb2, tw_lb1]; rw [if_neg c_107, hb3, show e = 0 from hz.resolve_right c_107]; rfl)
                      · refine z_aload_n hb dX3_layBehind_110 rfl ?_
                        refine z_get (k := 10) (C := RX3) (T := TX3) (N := 29) hb ho zc2 in_X3 (zf_RX3_41 _) dX3_layBehind_111 z_tw_o (by decide) rfl ?_
                        refine z_iload hb dX3_layBehind_114 rfl ?_
                        refine z_dup2_11 hb dX3_layBehind_116 rfl rfl ?_
                        refine z_lald (j := 7 * k + d) hb dX3_layBehind_117 z_tw_r10 rfl (by omega) (by omega) ?_
                        refine z_aload_n hb dX3_layBehind_118 rfl ?_
                        refine z_get (k := 10) (C := RX3) (T := TX3) (N := 29) hb ho zc2 in_X3 (zf_RX3_41 _) dX3_layBehind_119 z_tw_o (by decide) rfl ?_
                        refine z_bipush (x := nI 7) hb dX3_layBehind_122 (by decide) ?_
                        refine z_aload_n hb dX3_layBehind_124 rfl ?_
                        refine z_iload_n hb dX3_layBehind_125 rfl ?_
                        refine z_iconst (x := nI 2) hb dX3_layBehind_126 (by decide) ?_
                        refine z_call1 (b' := 0) (f' := 0) (rest := [.int (nI 7), .ref (t + 11), .long (b3 (7 * k + d)), .int (nI (7 * k + d)), .ref (t + 11)]) (av := [.ref t, .int (nI k), .int (nI 2)]) (z_siteV hb ho zc2 z_tw_o q2847 q2849 qs40 ⟨_, _, _, _, zk_X3_s⟩ zy_X3_s zl_X3_s dX3_layBehind_127 : z_Site M _ _ _ _ _ ([.int (nI k), .int (nI 2)].reverse ++ .ref t :: [.int (nI 7), .ref (t + 11), .long (b3 (7 * k + d)), .int (nI (7 * k + d)), .ref (t + 11)]) [.int (nI 7), .ref (t + 11), .long (b3 (7 * k + d)), .int (nI (7 * k + d)), .ref (t + 11)] _) zk_X3_s q104 hrm (m_X3_s k 2 ht (by omega)) (by omega) (by decide) (Nat.le_of_ble_eq_true rfl) (by omega) (by omega) ?_
                        refine z_toI (y := nI (tw_f w0 k)) (hF k (by omega)).1 ?_
                        refine z_imul hb dX3_layBehind_130 ?_
                        refine z_toI (y := nI (7 * (tw_f w0 k))) (pk_mul 7 (tw_f w0 k)) ?_
                        refine z_iload hb dX3_layBehind_131 rfl ?_
                        refine z_iadd hb dX3_layBehind_133 ?_
                        refine z_toI (y := nI (7 * (tw_f w0 k) + e)) (nI_add (7 * (tw_f w0 k)) e) ?_
                        refine z_lald (j := 7 * (tw_f w0 k) + e) hb dX3_layBehind_134 z_tw_r10 rfl (by omega) (by omega) ?_
                        refine z_lor hb dX3_layBehind_135 ?_
                        refine z_last (j := 7 * k + d) hb dX3_layBehind_136 z_tw_r10 (by omega) rfl (by omega) (by omega) ?_
                        refine z_hh z_tw_u10 ?_
                        refine z_iinc (k0 := 0) (lv' := [(5, .int (nI (e + 1))), (4, .int (nI (7 * k + d))), (3, .int (nI d)), (2, .int (nI k)), (0, .ref t), (1, .int (nI g))]) hb dX3_layBehind_137 rfl (nI_1 e) (by rw [hN]; decide) rfl ?_
                        refine z_goto (tgt := 93) hb dX3_layBehind_140 (by decide) ?_
                        refine z_lv [0, 1, 2, 3, 4, 5] (lv' := [(5, .int (nI (e + 1))), (4, .int (nI (7 * k + d))), (3, .int (nI d)), (2, .int (nI k)), (0, .ref t), (1, .int (nI g))]) rfl ?_
                        exact ih_93 (e + 1) _ (by omega) (by omega) (by rw [hb3]; rfl) (Or.inr c_107)
                refine z_lv [0, 1, 2, 3, 4, 5] (lv' := [(5, .int (nI 0)), (4, .int (nI (7 * k + d))), (3, .int (nI d)), (2, .int (nI k)), (0, .ref t), (1, .int (nI g))]) rfl ?_
                exact lp_93 _ 0 _ (Nat.lt_succ_self _) (Nat.zero_le _) (by rw [tw_lbr, tw_lb0, if_neg (by simp [c_43])]) (Or.inl rfl)
              · refine z_aload_n hb dX3_layBehind_46 rfl ?_
                refine z_iload_n hb dX3_layBehind_47 rfl ?_
                refine z_iload_n hb dX3_layBehind_48 rfl ?_
                refine z_iload_n hb dX3_layBehind_49 rfl ?_
                refine z_call1 (b' := 0) (f' := 0) (rest := [.int (nI (7 * k + d)), .ref (t + 11)]) (av := [.ref t, .int (nI k), .int (nI d), .int (nI g)]) (z_siteV hb ho zc2 z_tw_o q3079 q3081 qs73 ⟨_, _, _, _, zk_X3_ownRows⟩ zy_X3_ownRows zl_X3_ownRows dX3_layBehind_50 : z_Site M _ _ _ _ _ ([.int (nI k), .int (nI d), .int (nI g)].reverse ++ .ref t :: [.int (nI (7 * k + d)), .ref (t + 11)]) [.int (nI (7 * k + d)), .ref (t + 11)] _) zk_X3_ownRows q104 hrm (m_X3_ownRows k (nI d) (nI g) ht hw (by omega)) (by omega) (by decide) (Nat.le_of_ble_eq_true rfl) (by omega) (by omega) ?_
                refine z_goto (tgt := 89) hb dX3_layBehind_53 (by decide) ?_
                refine z_last (j := 7 * k + d) hb dX3_layBehind_89 z_tw_r10 (by omega) rfl (by omega) (by omega) ?_
                refine z_hh z_tw_u10 ?_
                refine z_iconst (x := nI 0) hb dX3_layBehind_90 (by decide) ?_
                refine z_istore (lv' := [(5, .int (nI 0)), (4, .int (nI (7 * k + d))), (3, .int (nI d)), (2, .int (nI k)), (0, .ref t), (1, .int (nI g))]) hb dX3_layBehind_91 (by rw [hN]; decide) rfl ?_
                have lp_93 : ∀ (k9_93 : Nat) (e : Nat) (b3 : Nat → Int64), d - e < k9_93 → (e ≤ d) → (b3 = tw_lbr w0 k d (tw_lb0 w0 R g k d b2) e) → (e = 0 ∨ w0 (176 + 4 * k) = nI 114) → z_V M (z_tw (zm_G M) t w0 w1 w2 w3 w4 w5 w6 w7 w8 w9 b3 w11 w12 w13 w14 w15 w16 w17 w18 w19 w20 w21 w22 w23 w24 w25 w26 w27 w28 h) n 0 0 93 [(5, .int (nI e)), (4, .int (nI (7 * k + d))), (3, .int (nI d)), (2, .int (nI k)), (0, .ref t), (1, .int (nI g))] [] := by
                  intro k9_93
                  induction k9_93 with
                  | zero => intro e b3 hk9_93; exact absurd hk9_93 (Nat.not_lt_zero _)
                  | succ k9_93 ih_93 =>
                    intro e b3 hk9_93 he hb3 hz
                    refine z_iload hb dX3_layBehind_93 rfl ?_
                    refine z_iload_n hb dX3_layBehind_95 rfl ?_
                    refine z_icmp_geN (tgt := 143) hb dX3_layBehind_96 (by decide) (by omega) (by omega) (fun c_96 => ?_) (fun c_96 => ?_)
                    · refine z_iinc (k0 := 2) (lv' := [(3, .int (nI (d + 1))), (5, .int (nI e)), (4, .int (nI (7 * k + d))), (2, .int (nI k)), (0, .ref t), (1, .int (nI g))]) hb dX3_layBehind_143 rfl (nI_1 d) (by rw [hN]; decide) rfl ?_
                      refine z_goto (tgt := 14) hb dX3_layBehind_146 (by decide) ?_
                      refine z_lv [0, 3, 4, 5] (lv' := [(3, .int (nI (d + 1))), (2, .int (nI k)), (0, .ref t), (1, .int (nI g))]) rfl ?_
                      exact ih_14 (d + 1) _ (by omega) (by omega) (by rw [tw_lb2, ← hb2, tw_lb1]; exact hz.elim (fun hz => by rw [hb3, show e = 0 from hz, show d = 0 by omega]; split <;> rfl) (fun hz => by rw [if_pos hz, hb3, show e = d by omega]))
                    · refine z_aload_n hb dX3_layBehind_99 rfl ?_
                      refine z_iload_n hb dX3_layBehind_100 rfl ?_
                      refine z_iconst (x := nI 0) hb dX3_layBehind_101 (by decide) ?_
                      refine z_call1 (b' := 0) (f' := 0) (rest := []) (av := [.ref t, .int (nI k), .int (nI 0)]) (z_siteV hb ho zc2 z_tw_o q2847 q2849 qs40 ⟨_, _, _, _, zk_X3_s⟩ zy_X3_s zl_X3_s dX3_layBehind_102 : z_Site M _ _ _ _ _ ([.int (nI k), .int (nI 0)].reverse ++ .ref t :: []) [] _) zk_X3_s q104 hrm (m_X3_s k 0 ht (by omega)) (by omega) (by decide) (Nat.le_of_ble_eq_true rfl) (by omega) (by omega) ?_
                      refine z_toI (y := w0 (176 + 4 * k)) rfl ?_
                      refine z_bipush (x := nI 114) hb dX3_layBehind_105 (by decide) ?_
                      refine z_icmp_ne (tgt := 143) hb dX3_layBehind_107 (by decide) (fun c_107 => ?_) (fun c_107 => ?_)
                      · refine z_iinc (k0 := 2) (lv' := [(3, .int (nI (d + 1))), (5, .int (nI e)), (4, .int (nI (7 * k + d))), (2, .int (nI k)), (0, .ref t), (1, .int (nI g))]) hb dX3_layBehind_143 rfl (nI_1 d) (by rw [hN]; decide) rfl ?_
                        refine z_goto (tgt := 14) hb dX3_layBehind_146 (by decide) ?_
                        refine z_lv [0, 3, 4, 5] (lv' := [(3, .int (nI (d + 1))), (2, .int (nI k)), (0, .ref t), (1, .int (nI g))]) rfl ?_
                        exact ih_14 (d + 1) _ (by omega) (by omega) (by rw [tw_lb2, ← hb2, tw_lb1]; rw [if_neg c_107, hb3, show e = 0 from hz.resolve_right c_107]; rfl)
                      · refine z_aload_n hb dX3_layBehind_110 rfl ?_
                        refine z_get (k := 10) (C := RX3) (T := TX3) (N := 29) hb ho zc2 in_X3 (zf_RX3_41 _) dX3_layBehind_111 z_tw_o (by decide) rfl ?_
                        refine z_iload hb dX3_layBehind_114 rfl ?_
                        refine z_dup2_11 hb dX3_layBehind_116 rfl rfl ?_
                        refine z_lald (j := 7 * k + d) hb dX3_layBehind_117 z_tw_r10 rfl (by omega) (by omega) ?_
                        refine z_aload_n hb dX3_layBehind_118 rfl ?_
                        refine z_get (k := 10) (C := RX3) (T := TX3) (N := 29) hb ho zc2 in_X3 (zf_RX3_41 _) dX3_layBehind_119 z_tw_o (by decide) rfl ?_
                        refine z_bipush (x := nI 7) hb dX3_layBehind_122 (by decide) ?_
                        refine z_aload_n hb dX3_layBehind_124 rfl ?_
                        refine z_iload_n hb dX3_layBehind_125 rfl ?_
                        refine z_iconst (x := nI 2) hb dX3_layBehind_126 (by decide) ?_
                        refine z_call1 (b' := 0) (f' := 0) (rest := [.int (nI 7), .ref (t + 11), .long (b3 (7 * k + d)), .int (nI (7 * k + d)), .ref (t + 11)]) (av := [.ref t, .int (nI k), .int (nI 2)]) (z_siteV hb ho zc2 z_tw_o q2847 q2849 qs40 ⟨_, _, _, _, zk_X3_s⟩ zy_X3_s zl_X3_s dX3_layBehind_127 : z_Site M _ _ _ _ _ ([.int (nI k), .int (nI 2)].reverse ++ .ref t :: [.int (nI 7), .ref (t + 11), .long (b3 (7 * k + d)), .int (nI (7 * k + d)), .ref (t + 11)]) [.int (nI 7), .ref (t + 11), .long (b3 (7 * k + d)), .int (nI (7 * k + d)), .ref (t + 11)] _) zk_X3_s q104 hrm (m_X3_s k 2 ht (by omega)) (by omega) (by decide) (Nat.le_of_ble_eq_true rfl) (by omega) (by omega) ?_
                        refine z_toI (y := nI (tw_f w0 k)) (hF k (by omega)).1 ?_
                        refine z_imul hb dX3_layBehind_130 ?_
                        refine z_toI (y := nI (7 * (tw_f w0 k))) (pk_mul 7 (tw_f w0 k)) ?_
                        refine z_iload hb dX3_layBehind_131 rfl ?_
                        refine z_iadd hb dX3_layBehind_133 ?_
                        refine z_toI (y := nI (7 * (tw_f w0 k) + e)) (nI_add (7 * (tw_f w0 k)) e) ?_
                        refine z_lald (j := 7 * (tw_f w0 k) + e) hb dX3_layBehind_134 z_tw_r10 rfl (by omega) (by omega) ?_
                        refine z_lor hb dX3_layBehind_135 ?_
                        refine z_last (j := 7 * k + d) hb dX3_layBehind_136 z_tw_r10 (by omega) rfl (by omega) (by omega) ?_
                        refine z_hh z_tw_u10 ?_
                        refine z_iinc (k0 := 0) (lv' := [(5, .int (nI (e + 1))), (4, .int (nI (7 * k + d))), (3, .int (nI d)), (2, .int (nI k)), (0, .ref t), (1, .int (nI g))]) hb dX3_layBehind_137 rfl (nI_1 e) (by rw [hN]; decide) rfl ?_
                        refine z_goto (tgt := 93) hb dX3_layBehind_140 (by decide) ?_
                        refine z_lv [0, 1, 2, 3, 4, 5] (lv' := [(5, .int (nI (e + 1))), (4, .int (nI (7 * k + d))), (3, .int (nI d)), (2, .int (nI k)), (0, .ref t), (1, .int (nI g))]) rfl ?_
                        exact ih_93 (e + 1) _ (by omega) (by omega) (by rw [hb3]; rfl) (Or.inr c_107)
                refine z_lv [0, 1, 2, 3, 4, 5] (lv' := [(5, .int (nI 0)), (4, .int (nI (7 * k + d))), (3, .int (nI d)), (2, .int (nI k)), (0, .ref t), (1, .int (nI g))]) rfl ?_
                exact lp_93 _ 0 _ (Nat.lt_succ_self _) (Nat.zero_le _) (by rw [tw_lbr, tw_lb0, if_pos c_43]) (Or.inl rfl)
        refine z_lv [0, 1, 2, 3] (lv' := [(3, .int (nI 0)), (2, .int (nI k)), (0, .ref t), (1, .int (nI g))]) rfl ?_
        exact lp_14 _ 0 _ (Nat.lt_succ_self _) (Nat.zero_le _) rfl
  refine z_lv [0, 1, 2] (lv' := [(2, .int (nI 0)), (0, .ref t), (1, .int (nI g))]) rfl ?_
  exact lp_2 _ 0 _ (Nat.lt_succ_self _) (Nat.zero_le _) rfl

set_option maxHeartbeats 1000000 in
theorem m_X3_count_no {l : Launch} {G : zG} {h : zH} {n : Nat} {t : Nat} {w0 : Nat → Int32} {w1 : Nat → Int32} {w2 : Nat → Int32} {w3 : Nat → Int32} {w4 : Nat → Int32} {w5 : Nat → Int64} {w6 : Nat → Int64} {w7 : Nat → Int64} {w8 : Nat → Int64} {w9 : Nat → Int64} {w10 : Nat → Int64} {w11 : Nat → Int64} {w12 : Int32} {w13 : Int32} {w14 : Int32} {w15 : Int32} {w16 : Int32} {w17 : Int32} {w18 : Bool} {w19 : Nat → Int32} {w20 : Int32} {w21 : Nat → Int32} {w22 : Nat → Int32} {w23 : Nat → Int32} {w24 : Int32} {w25 : Int32} {w26 : Int32} {w27 : Int32} {w28 : Bool} {R S D : Nat} {x d c : Int32}  (ht : z_n0 G ≤ t) (hw : z_ok w0 R S D) (hx : ¬tw_ask S D x d c = 0) : z_C l G yX3_count 5 0 0 [.ref t, .int x, .int d, .int c] (z_tw G t w0 w1 w2 w3 w4 w5 w6 w7 w8 w9 w10 w11 w12 w13 w14 w15 w16 w17 w18 w19 w20 w21 w22 w23 w24 w25 w26 w27 w28 h) n (z_rv (.int (nI 0)) (z_tw G t w0 w1 w2 w3 w4 w5 w6 w7 w8 w9 w10 w11 (nI (tw_ask S D x d c)) w13 w14 w15 w16 w17 w18 w19 w20 w21 w22 w23 w24 w25 w26 w27 w28 h) n) := by
  refine z_start zk_X3_count zpl_RX3 (Nat.le_of_ble_eq_true rfl) ?_
  intro hn0 M hl hG ho hb hN hr hm hH hrm hQ
  subst hl hG
  have ho : zm_o M = RX3 := ho
  obtain ⟨hR, hR4, hS, hS8, hD, hD6, hF⟩ := id hw
  have hle := tw_ask_le S D x d c
  show z_V M (z_tw (zm_G M) t w0 w1 w2 w3 w4 w5 w6 w7 w8 w9 w10 w11 w12 w13 w14 w15 w16 w17 w18 w19 w20 w21 w22 w23 w24 w25 w26 w27 w28 h) n 0 0 0 [(0, .ref t), (1, .int x), (2, .int d), (3, .int c)] []
  refine z_aload_n hb dX3_count_0 rfl ?_
  refine z_aload_n hb dX3_count_1 rfl ?_
  refine z_iload_n hb dX3_count_2 rfl ?_
  refine z_iload_n hb dX3_count_3 rfl ?_
  refine z_iload_n hb dX3_count_4 rfl ?_
  refine z_call1 (b' := 0) (f' := 0) (rest := [.ref t]) (av := [.ref t, .int x, .int d, .int c]) (z_siteV hb ho zc2 z_tw_o q3035 q3037 qs68 ⟨_, _, _, _, zk_X3_cannotAsk⟩ zy_X3_cannotAsk zl_X3_cannotAsk dX3_count_5 : z_Site M _ _ _ _ _ ([.int x, .int d, .int c].reverse ++ .ref t :: [.ref t]) [.ref t] _) zk_X3_cannotAsk q104 hrm (m_X3_cannotAsk x d c ht hw) (by omega) (by decide) (Nat.le_of_ble_eq_true rfl) (by omega) (by omega) ?_
  refine z_put (k := 12) (C := RX3) (T := TX3) (N := 29) hb ho zc2 in_X3 tyX3_ok nmX3 (zf_RX3_47 _) dX3_count_8 z_tw_o ht (by decide) (Or.inl rfl) rfl rfl rfl (Nat.le_of_ble_eq_true rfl) ?_
  refine z_hh z_tw_u12 ?_
  refine z_aload_n hb dX3_count_11 rfl ?_
  refine z_get (k := 12) (C := RX3) (T := TX3) (N := 29) hb ho zc2 in_X3 (zf_RX3_47 _) dX3_count_12 z_tw_o (by decide) rfl ?_
  refine z_if_leN (tgt := 20) hb dX3_count_15 (by decide) (by omega) (fun c_15 => ?_) (fun c_15 => ?_)
  · exact absurd c_15 (by omega)
  · refine z_iconst (x := nI 0) hb dX3_count_18 (by decide) ?_
    refine z_iret hb hr dX3_count_19 ?_
    rw [hQ]
    exact ⟨rfl, rfl, rfl⟩

set_option maxHeartbeats 1000000 in
theorem m_X3_count_ok {l : Launch} {G : zG} {h : zH} {n : Nat} {t : Nat} {w0 : Nat → Int32} {w1 : Nat → Int32} {w2 : Nat → Int32} {w3 : Nat → Int32} {w4 : Nat → Int32} {w5 : Nat → Int64} {w6 : Nat → Int64} {w7 : Nat → Int64} {w8 : Nat → Int64} {w9 : Nat → Int64} {w10 : Nat → Int64} {w11 : Nat → Int64} {w12 : Int32} {w13 : Int32} {w14 : Int32} {w15 : Int32} {w16 : Int32} {w17 : Int32} {w18 : Bool} {w19 : Nat → Int32} {w20 : Int32} {w21 : Nat → Int32} {w22 : Nat → Int32} {w23 : Nat → Int32} {w24 : Int32} {w25 : Int32} {w26 : Int32} {w27 : Int32} {w28 : Bool} {R S D : Nat} {k d g : Nat}  (ht : z_n0 G ≤ t) (hw : z_ok w0 R S D) (hkS : k < S) (hd : d ≤ D) (hg : g < 5) : z_C l G yX3_count 5 0 0 [.ref t, .int (nI k), .int (nI d), .int (nI (97 + g))] (z_tw G t w0 w1 w2 w3 w4 w5 w6 w7 w8 w9 w10 w11 w12 w13 w14 w15 w16 w17 w18 w19 w20 w21 w22 w23 w24 w25 w26 w27 w28 h) n (z_rv (.int (nI (tw_bc (tw_lb w0 R g D w10 S (7 * k + d)) R))) (z_tw G t w0 w1 w2 w3 w4 w5 w6 w7 w8 w9 (tw_lb w0 R g D w10 S) w11 (nI 0) w13 w14 w15 w16 w17 w18 w19 w20 w21 w22 w23 w24 w25 w26 w27 w28 h) n) := by
  refine z_start zk_X3_count zpl_RX3 (Nat.le_of_ble_eq_true rfl) ?_
  intro hn0 M hl hG ho hb hN hr hm hH hrm hQ
  subst hl hG
  have ho : zm_o M = RX3 := ho
  obtain ⟨hR, hR4, hS, hS8, hD, hD6, hF⟩ := id hw
  show z_V M (z_tw (zm_G M) t w0 w1 w2 w3 w4 w5 w6 w7 w8 w9 w10 w11 w12 w13 w14 w15 w16 w17 w18 w19 w20 w21 w22 w23 w24 w25 w26 w27 w28 h) n 0 0 0 [(0, .ref t), (1, .int (nI k)), (2, .int (nI d)), (3, .int (nI (97 + g)))] []
  refine z_aload_n hb dX3_count_0 rfl ?_
  refine z_aload_n hb dX3_count_1 rfl ?_
  refine z_iload_n hb dX3_count_2 rfl ?_
  refine z_iload_n hb dX3_count_3 rfl ?_
  refine z_iload_n hb dX3_count_4 rfl ?_
  refine z_call1 (b' := 0) (f' := 0) (rest := [.ref t]) (av := [.ref t, .int (nI k), .int (nI d), .int (nI (97 + g))]) (z_siteV hb ho zc2 z_tw_o q3035 q3037 qs68 ⟨_, _, _, _, zk_X3_cannotAsk⟩ zy_X3_cannotAsk zl_X3_cannotAsk dX3_count_5 : z_Site M _ _ _ _ _ ([.int (nI k), .int (nI d), .int (nI (97 + g))].reverse ++ .ref t :: [.ref t]) [.ref t] _) zk_X3_cannotAsk q104 hrm (m_X3_cannotAsk_ok ht hw hkS hd (by omega)) (by omega) (by decide) (Nat.le_of_ble_eq_true rfl) (by omega) (by omega) ?_
  refine z_put (k := 12) (C := RX3) (T := TX3) (N := 29) hb ho zc2 in_X3 tyX3_ok nmX3 (zf_RX3_47 _) dX3_count_8 z_tw_o ht (by decide) (Or.inl rfl) rfl rfl rfl (Nat.le_of_ble_eq_true rfl) ?_
  refine z_hh z_tw_u12 ?_
  refine z_aload_n hb dX3_count_11 rfl ?_
  refine z_get (k := 12) (C := RX3) (T := TX3) (N := 29) hb ho zc2 in_X3 (zf_RX3_47 _) dX3_count_12 z_tw_o (by decide) rfl ?_
  refine z_if_leN (tgt := 20) hb dX3_count_15 (by decide) (by omega) (fun c_15 => ?_) (fun c_15 => ?_)
  · refine z_aload_n hb dX3_count_20 rfl ?_
    refine z_iload_n hb dX3_count_21 rfl ?_
    refine z_bipush (x := nI 97) hb dX3_count_22 (by decide) ?_
    refine z_isub hb dX3_count_24 ?_
    refine z_toI (y := nI g) ((pk_sub (by omega)).trans (congrArg nI (by omega))) ?_
    refine z_call0 (b' := 0) (f' := 0) (rest := []) (av := [.ref t, .int (nI g)]) (z_siteV hb ho zc2 z_tw_o q3075 q3077 qs72 ⟨_, _, _, _, zk_X3_layBehind⟩ zy_X3_layBehind zl_X3_layBehind dX3_count_25 : z_Site M _ _ _ _ _ ([.int (nI g)].reverse ++ .ref t :: []) [] _) zk_X3_layBehind q104 hrm (m_X3_layBehind g ht hw) (by omega) (by decide) (Nat.le_of_ble_eq_true rfl) (by omega) (by omega) ?_
    refine z_iconst (x := nI 0) hb dX3_count_28 (by decide) ?_
    refine z_istore (lv' := [(4, .int (nI 0)), (0, .ref t), (1, .int (nI k)), (2, .int (nI d)), (3, .int (nI (97 + g)))]) hb dX3_count_29 (by rw [hN]; decide) rfl ?_
    refine z_iconst (x := nI 0) hb dX3_count_31 (by decide) ?_
    refine z_istore (lv' := [(5, .int (nI 0)), (4, .int (nI 0)), (0, .ref t), (1, .int (nI k)), (2, .int (nI d)), (3, .int (nI (97 + g)))]) hb dX3_count_32 (by rw [hN]; decide) rfl ?_
    have lp_34 : ∀ (k9_34 : Nat) (p : Nat) (c : Nat), R - p < k9_34 → (p ≤ R) → (c = tw_bc (tw_lb w0 R g D w10 S (7 * k + d)) p) → z_V M (z_tw (zm_G M) t w0 w1 w2 w3 w4 w5 w6 w7 w8 w9 (tw_lb w0 R g D w10 S) w11 (nI 0) w13 w14 w15 w16 w17 w18 w19 w20 w21 w22 w23 w24 w25 w26 w27 w28 h) n 0 0 34 [(5, .int (nI p)), (4, .int (nI c)), (0, .ref t), (1, .int (nI k)), (2, .int (nI d)), (3, .int (nI (97 + g)))] [] := by
      intro k9_34
      induction k9_34 with
      | zero => intro p c hk9_34; exact absurd hk9_34 (Nat.not_lt_zero _)
      | succ k9_34 ih_34 =>
        intro p c hk9_34 hp hc
        refine z_iload hb dX3_count_34 rfl ?_
        refine z_aload_n hb dX3_count_36 rfl ?_
        refine z_get (k := 0) (C := RX3) (T := TX3) (N := 29) hb ho zc2 in_X3 (zf_RX3_7 _) dX3_count_37 z_tw_o (by decide) rfl ?_
        refine z_iconst (x := nI 1) hb dX3_count_40 (by decide) ?_
        refine z_iald (j := 1) hb dX3_count_41 z_tw_r0 rfl (by omega) (by omega) ?_
        refine z_toI (y := nI R) hR ?_
        refine z_icmp_geN (tgt := 82) hb dX3_count_42 (by decide) (by omega) (by omega) (fun c_42 => ?_) (fun c_42 => ?_)
        · refine z_iload hb dX3_count_82 rfl ?_
          refine z_iret hb hr dX3_count_84 ?_
          rw [hQ]
          rw [hc, show p = R by omega]; exact ⟨rfl, rfl, rfl⟩
        · refine z_iload hb dX3_count_45 rfl ?_
          refine z_aload_n hb dX3_count_47 rfl ?_
          refine z_get (k := 10) (C := RX3) (T := TX3) (N := 29) hb ho zc2 in_X3 (zf_RX3_41 _) dX3_count_48 z_tw_o (by decide) rfl ?_
          refine z_bipush (x := nI 7) hb dX3_count_51 (by decide) ?_
          refine z_iload_n hb dX3_count_53 rfl ?_
          refine z_imul hb dX3_count_54 ?_
          refine z_toI (y := nI (7 * k)) (pk_mul 7 k) ?_
          refine z_iload_n hb dX3_count_55 rfl ?_
          refine z_iadd hb dX3_count_56 ?_
          refine z_toI (y := nI (7 * k + d)) (nI_add (7 * k) d) ?_
          refine z_lald (j := 7 * k + d) hb dX3_count_57 z_tw_r10 rfl (by omega) (by omega) ?_
          refine z_iload hb dX3_count_58 rfl ?_
          refine z_lshr hb dX3_count_60 rfl ?_
          refine z_lconst (x := 1) hb dX3_count_61 rfl ?_
          refine z_land hb dX3_count_62 ?_
          refine z_lconst (x := 1) hb dX3_count_63 rfl ?_
          refine z_lif_ne (tgt := 72) hb dX3_count_64 dX3_count_65 (by decide) (fun c_65 => ?_) (fun c_65 => ?_)
          · refine z_iconst (x := nI 0) hb dX3_count_72 (by decide) ?_
            refine z_iadd hb dX3_count_73 ?_
            refine z_toI (y := nI c) (nI_add c 0) ?_
            refine z_istore (lv' := [(4, .int (nI c)), (5, .int (nI p)), (0, .ref t), (1, .int (nI k)), (2, .int (nI d)), (3, .int (nI (97 + g)))]) hb dX3_count_74 (by rw [hN]; decide) rfl ?_
            refine z_iinc (k0 := 1) (lv' := [(5, .int (nI (p + 1))), (4, .int (nI c)), (0, .ref t), (1, .int (nI k)), (2, .int (nI d)), (3, .int (nI (97 + g)))]) hb dX3_count_76 rfl (nI_1 p) (by rw [hN]; decide) rfl ?_
            refine z_goto (tgt := 34) hb dX3_count_79 (by decide) ?_
            refine z_lv [0, 1, 2, 3, 4, 5] (lv' := [(5, .int (nI (p + 1))), (4, .int (nI c)), (0, .ref t), (1, .int (nI k)), (2, .int (nI d)), (3, .int (nI (97 + g)))]) rfl ?_
            exact ih_34 (p + 1) _ (by omega) (by omega) (by rw [hc, tw_bc, tw_bit]; simp [c_65])
          · refine z_iconst (x := nI 1) hb dX3_count_68 (by decide) ?_
            refine z_goto (tgt := 73) hb dX3_count_69 (by decide) ?_
            refine z_iadd hb dX3_count_73 ?_
            refine z_toI (y := nI (c + 1)) (nI_add c 1) ?_
            refine z_istore (lv' := [(4, .int (nI (c + 1))), (5, .int (nI p)), (0, .ref t), (1, .int (nI k)), (2, .int (nI d)), (3, .int (nI (97 + g)))]) hb dX3_count_74 (by rw [hN]; decide) rfl ?_
            refine z_iinc (k0 := 1) (lv' := [(5, .int (nI (p + 1))), (4, .int (nI (c + 1))), (0, .ref t), (1, .int (nI k)), (2, .int (nI d)), (3, .int (nI (97 + g)))]) hb dX3_count_76 rfl (nI_1 p) (by rw [hN]; decide) rfl ?_
            refine z_goto (tgt := 34) hb dX3_count_79 (by decide) ?_
            refine z_lv [0, 1, 2, 3, 4, 5] (lv' := [(5, .int (nI (p + 1))), (4, .int (nI (c + 1))), (0, .ref t), (1, .int (nI k)), (2, .int (nI d)), (3, .int (nI (97 + g)))]) rfl ?_
            exact ih_34 (p + 1) _ (by omega) (by omega) (by rw [hc, tw_bc, tw_bit]; simp [c_65])
    refine z_lv [0, 1, 2, 3, 4, 5] (lv' := [(5, .int (nI 0)), (4, .int (nI 0)), (0, .ref t), (1, .int (nI k)), (2, .int (nI d)), (3, .int (nI (97 + g)))]) rfl ?_
    exact lp_34 _ 0 _ (Nat.lt_succ_self _) (Nat.zero_le _) rfl
  · exact absurd c_15 (by omega)

set_option maxHeartbeats 1000000 in
theorem m_X3_rowsBehind_no {l : Launch} {G : zG} {h : zH} {n : Nat} {t : Nat} {w0 : Nat → Int32} {w1 : Nat → Int32} {w2 : Nat → Int32} {w3 : Nat → Int32} {w4 : Nat → Int32} {w5 : Nat → Int64} {w6 : Nat → Int64} {w7 : Nat → Int64} {w8 : Nat → Int64} {w9 : Nat → Int64} {w10 : Nat → Int64} {w11 : Nat → Int64} {w12 : Int32} {w13 : Int32} {w14 : Int32} {w15 : Int32} {w16 : Int32} {w17 : Int32} {w18 : Bool} {w19 : Nat → Int32} {w20 : Int32} {w21 : Nat → Int32} {w22 : Nat → Int32} {w23 : Nat → Int32} {w24 : Int32} {w25 : Int32} {w26 : Int32} {w27 : Int32} {w28 : Bool} {R S D : Nat} {x d c : Int32}  (ht : z_n0 G ≤ t) (hw : z_ok w0 R S D) (hx : ¬tw_ask S D x d c = 0) : z_C l G yX3_rowsBehind 6 0 0 [.ref t, .int x, .int d, .int c] (z_tw G t w0 w1 w2 w3 w4 w5 w6 w7 w8 w9 w10 w11 w12 w13 w14 w15 w16 w17 w18 w19 w20 w21 w22 w23 w24 w25 w26 w27 w28 h) n (z_rv (.int (nI 0)) (z_tw G t w0 w1 w2 w3 w4 w5 w6 w7 w8 w9 w10 w11 (nI (tw_ask S D x d c)) w13 w14 w15 w16 w17 w18 w19 w20 w21 w22 w23 w24 w25 w26 w27 w28 h) n) := by
  refine z_start zk_X3_rowsBehind zpl_RX3 (Nat.le_of_ble_eq_true rfl) ?_
  intro hn0 M hl hG ho hb hN hr hm hH hrm hQ
  subst hl hG
  have ho : zm_o M = RX3 := ho
  obtain ⟨hR, hR4, hS, hS8, hD, hD6, hF⟩ := id hw
  have hle := tw_ask_le S D x d c
  show z_V M (z_tw (zm_G M) t w0 w1 w2 w3 w4 w5 w6 w7 w8 w9 w10 w11 w12 w13 w14 w15 w16 w17 w18 w19 w20 w21 w22 w23 w24 w25 w26 w27 w28 h) n 0 0 0 [(0, .ref t), (1, .int x), (2, .int d), (3, .int c)] []
  refine z_aload_n hb dX3_rowsBehind_0 rfl ?_
  refine z_iload_n hb dX3_rowsBehind_1 rfl ?_
  refine z_iload_n hb dX3_rowsBehind_2 rfl ?_
  refine z_iload_n hb dX3_rowsBehind_3 rfl ?_
  refine z_call1 (b' := 0) (f' := 0) (rest := []) (av := [.ref t, .int x, .int d, .int c]) (z_siteV hb ho zc2 z_tw_o q3071 q3073 qs71 ⟨_, _, _, _, zk_X3_count⟩ zy_X3_count zl_X3_count dX3_rowsBehind_4 : z_Site M _ _ _ _ _ ([.int x, .int d, .int c].reverse ++ .ref t :: []) [] _) zk_X3_count q104 hrm (m_X3_count_no ht hw hx) (by omega) (by decide) (Nat.le_of_ble_eq_true rfl) (by omega) (by omega) ?_
  refine z_iret hb hr dX3_rowsBehind_7 ?_
  rw [hQ]
  exact ⟨rfl, rfl, rfl⟩

set_option maxHeartbeats 1000000 in
theorem m_X3_rowsBehind_ok {l : Launch} {G : zG} {h : zH} {n : Nat} {t : Nat} {w0 : Nat → Int32} {w1 : Nat → Int32} {w2 : Nat → Int32} {w3 : Nat → Int32} {w4 : Nat → Int32} {w5 : Nat → Int64} {w6 : Nat → Int64} {w7 : Nat → Int64} {w8 : Nat → Int64} {w9 : Nat → Int64} {w10 : Nat → Int64} {w11 : Nat → Int64} {w12 : Int32} {w13 : Int32} {w14 : Int32} {w15 : Int32} {w16 : Int32} {w17 : Int32} {w18 : Bool} {w19 : Nat → Int32} {w20 : Int32} {w21 : Nat → Int32} {w22 : Nat → Int32} {w23 : Nat → Int32} {w24 : Int32} {w25 : Int32} {w26 : Int32} {w27 : Int32} {w28 : Bool} {R S D : Nat} {k d g : Nat}  (ht : z_n0 G ≤ t) (hw : z_ok w0 R S D) (hkS : k < S) (hd : d ≤ D) (hg : g < 5) : z_C l G yX3_rowsBehind 6 0 0 [.ref t, .int (nI k), .int (nI d), .int (nI (97 + g))] (z_tw G t w0 w1 w2 w3 w4 w5 w6 w7 w8 w9 w10 w11 w12 w13 w14 w15 w16 w17 w18 w19 w20 w21 w22 w23 w24 w25 w26 w27 w28 h) n (z_rv (.int (nI (tw_bc (tw_lb w0 R g D w10 S (7 * k + d)) R))) (z_tw G t w0 w1 w2 w3 w4 w5 w6 w7 w8 w9 (tw_lb w0 R g D w10 S) w11 (nI 0) w13 w14 w15 w16 w17 w18 w19 w20 w21 w22 w23 w24 w25 w26 w27 w28 h) n) := by
  refine z_start zk_X3_rowsBehind zpl_RX3 (Nat.le_of_ble_eq_true rfl) ?_
  intro hn0 M hl hG ho hb hN hr hm hH hrm hQ
  subst hl hG
  have ho : zm_o M = RX3 := ho
  obtain ⟨hR, hR4, hS, hS8, hD, hD6, hF⟩ := id hw
  show z_V M (z_tw (zm_G M) t w0 w1 w2 w3 w4 w5 w6 w7 w8 w9 w10 w11 w12 w13 w14 w15 w16 w17 w18 w19 w20 w21 w22 w23 w24 w25 w26 w27 w28 h) n 0 0 0 [(0, .ref t), (1, .int (nI k)), (2, .int (nI d)), (3, .int (nI (97 + g)))] []
  refine z_aload_n hb dX3_rowsBehind_0 rfl ?_
  refine z_iload_n hb dX3_rowsBehind_1 rfl ?_
  refine z_iload_n hb dX3_rowsBehind_2 rfl ?_
  refine z_iload_n hb dX3_rowsBehind_3 rfl ?_
  refine z_call1 (b' := 0) (f' := 0) (rest := []) (av := [.ref t, .int (nI k), .int (nI d), .int (nI (97 + g))]) (z_siteV hb ho zc2 z_tw_o q3071 q3073 qs71 ⟨_, _, _, _, zk_X3_count⟩ zy_X3_count zl_X3_count dX3_rowsBehind_4 : z_Site M _ _ _ _ _ ([.int (nI k), .int (nI d), .int (nI (97 + g))].reverse ++ .ref t :: []) [] _) zk_X3_count q104 hrm (m_X3_count_ok ht hw hkS hd hg) (by omega) (by decide) (Nat.le_of_ble_eq_true rfl) (by omega) (by omega) ?_
  refine z_iret hb hr dX3_rowsBehind_7 ?_
  rw [hQ]
  exact ⟨rfl, rfl, rfl⟩

set_option maxHeartbeats 1000000 in
theorem m_X3_rowsBehindByMarking_no {l : Launch} {G : zG} {h : zH} {n : Nat} {t : Nat} {w0 : Nat → Int32} {w1 : Nat → Int32} {w2 : Nat → Int32} {w3 : Nat → Int32} {w4 : Nat → Int32} {w5 : Nat → Int64} {w6 : Nat → Int64} {w7 : Nat → Int64} {w8 : Nat → Int64} {w9 : Nat → Int64} {w10 : Nat → Int64} {w11 : Nat → Int64} {w12 : Int32} {w13 : Int32} {w14 : Int32} {w15 : Int32} {w16 : Int32} {w17 : Int32} {w18 : Bool} {w19 : Nat → Int32} {w20 : Int32} {w21 : Nat → Int32} {w22 : Nat → Int32} {w23 : Nat → Int32} {w24 : Int32} {w25 : Int32} {w26 : Int32} {w27 : Int32} {w28 : Bool} {R S D : Nat} {x d c : Int32}  (ht : z_n0 G ≤ t) (hw : z_ok w0 R S D) (hx : ¬tw_ask S D x d c = 0) : z_C l G yX3_rowsBehindByMarking 6 0 0 [.ref t, .int x, .int d, .int c] (z_tw G t w0 w1 w2 w3 w4 w5 w6 w7 w8 w9 w10 w11 w12 w13 w14 w15 w16 w17 w18 w19 w20 w21 w22 w23 w24 w25 w26 w27 w28 h) n (z_rv (.int (nI 0)) (z_tw G t w0 w1 w2 w3 w4 w5 w6 w7 w8 w9 w10 w11 (nI (tw_ask S D x d c)) w13 w14 w15 w16 w17 w18 w19 w20 w21 w22 w23 w24 w25 w26 w27 w28 h) n) := by
  refine z_start zk_X3_rowsBehindByMarking zpl_RX3 (Nat.le_of_ble_eq_true rfl) ?_
  intro hn0 M hl hG ho hb hN hr hm hH hrm hQ
  subst hl hG
  have ho : zm_o M = RX3 := ho
  obtain ⟨hR, hR4, hS, hS8, hD, hD6, hF⟩ := id hw
  have hle := tw_ask_le S D x d c
  show z_V M (z_tw (zm_G M) t w0 w1 w2 w3 w4 w5 w6 w7 w8 w9 w10 w11 w12 w13 w14 w15 w16 w17 w18 w19 w20 w21 w22 w23 w24 w25 w26 w27 w28 h) n 0 0 0 [(0, .ref t), (1, .int x), (2, .int d), (3, .int c)] []
  refine z_aload_n hb dX3_rowsBehindByMarking_0 rfl ?_
  refine z_iload_n hb dX3_rowsBehindByMarking_1 rfl ?_
  refine z_iload_n hb dX3_rowsBehindByMarking_2 rfl ?_
  refine z_iload_n hb dX3_rowsBehindByMarking_3 rfl ?_
  refine z_call1 (b' := 0) (f' := 0) (rest := []) (av := [.ref t, .int x, .int d, .int c]) (z_siteV hb ho zc2 z_tw_o q3071 q3073 qs71 ⟨_, _, _, _, zk_X3_count⟩ zy_X3_count zl_X3_count dX3_rowsBehindByMarking_4 : z_Site M _ _ _ _ _ ([.int x, .int d, .int c].reverse ++ .ref t :: []) [] _) zk_X3_count q104 hrm (m_X3_count_no ht hw hx) (by omega) (by decide) (Nat.le_of_ble_eq_true rfl) (by omega) (by omega) ?_
  refine z_iret hb hr dX3_rowsBehindByMarking_7 ?_
  rw [hQ]
  exact ⟨rfl, rfl, rfl⟩

set_option maxHeartbeats 1000000 in
theorem m_X3_rowsBehindByMarking_ok {l : Launch} {G : zG} {h : zH} {n : Nat} {t : Nat} {w0 : Nat → Int32} {w1 : Nat → Int32} {w2 : Nat → Int32} {w3 : Nat → Int32} {w4 : Nat → Int32} {w5 : Nat → Int64} {w6 : Nat → Int64} {w7 : Nat → Int64} {w8 : Nat → Int64} {w9 : Nat → Int64} {w10 : Nat → Int64} {w11 : Nat → Int64} {w12 : Int32} {w13 : Int32} {w14 : Int32} {w15 : Int32} {w16 : Int32} {w17 : Int32} {w18 : Bool} {w19 : Nat → Int32} {w20 : Int32} {w21 : Nat → Int32} {w22 : Nat → Int32} {w23 : Nat → Int32} {w24 : Int32} {w25 : Int32} {w26 : Int32} {w27 : Int32} {w28 : Bool} {R S D : Nat} {k d g : Nat}  (ht : z_n0 G ≤ t) (hw : z_ok w0 R S D) (hkS : k < S) (hd : d ≤ D) (hg : g < 5) : z_C l G yX3_rowsBehindByMarking 6 0 0 [.ref t, .int (nI k), .int (nI d), .int (nI (97 + g))] (z_tw G t w0 w1 w2 w3 w4 w5 w6 w7 w8 w9 w10 w11 w12 w13 w14 w15 w16 w17 w18 w19 w20 w21 w22 w23 w24 w25 w26 w27 w28 h) n (z_rv (.int (nI (tw_bc (tw_lb w0 R g D w10 S (7 * k + d)) R))) (z_tw G t w0 w1 w2 w3 w4 w5 w6 w7 w8 w9 (tw_lb w0 R g D w10 S) w11 (nI 0) w13 w14 w15 w16 w17 w18 w19 w20 w21 w22 w23 w24 w25 w26 w27 w28 h) n) := by
  refine z_start zk_X3_rowsBehindByMarking zpl_RX3 (Nat.le_of_ble_eq_true rfl) ?_
  intro hn0 M hl hG ho hb hN hr hm hH hrm hQ
  subst hl hG
  have ho : zm_o M = RX3 := ho
  obtain ⟨hR, hR4, hS, hS8, hD, hD6, hF⟩ := id hw
  show z_V M (z_tw (zm_G M) t w0 w1 w2 w3 w4 w5 w6 w7 w8 w9 w10 w11 w12 w13 w14 w15 w16 w17 w18 w19 w20 w21 w22 w23 w24 w25 w26 w27 w28 h) n 0 0 0 [(0, .ref t), (1, .int (nI k)), (2, .int (nI d)), (3, .int (nI (97 + g)))] []
  refine z_aload_n hb dX3_rowsBehindByMarking_0 rfl ?_
  refine z_iload_n hb dX3_rowsBehindByMarking_1 rfl ?_
  refine z_iload_n hb dX3_rowsBehindByMarking_2 rfl ?_
  refine z_iload_n hb dX3_rowsBehindByMarking_3 rfl ?_
  refine z_call1 (b' := 0) (f' := 0) (rest := []) (av := [.ref t, .int (nI k), .int (nI d), .int (nI (97 + g))]) (z_siteV hb ho zc2 z_tw_o q3071 q3073 qs71 ⟨_, _, _, _, zk_X3_count⟩ zy_X3_count zl_X3_count dX3_rowsBehindByMarking_4 : z_Site M _ _ _ _ _ ([.int (nI k), .int (nI d), .int (nI (97 + g))].reverse ++ .ref t :: []) [] _) zk_X3_count q104 hrm (m_X3_count_ok ht hw hkS hd hg) (by omega) (by decide) (Nat.le_of_ble_eq_true rfl) (by omega) (by omega) ?_
  refine z_iret hb hr dX3_rowsBehindByMarking_7 ?_
  rw [hQ]
  exact ⟨rfl, rfl, rfl⟩

set_option maxHeartbeats 1000000 in
theorem m_X3_reach_no {l : Launch} {G : zG} {h : zH} {n : Nat} {t : Nat} {w0 : Nat → Int32} {w1 : Nat → Int32} {w2 : Nat → Int32} {w3 : Nat → Int32} {w4 : Nat → Int32} {w5 : Nat → Int64} {w6 : Nat → Int64} {w7 : Nat → Int64} {w8 : Nat → Int64} {w9 : Nat → Int64} {w10 : Nat → Int64} {w11 : Nat → Int64} {w12 : Int32} {w13 : Int32} {w14 : Int32} {w15 : Int32} {w16 : Int32} {w17 : Int32} {w18 : Bool} {w19 : Nat → Int32} {w20 : Int32} {w21 : Nat → Int32} {w22 : Nat → Int32} {w23 : Nat → Int32} {w24 : Int32} {w25 : Int32} {w26 : Int32} {w27 : Int32} {w28 : Bool} {R S D : Nat} {x : Int32}  (ht : z_n0 G ≤ t) (hw : z_ok w0 R S D) (hp : tw_row w0 R x = none) : z_C l G yX3_reach 5 0 0 [.ref t, .int x] (z_tw G t w0 w1 w2 w3 w4 w5 w6 w7 w8 w9 w10 w11 w12 w13 w14 w15 w16 w17 w18 w19 w20 w21 w22 w23 w24 w25 w26 w27 w28 h) n (z_rv (.int (nI 0)) (z_tw G t w0 w1 w2 w3 w4 w5 w6 w7 w8 w9 w10 w11 (nI 1) w13 w14 w15 w16 w17 w18 w19 w20 w21 w22 w23 w24 w25 w26 w27 w28 h) n) := by
  refine z_start zk_X3_reach zpl_RX3 (Nat.le_of_ble_eq_true rfl) ?_
  intro hn0 M hl hG ho hb hN hr hm hH hrm hQ
  subst hl hG
  have ho : zm_o M = RX3 := ho
  obtain ⟨hR, hR4, hS, hS8, hD, hD6, hF⟩ := id hw
  show z_V M (z_tw (zm_G M) t w0 w1 w2 w3 w4 w5 w6 w7 w8 w9 w10 w11 w12 w13 w14 w15 w16 w17 w18 w19 w20 w21 w22 w23 w24 w25 w26 w27 w28 h) n 0 0 0 [(0, .ref t), (1, .int x)] []
  refine z_aload_n hb dX3_reach_0 rfl ?_
  refine z_iload_n hb dX3_reach_1 rfl ?_
  refine z_call1 (b' := 0) (f' := 0) (rest := []) (av := [.ref t, .int x]) (z_siteV hb ho zc2 z_tw_o q2879 q2881 qs47 ⟨_, _, _, _, zk_X3_row⟩ zy_X3_row zl_X3_row dX3_reach_2 : z_Site M _ _ _ _ _ ([.int x].reverse ++ .ref t :: []) [] _) zk_X3_row q104 hrm (m_X3_row x ht hw) (by omega) (by decide) (Nat.le_of_ble_eq_true rfl) (by omega) (by omega) ?_
  refine z_istore_n (lv' := [(2, .int (z_o (tw_row w0 R x))), (0, .ref t), (1, .int x)]) hb dX3_reach_5 (by rw [hN]; decide) rfl ?_
  refine z_aload_n hb dX3_reach_6 rfl ?_
  refine z_iload_n hb dX3_reach_7 rfl ?_
  refine z_if_lt (tgt := 15) hb dX3_reach_8 (by decide) (fun c_8 => ?_) (fun c_8 => ?_)
  · refine z_iconst (x := nI 0) hb dX3_reach_15 (by decide) ?_
    refine z_call1 (b' := 0) (f' := 0) (rest := []) (av := [.ref t, .int (nI 0)]) (z_siteV hb ho zc2 z_tw_o q2995 q2997 qs66 ⟨_, _, _, _, zk_X3_checked⟩ zy_X3_checked zl_X3_checked dX3_reach_16 : z_Site M _ _ _ _ _ ([.int (nI 0)].reverse ++ .ref t :: []) [] _) zk_X3_checked q104 hrm (m_X3_checked false ht) (by omega) (by decide) (Nat.le_of_ble_eq_true rfl) (by omega) (by omega) ?_
    refine z_ifb_le (tgt := 24) hb dX3_reach_19 (by decide) (fun c_19 => ?_) (fun c_19 => ?_)
    · exact absurd c_19 (by decide)
    · refine z_iconst (x := nI 0) hb dX3_reach_22 (by decide) ?_
      refine z_iret hb hr dX3_reach_23 ?_
      rw [hQ]
      exact ⟨rfl, rfl, rfl⟩
  · rw [hp] at c_8; exact absurd c_8 (by decide)

set_option maxHeartbeats 1000000 in
theorem m_X3_reach_ok {l : Launch} {G : zG} {h : zH} {n : Nat} {t : Nat} {w0 : Nat → Int32} {w1 : Nat → Int32} {w2 : Nat → Int32} {w3 : Nat → Int32} {w4 : Nat → Int32} {w5 : Nat → Int64} {w6 : Nat → Int64} {w7 : Nat → Int64} {w8 : Nat → Int64} {w9 : Nat → Int64} {w10 : Nat → Int64} {w11 : Nat → Int64} {w12 : Int32} {w13 : Int32} {w14 : Int32} {w15 : Int32} {w16 : Int32} {w17 : Int32} {w18 : Bool} {w19 : Nat → Int32} {w20 : Int32} {w21 : Nat → Int32} {w22 : Nat → Int32} {w23 : Nat → Int32} {w24 : Int32} {w25 : Int32} {w26 : Int32} {w27 : Int32} {w28 : Bool} {R S D : Nat} {x : Int32} {p g : Nat}  (ht : z_n0 G ≤ t) (hw : z_ok w0 R S D) (hp : tw_row w0 R x = some p) (hg : w0 (16 + 4 * p + 2) = nI g) : z_C l G yX3_reach 5 0 0 [.ref t, .int x] (z_tw G t w0 w1 w2 w3 w4 w5 w6 w7 w8 w9 w10 w11 w12 w13 w14 w15 w16 w17 w18 w19 w20 w21 w22 w23 w24 w25 w26 w27 w28 h) n (z_rv (.int (nI (tw_rc (tw_lb w0 R g D w10 S) p D S))) (z_tw G t w0 w1 w2 w3 w4 w5 w6 w7 w8 w9 (tw_lb w0 R g D w10 S) w11 (nI 0) w13 w14 w15 w16 w17 w18 w19 w20 w21 w22 w23 w24 w25 w26 w27 w28 h) n) := by
  refine z_start zk_X3_reach zpl_RX3 (Nat.le_of_ble_eq_true rfl) ?_
  intro hn0 M hl hG ho hb hN hr hm hH hrm hQ
  subst hl hG
  have ho : zm_o M = RX3 := ho
  obtain ⟨hR, hR4, hS, hS8, hD, hD6, hF⟩ := id hw
  have hp4 := tw_row_lt hp
  show z_V M (z_tw (zm_G M) t w0 w1 w2 w3 w4 w5 w6 w7 w8 w9 w10 w11 w12 w13 w14 w15 w16 w17 w18 w19 w20 w21 w22 w23 w24 w25 w26 w27 w28 h) n 0 0 0 [(0, .ref t), (1, .int x)] []
  refine z_aload_n hb dX3_reach_0 rfl ?_
  refine z_iload_n hb dX3_reach_1 rfl ?_
  refine z_call1 (b' := 0) (f' := 0) (rest := []) (av := [.ref t, .int x]) (z_siteV hb ho zc2 z_tw_o q2879 q2881 qs47 ⟨_, _, _, _, zk_X3_row⟩ zy_X3_row zl_X3_row dX3_reach_2 : z_Site M _ _ _ _ _ ([.int x].reverse ++ .ref t :: []) [] _) zk_X3_row q104 hrm (m_X3_row x ht hw) (by omega) (by decide) (Nat.le_of_ble_eq_true rfl) (by omega) (by omega) ?_
  refine z_toI (y := nI p) (by rw [hp]; rfl) ?_
  refine z_istore_n (lv' := [(2, .int (nI p)), (0, .ref t), (1, .int x)]) hb dX3_reach_5 (by rw [hN]; decide) rfl ?_
  refine z_aload_n hb dX3_reach_6 rfl ?_
  refine z_iload_n hb dX3_reach_7 rfl ?_
  refine z_if_ltN (tgt := 15) hb dX3_reach_8 (by decide) (by omega) ?_
  refine z_iconst (x := nI 1) hb dX3_reach_11 (by decide) ?_
  refine z_goto (tgt := 16) hb dX3_reach_12 (by decide) ?_
  refine z_call1 (b' := 0) (f' := 0) (rest := []) (av := [.ref t, .int (nI 1)]) (z_siteV hb ho zc2 z_tw_o q2995 q2997 qs66 ⟨_, _, _, _, zk_X3_checked⟩ zy_X3_checked zl_X3_checked dX3_reach_16 : z_Site M _ _ _ _ _ ([.int (nI 1)].reverse ++ .ref t :: []) [] _) zk_X3_checked q104 hrm (m_X3_checked true ht) (by omega) (by decide) (Nat.le_of_ble_eq_true rfl) (by omega) (by omega) ?_
  refine z_ifb_le (tgt := 24) hb dX3_reach_19 (by decide) (fun c_19 => ?_) (fun c_19 => ?_)
  · refine z_aload_n hb dX3_reach_24 rfl ?_
    refine z_aload_n hb dX3_reach_25 rfl ?_
    refine z_iload_n hb dX3_reach_26 rfl ?_
    refine z_iconst (x := nI 2) hb dX3_reach_27 (by decide) ?_
    refine z_call1 (b' := 0) (f' := 0) (rest := [.ref t]) (av := [.ref t, .int (nI p), .int (nI 2)]) (z_siteV hb ho zc2 z_tw_o q2859 q2861 qs43 ⟨_, _, _, _, zk_X3_r⟩ zy_X3_r zl_X3_r dX3_reach_28 : z_Site M _ _ _ _ _ ([.int (nI p), .int (nI 2)].reverse ++ .ref t :: [.ref t]) [.ref t] _) zk_X3_r q104 hrm (m_X3_r p 2 ht (by omega)) (by omega) (by decide) (Nat.le_of_ble_eq_true rfl) (by omega) (by omega) ?_
    refine z_toI (y := nI g) hg ?_
    refine z_call0 (b' := 0) (f' := 0) (rest := []) (av := [.ref t, .int (nI g)]) (z_siteV hb ho zc2 z_tw_o q3075 q3077 qs72 ⟨_, _, _, _, zk_X3_layBehind⟩ zy_X3_layBehind zl_X3_layBehind dX3_reach_31 : z_Site M _ _ _ _ _ ([.int (nI g)].reverse ++ .ref t :: []) [] _) zk_X3_layBehind q104 hrm (m_X3_layBehind g ht hw) (by omega) (by decide) (Nat.le_of_ble_eq_true rfl) (by omega) (by omega) ?_
    refine z_iconst (x := nI 0) hb dX3_reach_34 (by decide) ?_
    refine z_istore_n (lv' := [(3, .int (nI 0)), (2, .int (nI p)), (0, .ref t), (1, .int x)]) hb dX3_reach_35 (by rw [hN]; decide) rfl ?_
    refine z_iconst (x := nI 0) hb dX3_reach_36 (by decide) ?_
    refine z_istore (lv' := [(4, .int (nI 0)), (3, .int (nI 0)), (2, .int (nI p)), (0, .ref t), (1, .int x)]) hb dX3_reach_37 (by rw [hN]; decide) rfl ?_
    have lp_39 : ∀ (k9_39 : Nat) (k : Nat) (c : Nat), S - k < k9_39 → (k ≤ S) → (c = tw_rc (tw_lb w0 R g D w10 S) p D k) → z_V M (z_tw (zm_G M) t w0 w1 w2 w3 w4 w5 w6 w7 w8 w9 (tw_lb w0 R g D w10 S) w11 (z_b (!true)) w13 w14 w15 w16 w17 w18 w19 w20 w21 w22 w23 w24 w25 w26 w27 w28 h) n 0 0 39 [(4, .int (nI k)), (3, .int (nI c)), (0, .ref t), (1, .int x), (2, .int (nI p))] [] := by
      intro k9_39
      induction k9_39 with
      | zero => intro k c hk9_39; exact absurd hk9_39 (Nat.not_lt_zero _)
      | succ k9_39 ih_39 =>
        intro k c hk9_39 hk hc
        refine z_iload hb dX3_reach_39 rfl ?_
        refine z_aload_n hb dX3_reach_41 rfl ?_
        refine z_get (k := 0) (C := RX3) (T := TX3) (N := 29) hb ho zc2 in_X3 (zf_RX3_7 _) dX3_reach_42 z_tw_o (by decide) rfl ?_
        refine z_iconst (x := nI 3) hb dX3_reach_45 (by decide) ?_
        refine z_iald (j := 3) hb dX3_reach_46 z_tw_r0 rfl (by omega) (by omega) ?_
        refine z_toI (y := nI S) hS ?_
        refine z_icmp_geN (tgt := 106) hb dX3_reach_47 (by decide) (by omega) (by omega) (fun c_47 => ?_) (fun c_47 => ?_)
        · refine z_iload_n hb dX3_reach_106 rfl ?_
          refine z_iret hb hr dX3_reach_107 ?_
          rw [hQ]
          rw [hc, show k = S by omega]; exact ⟨rfl, rfl, rfl⟩
        · refine z_iconst (x := nI 0) hb dX3_reach_50 (by decide) ?_
          refine z_istore (lv' := [(5, .int (nI 0)), (4, .int (nI k)), (3, .int (nI c)), (0, .ref t), (1, .int x), (2, .int (nI p))]) hb dX3_reach_51 (by rw [hN]; decide) rfl ?_
          have lp_53 : ∀ (k9_53 : Nat) (d : Nat) (c2 : Nat), D + 1 - d < k9_53 → (d ≤ D + 1) → (c2 = c + tw_rc1 (tw_lb w0 R g D w10 S) p k d) → z_V M (z_tw (zm_G M) t w0 w1 w2 w3 w4 w5 w6 w7 w8 w9 (tw_lb w0 R g D w10 S) w11 (z_b (!true)) w13 w14 w15 w16 w17 w18 w19 w20 w21 w22 w23 w24 w25 w26 w27 w28 h) n 0 0 53 [(5, .int (nI d)), (4, .int (nI k)), (3, .int (nI c2)), (0, .ref t), (1, .int x), (2, .int (nI p))] [] := by
            intro k9_53
            induction k9_53 with
            | zero => intro d c2 hk9_53; exact absurd hk9_53 (Nat.not_lt_zero _)
            | succ k9_53 ih_53 =>
              intro d c2 hk9_53 hd hc2
              refine z_iload hb dX3_reach_53 rfl ?_
              refine z_aload_n hb dX3_reach_55 rfl ?_
              refine z_get (k := 0) (C := RX3) (T := TX3) (N := 29) hb ho zc2 in_X3 (zf_RX3_7 _) dX3_reach_56 z_tw_o (by decide) rfl ?_
              refine z_iconst (x := nI 0) hb dX3_reach_59 (by decide) ?_
              refine z_iald (j := 0) hb dX3_reach_60 z_tw_r0 rfl (by omega) (by omega) ?_
              refine z_toI (y := nI D) hD ?_
              refine z_icmp_gtN (tgt := 100) hb dX3_reach_61 (by decide) (by omega) (by omega) (fun c_61 => ?_) (fun c_61 => ?_)
              · refine z_iinc (k0 := 1) (lv' := [(4, .int (nI (k + 1))), (5, .int (nI d)), (3, .int (nI c2)), (0, .ref t), (1, .int x), (2, .int (nI p))]) hb dX3_reach_100 rfl (nI_1 k) (by rw [hN]; decide) rfl ?_
                refine z_goto (tgt := 39) hb dX3_reach_103 (by decide) ?_
                refine z_lv [0, 2, 3, 4, 5] (lv' := [(4, .int (nI (k + 1))), (3, .int (nI c2)), (0, .ref t), (1, .int x), (2, .int (nI p))]) rfl ?_
                exact ih_39 (k + 1) _ (by omega) (by omega) (by rw [hc2, show d = D + 1 by omega, hc]; rfl)
              · refine z_iload_n hb dX3_reach_64 rfl ?_
                refine z_aload_n hb dX3_reach_65 rfl ?_
                refine z_get (k := 10) (C := RX3) (T := TX3) (N := 29) hb ho zc2 in_X3 (zf_RX3_41 _) dX3_reach_66 z_tw_o (by decide) rfl ?_
                refine z_bipush (x := nI 7) hb dX3_reach_69 (by decide) ?_
                refine z_iload hb dX3_reach_71 rfl ?_
                refine z_imul hb dX3_reach_73 ?_
                refine z_toI (y := nI (7 * k)) (pk_mul 7 k) ?_
                refine z_iload hb dX3_reach_74 rfl ?_
                refine z_iadd hb dX3_reach_76 ?_
                refine z_toI (y := nI (7 * k + d)) (nI_add (7 * k) d) ?_
                refine z_lald (j := 7 * k + d) hb dX3_reach_77 z_tw_r10 rfl (by omega) (by omega) ?_
                refine z_iload_n hb dX3_reach_78 rfl ?_
                refine z_lshr hb dX3_reach_79 rfl ?_
                refine z_lconst (x := 1) hb dX3_reach_80 rfl ?_
                refine z_land hb dX3_reach_81 ?_
                refine z_lconst (x := 1) hb dX3_reach_82 rfl ?_
                refine z_lif_ne (tgt := 91) hb dX3_reach_83 dX3_reach_84 (by decide) (fun c_84 => ?_) (fun c_84 => ?_)
                · refine z_iconst (x := nI 0) hb dX3_reach_91 (by decide) ?_
                  refine z_iadd hb dX3_reach_92 ?_
                  refine z_toI (y := nI c2) (nI_add c2 0) ?_
                  refine z_istore_n (lv' := [(3, .int (nI c2)), (5, .int (nI d)), (4, .int (nI k)), (0, .ref t), (1, .int x), (2, .int (nI p))]) hb dX3_reach_93 (by rw [hN]; decide) rfl ?_
                  refine z_iinc (k0 := 1) (lv' := [(5, .int (nI (d + 1))), (3, .int (nI c2)), (4, .int (nI k)), (0, .ref t), (1, .int x), (2, .int (nI p))]) hb dX3_reach_94 rfl (nI_1 d) (by rw [hN]; decide) rfl ?_
                  refine z_goto (tgt := 53) hb dX3_reach_97 (by decide) ?_
                  refine z_lv [0, 2, 1, 3, 4, 5] (lv' := [(5, .int (nI (d + 1))), (4, .int (nI k)), (3, .int (nI c2)), (0, .ref t), (1, .int x), (2, .int (nI p))]) rfl ?_
                  exact ih_53 (d + 1) _ (by omega) (by omega) (by rw [hc2, tw_rc1, tw_bit]; simp [c_84]; try omega)
                · refine z_iconst (x := nI 1) hb dX3_reach_87 (by decide) ?_
                  refine z_goto (tgt := 92) hb dX3_reach_88 (by decide) ?_
                  refine z_iadd hb dX3_reach_92 ?_
                  refine z_toI (y := nI (c2 + 1)) (nI_add c2 1) ?_
                  refine z_istore_n (lv' := [(3, .int (nI (c2 + 1))), (5, .int (nI d)), (4, .int (nI k)), (0, .ref t), (1, .int x), (2, .int (nI p))]) hb dX3_reach_93 (by rw [hN]; decide) rfl ?_
                  refine z_iinc (k0 := 1) (lv' := [(5, .int (nI (d + 1))), (3, .int (nI (c2 + 1))), (4, .int (nI k)), (0, .ref t), (1, .int x), (2, .int (nI p))]) hb dX3_reach_94 rfl (nI_1 d) (by rw [hN]; decide) rfl ?_
                  refine z_goto (tgt := 53) hb dX3_reach_97 (by decide) ?_
                  refine z_lv [0, 2, 1, 3, 4, 5] (lv' := [(5, .int (nI (d + 1))), (4, .int (nI k)), (3, .int (nI (c2 + 1))), (0, .ref t), (1, .int x), (2, .int (nI p))]) rfl ?_
                  exact ih_53 (d + 1) _ (by omega) (by omega) (by rw [hc2, tw_rc1, tw_bit]; simp [c_84]; try omega)
          refine z_lv [0, 1, 2, 3, 4, 5] (lv' := [(5, .int (nI 0)), (4, .int (nI k)), (3, .int (nI c)), (0, .ref t), (1, .int x), (2, .int (nI p))]) rfl ?_
          exact lp_53 _ 0 _ (Nat.lt_succ_self _) (Nat.zero_le _) rfl
    refine z_lv [0, 1, 3, 4, 2] (lv' := [(4, .int (nI 0)), (3, .int (nI 0)), (0, .ref t), (1, .int x), (2, .int (nI p))]) rfl ?_
    exact lp_39 _ 0 _ (Nat.lt_succ_self _) (Nat.zero_le _) rfl
  · exact absurd c_19 (by decide)

set_option maxHeartbeats 1000000 in
theorem m_X3_layCosts {l : Launch} {G : zG} {h : zH} {n : Nat} {t : Nat} {w0 : Nat → Int32} {w1 : Nat → Int32} {w2 : Nat → Int32} {w3 : Nat → Int32} {w4 : Nat → Int32} {w5 : Nat → Int64} {w6 : Nat → Int64} {w7 : Nat → Int64} {w8 : Nat → Int64} {w9 : Nat → Int64} {w10 : Nat → Int64} {w11 : Nat → Int64} {w12 : Int32} {w13 : Int32} {w14 : Int32} {w15 : Int32} {w16 : Int32} {w17 : Int32} {w18 : Bool} {w19 : Nat → Int32} {w20 : Int32} {w21 : Nat → Int32} {w22 : Nat → Int32} {w23 : Nat → Int32} {w24 : Int32} {w25 : Int32} {w26 : Int32} {w27 : Int32} {w28 : Bool} {R S D : Nat}  (x : Int32) (ht : z_n0 G ≤ t) (hw : z_ok w0 R S D) : z_C l G yX3_layCosts 3 0 0 [.ref t, .int x] (z_tw G t w0 w1 w2 w3 w4 w5 w6 w7 w8 w9 w10 w11 w12 w13 w14 w15 w16 w17 w18 w19 w20 w21 w22 w23 w24 w25 w26 w27 w28 h) n (z_r0 (z_tw G t w0 w1 w2 w3 w4 w5 w6 w7 w8 w9 w10 (tw_lc w0 R x w11 S) w12 w13 w14 w15 w16 w17 w18 w19 w20 w21 w22 w23 w24 w25 w26 w27 w28 h) n) := by
  refine z_start zk_X3_layCosts zpl_RX3 (Nat.le_of_ble_eq_true rfl) ?_
  intro hn0 M hl hG ho hb hN hr hm hH hrm hQ
  subst hl hG
  have ho : zm_o M = RX3 := ho
  obtain ⟨hR, hR4, hS, hS8, hD, hD6, hF⟩ := id hw
  show z_V M (z_tw (zm_G M) t w0 w1 w2 w3 w4 w5 w6 w7 w8 w9 w10 w11 w12 w13 w14 w15 w16 w17 w18 w19 w20 w21 w22 w23 w24 w25 w26 w27 w28 h) n 0 0 0 [(0, .ref t), (1, .int x)] []
  refine z_iconst (x := nI 0) hb dX3_layCosts_0 (by decide) ?_
  refine z_istore_n (lv' := [(2, .int (nI 0)), (0, .ref t), (1, .int x)]) hb dX3_layCosts_1 (by rw [hN]; decide) rfl ?_
  have lp_2 : ∀ (k9_2 : Nat) (k : Nat) (v : Nat → Int64), S - k < k9_2 → (k ≤ S) → (v = tw_lc w0 R x w11 k) → z_V M (z_tw (zm_G M) t w0 w1 w2 w3 w4 w5 w6 w7 w8 w9 w10 v w12 w13 w14 w15 w16 w17 w18 w19 w20 w21 w22 w23 w24 w25 w26 w27 w28 h) n 0 0 2 [(2, .int (nI k)), (0, .ref t), (1, .int x)] [] := by
    intro k9_2
    induction k9_2 with
    | zero => intro k v hk9_2; exact absurd hk9_2 (Nat.not_lt_zero _)
    | succ k9_2 ih_2 =>
      intro k v hk9_2 hk hv
      refine z_iload_n hb dX3_layCosts_2 rfl ?_
      refine z_aload_n hb dX3_layCosts_3 rfl ?_
      refine z_get (k := 0) (C := RX3) (T := TX3) (N := 29) hb ho zc2 in_X3 (zf_RX3_7 _) dX3_layCosts_4 z_tw_o (by decide) rfl ?_
      refine z_iconst (x := nI 3) hb dX3_layCosts_7 (by decide) ?_
      refine z_iald (j := 3) hb dX3_layCosts_8 z_tw_r0 rfl (by omega) (by omega) ?_
      refine z_toI (y := nI S) hS ?_
      refine z_icmp_geN (tgt := 120) hb dX3_layCosts_9 (by decide) (by omega) (by omega) (fun c_9 => ?_) (fun c_9 => ?_)
      · refine z_vret hb hr dX3_layCosts_120 ?_
        rw [hQ]
        rw [hv, show k = S by omega]; exact ⟨rfl, rfl, rfl⟩
      · obtain ⟨hF1, hF2, hF3, hF4⟩ := hF k (by omega)
        refine z_aload_n hb dX3_layCosts_12 rfl ?_
        refine z_get (k := 11) (C := RX3) (T := TX3) (N := 29) hb ho zc2 in_X3 (zf_RX3_44 _) dX3_layCosts_13 z_tw_o (by decide) rfl ?_
        refine z_aload_n hb dX3_layCosts_16 rfl ?_
        refine z_iload_n hb dX3_layCosts_17 rfl ?_
        refine z_iconst (x := nI 2) hb dX3_layCosts_18 (by decide) ?_
        refine z_call1 (b' := 0) (f' := 0) (rest := [.ref (t + 12)]) (av := [.ref t, .int (nI k), .int (nI 2)]) (z_siteV hb ho zc2 z_tw_o q2847 q2849 qs40 ⟨_, _, _, _, zk_X3_s⟩ zy_X3_s zl_X3_s dX3_layCosts_19 : z_Site M _ _ _ _ _ ([.int (nI k), .int (nI 2)].reverse ++ .ref t :: [.ref (t + 12)]) [.ref (t + 12)] _) zk_X3_s q104 hrm (m_X3_s k 2 ht (by omega)) (by omega) (by decide) (Nat.le_of_ble_eq_true rfl) (by omega) (by omega) ?_
        refine z_toI (y := nI (tw_f w0 k)) (hF k (by omega)).1 ?_
        refine z_lald (j := tw_f w0 k) hb dX3_layCosts_22 z_tw_r11 rfl (by omega) (by omega) ?_
        refine z_lstore_n (lv' := [(3, .long (v (tw_f w0 k))), (2, .int (nI k)), (0, .ref t), (1, .int x)]) hb dX3_layCosts_23 (by rw [hN]; decide) rfl ?_
        refine z_aload_n hb dX3_layCosts_24 rfl ?_
        refine z_iload_n hb dX3_layCosts_25 rfl ?_
        refine z_iconst (x := nI 0) hb dX3_layCosts_26 (by decide) ?_
        refine z_call1 (b' := 0) (f' := 0) (rest := []) (av := [.ref t, .int (nI k), .int (nI 0)]) (z_siteV hb ho zc2 z_tw_o q2847 q2849 qs40 ⟨_, _, _, _, zk_X3_s⟩ zy_X3_s zl_X3_s dX3_layCosts_27 : z_Site M _ _ _ _ _ ([.int (nI k), .int (nI 0)].reverse ++ .ref t :: []) [] _) zk_X3_s q104 hrm (m_X3_s k 0 ht (by omega)) (by omega) (by decide) (Nat.le_of_ble_eq_true rfl) (by omega) (by omega) ?_
        refine z_toI (y := w0 (176 + 4 * k)) rfl ?_
        refine z_bipush (x := nI 107) hb dX3_layCosts_30 (by decide) ?_
        refine z_icmp_ne (tgt := 39) hb dX3_layCosts_32 (by decide) (fun c_32 => ?_) (fun c_32 => ?_)
        · refine z_aload_n hb dX3_layCosts_39 rfl ?_
          refine z_iload_n hb dX3_layCosts_40 rfl ?_
          refine z_iconst (x := nI 0) hb dX3_layCosts_41 (by decide) ?_
          refine z_call1 (b' := 0) (f' := 0) (rest := []) (av := [.ref t, .int (nI k), .int (nI 0)]) (z_siteV hb ho zc2 z_tw_o q2847 q2849 qs40 ⟨_, _, _, _, zk_X3_s⟩ zy_X3_s zl_X3_s dX3_layCosts_42 : z_Site M _ _ _ _ _ ([.int (nI k), .int (nI 0)].reverse ++ .ref t :: []) [] _) zk_X3_s q104 hrm (m_X3_s k 0 ht (by omega)) (by omega) (by decide) (Nat.le_of_ble_eq_true rfl) (by omega) (by omega) ?_
          refine z_toI (y := w0 (176 + 4 * k)) rfl ?_
          refine z_bipush (x := nI 114) hb dX3_layCosts_45 (by decide) ?_
          refine z_icmp_ne (tgt := 58) hb dX3_layCosts_47 (by decide) (fun c_47 => ?_) (fun c_47 => ?_)
          · refine z_lload_n hb dX3_layCosts_58 rfl ?_
            refine z_aload_n hb dX3_layCosts_59 rfl ?_
            refine z_get (k := 11) (C := RX3) (T := TX3) (N := 29) hb ho zc2 in_X3 (zf_RX3_44 _) dX3_layCosts_60 z_tw_o (by decide) rfl ?_
            refine z_aload_n hb dX3_layCosts_63 rfl ?_
            refine z_iload_n hb dX3_layCosts_64 rfl ?_
            refine z_iconst (x := nI 3) hb dX3_layCosts_65 (by decide) ?_
            refine z_call1 (b' := 0) (f' := 0) (rest := [.ref (t + 12), .long (v (tw_f w0 k))]) (av := [.ref t, .int (nI k), .int (nI 3)]) (z_siteV hb ho zc2 z_tw_o q2847 q2849 qs40 ⟨_, _, _, _, zk_X3_s⟩ zy_X3_s zl_X3_s dX3_layCosts_66 : z_Site M _ _ _ _ _ ([.int (nI k), .int (nI 3)].reverse ++ .ref t :: [.ref (t + 12), .long (v (tw_f w0 k))]) [.ref (t + 12), .long (v (tw_f w0 k))] _) zk_X3_s q104 hrm (m_X3_s k 3 ht (by omega)) (by omega) (by decide) (Nat.le_of_ble_eq_true rfl) (by omega) (by omega) ?_
            refine z_toI (y := nI (tw_s w0 k)) (hF k (by omega)).2.2.1 ?_
            refine z_lald (j := tw_s w0 k) hb dX3_layCosts_69 z_tw_r11 rfl (by omega) (by omega) ?_
            refine z_ladd hb dX3_layCosts_70 ?_
            refine z_lstore (lv' := [(5, .long ((v (tw_f w0 k)) + (v (tw_s w0 k)))), (3, .long (v (tw_f w0 k))), (2, .int (nI k)), (0, .ref t), (1, .int x)]) hb dX3_layCosts_71 (by rw [hN]; decide) rfl ?_
            refine z_aload_n hb dX3_layCosts_73 rfl ?_
            refine z_get (k := 11) (C := RX3) (T := TX3) (N := 29) hb ho zc2 in_X3 (zf_RX3_44 _) dX3_layCosts_74 z_tw_o (by decide) rfl ?_
            refine z_iload_n hb dX3_layCosts_77 rfl ?_
            refine z_iload_n hb dX3_layCosts_78 rfl ?_
            refine z_iload_n hb dX3_layCosts_79 rfl ?_
            refine z_ishr hb dX3_layCosts_80 ?_
            refine z_iconst (x := nI 1) hb dX3_layCosts_81 (by decide) ?_
            refine z_iand hb dX3_layCosts_82 ?_
            refine z_iconst (x := nI 1) hb dX3_layCosts_83 (by decide) ?_
            refine z_icmp_ne (tgt := 91) hb dX3_layCosts_84 (by decide) (fun c_84 => ?_) (fun c_84 => ?_)
            · refine z_lconst (x := 1) hb dX3_layCosts_91 rfl ?_
              refine z_aload_n hb dX3_layCosts_92 rfl ?_
              refine z_iload_n hb dX3_layCosts_93 rfl ?_
              refine z_call1 (b' := 0) (f' := 0) (rest := [.long 1, .int (nI k), .ref (t + 12)]) (av := [.ref t, .int (nI k)]) (z_siteV hb ho zc2 z_tw_o q2843 q2845 qs39 ⟨_, _, _, _, zk_X3_isBase⟩ zy_X3_isBase zl_X3_isBase dX3_layCosts_94 : z_Site M _ _ _ _ _ ([.int (nI k)].reverse ++ .ref t :: [.long 1, .int (nI k), .ref (t + 12)]) [.long 1, .int (nI k), .ref (t + 12)] _) zk_X3_isBase q104 hrm (m_X3_isBase k ht (by omega)) (by omega) (by decide) (Nat.le_of_ble_eq_true rfl) (by omega) (by omega) ?_
              refine z_ifb_eq (tgt := 110) hb dX3_layCosts_97 (by decide) (fun c_97 => ?_) (fun c_97 => ?_)
              · refine z_lload hb dX3_layCosts_110 rfl ?_
                refine z_ladd hb dX3_layCosts_112 ?_
                refine z_last (j := k) hb dX3_layCosts_113 z_tw_r11 (by omega) rfl (by omega) (by omega) ?_
                refine z_hh z_tw_u11 ?_
                refine z_iinc (k0 := 2) (lv' := [(2, .int (nI (k + 1))), (5, .long ((v (tw_f w0 k)) + (v (tw_s w0 k)))), (3, .long (v (tw_f w0 k))), (0, .ref t), (1, .int x)]) hb dX3_layCosts_114 rfl (nI_1 k) (by rw [hN]; decide) rfl ?_
                refine z_goto (tgt := 2) hb dX3_layCosts_117 (by decide) ?_
                refine z_lv [0, 3, 4] (lv' := [(2, .int (nI (k + 1))), (0, .ref t), (1, .int x)]) rfl ?_
                exact ih_2 (k + 1) _ (by omega) (by omega) (by rw [hv, tw_lc, tw_lc1]; rw [← hv]; rw [if_neg (by simp [tw_pl, c_84])]; rw [if_neg (by simp [c_97])]; rw [if_neg c_32, if_neg c_47])
              · refine z_aload_n hb dX3_layCosts_100 rfl ?_
                refine z_get (k := 0) (C := RX3) (T := TX3) (N := 29) hb ho zc2 in_X3 (zf_RX3_7 _) dX3_layCosts_101 z_tw_o (by decide) rfl ?_
                refine z_iconst (x := nI 1) hb dX3_layCosts_104 (by decide) ?_
                refine z_iald (j := 1) hb dX3_layCosts_105 z_tw_r0 rfl (by omega) (by omega) ?_
                refine z_toI (y := nI R) hR ?_
                refine z_i2l (v := (nI R).toInt64) hb dX3_layCosts_106 rfl ?_
                refine z_goto (tgt := 112) hb dX3_layCosts_107 (by decide) ?_
                refine z_ladd hb dX3_layCosts_112 ?_
                refine z_last (j := k) hb dX3_layCosts_113 z_tw_r11 (by omega) rfl (by omega) (by omega) ?_
                refine z_hh z_tw_u11 ?_
                refine z_iinc (k0 := 2) (lv' := [(2, .int (nI (k + 1))), (5, .long ((v (tw_f w0 k)) + (v (tw_s w0 k)))), (3, .long (v (tw_f w0 k))), (0, .ref t), (1, .int x)]) hb dX3_layCosts_114 rfl (nI_1 k) (by rw [hN]; decide) rfl ?_
                refine z_goto (tgt := 2) hb dX3_layCosts_117 (by decide) ?_
                refine z_lv [0, 3, 4] (lv' := [(2, .int (nI (k + 1))), (0, .ref t), (1, .int x)]) rfl ?_
                exact ih_2 (k + 1) _ (by omega) (by omega) (by rw [hv, tw_lc, tw_lc1]; rw [← hv]; rw [if_neg (by simp [tw_pl, c_84])]; rw [if_pos c_97])
            · refine z_lconst (x := 1) hb dX3_layCosts_87 rfl ?_
              refine z_goto (tgt := 113) hb dX3_layCosts_88 (by decide) ?_
              refine z_last (j := k) hb dX3_layCosts_113 z_tw_r11 (by omega) rfl (by omega) (by omega) ?_
              refine z_hh z_tw_u11 ?_
              refine z_iinc (k0 := 2) (lv' := [(2, .int (nI (k + 1))), (5, .long ((v (tw_f w0 k)) + (v (tw_s w0 k)))), (3, .long (v (tw_f w0 k))), (0, .ref t), (1, .int x)]) hb dX3_layCosts_114 rfl (nI_1 k) (by rw [hN]; decide) rfl ?_
              refine z_goto (tgt := 2) hb dX3_layCosts_117 (by decide) ?_
              refine z_lv [0, 3, 4] (lv' := [(2, .int (nI (k + 1))), (0, .ref t), (1, .int x)]) rfl ?_
              exact ih_2 (k + 1) _ (by omega) (by omega) (by rw [hv, tw_lc, tw_lc1]; rw [← hv]; rw [if_pos (by simp [tw_pl, c_84])])
          · refine z_ldc2 hb ho q3099 dX3_layCosts_50 ?_
            refine z_lload_n hb dX3_layCosts_53 rfl ?_
            refine z_lmul hb dX3_layCosts_54 ?_
            refine z_goto (tgt := 71) hb dX3_layCosts_55 (by decide) ?_
            refine z_lstore (lv' := [(5, .long ((7 : Int64) * (v (tw_f w0 k)))), (3, .long (v (tw_f w0 k))), (2, .int (nI k)), (0, .ref t), (1, .int x)]) hb dX3_layCosts_71 (by rw [hN]; decide) rfl ?_
            refine z_aload_n hb dX3_layCosts_73 rfl ?_
            refine z_get (k := 11) (C := RX3) (T := TX3) (N := 29) hb ho zc2 in_X3 (zf_RX3_44 _) dX3_layCosts_74 z_tw_o (by decide) rfl ?_
            refine z_iload_n hb dX3_layCosts_77 rfl ?_
            refine z_iload_n hb dX3_layCosts_78 rfl ?_
            refine z_iload_n hb dX3_layCosts_79 rfl ?_
            refine z_ishr hb dX3_layCosts_80 ?_
            refine z_iconst (x := nI 1) hb dX3_layCosts_81 (by decide) ?_
            refine z_iand hb dX3_layCosts_82 ?_
            refine z_iconst (x := nI 1) hb dX3_layCosts_83 (by decide) ?_
            refine z_icmp_ne (tgt := 91) hb dX3_layCosts_84 (by decide) (fun c_84 => ?_) (fun c_84 => ?_)
            · refine z_lconst (x := 1) hb dX3_layCosts_91 rfl ?_
              refine z_aload_n hb dX3_layCosts_92 rfl ?_
              refine z_iload_n hb dX3_layCosts_93 rfl ?_
              refine z_call1 (b' := 0) (f' := 0) (rest := [.long 1, .int (nI k), .ref (t + 12)]) (av := [.ref t, .int (nI k)]) (z_siteV hb ho zc2 z_tw_o q2843 q2845 qs39 ⟨_, _, _, _, zk_X3_isBase⟩ zy_X3_isBase zl_X3_isBase dX3_layCosts_94 : z_Site M _ _ _ _ _ ([.int (nI k)].reverse ++ .ref t :: [.long 1, .int (nI k), .ref (t + 12)]) [.long 1, .int (nI k), .ref (t + 12)] _) zk_X3_isBase q104 hrm (m_X3_isBase k ht (by omega)) (by omega) (by decide) (Nat.le_of_ble_eq_true rfl) (by omega) (by omega) ?_
              refine z_ifb_eq (tgt := 110) hb dX3_layCosts_97 (by decide) (fun c_97 => ?_) (fun c_97 => ?_)
              · refine z_lload hb dX3_layCosts_110 rfl ?_
                refine z_ladd hb dX3_layCosts_112 ?_
                refine z_last (j := k) hb dX3_layCosts_113 z_tw_r11 (by omega) rfl (by omega) (by omega) ?_
                refine z_hh z_tw_u11 ?_
                refine z_iinc (k0 := 2) (lv' := [(2, .int (nI (k + 1))), (5, .long ((7 : Int64) * (v (tw_f w0 k)))), (3, .long (v (tw_f w0 k))), (0, .ref t), (1, .int x)]) hb dX3_layCosts_114 rfl (nI_1 k) (by rw [hN]; decide) rfl ?_
                refine z_goto (tgt := 2) hb dX3_layCosts_117 (by decide) ?_
                refine z_lv [0, 3, 4] (lv' := [(2, .int (nI (k + 1))), (0, .ref t), (1, .int x)]) rfl ?_
                exact ih_2 (k + 1) _ (by omega) (by omega) (by rw [hv, tw_lc, tw_lc1]; rw [← hv]; rw [if_neg (by simp [tw_pl, c_84])]; rw [if_neg (by simp [c_97])]; rw [if_neg c_32, if_pos c_47])
              · refine z_aload_n hb dX3_layCosts_100 rfl ?_
                refine z_get (k := 0) (C := RX3) (T := TX3) (N := 29) hb ho zc2 in_X3 (zf_RX3_7 _) dX3_layCosts_101 z_tw_o (by decide) rfl ?_
                refine z_iconst (x := nI 1) hb dX3_layCosts_104 (by decide) ?_
                refine z_iald (j := 1) hb dX3_layCosts_105 z_tw_r0 rfl (by omega) (by omega) ?_
                refine z_toI (y := nI R) hR ?_
                refine z_i2l (v := (nI R).toInt64) hb dX3_layCosts_106 rfl ?_
                refine z_goto (tgt := 112) hb dX3_layCosts_107 (by decide) ?_
                refine z_ladd hb dX3_layCosts_112 ?_
                refine z_last (j := k) hb dX3_layCosts_113 z_tw_r11 (by omega) rfl (by omega) (by omega) ?_
                refine z_hh z_tw_u11 ?_
                refine z_iinc (k0 := 2) (lv' := [(2, .int (nI (k + 1))), (5, .long ((7 : Int64) * (v (tw_f w0 k)))), (3, .long (v (tw_f w0 k))), (0, .ref t), (1, .int x)]) hb dX3_layCosts_114 rfl (nI_1 k) (by rw [hN]; decide) rfl ?_
                refine z_goto (tgt := 2) hb dX3_layCosts_117 (by decide) ?_
                refine z_lv [0, 3, 4] (lv' := [(2, .int (nI (k + 1))), (0, .ref t), (1, .int x)]) rfl ?_
                exact ih_2 (k + 1) _ (by omega) (by omega) (by rw [hv, tw_lc, tw_lc1]; rw [← hv]; rw [if_neg (by simp [tw_pl, c_84])]; rw [if_pos c_97])
            · refine z_lconst (x := 1) hb dX3_layCosts_87 rfl ?_
              refine z_goto (tgt := 113) hb dX3_layCosts_88 (by decide) ?_
              refine z_last (j := k) hb dX3_layCosts_113 z_tw_r11 (by omega) rfl (by omega) (by omega) ?_
              refine z_hh z_tw_u11 ?_
              refine z_iinc (k0 := 2) (lv' := [(2, .int (nI (k + 1))), (5, .long ((7 : Int64) * (v (tw_f w0 k)))), (3, .long (v (tw_f w0 k))), (0, .ref t), (1, .int x)]) hb dX3_layCosts_114 rfl (nI_1 k) (by rw [hN]; decide) rfl ?_
              refine z_goto (tgt := 2) hb dX3_layCosts_117 (by decide) ?_
              refine z_lv [0, 3, 4] (lv' := [(2, .int (nI (k + 1))), (0, .ref t), (1, .int x)]) rfl ?_
              exact ih_2 (k + 1) _ (by omega) (by omega) (by rw [hv, tw_lc, tw_lc1]; rw [← hv]; rw [if_pos (by simp [tw_pl, c_84])])
        · refine z_lload_n hb dX3_layCosts_35 rfl ?_
          refine z_goto (tgt := 71) hb dX3_layCosts_36 (by decide) ?_
          refine z_lstore (lv' := [(5, .long (v (tw_f w0 k))), (3, .long (v (tw_f w0 k))), (2, .int (nI k)), (0, .ref t), (1, .int x)]) hb dX3_layCosts_71 (by rw [hN]; decide) rfl ?_
          refine z_aload_n hb dX3_layCosts_73 rfl ?_
          refine z_get (k := 11) (C := RX3) (T := TX3) (N := 29) hb ho zc2 in_X3 (zf_RX3_44 _) dX3_layCosts_74 z_tw_o (by decide) rfl ?_
          refine z_iload_n hb dX3_layCosts_77 rfl ?_
          refine z_iload_n hb dX3_layCosts_78 rfl ?_
          refine z_iload_n hb dX3_layCosts_79 rfl ?_
          refine z_ishr hb dX3_layCosts_80 ?_
          refine z_iconst (x := nI 1) hb dX3_layCosts_81 (by decide) ?_
          refine z_iand hb dX3_layCosts_82 ?_
          refine z_iconst (x := nI 1) hb dX3_layCosts_83 (by decide) ?_
          refine z_icmp_ne (tgt := 91) hb dX3_layCosts_84 (by decide) (fun c_84 => ?_) (fun c_84 => ?_)
          · refine z_lconst (x := 1) hb dX3_layCosts_91 rfl ?_
            refine z_aload_n hb dX3_layCosts_92 rfl ?_
            refine z_iload_n hb dX3_layCosts_93 rfl ?_
            refine z_call1 (b' := 0) (f' := 0) (rest := [.long 1, .int (nI k), .ref (t + 12)]) (av := [.ref t, .int (nI k)]) (z_siteV hb ho zc2 z_tw_o q2843 q2845 qs39 ⟨_, _, _, _, zk_X3_isBase⟩ zy_X3_isBase zl_X3_isBase dX3_layCosts_94 : z_Site M _ _ _ _ _ ([.int (nI k)].reverse ++ .ref t :: [.long 1, .int (nI k), .ref (t + 12)]) [.long 1, .int (nI k), .ref (t + 12)] _) zk_X3_isBase q104 hrm (m_X3_isBase k ht (by omega)) (by omega) (by decide) (Nat.le_of_ble_eq_true rfl) (by omega) (by omega) ?_
            refine z_ifb_eq (tgt := 110) hb dX3_layCosts_97 (by decide) (fun c_97 => ?_) (fun c_97 => ?_)
            · refine z_lload hb dX3_layCosts_110 rfl ?_
              refine z_ladd hb dX3_layCosts_112 ?_
              refine z_last (j := k) hb dX3_layCosts_113 z_tw_r11 (by omega) rfl (by omega) (by omega) ?_
              refine z_hh z_tw_u11 ?_
              refine z_iinc (k0 := 2) (lv' := [(2, .int (nI (k + 1))), (5, .long (v (tw_f w0 k))), (3, .long (v (tw_f w0 k))), (0, .ref t), (1, .int x)]) hb dX3_layCosts_114 rfl (nI_1 k) (by rw [hN]; decide) rfl ?_
              refine z_goto (tgt := 2) hb dX3_layCosts_117 (by decide) ?_
              refine z_lv [0, 3, 4] (lv' := [(2, .int (nI (k + 1))), (0, .ref t), (1, .int x)]) rfl ?_
              exact ih_2 (k + 1) _ (by omega) (by omega) (by rw [hv, tw_lc, tw_lc1]; rw [← hv]; rw [if_neg (by simp [tw_pl, c_84])]; rw [if_neg (by simp [c_97])]; rw [if_pos c_32])
            · refine z_aload_n hb dX3_layCosts_100 rfl ?_
              refine z_get (k := 0) (C := RX3) (T := TX3) (N := 29) hb ho zc2 in_X3 (zf_RX3_7 _) dX3_layCosts_101 z_tw_o (by decide) rfl ?_
              refine z_iconst (x := nI 1) hb dX3_layCosts_104 (by decide) ?_
              refine z_iald (j := 1) hb dX3_layCosts_105 z_tw_r0 rfl (by omega) (by omega) ?_
              refine z_toI (y := nI R) hR ?_
              refine z_i2l (v := (nI R).toInt64) hb dX3_layCosts_106 rfl ?_
              refine z_goto (tgt := 112) hb dX3_layCosts_107 (by decide) ?_
              refine z_ladd hb dX3_layCosts_112 ?_
              refine z_last (j := k) hb dX3_layCosts_113 z_tw_r11 (by omega) rfl (by omega) (by omega) ?_
              refine z_hh z_tw_u11 ?_
              refine z_iinc (k0 := 2) (lv' := [(2, .int (nI (k + 1))), (5, .long (v (tw_f w0 k))), (3, .long (v (tw_f w0 k))), (0, .ref t), (1, .int x)]) hb dX3_layCosts_114 rfl (nI_1 k) (by rw [hN]; decide) rfl ?_
              refine z_goto (tgt := 2) hb dX3_layCosts_117 (by decide) ?_
              refine z_lv [0, 3, 4] (lv' := [(2, .int (nI (k + 1))), (0, .ref t), (1, .int x)]) rfl ?_
              exact ih_2 (k + 1) _ (by omega) (by omega) (by rw [hv, tw_lc, tw_lc1]; rw [← hv]; rw [if_neg (by simp [tw_pl, c_84])]; rw [if_pos c_97])
          · refine z_lconst (x := 1) hb dX3_layCosts_87 rfl ?_
            refine z_goto (tgt := 113) hb dX3_layCosts_88 (by decide) ?_
            refine z_last (j := k) hb dX3_layCosts_113 z_tw_r11 (by omega) rfl (by omega) (by omega) ?_
            refine z_hh z_tw_u11 ?_
            refine z_iinc (k0 := 2) (lv' := [(2, .int (nI (k + 1))), (5, .long (v (tw_f w0 k))), (3, .long (v (tw_f w0 k))), (0, .ref t), (1, .int x)]) hb dX3_layCosts_114 rfl (nI_1 k) (by rw [hN]; decide) rfl ?_
            refine z_goto (tgt := 2) hb dX3_layCosts_117 (by decide) ?_
            refine z_lv [0, 3, 4] (lv' := [(2, .int (nI (k + 1))), (0, .ref t), (1, .int x)]) rfl ?_
            exact ih_2 (k + 1) _ (by omega) (by omega) (by rw [hv, tw_lc, tw_lc1]; rw [← hv]; rw [if_pos (by simp [tw_pl, c_84])])
  refine z_lv [0, 1, 2] (lv' := [(2, .int (nI 0)), (0, .ref t), (1, .int x)]) rfl ?_
  exact lp_2 _ 0 _ (Nat.lt_succ_self _) (Nat.zero_le _) rfl

set_option maxHeartbeats 1000000 in
theorem m_X3_whole {l : Launch} {G : zG} {h : zH} {n : Nat} {t : Nat} {w0 : Nat → Int32} {w1 : Nat → Int32} {w2 : Nat → Int32} {w3 : Nat → Int32} {w4 : Nat → Int32} {w5 : Nat → Int64} {w6 : Nat → Int64} {w7 : Nat → Int64} {w8 : Nat → Int64} {w9 : Nat → Int64} {w10 : Nat → Int64} {w11 : Nat → Int64} {w12 : Int32} {w13 : Int32} {w14 : Int32} {w15 : Int32} {w16 : Int32} {w17 : Int32} {w18 : Bool} {w19 : Nat → Int32} {w20 : Int32} {w21 : Nat → Int32} {w22 : Nat → Int32} {w23 : Nat → Int32} {w24 : Int32} {w25 : Int32} {w26 : Int32} {w27 : Int32} {w28 : Bool} {R S D : Nat}  (x : Int32) (ht : z_n0 G ≤ t) (hw : z_ok w0 R S D) : z_C l G yX3_whole 4 0 0 [.ref t, .int x] (z_tw G t w0 w1 w2 w3 w4 w5 w6 w7 w8 w9 w10 w11 w12 w13 w14 w15 w16 w17 w18 w19 w20 w21 w22 w23 w24 w25 w26 w27 w28 h) n (z_rv (.long (tw_wh w0 R S x w11)) (z_tw G t w0 w1 w2 w3 w4 w5 w6 w7 w8 w9 w10 (tw_lc w0 R x w11 S) w12 w13 w14 w15 w16 w17 w18 w19 w20 w21 w22 w23 w24 w25 w26 w27 w28 h) n) := by
  refine z_start zk_X3_whole zpl_RX3 (Nat.le_of_ble_eq_true rfl) ?_
  intro hn0 M hl hG ho hb hN hr hm hH hrm hQ
  subst hl hG
  have ho : zm_o M = RX3 := ho
  obtain ⟨hR, hR4, hS, hS8, hD, hD6, hF⟩ := id hw
  show z_V M (z_tw (zm_G M) t w0 w1 w2 w3 w4 w5 w6 w7 w8 w9 w10 w11 w12 w13 w14 w15 w16 w17 w18 w19 w20 w21 w22 w23 w24 w25 w26 w27 w28 h) n 0 0 0 [(0, .ref t), (1, .int x)] []
  refine z_aload_n hb dX3_whole_0 rfl ?_
  refine z_iload_n hb dX3_whole_1 rfl ?_
  refine z_call0 (b' := 0) (f' := 0) (rest := []) (av := [.ref t, .int x]) (z_siteV hb ho zc2 z_tw_o q3095 q3097 qs74 ⟨_, _, _, _, zk_X3_layCosts⟩ zy_X3_layCosts zl_X3_layCosts dX3_whole_2 : z_Site M _ _ _ _ _ ([.int x].reverse ++ .ref t :: []) [] _) zk_X3_layCosts q104 hrm (m_X3_layCosts x ht hw) (by omega) (by decide) (Nat.le_of_ble_eq_true rfl) (by omega) (by omega) ?_
  refine z_lconst (x := 0) hb dX3_whole_5 rfl ?_
  refine z_lstore_n (lv' := [(2, .long 0), (0, .ref t), (1, .int x)]) hb dX3_whole_6 (by rw [hN]; decide) rfl ?_
  refine z_iconst (x := nI 0) hb dX3_whole_7 (by decide) ?_
  refine z_istore (lv' := [(4, .int (nI 0)), (2, .long 0), (0, .ref t), (1, .int x)]) hb dX3_whole_8 (by rw [hN]; decide) rfl ?_
  have lp_10 : ∀ (k9_10 : Nat) (k : Nat) (v : Int64), S - k < k9_10 → (k ≤ S) → (v = tw_sum8 (tw_lc w0 R x w11 S) k) → z_V M (z_tw (zm_G M) t w0 w1 w2 w3 w4 w5 w6 w7 w8 w9 w10 (tw_lc w0 R x w11 S) w12 w13 w14 w15 w16 w17 w18 w19 w20 w21 w22 w23 w24 w25 w26 w27 w28 h) n 0 0 10 [(4, .int (nI k)), (2, .long v), (0, .ref t), (1, .int x)] [] := by
    intro k9_10
    induction k9_10 with
    | zero => intro k v hk9_10; exact absurd hk9_10 (Nat.not_lt_zero _)
    | succ k9_10 ih_10 =>
      intro k v hk9_10 hk hv
      refine z_iload hb dX3_whole_10 rfl ?_
      refine z_aload_n hb dX3_whole_12 rfl ?_
      refine z_get (k := 0) (C := RX3) (T := TX3) (N := 29) hb ho zc2 in_X3 (zf_RX3_7 _) dX3_whole_13 z_tw_o (by decide) rfl ?_
      refine z_iconst (x := nI 3) hb dX3_whole_16 (by decide) ?_
      refine z_iald (j := 3) hb dX3_whole_17 z_tw_r0 rfl (by omega) (by omega) ?_
      refine z_toI (y := nI S) hS ?_
      refine z_icmp_geN (tgt := 37) hb dX3_whole_18 (by decide) (by omega) (by omega) (fun c_18 => ?_) (fun c_18 => ?_)
      · refine z_lload_n hb dX3_whole_37 rfl ?_
        refine z_lret hb hr dX3_whole_38 ?_
        rw [hQ]
        rw [hv, show k = S by omega]; exact ⟨rfl, rfl, rfl⟩
      · refine z_lload_n hb dX3_whole_21 rfl ?_
        refine z_aload_n hb dX3_whole_22 rfl ?_
        refine z_get (k := 11) (C := RX3) (T := TX3) (N := 29) hb ho zc2 in_X3 (zf_RX3_44 _) dX3_whole_23 z_tw_o (by decide) rfl ?_
        refine z_iload hb dX3_whole_26 rfl ?_
        refine z_lald (j := k) hb dX3_whole_28 z_tw_r11 rfl (by omega) (by omega) ?_
        refine z_ladd hb dX3_whole_29 ?_
        refine z_lstore_n (lv' := [(2, .long (v + ((tw_lc w0 R x w11 S) k))), (4, .int (nI k)), (0, .ref t), (1, .int x)]) hb dX3_whole_30 (by rw [hN]; decide) rfl ?_
        refine z_iinc (k0 := 1) (lv' := [(4, .int (nI (k + 1))), (2, .long (v + ((tw_lc w0 R x w11 S) k))), (0, .ref t), (1, .int x)]) hb dX3_whole_31 rfl (nI_1 k) (by rw [hN]; decide) rfl ?_
        refine z_goto (tgt := 10) hb dX3_whole_34 (by decide) ?_
        refine z_lv [0, 1, 2, 3] (lv' := [(4, .int (nI (k + 1))), (2, .long (v + ((tw_lc w0 R x w11 S) k))), (0, .ref t), (1, .int x)]) rfl ?_
        exact ih_10 (k + 1) _ (by omega) (by omega) (by rw [hv]; rfl)
  refine z_lv [0, 1, 2, 3] (lv' := [(4, .int (nI 0)), (2, .long 0), (0, .ref t), (1, .int x)]) rfl ?_
  exact lp_10 _ 0 _ (Nat.lt_succ_self _) (Nat.zero_le _) rfl

def tw_cst (S : Nat) (x p : Int32) : Nat := if tw_isS S x = false then 1 else if decide (nI 0 ≤ p ∧ p ≤ nI (2 ^ S) - nI 1) then 0 else 2

set_option maxHeartbeats 1000000 in
theorem m_X3_cost_no {l : Launch} {G : zG} {h : zH} {n : Nat} {t : Nat} {w0 : Nat → Int32} {w1 : Nat → Int32} {w2 : Nat → Int32} {w3 : Nat → Int32} {w4 : Nat → Int32} {w5 : Nat → Int64} {w6 : Nat → Int64} {w7 : Nat → Int64} {w8 : Nat → Int64} {w9 : Nat → Int64} {w10 : Nat → Int64} {w11 : Nat → Int64} {w12 : Int32} {w13 : Int32} {w14 : Int32} {w15 : Int32} {w16 : Int32} {w17 : Int32} {w18 : Bool} {w19 : Nat → Int32} {w20 : Int32} {w21 : Nat → Int32} {w22 : Nat → Int32} {w23 : Nat → Int32} {w24 : Int32} {w25 : Int32} {w26 : Int32} {w27 : Int32} {w28 : Bool} {R S D : Nat} {x p : Int32}  (ht : z_n0 G ≤ t) (hw : z_ok w0 R S D) (hx : ¬tw_cst S x p = 0) : z_C l G yX3_cost 4 0 0 [.ref t, .int x, .int p] (z_tw G t w0 w1 w2 w3 w4 w5 w6 w7 w8 w9 w10 w11 w12 w13 w14 w15 w16 w17 w18 w19 w20 w21 w22 w23 w24 w25 w26 w27 w28 h) n (z_rv (.long 0) (z_tw G t w0 w1 w2 w3 w4 w5 w6 w7 w8 w9 w10 w11 (nI (tw_cst S x p)) w13 w14 w15 w16 w17 w18 w19 w20 w21 w22 w23 w24 w25 w26 w27 w28 h) n) := by
  refine z_start zk_X3_cost zpl_RX3 (Nat.le_of_ble_eq_true rfl) ?_
  intro hn0 M hl hG ho hb hN hr hm hH hrm hQ
  subst hl hG
  have ho : zm_o M = RX3 := ho
  obtain ⟨hR, hR4, hS, hS8, hD, hD6, hF⟩ := id hw
  unfold tw_cst tw_isS at hx
  show z_V M (z_tw (zm_G M) t w0 w1 w2 w3 w4 w5 w6 w7 w8 w9 w10 w11 w12 w13 w14 w15 w16 w17 w18 w19 w20 w21 w22 w23 w24 w25 w26 w27 w28 h) n 0 0 0 [(0, .ref t), (1, .int x), (2, .int p)] []
  refine z_aload_n hb dX3_cost_0 rfl ?_
  refine z_aload_n hb dX3_cost_1 rfl ?_
  refine z_iload_n hb dX3_cost_2 rfl ?_
  refine z_call1 (b' := 0) (f' := 0) (rest := [.ref t]) (av := [.ref t, .int x]) (z_siteV hb ho zc2 z_tw_o q2927 q2929 qs56 ⟨_, _, _, _, zk_X3_isStep⟩ zy_X3_isStep zl_X3_isStep dX3_cost_3 : z_Site M _ _ _ _ _ ([.int x].reverse ++ .ref t :: [.ref t]) [.ref t] _) zk_X3_isStep q104 hrm (m_X3_isStep x ht hw) (by omega) (by decide) (Nat.le_of_ble_eq_true rfl) (by omega) (by omega) ?_
  refine z_ifb_ne (tgt := 13) hb dX3_cost_6 (by decide) (fun c_6 => ?_) (fun c_6 => ?_)
  · refine z_iload_n hb dX3_cost_13 rfl ?_
    refine z_iconst (x := nI 0) hb dX3_cost_14 (by decide) ?_
    refine z_iconst (x := nI 1) hb dX3_cost_15 (by decide) ?_
    refine z_aload_n hb dX3_cost_16 rfl ?_
    refine z_get (k := 0) (C := RX3) (T := TX3) (N := 29) hb ho zc2 in_X3 (zf_RX3_7 _) dX3_cost_17 z_tw_o (by decide) rfl ?_
    refine z_iconst (x := nI 3) hb dX3_cost_20 (by decide) ?_
    refine z_iald (j := 3) hb dX3_cost_21 z_tw_r0 rfl (by omega) (by omega) ?_
    refine z_toI (y := nI S) hS ?_
    refine z_ishl hb dX3_cost_22 ?_
    refine z_toI (y := nI (2 ^ S)) (z_shl1 hS8) ?_
    refine z_iconst (x := nI 1) hb dX3_cost_23 (by decide) ?_
    refine z_isub hb dX3_cost_24 ?_
    refine z_call1 (b' := 0) (f' := 0) (rest := [.ref t]) (av := [.int p, .int (nI 0), .int ((nI (2 ^ S)) - (nI 1))]) (z_siteS hb ho q2809 q2810 q104 ⟨_, _, _, _, zk_X3_in⟩ zy_X3_in zl_X3_in dX3_cost_25 : z_Site M _ _ _ _ _ ([.int p, .int (nI 0), .int ((nI (2 ^ S)) - (nI 1))].reverse ++ [.ref t]) [.ref t] _) zk_X3_in q104 hrm (m_X3_in p (nI 0) ((nI (2 ^ S)) - (nI 1)) ht) (by omega) (by decide) (Nat.le_of_ble_eq_true rfl) (by omega) (by omega) ?_
    refine z_ifb_eq (tgt := 35) hb dX3_cost_28 (by decide) (fun c_28 => ?_) (fun c_28 => ?_)
    · refine z_iconst (x := nI 2) hb dX3_cost_35 (by decide) ?_
      refine z_put (k := 12) (C := RX3) (T := TX3) (N := 29) hb ho zc2 in_X3 tyX3_ok nmX3 (zf_RX3_47 _) dX3_cost_36 z_tw_o ht (by decide) (Or.inl rfl) rfl rfl rfl (Nat.le_of_ble_eq_true rfl) ?_
      refine z_hh z_tw_u12 ?_
      refine z_aload_n hb dX3_cost_39 rfl ?_
      refine z_get (k := 12) (C := RX3) (T := TX3) (N := 29) hb ho zc2 in_X3 (zf_RX3_47 _) dX3_cost_40 z_tw_o (by decide) rfl ?_
      refine z_if_leN (tgt := 48) hb dX3_cost_43 (by decide) (by omega) (fun c_43 => ?_) (fun c_43 => ?_)
      · exact absurd c_43 (by omega)
      · refine z_lconst (x := 0) hb dX3_cost_46 rfl ?_
        refine z_lret hb hr dX3_cost_47 ?_
        rw [hQ]
        rw [show tw_cst S x p = 2 by simp [tw_cst, tw_isS, c_6, c_28]]; exact ⟨rfl, rfl, rfl⟩
    · exact absurd (by simp [c_6, c_28]) hx
  · refine z_iconst (x := nI 1) hb dX3_cost_9 (by decide) ?_
    refine z_goto (tgt := 36) hb dX3_cost_10 (by decide) ?_
    refine z_put (k := 12) (C := RX3) (T := TX3) (N := 29) hb ho zc2 in_X3 tyX3_ok nmX3 (zf_RX3_47 _) dX3_cost_36 z_tw_o ht (by decide) (Or.inl rfl) rfl rfl rfl (Nat.le_of_ble_eq_true rfl) ?_
    refine z_hh z_tw_u12 ?_
    refine z_aload_n hb dX3_cost_39 rfl ?_
    refine z_get (k := 12) (C := RX3) (T := TX3) (N := 29) hb ho zc2 in_X3 (zf_RX3_47 _) dX3_cost_40 z_tw_o (by decide) rfl ?_
    refine z_if_leN (tgt := 48) hb dX3_cost_43 (by decide) (by omega) (fun c_43 => ?_) (fun c_43 => ?_)
    · exact absurd c_43 (by omega)
    · refine z_lconst (x := 0) hb dX3_cost_46 rfl ?_
      refine z_lret hb hr dX3_cost_47 ?_
      rw [hQ]
      rw [show tw_cst S x p = 1 by simp [tw_cst, tw_isS, c_6]]; exact ⟨rfl, rfl, rfl⟩

set_option maxHeartbeats 1000000 in
theorem m_X3_cost_ok {l : Launch} {G : zG} {h : zH} {n : Nat} {t : Nat} {w0 : Nat → Int32} {w1 : Nat → Int32} {w2 : Nat → Int32} {w3 : Nat → Int32} {w4 : Nat → Int32} {w5 : Nat → Int64} {w6 : Nat → Int64} {w7 : Nat → Int64} {w8 : Nat → Int64} {w9 : Nat → Int64} {w10 : Nat → Int64} {w11 : Nat → Int64} {w12 : Int32} {w13 : Int32} {w14 : Int32} {w15 : Int32} {w16 : Int32} {w17 : Int32} {w18 : Bool} {w19 : Nat → Int32} {w20 : Int32} {w21 : Nat → Int32} {w22 : Nat → Int32} {w23 : Nat → Int32} {w24 : Int32} {w25 : Int32} {w26 : Int32} {w27 : Int32} {w28 : Bool} {R S D : Nat} {k p : Nat}  (ht : z_n0 G ≤ t) (hw : z_ok w0 R S D) (hkS : k < S) (hp : p < 2 ^ S) : z_C l G yX3_cost 4 0 0 [.ref t, .int (nI k), .int (nI p)] (z_tw G t w0 w1 w2 w3 w4 w5 w6 w7 w8 w9 w10 w11 w12 w13 w14 w15 w16 w17 w18 w19 w20 w21 w22 w23 w24 w25 w26 w27 w28 h) n (z_rv (.long (tw_lc w0 R (nI p) w11 S k)) (z_tw G t w0 w1 w2 w3 w4 w5 w6 w7 w8 w9 w10 (tw_lc w0 R (nI p) w11 S) (nI 0) w13 w14 w15 w16 w17 w18 w19 w20 w21 w22 w23 w24 w25 w26 w27 w28 h) n) := by
  refine z_start zk_X3_cost zpl_RX3 (Nat.le_of_ble_eq_true rfl) ?_
  intro hn0 M hl hG ho hb hN hr hm hH hrm hQ
  subst hl hG
  have ho : zm_o M = RX3 := ho
  obtain ⟨hR, hR4, hS, hS8, hD, hD6, hF⟩ := id hw
  have hx := z_inR hkS (by omega)
  have hp8 := z_pow8 hS8
  have hy := z_inR hp (by omega)
  show z_V M (z_tw (zm_G M) t w0 w1 w2 w3 w4 w5 w6 w7 w8 w9 w10 w11 w12 w13 w14 w15 w16 w17 w18 w19 w20 w21 w22 w23 w24 w25 w26 w27 w28 h) n 0 0 0 [(0, .ref t), (1, .int (nI k)), (2, .int (nI p))] []
  refine z_aload_n hb dX3_cost_0 rfl ?_
  refine z_aload_n hb dX3_cost_1 rfl ?_
  refine z_iload_n hb dX3_cost_2 rfl ?_
  refine z_call1 (b' := 0) (f' := 0) (rest := [.ref t]) (av := [.ref t, .int (nI k)]) (z_siteV hb ho zc2 z_tw_o q2927 q2929 qs56 ⟨_, _, _, _, zk_X3_isStep⟩ zy_X3_isStep zl_X3_isStep dX3_cost_3 : z_Site M _ _ _ _ _ ([.int (nI k)].reverse ++ .ref t :: [.ref t]) [.ref t] _) zk_X3_isStep q104 hrm (m_X3_isStep (nI k) ht hw) (by omega) (by decide) (Nat.le_of_ble_eq_true rfl) (by omega) (by omega) ?_
  refine z_ifb_ne (tgt := 13) hb dX3_cost_6 (by decide) (fun c_6 => ?_) (fun c_6 => ?_)
  · refine z_iload_n hb dX3_cost_13 rfl ?_
    refine z_iconst (x := nI 0) hb dX3_cost_14 (by decide) ?_
    refine z_iconst (x := nI 1) hb dX3_cost_15 (by decide) ?_
    refine z_aload_n hb dX3_cost_16 rfl ?_
    refine z_get (k := 0) (C := RX3) (T := TX3) (N := 29) hb ho zc2 in_X3 (zf_RX3_7 _) dX3_cost_17 z_tw_o (by decide) rfl ?_
    refine z_iconst (x := nI 3) hb dX3_cost_20 (by decide) ?_
    refine z_iald (j := 3) hb dX3_cost_21 z_tw_r0 rfl (by omega) (by omega) ?_
    refine z_toI (y := nI S) hS ?_
    refine z_ishl hb dX3_cost_22 ?_
    refine z_toI (y := nI (2 ^ S)) (z_shl1 hS8) ?_
    refine z_iconst (x := nI 1) hb dX3_cost_23 (by decide) ?_
    refine z_isub hb dX3_cost_24 ?_
    refine z_call1 (b' := 0) (f' := 0) (rest := [.ref t]) (av := [.int (nI p), .int (nI 0), .int ((nI (2 ^ S)) - (nI 1))]) (z_siteS hb ho q2809 q2810 q104 ⟨_, _, _, _, zk_X3_in⟩ zy_X3_in zl_X3_in dX3_cost_25 : z_Site M _ _ _ _ _ ([.int (nI p), .int (nI 0), .int ((nI (2 ^ S)) - (nI 1))].reverse ++ [.ref t]) [.ref t] _) zk_X3_in q104 hrm (m_X3_in (nI p) (nI 0) ((nI (2 ^ S)) - (nI 1)) ht) (by omega) (by decide) (Nat.le_of_ble_eq_true rfl) (by omega) (by omega) ?_
    refine z_ifb_eq (tgt := 35) hb dX3_cost_28 (by decide) (fun c_28 => ?_) (fun c_28 => ?_)
    · rw [hy] at c_28; exact absurd c_28 (by decide)
    · refine z_iconst (x := nI 0) hb dX3_cost_31 (by decide) ?_
      refine z_goto (tgt := 36) hb dX3_cost_32 (by decide) ?_
      refine z_put (k := 12) (C := RX3) (T := TX3) (N := 29) hb ho zc2 in_X3 tyX3_ok nmX3 (zf_RX3_47 _) dX3_cost_36 z_tw_o ht (by decide) (Or.inl rfl) rfl rfl rfl (Nat.le_of_ble_eq_true rfl) ?_
      refine z_hh z_tw_u12 ?_
      refine z_aload_n hb dX3_cost_39 rfl ?_
      refine z_get (k := 12) (C := RX3) (T := TX3) (N := 29) hb ho zc2 in_X3 (zf_RX3_47 _) dX3_cost_40 z_tw_o (by decide) rfl ?_
      refine z_if_leN (tgt := 48) hb dX3_cost_43 (by decide) (by omega) (fun c_43 => ?_) (fun c_43 => ?_)
      · refine z_aload_n hb dX3_cost_48 rfl ?_
        refine z_iload_n hb dX3_cost_49 rfl ?_
        refine z_call0 (b' := 0) (f' := 0) (rest := []) (av := [.ref t, .int (nI p)]) (z_siteV hb ho zc2 z_tw_o q3095 q3097 qs74 ⟨_, _, _, _, zk_X3_layCosts⟩ zy_X3_layCosts zl_X3_layCosts dX3_cost_50 : z_Site M _ _ _ _ _ ([.int (nI p)].reverse ++ .ref t :: []) [] _) zk_X3_layCosts q104 hrm (m_X3_layCosts (nI p) ht hw) (by omega) (by decide) (Nat.le_of_ble_eq_true rfl) (by omega) (by omega) ?_
        refine z_aload_n hb dX3_cost_53 rfl ?_
        refine z_get (k := 11) (C := RX3) (T := TX3) (N := 29) hb ho zc2 in_X3 (zf_RX3_44 _) dX3_cost_54 z_tw_o (by decide) rfl ?_
        refine z_iload_n hb dX3_cost_57 rfl ?_
        refine z_lald (j := k) hb dX3_cost_58 z_tw_r11 rfl (by omega) (by omega) ?_
        refine z_lret hb hr dX3_cost_59 ?_
        rw [hQ]
        exact ⟨rfl, rfl, rfl⟩
      · exact absurd c_43 (by omega)
  · rw [hx] at c_6; exact absurd c_6 (by decide)

set_option maxHeartbeats 1000000 in
theorem m_X3_many {l : Launch} {G : zG} {h : zH} {n : Nat} {t : Nat} {w0 : Nat → Int32} {w1 : Nat → Int32} {w2 : Nat → Int32} {w3 : Nat → Int32} {w4 : Nat → Int32} {w5 : Nat → Int64} {w6 : Nat → Int64} {w7 : Nat → Int64} {w8 : Nat → Int64} {w9 : Nat → Int64} {w10 : Nat → Int64} {w11 : Nat → Int64} {w12 : Int32} {w13 : Int32} {w14 : Int32} {w15 : Int32} {w16 : Int32} {w17 : Int32} {w18 : Bool} {w19 : Nat → Int32} {w20 : Int32} {w21 : Nat → Int32} {w22 : Nat → Int32} {w23 : Nat → Int32} {w24 : Int32} {w25 : Int32} {w26 : Int32} {w27 : Int32} {w28 : Bool}  (x : Int32) (ht : z_n0 G ≤ t) : z_C l G yX3_many 1 0 0 [.int x] (z_tw G t w0 w1 w2 w3 w4 w5 w6 w7 w8 w9 w10 w11 w12 w13 w14 w15 w16 w17 w18 w19 w20 w21 w22 w23 w24 w25 w26 w27 w28 h) n (z_rv (.int (tw_many x 8)) (z_tw G t w0 w1 w2 w3 w4 w5 w6 w7 w8 w9 w10 w11 w12 w13 w14 w15 w16 w17 w18 w19 w20 w21 w22 w23 w24 w25 w26 w27 w28 h) n) := by
  refine z_start zk_X3_many zpl_RX3 (Nat.le_of_ble_eq_true rfl) ?_
  intro hn0 M hl hG ho hb hN hr hm hH hrm hQ
  subst hl hG
  have ho : zm_o M = RX3 := ho
  show z_V M (z_tw (zm_G M) t w0 w1 w2 w3 w4 w5 w6 w7 w8 w9 w10 w11 w12 w13 w14 w15 w16 w17 w18 w19 w20 w21 w22 w23 w24 w25 w26 w27 w28 h) n 0 0 0 [(0, .int x)] []
  refine z_iconst (x := nI 0) hb dX3_many_0 (by decide) ?_
  refine z_istore_n (lv' := [(1, .int (nI 0)), (0, .int x)]) hb dX3_many_1 (by rw [hN]; decide) rfl ?_
  refine z_iconst (x := nI 0) hb dX3_many_2 (by decide) ?_
  refine z_istore_n (lv' := [(2, .int (nI 0)), (1, .int (nI 0)), (0, .int x)]) hb dX3_many_3 (by rw [hN]; decide) rfl ?_
  have lp_4 : ∀ (k9_4 : Nat) (j : Nat) (v : Int32), 8 - j < k9_4 → (j ≤ 8) → (v = tw_many x j) → z_V M (z_tw (zm_G M) t w0 w1 w2 w3 w4 w5 w6 w7 w8 w9 w10 w11 w12 w13 w14 w15 w16 w17 w18 w19 w20 w21 w22 w23 w24 w25 w26 w27 w28 h) n 0 0 4 [(2, .int (nI j)), (1, .int v), (0, .int x)] [] := by
    intro k9_4
    induction k9_4 with
    | zero => intro j v hk9_4; exact absurd hk9_4 (Nat.not_lt_zero _)
    | succ k9_4 ih_4 =>
      intro j v hk9_4 hj hv
      refine z_iload_n hb dX3_many_4 rfl ?_
      refine z_bipush (x := nI 8) hb dX3_many_5 (by decide) ?_
      refine z_icmp_geN (tgt := 24) hb dX3_many_7 (by decide) (by omega) (by omega) (fun c_7 => ?_) (fun c_7 => ?_)
      · refine z_iload_n hb dX3_many_24 rfl ?_
        refine z_iret hb hr dX3_many_25 ?_
        rw [hQ]
        exact z_rve (by rw [hv, show j = 8 by omega])
      · refine z_iload_n hb dX3_many_10 rfl ?_
        refine z_iload_n hb dX3_many_11 rfl ?_
        refine z_iload_n hb dX3_many_12 rfl ?_
        refine z_ishr hb dX3_many_13 ?_
        refine z_iconst (x := nI 1) hb dX3_many_14 (by decide) ?_
        refine z_iand hb dX3_many_15 ?_
        refine z_iadd hb dX3_many_16 ?_
        refine z_istore_n (lv' := [(1, .int (v + ((x >>> ((nI j) &&& 31)) &&& (nI 1)))), (2, .int (nI j)), (0, .int x)]) hb dX3_many_17 (by rw [hN]; decide) rfl ?_
        refine z_iinc (k0 := 1) (lv' := [(2, .int (nI (j + 1))), (1, .int (v + ((x >>> ((nI j) &&& 31)) &&& (nI 1)))), (0, .int x)]) hb dX3_many_18 rfl (nI_1 j) (by rw [hN]; decide) rfl ?_
        refine z_goto (tgt := 4) hb dX3_many_21 (by decide) ?_
        refine z_lv [0, 1, 2] (lv' := [(2, .int (nI (j + 1))), (1, .int (v + ((x >>> ((nI j) &&& 31)) &&& (nI 1)))), (0, .int x)]) rfl ?_
        exact ih_4 (j + 1) _ (by omega) (by omega) (by rw [hv]; rfl)
  refine z_lv [0, 1, 2] (lv' := [(2, .int (nI 0)), (1, .int (nI 0)), (0, .int x)]) rfl ?_
  exact lp_4 _ 0 _ (Nat.lt_succ_self _) (Nat.zero_le _) rfl

set_option maxHeartbeats 1000000 in
theorem m_X3_best {l : Launch} {G : zG} {h : zH} {n : Nat} {t : Nat} {w0 : Nat → Int32} {w1 : Nat → Int32} {w2 : Nat → Int32} {w3 : Nat → Int32} {w4 : Nat → Int32} {w5 : Nat → Int64} {w6 : Nat → Int64} {w7 : Nat → Int64} {w8 : Nat → Int64} {w9 : Nat → Int64} {w10 : Nat → Int64} {w11 : Nat → Int64} {w12 : Int32} {w13 : Int32} {w14 : Int32} {w15 : Int32} {w16 : Int32} {w17 : Int32} {w18 : Bool} {w19 : Nat → Int32} {w20 : Int32} {w21 : Nat → Int32} {w22 : Nat → Int32} {w23 : Nat → Int32} {w24 : Int32} {w25 : Int32} {w26 : Int32} {w27 : Int32} {w28 : Bool} {R S D : Nat}  (x : Int32) (ht : z_n0 G ≤ t) (hw : z_ok w0 R S D) : z_C l G yX3_best 5 0 0 [.ref t, .int x] (z_tw G t w0 w1 w2 w3 w4 w5 w6 w7 w8 w9 w10 w11 w12 w13 w14 w15 w16 w17 w18 w19 w20 w21 w22 w23 w24 w25 w26 w27 w28 h) n (z_rv (.int (nI ((tw_best w0 R S x w11).1))) (z_tw G t w0 w1 w2 w3 w4 w5 w6 w7 w8 w9 w10 ((tw_best w0 R S x w11).2) w12 w13 w14 w15 w16 w17 w18 w19 w20 w21 w22 w23 w24 w25 w26 w27 w28 h) n) := by
  refine z_start zk_X3_best zpl_RX3 (Nat.le_of_ble_eq_true rfl) ?_
  intro hn0 M hl hG ho hb hN hr hm hH hrm hQ
  subst hl hG
  have ho : zm_o M = RX3 := ho
  obtain ⟨hR, hR4, hS, hS8, hD, hD6, hF⟩ := id hw
  have hp8 := z_pow8 hS8
  show z_V M (z_tw (zm_G M) t w0 w1 w2 w3 w4 w5 w6 w7 w8 w9 w10 w11 w12 w13 w14 w15 w16 w17 w18 w19 w20 w21 w22 w23 w24 w25 w26 w27 w28 h) n 0 0 0 [(0, .ref t), (1, .int x)] []
  refine z_iconst (x := nI 0) hb dX3_best_0 (by decide) ?_
  refine z_istore_n (lv' := [(2, .int (nI 0)), (0, .ref t), (1, .int x)]) hb dX3_best_1 (by rw [hN]; decide) rfl ?_
  refine z_iconst (x := nI 1) hb dX3_best_2 (by decide) ?_
  refine z_istore_n (lv' := [(3, .int (nI 1)), (2, .int (nI 0)), (0, .ref t), (1, .int x)]) hb dX3_best_3 (by rw [hN]; decide) rfl ?_
  have lp_4 : ∀ (k9_4 : Nat) (p : Nat) (q : Nat) (u : Nat → Int64), 2 ^ S - p < k9_4 → (p + 1 ≤ 2 ^ S) → ((q, u) = tw_bs w0 R S x w11 p) → z_V M (z_tw (zm_G M) t w0 w1 w2 w3 w4 w5 w6 w7 w8 w9 w10 u w12 w13 w14 w15 w16 w17 w18 w19 w20 w21 w22 w23 w24 w25 w26 w27 w28 h) n 0 0 4 [(3, .int (nI (p + 1))), (2, .int (nI q)), (0, .ref t), (1, .int x)] [] := by
    intro k9_4
    induction k9_4 with
    | zero => intro p q u hk9_4; exact absurd hk9_4 (Nat.not_lt_zero _)
    | succ k9_4 ih_4 =>
      intro p q u hk9_4 hp hq
      refine z_iload_n hb dX3_best_4 rfl ?_
      refine z_iconst (x := nI 1) hb dX3_best_5 (by decide) ?_
      refine z_aload_n hb dX3_best_6 rfl ?_
      refine z_get (k := 0) (C := RX3) (T := TX3) (N := 29) hb ho zc2 in_X3 (zf_RX3_7 _) dX3_best_7 z_tw_o (by decide) rfl ?_
      refine z_iconst (x := nI 3) hb dX3_best_10 (by decide) ?_
      refine z_iald (j := 3) hb dX3_best_11 z_tw_r0 rfl (by omega) (by omega) ?_
      refine z_toI (y := nI S) hS ?_
      refine z_ishl hb dX3_best_12 ?_
      refine z_toI (y := nI (2 ^ S)) (z_shl1 hS8) ?_
      refine z_icmp_geN (tgt := 50) hb dX3_best_13 (by decide) (by omega) (by omega) (fun c_13 => ?_) (fun c_13 => ?_)
      · refine z_iload_n hb dX3_best_50 rfl ?_
        refine z_iret hb hr dX3_best_51 ?_
        rw [hQ]
        rw [tw_best, show 2 ^ S - 1 = p by omega, ← hq]; exact ⟨rfl, rfl, rfl⟩
      · refine z_iload_n hb dX3_best_16 rfl ?_
        refine z_call1 (b' := 0) (f' := 0) (rest := []) (av := [.int (nI (p + 1))]) (z_siteS hb ho q3112 q3113 q104 ⟨_, _, _, _, zk_X3_many⟩ zy_X3_many zl_X3_many dX3_best_17 : z_Site M _ _ _ _ _ ([.int (nI (p + 1))].reverse ++ []) [] _) zk_X3_many q104 hrm (m_X3_many (nI (p + 1)) ht) (by omega) (by decide) (Nat.le_of_ble_eq_true rfl) (by omega) (by omega) ?_
        refine z_iload_n hb dX3_best_20 rfl ?_
        refine z_icmp_gt (tgt := 42) hb dX3_best_21 (by decide) (fun c_21 => ?_) (fun c_21 => ?_)
        · refine z_iload_n hb dX3_best_42 rfl ?_
          refine z_istore_n (lv' := [(2, .int (nI q)), (3, .int (nI (p + 1))), (0, .ref t), (1, .int x)]) hb dX3_best_43 (by rw [hN]; decide) rfl ?_
          refine z_iinc (k0 := 1) (lv' := [(3, .int (nI (p + 2))), (2, .int (nI q)), (0, .ref t), (1, .int x)]) hb dX3_best_44 rfl (nI_1 (p + 1)) (by rw [hN]; decide) rfl ?_
          refine z_goto (tgt := 4) hb dX3_best_47 (by decide) ?_
          refine z_lv [0, 1, 2, 3] (lv' := [(3, .int (nI (p + 2))), (2, .int (nI q)), (0, .ref t), (1, .int x)]) rfl ?_
          exact ih_4 (p + 1) _ _ (by omega) (by omega) (by rw [hq, tw_bs, tw_bs1, if_pos c_21, ← hq])
        · refine z_aload_n hb dX3_best_24 rfl ?_
          refine z_iload_n hb dX3_best_25 rfl ?_
          refine z_call1 (b' := 0) (f' := 0) (rest := []) (av := [.ref t, .int (nI (p + 1))]) (z_siteV hb ho zc2 z_tw_o q3115 q3117 qs77 ⟨_, _, _, _, zk_X3_whole⟩ zy_X3_whole zl_X3_whole dX3_best_26 : z_Site M _ _ _ _ _ ([.int (nI (p + 1))].reverse ++ .ref t :: []) [] _) zk_X3_whole q104 hrm (m_X3_whole (nI (p + 1)) ht hw) (by omega) (by decide) (Nat.le_of_ble_eq_true rfl) (by omega) (by omega) ?_
          refine z_aload_n hb dX3_best_29 rfl ?_
          refine z_iload_n hb dX3_best_30 rfl ?_
          refine z_call1 (b' := 0) (f' := 0) (rest := [.long (tw_wh w0 R S (nI (p + 1)) u)]) (av := [.ref t, .int (nI q)]) (z_siteV hb ho zc2 z_tw_o q3115 q3117 qs77 ⟨_, _, _, _, zk_X3_whole⟩ zy_X3_whole zl_X3_whole dX3_best_31 : z_Site M _ _ _ _ _ ([.int (nI q)].reverse ++ .ref t :: [.long (tw_wh w0 R S (nI (p + 1)) u)]) [.long (tw_wh w0 R S (nI (p + 1)) u)] _) zk_X3_whole q104 hrm (m_X3_whole (nI q) ht hw) (by omega) (by decide) (Nat.le_of_ble_eq_true rfl) (by omega) (by omega) ?_
          refine z_lif_ge (tgt := 42) hb dX3_best_34 dX3_best_35 (by decide) (fun c_35 => ?_) (fun c_35 => ?_)
          · refine z_iload_n hb dX3_best_42 rfl ?_
            refine z_istore_n (lv' := [(2, .int (nI q)), (3, .int (nI (p + 1))), (0, .ref t), (1, .int x)]) hb dX3_best_43 (by rw [hN]; decide) rfl ?_
            refine z_iinc (k0 := 1) (lv' := [(3, .int (nI (p + 2))), (2, .int (nI q)), (0, .ref t), (1, .int x)]) hb dX3_best_44 rfl (nI_1 (p + 1)) (by rw [hN]; decide) rfl ?_
            refine z_goto (tgt := 4) hb dX3_best_47 (by decide) ?_
            refine z_lv [0, 1, 2, 3] (lv' := [(3, .int (nI (p + 2))), (2, .int (nI q)), (0, .ref t), (1, .int x)]) rfl ?_
            exact ih_4 (p + 1) _ _ (by omega) (by omega) (by rw [tw_bs, tw_bs1, ← hq, if_neg c_21]; simp only []; rw [if_neg (Int64.not_lt.mpr c_35)])
          · refine z_iload_n hb dX3_best_38 rfl ?_
            refine z_goto (tgt := 43) hb dX3_best_39 (by decide) ?_
            refine z_istore_n (lv' := [(2, .int (nI (p + 1))), (3, .int (nI (p + 1))), (0, .ref t), (1, .int x)]) hb dX3_best_43 (by rw [hN]; decide) rfl ?_
            refine z_iinc (k0 := 1) (lv' := [(3, .int (nI (p + 2))), (2, .int (nI (p + 1))), (0, .ref t), (1, .int x)]) hb dX3_best_44 rfl (nI_1 (p + 1)) (by rw [hN]; decide) rfl ?_
            refine z_goto (tgt := 4) hb dX3_best_47 (by decide) ?_
            refine z_lv [0, 1, 2, 3] (lv' := [(3, .int (nI (p + 2))), (2, .int (nI (p + 1))), (0, .ref t), (1, .int x)]) rfl ?_
            exact ih_4 (p + 1) _ _ (by omega) (by omega) (by rw [tw_bs, tw_bs1, ← hq, if_neg c_21]; simp only []; rw [if_pos (Int64.not_le.mp c_35)])
  refine z_lv [0, 1, 2, 3] (lv' := [(3, .int (nI 1)), (2, .int (nI 0)), (0, .ref t), (1, .int x)]) rfl ?_
  exact lp_4 _ 0 _ _ (Nat.lt_succ_self _) hp8.2 rfl

set_option maxHeartbeats 1000000 in
theorem m_X3_bestOf_no {l : Launch} {G : zG} {h : zH} {n : Nat} {t : Nat} {w0 : Nat → Int32} {w1 : Nat → Int32} {w2 : Nat → Int32} {w3 : Nat → Int32} {w4 : Nat → Int32} {w5 : Nat → Int64} {w6 : Nat → Int64} {w7 : Nat → Int64} {w8 : Nat → Int64} {w9 : Nat → Int64} {w10 : Nat → Int64} {w11 : Nat → Int64} {w12 : Int32} {w13 : Int32} {w14 : Int32} {w15 : Int32} {w16 : Int32} {w17 : Int32} {w18 : Bool} {w19 : Nat → Int32} {w20 : Int32} {w21 : Nat → Int32} {w22 : Nat → Int32} {w23 : Nat → Int32} {w24 : Int32} {w25 : Int32} {w26 : Int32} {w27 : Int32} {w28 : Bool} {R S D : Nat} {x : Int32}  (ht : z_n0 G ≤ t) (hw : z_ok w0 R S D) (hx : decide (nI 0 ≤ x ∧ x ≤ nI 8) = false) : z_C l G yX3_bestOf 6 0 0 [.ref t, .int x] (z_tw G t w0 w1 w2 w3 w4 w5 w6 w7 w8 w9 w10 w11 w12 w13 w14 w15 w16 w17 w18 w19 w20 w21 w22 w23 w24 w25 w26 w27 w28 h) n (z_rv (.int (nI 0)) (z_tw G t w0 w1 w2 w3 w4 w5 w6 w7 w8 w9 w10 w11 (nI 1) w13 w14 w15 w16 w17 w18 w19 w20 w21 w22 w23 w24 w25 w26 w27 w28 h) n) := by
  refine z_start zk_X3_bestOf zpl_RX3 (Nat.le_of_ble_eq_true rfl) ?_
  intro hn0 M hl hG ho hb hN hr hm hH hrm hQ
  subst hl hG
  have ho : zm_o M = RX3 := ho
  obtain ⟨hR, hR4, hS, hS8, hD, hD6, hF⟩ := id hw
  show z_V M (z_tw (zm_G M) t w0 w1 w2 w3 w4 w5 w6 w7 w8 w9 w10 w11 w12 w13 w14 w15 w16 w17 w18 w19 w20 w21 w22 w23 w24 w25 w26 w27 w28 h) n 0 0 0 [(0, .ref t), (1, .int x)] []
  refine z_aload_n hb dX3_bestOf_0 rfl ?_
  refine z_iload_n hb dX3_bestOf_1 rfl ?_
  refine z_iconst (x := nI 0) hb dX3_bestOf_2 (by decide) ?_
  refine z_bipush (x := nI 8) hb dX3_bestOf_3 (by decide) ?_
  refine z_call1 (b' := 0) (f' := 0) (rest := [.ref t]) (av := [.int x, .int (nI 0), .int (nI 8)]) (z_siteS hb ho q2809 q2810 q104 ⟨_, _, _, _, zk_X3_in⟩ zy_X3_in zl_X3_in dX3_bestOf_5 : z_Site M _ _ _ _ _ ([.int x, .int (nI 0), .int (nI 8)].reverse ++ [.ref t]) [.ref t] _) zk_X3_in q104 hrm (m_X3_in x (nI 0) (nI 8) ht) (by omega) (by decide) (Nat.le_of_ble_eq_true rfl) (by omega) (by omega) ?_
  refine z_call1 (b' := 0) (f' := 0) (rest := []) (av := [.ref t, .int (z_b (decide ((nI 0) ≤ x ∧ x ≤ (nI 8))))]) (z_siteV hb ho zc2 z_tw_o q2995 q2997 qs66 ⟨_, _, _, _, zk_X3_checked⟩ zy_X3_checked zl_X3_checked dX3_bestOf_8 : z_Site M _ _ _ _ _ ([.int (z_b (decide ((nI 0) ≤ x ∧ x ≤ (nI 8))))].reverse ++ .ref t :: []) [] _) zk_X3_checked q104 hrm (m_X3_checked (decide ((nI 0) ≤ x ∧ x ≤ (nI 8))) ht) (by omega) (by decide) (Nat.le_of_ble_eq_true rfl) (by omega) (by omega) ?_
  refine z_ifb_le (tgt := 18) hb dX3_bestOf_11 (by decide) (fun c_11 => ?_) (fun c_11 => ?_)
  · rw [hx] at c_11; exact absurd c_11 (by decide)
  · refine z_iconst (x := nI 0) hb dX3_bestOf_14 (by decide) ?_
    refine z_goto (tgt := 23) hb dX3_bestOf_15 (by decide) ?_
    refine z_iret hb hr dX3_bestOf_23 ?_
    rw [hQ]
    rw [hx]; exact ⟨rfl, rfl, rfl⟩

set_option maxHeartbeats 1000000 in
theorem m_X3_bestOf_ok {l : Launch} {G : zG} {h : zH} {n : Nat} {t : Nat} {w0 : Nat → Int32} {w1 : Nat → Int32} {w2 : Nat → Int32} {w3 : Nat → Int32} {w4 : Nat → Int32} {w5 : Nat → Int64} {w6 : Nat → Int64} {w7 : Nat → Int64} {w8 : Nat → Int64} {w9 : Nat → Int64} {w10 : Nat → Int64} {w11 : Nat → Int64} {w12 : Int32} {w13 : Int32} {w14 : Int32} {w15 : Int32} {w16 : Int32} {w17 : Int32} {w18 : Bool} {w19 : Nat → Int32} {w20 : Int32} {w21 : Nat → Int32} {w22 : Nat → Int32} {w23 : Nat → Int32} {w24 : Int32} {w25 : Int32} {w26 : Int32} {w27 : Int32} {w28 : Bool} {R S D : Nat} {x : Int32}  (ht : z_n0 G ≤ t) (hw : z_ok w0 R S D) (hx : decide (nI 0 ≤ x ∧ x ≤ nI 8) = true) : z_C l G yX3_bestOf 6 0 0 [.ref t, .int x] (z_tw G t w0 w1 w2 w3 w4 w5 w6 w7 w8 w9 w10 w11 w12 w13 w14 w15 w16 w17 w18 w19 w20 w21 w22 w23 w24 w25 w26 w27 w28 h) n (z_rv (.int (nI ((tw_best w0 R S x w11).1))) (z_tw G t w0 w1 w2 w3 w4 w5 w6 w7 w8 w9 w10 ((tw_best w0 R S x w11).2) (nI 0) w13 w14 w15 w16 w17 w18 w19 w20 w21 w22 w23 w24 w25 w26 w27 w28 h) n) := by
  refine z_start zk_X3_bestOf zpl_RX3 (Nat.le_of_ble_eq_true rfl) ?_
  intro hn0 M hl hG ho hb hN hr hm hH hrm hQ
  subst hl hG
  have ho : zm_o M = RX3 := ho
  obtain ⟨hR, hR4, hS, hS8, hD, hD6, hF⟩ := id hw
  show z_V M (z_tw (zm_G M) t w0 w1 w2 w3 w4 w5 w6 w7 w8 w9 w10 w11 w12 w13 w14 w15 w16 w17 w18 w19 w20 w21 w22 w23 w24 w25 w26 w27 w28 h) n 0 0 0 [(0, .ref t), (1, .int x)] []
  refine z_aload_n hb dX3_bestOf_0 rfl ?_
  refine z_iload_n hb dX3_bestOf_1 rfl ?_
  refine z_iconst (x := nI 0) hb dX3_bestOf_2 (by decide) ?_
  refine z_bipush (x := nI 8) hb dX3_bestOf_3 (by decide) ?_
  refine z_call1 (b' := 0) (f' := 0) (rest := [.ref t]) (av := [.int x, .int (nI 0), .int (nI 8)]) (z_siteS hb ho q2809 q2810 q104 ⟨_, _, _, _, zk_X3_in⟩ zy_X3_in zl_X3_in dX3_bestOf_5 : z_Site M _ _ _ _ _ ([.int x, .int (nI 0), .int (nI 8)].reverse ++ [.ref t]) [.ref t] _) zk_X3_in q104 hrm (m_X3_in x (nI 0) (nI 8) ht) (by omega) (by decide) (Nat.le_of_ble_eq_true rfl) (by omega) (by omega) ?_
  refine z_call1 (b' := 0) (f' := 0) (rest := []) (av := [.ref t, .int (z_b (decide ((nI 0) ≤ x ∧ x ≤ (nI 8))))]) (z_siteV hb ho zc2 z_tw_o q2995 q2997 qs66 ⟨_, _, _, _, zk_X3_checked⟩ zy_X3_checked zl_X3_checked dX3_bestOf_8 : z_Site M _ _ _ _ _ ([.int (z_b (decide ((nI 0) ≤ x ∧ x ≤ (nI 8))))].reverse ++ .ref t :: []) [] _) zk_X3_checked q104 hrm (m_X3_checked (decide ((nI 0) ≤ x ∧ x ≤ (nI 8))) ht) (by omega) (by decide) (Nat.le_of_ble_eq_true rfl) (by omega) (by omega) ?_
  refine z_ifb_le (tgt := 18) hb dX3_bestOf_11 (by decide) (fun c_11 => ?_) (fun c_11 => ?_)
  · refine z_aload_n hb dX3_bestOf_18 rfl ?_
    refine z_iload_n hb dX3_bestOf_19 rfl ?_
    refine z_call1 (b' := 0) (f' := 0) (rest := []) (av := [.ref t, .int x]) (z_siteV hb ho zc2 z_tw_o q3108 q3110 qs76 ⟨_, _, _, _, zk_X3_best⟩ zy_X3_best zl_X3_best dX3_bestOf_20 : z_Site M _ _ _ _ _ ([.int x].reverse ++ .ref t :: []) [] _) zk_X3_best q104 hrm (m_X3_best x ht hw) (by omega) (by decide) (Nat.le_of_ble_eq_true rfl) (by omega) (by omega) ?_
    refine z_iret hb hr dX3_bestOf_23 ?_
    rw [hQ]
    rw [hx]; exact ⟨rfl, rfl, rfl⟩
  · rw [hx] at c_11; exact absurd c_11 (by decide)

set_option maxHeartbeats 1000000 in
theorem m_X3_bestPlan_no {l : Launch} {G : zG} {h : zH} {n : Nat} {t : Nat} {w0 : Nat → Int32} {w1 : Nat → Int32} {w2 : Nat → Int32} {w3 : Nat → Int32} {w4 : Nat → Int32} {w5 : Nat → Int64} {w6 : Nat → Int64} {w7 : Nat → Int64} {w8 : Nat → Int64} {w9 : Nat → Int64} {w10 : Nat → Int64} {w11 : Nat → Int64} {w12 : Int32} {w13 : Int32} {w14 : Int32} {w15 : Int32} {w16 : Int32} {w17 : Int32} {w18 : Bool} {w19 : Nat → Int32} {w20 : Int32} {w21 : Nat → Int32} {w22 : Nat → Int32} {w23 : Nat → Int32} {w24 : Int32} {w25 : Int32} {w26 : Int32} {w27 : Int32} {w28 : Bool} {R S D : Nat} {x : Int32}  (ht : z_n0 G ≤ t) (hw : z_ok w0 R S D) (hx : decide (nI 0 ≤ x ∧ x ≤ nI 8) = false) : z_C l G yX3_bestPlan 7 0 0 [.ref t, .int x] (z_tw G t w0 w1 w2 w3 w4 w5 w6 w7 w8 w9 w10 w11 w12 w13 w14 w15 w16 w17 w18 w19 w20 w21 w22 w23 w24 w25 w26 w27 w28 h) n (z_rv (.int (nI 0)) (z_tw G t w0 w1 w2 w3 w4 w5 w6 w7 w8 w9 w10 w11 (nI 1) w13 w14 w15 w16 w17 w18 w19 w20 w21 w22 w23 w24 w25 w26 w27 w28 h) n) := by
  refine z_start zk_X3_bestPlan zpl_RX3 (Nat.le_of_ble_eq_true rfl) ?_
  intro hn0 M hl hG ho hb hN hr hm hH hrm hQ
  subst hl hG
  have ho : zm_o M = RX3 := ho
  obtain ⟨hR, hR4, hS, hS8, hD, hD6, hF⟩ := id hw
  show z_V M (z_tw (zm_G M) t w0 w1 w2 w3 w4 w5 w6 w7 w8 w9 w10 w11 w12 w13 w14 w15 w16 w17 w18 w19 w20 w21 w22 w23 w24 w25 w26 w27 w28 h) n 0 0 0 [(0, .ref t), (1, .int x)] []
  refine z_aload_n hb dX3_bestPlan_0 rfl ?_
  refine z_iload_n hb dX3_bestPlan_1 rfl ?_
  refine z_call1 (b' := 0) (f' := 0) (rest := []) (av := [.ref t, .int x]) (z_siteV hb ho zc2 z_tw_o q3104 q3106 qs75 ⟨_, _, _, _, zk_X3_bestOf⟩ zy_X3_bestOf zl_X3_bestOf dX3_bestPlan_2 : z_Site M _ _ _ _ _ ([.int x].reverse ++ .ref t :: []) [] _) zk_X3_bestOf q104 hrm (m_X3_bestOf_no ht hw hx) (by omega) (by decide) (Nat.le_of_ble_eq_true rfl) (by omega) (by omega) ?_
  refine z_iret hb hr dX3_bestPlan_5 ?_
  rw [hQ]
  exact ⟨rfl, rfl, rfl⟩

set_option maxHeartbeats 1000000 in
theorem m_X3_bestPlan_ok {l : Launch} {G : zG} {h : zH} {n : Nat} {t : Nat} {w0 : Nat → Int32} {w1 : Nat → Int32} {w2 : Nat → Int32} {w3 : Nat → Int32} {w4 : Nat → Int32} {w5 : Nat → Int64} {w6 : Nat → Int64} {w7 : Nat → Int64} {w8 : Nat → Int64} {w9 : Nat → Int64} {w10 : Nat → Int64} {w11 : Nat → Int64} {w12 : Int32} {w13 : Int32} {w14 : Int32} {w15 : Int32} {w16 : Int32} {w17 : Int32} {w18 : Bool} {w19 : Nat → Int32} {w20 : Int32} {w21 : Nat → Int32} {w22 : Nat → Int32} {w23 : Nat → Int32} {w24 : Int32} {w25 : Int32} {w26 : Int32} {w27 : Int32} {w28 : Bool} {R S D : Nat} {x : Int32}  (ht : z_n0 G ≤ t) (hw : z_ok w0 R S D) (hx : decide (nI 0 ≤ x ∧ x ≤ nI 8) = true) : z_C l G yX3_bestPlan 7 0 0 [.ref t, .int x] (z_tw G t w0 w1 w2 w3 w4 w5 w6 w7 w8 w9 w10 w11 w12 w13 w14 w15 w16 w17 w18 w19 w20 w21 w22 w23 w24 w25 w26 w27 w28 h) n (z_rv (.int (nI ((tw_best w0 R S x w11).1))) (z_tw G t w0 w1 w2 w3 w4 w5 w6 w7 w8 w9 w10 ((tw_best w0 R S x w11).2) (nI 0) w13 w14 w15 w16 w17 w18 w19 w20 w21 w22 w23 w24 w25 w26 w27 w28 h) n) := by
  refine z_start zk_X3_bestPlan zpl_RX3 (Nat.le_of_ble_eq_true rfl) ?_
  intro hn0 M hl hG ho hb hN hr hm hH hrm hQ
  subst hl hG
  have ho : zm_o M = RX3 := ho
  obtain ⟨hR, hR4, hS, hS8, hD, hD6, hF⟩ := id hw
  show z_V M (z_tw (zm_G M) t w0 w1 w2 w3 w4 w5 w6 w7 w8 w9 w10 w11 w12 w13 w14 w15 w16 w17 w18 w19 w20 w21 w22 w23 w24 w25 w26 w27 w28 h) n 0 0 0 [(0, .ref t), (1, .int x)] []
  refine z_aload_n hb dX3_bestPlan_0 rfl ?_
  refine z_iload_n hb dX3_bestPlan_1 rfl ?_
  refine z_call1 (b' := 0) (f' := 0) (rest := []) (av := [.ref t, .int x]) (z_siteV hb ho zc2 z_tw_o q3104 q3106 qs75 ⟨_, _, _, _, zk_X3_bestOf⟩ zy_X3_bestOf zl_X3_bestOf dX3_bestPlan_2 : z_Site M _ _ _ _ _ ([.int x].reverse ++ .ref t :: []) [] _) zk_X3_bestOf q104 hrm (m_X3_bestOf_ok ht hw hx) (by omega) (by decide) (Nat.le_of_ble_eq_true rfl) (by omega) (by omega) ?_
  refine z_iret hb hr dX3_bestPlan_5 ?_
  rw [hQ]
  exact ⟨rfl, rfl, rfl⟩

set_option maxHeartbeats 1000000 in
theorem m_X3_bestPlanByDeciding_no {l : Launch} {G : zG} {h : zH} {n : Nat} {t : Nat} {w0 : Nat → Int32} {w1 : Nat → Int32} {w2 : Nat → Int32} {w3 : Nat → Int32} {w4 : Nat → Int32} {w5 : Nat → Int64} {w6 : Nat → Int64} {w7 : Nat → Int64} {w8 : Nat → Int64} {w9 : Nat → Int64} {w10 : Nat → Int64} {w11 : Nat → Int64} {w12 : Int32} {w13 : Int32} {w14 : Int32} {w15 : Int32} {w16 : Int32} {w17 : Int32} {w18 : Bool} {w19 : Nat → Int32} {w20 : Int32} {w21 : Nat → Int32} {w22 : Nat → Int32} {w23 : Nat → Int32} {w24 : Int32} {w25 : Int32} {w26 : Int32} {w27 : Int32} {w28 : Bool} {R S D : Nat} {x : Int32}  (ht : z_n0 G ≤ t) (hw : z_ok w0 R S D) (hx : decide (nI 0 ≤ x ∧ x ≤ nI 8) = false) : z_C l G yX3_bestPlanByDeciding 7 0 0 [.ref t, .int x] (z_tw G t w0 w1 w2 w3 w4 w5 w6 w7 w8 w9 w10 w11 w12 w13 w14 w15 w16 w17 w18 w19 w20 w21 w22 w23 w24 w25 w26 w27 w28 h) n (z_rv (.int (nI 0)) (z_tw G t w0 w1 w2 w3 w4 w5 w6 w7 w8 w9 w10 w11 (nI 1) w13 w14 w15 w16 w17 w18 w19 w20 w21 w22 w23 w24 w25 w26 w27 w28 h) n) := by
  refine z_start zk_X3_bestPlanByDeciding zpl_RX3 (Nat.le_of_ble_eq_true rfl) ?_
  intro hn0 M hl hG ho hb hN hr hm hH hrm hQ
  subst hl hG
  have ho : zm_o M = RX3 := ho
  obtain ⟨hR, hR4, hS, hS8, hD, hD6, hF⟩ := id hw
  show z_V M (z_tw (zm_G M) t w0 w1 w2 w3 w4 w5 w6 w7 w8 w9 w10 w11 w12 w13 w14 w15 w16 w17 w18 w19 w20 w21 w22 w23 w24 w25 w26 w27 w28 h) n 0 0 0 [(0, .ref t), (1, .int x)] []
  refine z_aload_n hb dX3_bestPlanByDeciding_0 rfl ?_
  refine z_iload_n hb dX3_bestPlanByDeciding_1 rfl ?_
  refine z_call1 (b' := 0) (f' := 0) (rest := []) (av := [.ref t, .int x]) (z_siteV hb ho zc2 z_tw_o q3104 q3106 qs75 ⟨_, _, _, _, zk_X3_bestOf⟩ zy_X3_bestOf zl_X3_bestOf dX3_bestPlanByDeciding_2 : z_Site M _ _ _ _ _ ([.int x].reverse ++ .ref t :: []) [] _) zk_X3_bestOf q104 hrm (m_X3_bestOf_no ht hw hx) (by omega) (by decide) (Nat.le_of_ble_eq_true rfl) (by omega) (by omega) ?_
  refine z_iret hb hr dX3_bestPlanByDeciding_5 ?_
  rw [hQ]
  exact ⟨rfl, rfl, rfl⟩

set_option maxHeartbeats 1000000 in
theorem m_X3_bestPlanByDeciding_ok {l : Launch} {G : zG} {h : zH} {n : Nat} {t : Nat} {w0 : Nat → Int32} {w1 : Nat → Int32} {w2 : Nat → Int32} {w3 : Nat → Int32} {w4 : Nat → Int32} {w5 : Nat → Int64} {w6 : Nat → Int64} {w7 : Nat → Int64} {w8 : Nat → Int64} {w9 : Nat → Int64} {w10 : Nat → Int64} {w11 : Nat → Int64} {w12 : Int32} {w13 : Int32} {w14 : Int32} {w15 : Int32} {w16 : Int32} {w17 : Int32} {w18 : Bool} {w19 : Nat → Int32} {w20 : Int32} {w21 : Nat → Int32} {w22 : Nat → Int32} {w23 : Nat → Int32} {w24 : Int32} {w25 : Int32} {w26 : Int32} {w27 : Int32} {w28 : Bool} {R S D : Nat} {x : Int32}  (ht : z_n0 G ≤ t) (hw : z_ok w0 R S D) (hx : decide (nI 0 ≤ x ∧ x ≤ nI 8) = true) : z_C l G yX3_bestPlanByDeciding 7 0 0 [.ref t, .int x] (z_tw G t w0 w1 w2 w3 w4 w5 w6 w7 w8 w9 w10 w11 w12 w13 w14 w15 w16 w17 w18 w19 w20 w21 w22 w23 w24 w25 w26 w27 w28 h) n (z_rv (.int (nI ((tw_best w0 R S x w11).1))) (z_tw G t w0 w1 w2 w3 w4 w5 w6 w7 w8 w9 w10 ((tw_best w0 R S x w11).2) (nI 0) w13 w14 w15 w16 w17 w18 w19 w20 w21 w22 w23 w24 w25 w26 w27 w28 h) n) := by
  refine z_start zk_X3_bestPlanByDeciding zpl_RX3 (Nat.le_of_ble_eq_true rfl) ?_
  intro hn0 M hl hG ho hb hN hr hm hH hrm hQ
  subst hl hG
  have ho : zm_o M = RX3 := ho
  obtain ⟨hR, hR4, hS, hS8, hD, hD6, hF⟩ := id hw
  show z_V M (z_tw (zm_G M) t w0 w1 w2 w3 w4 w5 w6 w7 w8 w9 w10 w11 w12 w13 w14 w15 w16 w17 w18 w19 w20 w21 w22 w23 w24 w25 w26 w27 w28 h) n 0 0 0 [(0, .ref t), (1, .int x)] []
  refine z_aload_n hb dX3_bestPlanByDeciding_0 rfl ?_
  refine z_iload_n hb dX3_bestPlanByDeciding_1 rfl ?_
  refine z_call1 (b' := 0) (f' := 0) (rest := []) (av := [.ref t, .int x]) (z_siteV hb ho zc2 z_tw_o q3104 q3106 qs75 ⟨_, _, _, _, zk_X3_bestOf⟩ zy_X3_bestOf zl_X3_bestOf dX3_bestPlanByDeciding_2 : z_Site M _ _ _ _ _ ([.int x].reverse ++ .ref t :: []) [] _) zk_X3_bestOf q104 hrm (m_X3_bestOf_ok ht hw hx) (by omega) (by decide) (Nat.le_of_ble_eq_true rfl) (by omega) (by omega) ?_
  refine z_iret hb hr dX3_bestPlanByDeciding_5 ?_
  rw [hQ]
  exact ⟨rfl, rfl, rfl⟩

set_option maxHeartbeats 1000000 in
theorem m_X3_bestCost_no {l : Launch} {G : zG} {h : zH} {n : Nat} {t : Nat} {w0 : Nat → Int32} {w1 : Nat → Int32} {w2 : Nat → Int32} {w3 : Nat → Int32} {w4 : Nat → Int32} {w5 : Nat → Int64} {w6 : Nat → Int64} {w7 : Nat → Int64} {w8 : Nat → Int64} {w9 : Nat → Int64} {w10 : Nat → Int64} {w11 : Nat → Int64} {w12 : Int32} {w13 : Int32} {w14 : Int32} {w15 : Int32} {w16 : Int32} {w17 : Int32} {w18 : Bool} {w19 : Nat → Int32} {w20 : Int32} {w21 : Nat → Int32} {w22 : Nat → Int32} {w23 : Nat → Int32} {w24 : Int32} {w25 : Int32} {w26 : Int32} {w27 : Int32} {w28 : Bool} {R S D : Nat} {x : Int32}  (ht : z_n0 G ≤ t) (hw : z_ok w0 R S D) (hx : decide (nI 0 ≤ x ∧ x ≤ nI 8) = false) : z_C l G yX3_bestCost 6 0 0 [.ref t, .int x] (z_tw G t w0 w1 w2 w3 w4 w5 w6 w7 w8 w9 w10 w11 w12 w13 w14 w15 w16 w17 w18 w19 w20 w21 w22 w23 w24 w25 w26 w27 w28 h) n (z_rv (.long 0) (z_tw G t w0 w1 w2 w3 w4 w5 w6 w7 w8 w9 w10 w11 (nI 1) w13 w14 w15 w16 w17 w18 w19 w20 w21 w22 w23 w24 w25 w26 w27 w28 h) n) := by
  refine z_start zk_X3_bestCost zpl_RX3 (Nat.le_of_ble_eq_true rfl) ?_
  intro hn0 M hl hG ho hb hN hr hm hH hrm hQ
  subst hl hG
  have ho : zm_o M = RX3 := ho
  obtain ⟨hR, hR4, hS, hS8, hD, hD6, hF⟩ := id hw
  show z_V M (z_tw (zm_G M) t w0 w1 w2 w3 w4 w5 w6 w7 w8 w9 w10 w11 w12 w13 w14 w15 w16 w17 w18 w19 w20 w21 w22 w23 w24 w25 w26 w27 w28 h) n 0 0 0 [(0, .ref t), (1, .int x)] []
  refine z_aload_n hb dX3_bestCost_0 rfl ?_
  refine z_iload_n hb dX3_bestCost_1 rfl ?_
  refine z_iconst (x := nI 0) hb dX3_bestCost_2 (by decide) ?_
  refine z_bipush (x := nI 8) hb dX3_bestCost_3 (by decide) ?_
  refine z_call1 (b' := 0) (f' := 0) (rest := [.ref t]) (av := [.int x, .int (nI 0), .int (nI 8)]) (z_siteS hb ho q2809 q2810 q104 ⟨_, _, _, _, zk_X3_in⟩ zy_X3_in zl_X3_in dX3_bestCost_5 : z_Site M _ _ _ _ _ ([.int x, .int (nI 0), .int (nI 8)].reverse ++ [.ref t]) [.ref t] _) zk_X3_in q104 hrm (m_X3_in x (nI 0) (nI 8) ht) (by omega) (by decide) (Nat.le_of_ble_eq_true rfl) (by omega) (by omega) ?_
  refine z_call1 (b' := 0) (f' := 0) (rest := []) (av := [.ref t, .int (z_b (decide ((nI 0) ≤ x ∧ x ≤ (nI 8))))]) (z_siteV hb ho zc2 z_tw_o q2995 q2997 qs66 ⟨_, _, _, _, zk_X3_checked⟩ zy_X3_checked zl_X3_checked dX3_bestCost_8 : z_Site M _ _ _ _ _ ([.int (z_b (decide ((nI 0) ≤ x ∧ x ≤ (nI 8))))].reverse ++ .ref t :: []) [] _) zk_X3_checked q104 hrm (m_X3_checked (decide ((nI 0) ≤ x ∧ x ≤ (nI 8))) ht) (by omega) (by decide) (Nat.le_of_ble_eq_true rfl) (by omega) (by omega) ?_
  refine z_ifb_le (tgt := 18) hb dX3_bestCost_11 (by decide) (fun c_11 => ?_) (fun c_11 => ?_)
  · rw [hx] at c_11; exact absurd c_11 (by decide)
  · refine z_lconst (x := 0) hb dX3_bestCost_14 rfl ?_
    refine z_goto (tgt := 27) hb dX3_bestCost_15 (by decide) ?_
    refine z_lret hb hr dX3_bestCost_27 ?_
    rw [hQ]
    rw [hx]; exact ⟨rfl, rfl, rfl⟩

set_option maxHeartbeats 1000000 in
theorem m_X3_bestCost_ok {l : Launch} {G : zG} {h : zH} {n : Nat} {t : Nat} {w0 : Nat → Int32} {w1 : Nat → Int32} {w2 : Nat → Int32} {w3 : Nat → Int32} {w4 : Nat → Int32} {w5 : Nat → Int64} {w6 : Nat → Int64} {w7 : Nat → Int64} {w8 : Nat → Int64} {w9 : Nat → Int64} {w10 : Nat → Int64} {w11 : Nat → Int64} {w12 : Int32} {w13 : Int32} {w14 : Int32} {w15 : Int32} {w16 : Int32} {w17 : Int32} {w18 : Bool} {w19 : Nat → Int32} {w20 : Int32} {w21 : Nat → Int32} {w22 : Nat → Int32} {w23 : Nat → Int32} {w24 : Int32} {w25 : Int32} {w26 : Int32} {w27 : Int32} {w28 : Bool} {R S D : Nat} {x : Int32}  (ht : z_n0 G ≤ t) (hw : z_ok w0 R S D) (hx : decide (nI 0 ≤ x ∧ x ≤ nI 8) = true) : z_C l G yX3_bestCost 6 0 0 [.ref t, .int x] (z_tw G t w0 w1 w2 w3 w4 w5 w6 w7 w8 w9 w10 w11 w12 w13 w14 w15 w16 w17 w18 w19 w20 w21 w22 w23 w24 w25 w26 w27 w28 h) n (z_rv (.long (tw_wh w0 R S (nI (tw_best w0 R S x w11).1) (tw_best w0 R S x w11).2)) (z_tw G t w0 w1 w2 w3 w4 w5 w6 w7 w8 w9 w10 (tw_lc w0 R (nI (tw_best w0 R S x w11).1) (tw_best w0 R S x w11).2 S) (nI 0) w13 w14 w15 w16 w17 w18 w19 w20 w21 w22 w23 w24 w25 w26 w27 w28 h) n) := by
  refine z_start zk_X3_bestCost zpl_RX3 (Nat.le_of_ble_eq_true rfl) ?_
  intro hn0 M hl hG ho hb hN hr hm hH hrm hQ
  subst hl hG
  have ho : zm_o M = RX3 := ho
  obtain ⟨hR, hR4, hS, hS8, hD, hD6, hF⟩ := id hw
  show z_V M (z_tw (zm_G M) t w0 w1 w2 w3 w4 w5 w6 w7 w8 w9 w10 w11 w12 w13 w14 w15 w16 w17 w18 w19 w20 w21 w22 w23 w24 w25 w26 w27 w28 h) n 0 0 0 [(0, .ref t), (1, .int x)] []
  refine z_aload_n hb dX3_bestCost_0 rfl ?_
  refine z_iload_n hb dX3_bestCost_1 rfl ?_
  refine z_iconst (x := nI 0) hb dX3_bestCost_2 (by decide) ?_
  refine z_bipush (x := nI 8) hb dX3_bestCost_3 (by decide) ?_
  refine z_call1 (b' := 0) (f' := 0) (rest := [.ref t]) (av := [.int x, .int (nI 0), .int (nI 8)]) (z_siteS hb ho q2809 q2810 q104 ⟨_, _, _, _, zk_X3_in⟩ zy_X3_in zl_X3_in dX3_bestCost_5 : z_Site M _ _ _ _ _ ([.int x, .int (nI 0), .int (nI 8)].reverse ++ [.ref t]) [.ref t] _) zk_X3_in q104 hrm (m_X3_in x (nI 0) (nI 8) ht) (by omega) (by decide) (Nat.le_of_ble_eq_true rfl) (by omega) (by omega) ?_
  refine z_call1 (b' := 0) (f' := 0) (rest := []) (av := [.ref t, .int (z_b (decide ((nI 0) ≤ x ∧ x ≤ (nI 8))))]) (z_siteV hb ho zc2 z_tw_o q2995 q2997 qs66 ⟨_, _, _, _, zk_X3_checked⟩ zy_X3_checked zl_X3_checked dX3_bestCost_8 : z_Site M _ _ _ _ _ ([.int (z_b (decide ((nI 0) ≤ x ∧ x ≤ (nI 8))))].reverse ++ .ref t :: []) [] _) zk_X3_checked q104 hrm (m_X3_checked (decide ((nI 0) ≤ x ∧ x ≤ (nI 8))) ht) (by omega) (by decide) (Nat.le_of_ble_eq_true rfl) (by omega) (by omega) ?_
  refine z_ifb_le (tgt := 18) hb dX3_bestCost_11 (by decide) (fun c_11 => ?_) (fun c_11 => ?_)
  · refine z_aload_n hb dX3_bestCost_18 rfl ?_
    refine z_aload_n hb dX3_bestCost_19 rfl ?_
    refine z_iload_n hb dX3_bestCost_20 rfl ?_
    refine z_call1 (b' := 0) (f' := 0) (rest := [.ref t]) (av := [.ref t, .int x]) (z_siteV hb ho zc2 z_tw_o q3108 q3110 qs76 ⟨_, _, _, _, zk_X3_best⟩ zy_X3_best zl_X3_best dX3_bestCost_21 : z_Site M _ _ _ _ _ ([.int x].reverse ++ .ref t :: [.ref t]) [.ref t] _) zk_X3_best q104 hrm (m_X3_best x ht hw) (by omega) (by decide) (Nat.le_of_ble_eq_true rfl) (by omega) (by omega) ?_
    refine z_call1 (b' := 0) (f' := 0) (rest := []) (av := [.ref t, .int (nI ((tw_best w0 R S x w11).1))]) (z_siteV hb ho zc2 z_tw_o q3115 q3117 qs77 ⟨_, _, _, _, zk_X3_whole⟩ zy_X3_whole zl_X3_whole dX3_bestCost_24 : z_Site M _ _ _ _ _ ([.int (nI ((tw_best w0 R S x w11).1))].reverse ++ .ref t :: []) [] _) zk_X3_whole q104 hrm (m_X3_whole (nI ((tw_best w0 R S x w11).1)) ht hw) (by omega) (by decide) (Nat.le_of_ble_eq_true rfl) (by omega) (by omega) ?_
    refine z_lret hb hr dX3_bestCost_27 ?_
    rw [hQ]
    rw [hx]; exact ⟨rfl, rfl, rfl⟩
  · rw [hx] at c_11; exact absurd c_11 (by decide)

set_option maxHeartbeats 1000000 in
theorem m_X3_meanAmount_no {l : Launch} {G : zG} {h : zH} {n : Nat} {t : Nat} {w0 : Nat → Int32} {w1 : Nat → Int32} {w2 : Nat → Int32} {w3 : Nat → Int32} {w4 : Nat → Int32} {w5 : Nat → Int64} {w6 : Nat → Int64} {w7 : Nat → Int64} {w8 : Nat → Int64} {w9 : Nat → Int64} {w10 : Nat → Int64} {w11 : Nat → Int64} {w12 : Int32} {w13 : Int32} {w14 : Int32} {w15 : Int32} {w16 : Int32} {w17 : Int32} {w18 : Bool} {w19 : Nat → Int32} {w20 : Int32} {w21 : Nat → Int32} {w22 : Nat → Int32} {w23 : Nat → Int32} {w24 : Int32} {w25 : Int32} {w26 : Int32} {w27 : Int32} {w28 : Bool} {R S D : Nat}   (ht : z_n0 G ≤ t) (hw : z_ok w0 R S D) (h0 : R = 0) : z_C l G yX3_meanAmount 2 0 0 [.ref t] (z_tw G t w0 w1 w2 w3 w4 w5 w6 w7 w8 w9 w10 w11 w12 w13 w14 w15 w16 w17 w18 w19 w20 w21 w22 w23 w24 w25 w26 w27 w28 h) n (z_rv (.double 0) (z_tw G t w0 w1 w2 w3 w4 w5 w6 w7 w8 w9 w10 w11 (nI 1) w13 w14 w15 w16 w17 w18 w19 w20 w21 w22 w23 w24 w25 w26 w27 w28 h) n) := by
  refine z_start zk_X3_meanAmount zpl_RX3 (Nat.le_of_ble_eq_true rfl) ?_
  intro hn0 M hl hG ho hb hN hr hm hH hrm hQ
  subst hl hG
  have ho : zm_o M = RX3 := ho
  obtain ⟨hR, hR4, hS, hS8, hD, hD6, hF⟩ := id hw
  show z_V M (z_tw (zm_G M) t w0 w1 w2 w3 w4 w5 w6 w7 w8 w9 w10 w11 w12 w13 w14 w15 w16 w17 w18 w19 w20 w21 w22 w23 w24 w25 w26 w27 w28 h) n 0 0 0 [(0, .ref t)] []
  refine z_aload_n hb dX3_meanAmount_0 rfl ?_
  refine z_aload_n hb dX3_meanAmount_1 rfl ?_
  refine z_get (k := 0) (C := RX3) (T := TX3) (N := 29) hb ho zc2 in_X3 (zf_RX3_7 _) dX3_meanAmount_2 z_tw_o (by decide) rfl ?_
  refine z_iconst (x := nI 1) hb dX3_meanAmount_5 (by decide) ?_
  refine z_iald (j := 1) hb dX3_meanAmount_6 z_tw_r0 rfl (by omega) (by omega) ?_
  refine z_toI (y := nI R) hR ?_
  refine z_if_leN (tgt := 14) hb dX3_meanAmount_7 (by decide) (by omega) (fun c_7 => ?_) (fun c_7 => ?_)
  · refine z_iconst (x := nI 0) hb dX3_meanAmount_14 (by decide) ?_
    refine z_call1 (b' := 0) (f' := 0) (rest := []) (av := [.ref t, .int (nI 0)]) (z_siteV hb ho zc2 z_tw_o q2995 q2997 qs66 ⟨_, _, _, _, zk_X3_checked⟩ zy_X3_checked zl_X3_checked dX3_meanAmount_15 : z_Site M _ _ _ _ _ ([.int (nI 0)].reverse ++ .ref t :: []) [] _) zk_X3_checked q104 hrm (m_X3_checked false ht) (by omega) (by decide) (Nat.le_of_ble_eq_true rfl) (by omega) (by omega) ?_
    refine z_ifb_le (tgt := 23) hb dX3_meanAmount_18 (by decide) (fun c_18 => ?_) (fun c_18 => ?_)
    · exact absurd c_18 (by decide)
    · refine z_dconst0 hb dX3_meanAmount_21 ?_
      refine z_dret hb hr dX3_meanAmount_22 ?_
      rw [hQ]
      exact ⟨rfl, rfl, rfl⟩
  · exact absurd c_7 (by omega)

set_option maxHeartbeats 1000000 in
theorem m_X3_meanAmount_ok {l : Launch} {G : zG} {h : zH} {n : Nat} {t : Nat} {w0 : Nat → Int32} {w1 : Nat → Int32} {w2 : Nat → Int32} {w3 : Nat → Int32} {w4 : Nat → Int32} {w5 : Nat → Int64} {w6 : Nat → Int64} {w7 : Nat → Int64} {w8 : Nat → Int64} {w9 : Nat → Int64} {w10 : Nat → Int64} {w11 : Nat → Int64} {w12 : Int32} {w13 : Int32} {w14 : Int32} {w15 : Int32} {w16 : Int32} {w17 : Int32} {w18 : Bool} {w19 : Nat → Int32} {w20 : Int32} {w21 : Nat → Int32} {w22 : Nat → Int32} {w23 : Nat → Int32} {w24 : Int32} {w25 : Int32} {w26 : Int32} {w27 : Int32} {w28 : Bool} {R S D : Nat}   (ht : z_n0 G ≤ t) (hw : z_ok w0 R S D) (h0 : 0 < R) (hn9 : vf_n64 (FP.ddiv (FP.i2d (tw_am w0 R)) (FP.i2d (nI R)))) : z_C l G yX3_meanAmount 2 0 0 [.ref t] (z_tw G t w0 w1 w2 w3 w4 w5 w6 w7 w8 w9 w10 w11 w12 w13 w14 w15 w16 w17 w18 w19 w20 w21 w22 w23 w24 w25 w26 w27 w28 h) n (z_rv (.double (FP.ddiv (FP.i2d (tw_am w0 R)) (FP.i2d (nI R)))) (z_tw G t w0 w1 w2 w3 w4 w5 w6 w7 w8 w9 w10 w11 (nI 0) w13 w14 w15 w16 w17 w18 w19 w20 w21 w22 w23 w24 w25 w26 w27 w28 h) n) := by
  refine z_start zk_X3_meanAmount zpl_RX3 (Nat.le_of_ble_eq_true rfl) ?_
  intro hn0 M hl hG ho hb hN hr hm hH hrm hQ
  subst hl hG
  have ho : zm_o M = RX3 := ho
  obtain ⟨hR, hR4, hS, hS8, hD, hD6, hF⟩ := id hw
  show z_V M (z_tw (zm_G M) t w0 w1 w2 w3 w4 w5 w6 w7 w8 w9 w10 w11 w12 w13 w14 w15 w16 w17 w18 w19 w20 w21 w22 w23 w24 w25 w26 w27 w28 h) n 0 0 0 [(0, .ref t)] []
  refine z_aload_n hb dX3_meanAmount_0 rfl ?_
  refine z_aload_n hb dX3_meanAmount_1 rfl ?_
  refine z_get (k := 0) (C := RX3) (T := TX3) (N := 29) hb ho zc2 in_X3 (zf_RX3_7 _) dX3_meanAmount_2 z_tw_o (by decide) rfl ?_
  refine z_iconst (x := nI 1) hb dX3_meanAmount_5 (by decide) ?_
  refine z_iald (j := 1) hb dX3_meanAmount_6 z_tw_r0 rfl (by omega) (by omega) ?_
  refine z_toI (y := nI R) hR ?_
  refine z_if_leN (tgt := 14) hb dX3_meanAmount_7 (by decide) (by omega) (fun c_7 => ?_) (fun c_7 => ?_)
  · exact absurd c_7 (by omega)
  · refine z_iconst (x := nI 1) hb dX3_meanAmount_10 (by decide) ?_
    refine z_goto (tgt := 15) hb dX3_meanAmount_11 (by decide) ?_
    refine z_call1 (b' := 0) (f' := 0) (rest := []) (av := [.ref t, .int (nI 1)]) (z_siteV hb ho zc2 z_tw_o q2995 q2997 qs66 ⟨_, _, _, _, zk_X3_checked⟩ zy_X3_checked zl_X3_checked dX3_meanAmount_15 : z_Site M _ _ _ _ _ ([.int (nI 1)].reverse ++ .ref t :: []) [] _) zk_X3_checked q104 hrm (m_X3_checked true ht) (by omega) (by decide) (Nat.le_of_ble_eq_true rfl) (by omega) (by omega) ?_
    refine z_ifb_le (tgt := 23) hb dX3_meanAmount_18 (by decide) (fun c_18 => ?_) (fun c_18 => ?_)
    · refine z_iconst (x := nI 0) hb dX3_meanAmount_23 (by decide) ?_
      refine z_istore_n (lv' := [(1, .int (nI 0)), (0, .ref t)]) hb dX3_meanAmount_24 (by rw [hN]; decide) rfl ?_
      refine z_iconst (x := nI 0) hb dX3_meanAmount_25 (by decide) ?_
      refine z_istore_n (lv' := [(2, .int (nI 0)), (1, .int (nI 0)), (0, .ref t)]) hb dX3_meanAmount_26 (by rw [hN]; decide) rfl ?_
      have lp_27 : ∀ (k9_27 : Nat) (p : Nat) (v : Int32), R - p < k9_27 → (p ≤ R) → (v = tw_am w0 p) → z_V M (z_tw (zm_G M) t w0 w1 w2 w3 w4 w5 w6 w7 w8 w9 w10 w11 (z_b (!true)) w13 w14 w15 w16 w17 w18 w19 w20 w21 w22 w23 w24 w25 w26 w27 w28 h) n 0 0 27 [(2, .int (nI p)), (1, .int v), (0, .ref t)] [] := by
        intro k9_27
        induction k9_27 with
        | zero => intro p v hk9_27; exact absurd hk9_27 (Nat.not_lt_zero _)
        | succ k9_27 ih_27 =>
          intro p v hk9_27 hp hv
          refine z_iload_n hb dX3_meanAmount_27 rfl ?_
          refine z_aload_n hb dX3_meanAmount_28 rfl ?_
          refine z_get (k := 0) (C := RX3) (T := TX3) (N := 29) hb ho zc2 in_X3 (zf_RX3_7 _) dX3_meanAmount_29 z_tw_o (by decide) rfl ?_
          refine z_iconst (x := nI 1) hb dX3_meanAmount_32 (by decide) ?_
          refine z_iald (j := 1) hb dX3_meanAmount_33 z_tw_r0 rfl (by omega) (by omega) ?_
          refine z_toI (y := nI R) hR ?_
          refine z_icmp_geN (tgt := 52) hb dX3_meanAmount_34 (by decide) (by omega) (by omega) (fun c_34 => ?_) (fun c_34 => ?_)
          · refine z_iload_n hb dX3_meanAmount_52 rfl ?_
            refine z_i2d hb dX3_meanAmount_53 ?_
            refine z_aload_n hb dX3_meanAmount_54 rfl ?_
            refine z_get (k := 0) (C := RX3) (T := TX3) (N := 29) hb ho zc2 in_X3 (zf_RX3_7 _) dX3_meanAmount_55 z_tw_o (by decide) rfl ?_
            refine z_iconst (x := nI 1) hb dX3_meanAmount_58 (by decide) ?_
            refine z_iald (j := 1) hb dX3_meanAmount_59 z_tw_r0 rfl (by omega) (by omega) ?_
            refine z_toI (y := nI R) hR ?_
            refine z_i2d hb dX3_meanAmount_60 ?_
            refine z_ddiv hb dX3_meanAmount_61 (by rw [hv, show p = R by omega]; exact hn9) ?_
            refine z_dret hb hr dX3_meanAmount_62 ?_
            rw [hQ]
            rw [hv, show p = R by omega]; exact ⟨rfl, rfl, rfl⟩
          · refine z_iload_n hb dX3_meanAmount_37 rfl ?_
            refine z_aload_n hb dX3_meanAmount_38 rfl ?_
            refine z_iload_n hb dX3_meanAmount_39 rfl ?_
            refine z_iconst (x := nI 3) hb dX3_meanAmount_40 (by decide) ?_
            refine z_call1 (b' := 0) (f' := 0) (rest := [.int v]) (av := [.ref t, .int (nI p), .int (nI 3)]) (z_siteV hb ho zc2 z_tw_o q2859 q2861 qs43 ⟨_, _, _, _, zk_X3_r⟩ zy_X3_r zl_X3_r dX3_meanAmount_41 : z_Site M _ _ _ _ _ ([.int (nI p), .int (nI 3)].reverse ++ .ref t :: [.int v]) [.int v] _) zk_X3_r q104 hrm (m_X3_r p 3 ht (by omega)) (by omega) (by decide) (Nat.le_of_ble_eq_true rfl) (by omega) (by omega) ?_
            refine z_iadd hb dX3_meanAmount_44 ?_
            refine z_istore_n (lv' := [(1, .int (v + (w0 (16 + 4 * p + 3)))), (2, .int (nI p)), (0, .ref t)]) hb dX3_meanAmount_45 (by rw [hN]; decide) rfl ?_
            refine z_iinc (k0 := 1) (lv' := [(2, .int (nI (p + 1))), (1, .int (v + (w0 (16 + 4 * p + 3)))), (0, .ref t)]) hb dX3_meanAmount_46 rfl (nI_1 p) (by rw [hN]; decide) rfl ?_
            refine z_goto (tgt := 27) hb dX3_meanAmount_49 (by decide) ?_
            refine z_lv [0, 1, 2] (lv' := [(2, .int (nI (p + 1))), (1, .int (v + (w0 (16 + 4 * p + 3)))), (0, .ref t)]) rfl ?_
            exact ih_27 (p + 1) _ (by omega) (by omega) (by rw [hv]; rfl)
      refine z_lv [0, 1, 2] (lv' := [(2, .int (nI 0)), (1, .int (nI 0)), (0, .ref t)]) rfl ?_
      exact lp_27 _ 0 _ (Nat.lt_succ_self _) (Nat.zero_le _) rfl
    · exact absurd c_18 (by decide)

set_option maxHeartbeats 1000000 in
theorem m_X3_staleShare_no {l : Launch} {G : zG} {h : zH} {n : Nat} {t : Nat} {w0 : Nat → Int32} {w1 : Nat → Int32} {w2 : Nat → Int32} {w3 : Nat → Int32} {w4 : Nat → Int32} {w5 : Nat → Int64} {w6 : Nat → Int64} {w7 : Nat → Int64} {w8 : Nat → Int64} {w9 : Nat → Int64} {w10 : Nat → Int64} {w11 : Nat → Int64} {w12 : Int32} {w13 : Int32} {w14 : Int32} {w15 : Int32} {w16 : Int32} {w17 : Int32} {w18 : Bool} {w19 : Nat → Int32} {w20 : Int32} {w21 : Nat → Int32} {w22 : Nat → Int32} {w23 : Nat → Int32} {w24 : Int32} {w25 : Int32} {w26 : Int32} {w27 : Int32} {w28 : Bool} {R S D : Nat}   (ht : z_n0 G ≤ t) (hw : z_ok w0 R S D) (h0 : S = 0) : z_C l G yX3_staleShare 3 0 0 [.ref t] (z_tw G t w0 w1 w2 w3 w4 w5 w6 w7 w8 w9 w10 w11 w12 w13 w14 w15 w16 w17 w18 w19 w20 w21 w22 w23 w24 w25 w26 w27 w28 h) n (z_rv (.float 0) (z_tw G t w0 w1 w2 w3 w4 w5 w6 w7 w8 w9 w10 w11 (nI 1) w13 w14 w15 w16 w17 w18 w19 w20 w21 w22 w23 w24 w25 w26 w27 w28 h) n) := by
  refine z_start zk_X3_staleShare zpl_RX3 (Nat.le_of_ble_eq_true rfl) ?_
  intro hn0 M hl hG ho hb hN hr hm hH hrm hQ
  subst hl hG
  have ho : zm_o M = RX3 := ho
  obtain ⟨hR, hR4, hS, hS8, hD, hD6, hF⟩ := id hw
  show z_V M (z_tw (zm_G M) t w0 w1 w2 w3 w4 w5 w6 w7 w8 w9 w10 w11 w12 w13 w14 w15 w16 w17 w18 w19 w20 w21 w22 w23 w24 w25 w26 w27 w28 h) n 0 0 0 [(0, .ref t)] []
  refine z_aload_n hb dX3_staleShare_0 rfl ?_
  refine z_aload_n hb dX3_staleShare_1 rfl ?_
  refine z_get (k := 0) (C := RX3) (T := TX3) (N := 29) hb ho zc2 in_X3 (zf_RX3_7 _) dX3_staleShare_2 z_tw_o (by decide) rfl ?_
  refine z_iconst (x := nI 3) hb dX3_staleShare_5 (by decide) ?_
  refine z_iald (j := 3) hb dX3_staleShare_6 z_tw_r0 rfl (by omega) (by omega) ?_
  refine z_toI (y := nI S) hS ?_
  refine z_if_leN (tgt := 14) hb dX3_staleShare_7 (by decide) (by omega) (fun c_7 => ?_) (fun c_7 => ?_)
  · refine z_iconst (x := nI 0) hb dX3_staleShare_14 (by decide) ?_
    refine z_call1 (b' := 0) (f' := 0) (rest := []) (av := [.ref t, .int (nI 0)]) (z_siteV hb ho zc2 z_tw_o q2995 q2997 qs66 ⟨_, _, _, _, zk_X3_checked⟩ zy_X3_checked zl_X3_checked dX3_staleShare_15 : z_Site M _ _ _ _ _ ([.int (nI 0)].reverse ++ .ref t :: []) [] _) zk_X3_checked q104 hrm (m_X3_checked false ht) (by omega) (by decide) (Nat.le_of_ble_eq_true rfl) (by omega) (by omega) ?_
    refine z_ifb_le (tgt := 25) hb dX3_staleShare_18 (by decide) (fun c_18 => ?_) (fun c_18 => ?_)
    · exact absurd c_18 (by decide)
    · refine z_fconst0 hb dX3_staleShare_21 ?_
      refine z_goto (tgt := 47) hb dX3_staleShare_22 (by decide) ?_
      refine z_fret hb hr dX3_staleShare_47 ?_
      rw [hQ]
      exact ⟨rfl, rfl, rfl⟩
  · exact absurd c_7 (by omega)

set_option maxHeartbeats 1000000 in
theorem m_X3_staleShare_ok {l : Launch} {G : zG} {h : zH} {n : Nat} {t : Nat} {w0 : Nat → Int32} {w1 : Nat → Int32} {w2 : Nat → Int32} {w3 : Nat → Int32} {w4 : Nat → Int32} {w5 : Nat → Int64} {w6 : Nat → Int64} {w7 : Nat → Int64} {w8 : Nat → Int64} {w9 : Nat → Int64} {w10 : Nat → Int64} {w11 : Nat → Int64} {w12 : Int32} {w13 : Int32} {w14 : Int32} {w15 : Int32} {w16 : Int32} {w17 : Int32} {w18 : Bool} {w19 : Nat → Int32} {w20 : Int32} {w21 : Nat → Int32} {w22 : Nat → Int32} {w23 : Nat → Int32} {w24 : Int32} {w25 : Int32} {w26 : Int32} {w27 : Int32} {w28 : Bool} {R S D : Nat}   (ht : z_n0 G ≤ t) (hw : z_ok w0 R S D) (h0 : 0 < S) (hn9 : vf_n32 (FP.fdiv (FP.i2f (nI (tw_sc w0 D S))) (FP.i2f (nI (S * (D + 1)))))) : z_C l G yX3_staleShare 3 0 0 [.ref t] (z_tw G t w0 w1 w2 w3 w4 w5 w6 w7 w8 w9 w10 w11 w12 w13 w14 w15 w16 w17 w18 w19 w20 w21 w22 w23 w24 w25 w26 w27 w28 h) n (z_rv (.float (FP.fdiv (FP.i2f (nI (tw_sc w0 D S))) (FP.i2f (nI (S * (D + 1)))))) (z_tw G t w0 w1 w2 w3 w4 w5 w6 w7 w8 w9 w10 w11 (nI 0) w13 w14 w15 w16 w17 w18 w19 w20 w21 w22 w23 w24 w25 w26 w27 w28 h) n) := by
  refine z_start zk_X3_staleShare zpl_RX3 (Nat.le_of_ble_eq_true rfl) ?_
  intro hn0 M hl hG ho hb hN hr hm hH hrm hQ
  subst hl hG
  have ho : zm_o M = RX3 := ho
  obtain ⟨hR, hR4, hS, hS8, hD, hD6, hF⟩ := id hw
  show z_V M (z_tw (zm_G M) t w0 w1 w2 w3 w4 w5 w6 w7 w8 w9 w10 w11 w12 w13 w14 w15 w16 w17 w18 w19 w20 w21 w22 w23 w24 w25 w26 w27 w28 h) n 0 0 0 [(0, .ref t)] []
  refine z_aload_n hb dX3_staleShare_0 rfl ?_
  refine z_aload_n hb dX3_staleShare_1 rfl ?_
  refine z_get (k := 0) (C := RX3) (T := TX3) (N := 29) hb ho zc2 in_X3 (zf_RX3_7 _) dX3_staleShare_2 z_tw_o (by decide) rfl ?_
  refine z_iconst (x := nI 3) hb dX3_staleShare_5 (by decide) ?_
  refine z_iald (j := 3) hb dX3_staleShare_6 z_tw_r0 rfl (by omega) (by omega) ?_
  refine z_toI (y := nI S) hS ?_
  refine z_if_leN (tgt := 14) hb dX3_staleShare_7 (by decide) (by omega) (fun c_7 => ?_) (fun c_7 => ?_)
  · exact absurd c_7 (by omega)
  · refine z_iconst (x := nI 1) hb dX3_staleShare_10 (by decide) ?_
    refine z_goto (tgt := 15) hb dX3_staleShare_11 (by decide) ?_
    refine z_call1 (b' := 0) (f' := 0) (rest := []) (av := [.ref t, .int (nI 1)]) (z_siteV hb ho zc2 z_tw_o q2995 q2997 qs66 ⟨_, _, _, _, zk_X3_checked⟩ zy_X3_checked zl_X3_checked dX3_staleShare_15 : z_Site M _ _ _ _ _ ([.int (nI 1)].reverse ++ .ref t :: []) [] _) zk_X3_checked q104 hrm (m_X3_checked true ht) (by omega) (by decide) (Nat.le_of_ble_eq_true rfl) (by omega) (by omega) ?_
    refine z_ifb_le (tgt := 25) hb dX3_staleShare_18 (by decide) (fun c_18 => ?_) (fun c_18 => ?_)
    · refine z_aload_n hb dX3_staleShare_25 rfl ?_
      refine z_call1 (b' := 0) (f' := 0) (rest := []) (av := [.ref t]) (z_siteV hb ho zc2 z_tw_o q3059 q3061 qs70 ⟨_, _, _, _, zk_X3_staleCount⟩ zy_X3_staleCount zl_X3_staleCount dX3_staleShare_26 : z_Site M _ _ _ _ _ ([].reverse ++ .ref t :: []) [] _) zk_X3_staleCount q104 hrm (m_X3_staleCount ht hw) (by omega) (by decide) (Nat.le_of_ble_eq_true rfl) (by omega) (by omega) ?_
      refine z_i2f hb dX3_staleShare_29 ?_
      refine z_aload_n hb dX3_staleShare_30 rfl ?_
      refine z_get (k := 0) (C := RX3) (T := TX3) (N := 29) hb ho zc2 in_X3 (zf_RX3_7 _) dX3_staleShare_31 z_tw_o (by decide) rfl ?_
      refine z_iconst (x := nI 3) hb dX3_staleShare_34 (by decide) ?_
      refine z_iald (j := 3) hb dX3_staleShare_35 z_tw_r0 rfl (by omega) (by omega) ?_
      refine z_toI (y := nI S) hS ?_
      refine z_aload_n hb dX3_staleShare_36 rfl ?_
      refine z_get (k := 0) (C := RX3) (T := TX3) (N := 29) hb ho zc2 in_X3 (zf_RX3_7 _) dX3_staleShare_37 z_tw_o (by decide) rfl ?_
      refine z_iconst (x := nI 0) hb dX3_staleShare_40 (by decide) ?_
      refine z_iald (j := 0) hb dX3_staleShare_41 z_tw_r0 rfl (by omega) (by omega) ?_
      refine z_toI (y := nI D) hD ?_
      refine z_iconst (x := nI 1) hb dX3_staleShare_42 (by decide) ?_
      refine z_iadd hb dX3_staleShare_43 ?_
      refine z_toI (y := nI (D + 1)) (nI_add D 1) ?_
      refine z_imul hb dX3_staleShare_44 ?_
      refine z_toI (y := nI (S * (D + 1))) (pk_mul S (D + 1)) ?_
      refine z_i2f hb dX3_staleShare_45 ?_
      refine z_fdiv hb dX3_staleShare_46 hn9 ?_
      refine z_fret hb hr dX3_staleShare_47 ?_
      rw [hQ]
      exact ⟨rfl, rfl, rfl⟩
    · exact absurd c_18 (by decide)

set_option maxHeartbeats 1000000 in
theorem m_X3_denial_no {l : Launch} {G : zG} {h : zH} {n : Nat} {t : Nat} {w0 : Nat → Int32} {w1 : Nat → Int32} {w2 : Nat → Int32} {w3 : Nat → Int32} {w4 : Nat → Int32} {w5 : Nat → Int64} {w6 : Nat → Int64} {w7 : Nat → Int64} {w8 : Nat → Int64} {w9 : Nat → Int64} {w10 : Nat → Int64} {w11 : Nat → Int64} {w12 : Int32} {w13 : Int32} {w14 : Int32} {w15 : Int32} {w16 : Int32} {w17 : Int32} {w18 : Bool} {w19 : Nat → Int32} {w20 : Int32} {w21 : Nat → Int32} {w22 : Nat → Int32} {w23 : Nat → Int32} {w24 : Int32} {w25 : Int32} {w26 : Int32} {w27 : Int32} {w28 : Bool}   (ht : z_n0 G ≤ t) (h0 : w15 ≤ 0) : z_C l G yX3_denial 2 0 0 [.ref t] (z_tw G t w0 w1 w2 w3 w4 w5 w6 w7 w8 w9 w10 w11 w12 w13 w14 w15 w16 w17 w18 w19 w20 w21 w22 w23 w24 w25 w26 w27 w28 h) n (z_rv (.int (nI 0)) (z_tw G t w0 w1 w2 w3 w4 w5 w6 w7 w8 w9 w10 w11 (nI 1) w13 w14 w15 w16 w17 w18 w19 w20 w21 w22 w23 w24 w25 w26 w27 w28 h) n) := by
  refine z_start zk_X3_denial zpl_RX3 (Nat.le_of_ble_eq_true rfl) ?_
  intro hn0 M hl hG ho hb hN hr hm hH hrm hQ
  subst hl hG
  have ho : zm_o M = RX3 := ho
  show z_V M (z_tw (zm_G M) t w0 w1 w2 w3 w4 w5 w6 w7 w8 w9 w10 w11 w12 w13 w14 w15 w16 w17 w18 w19 w20 w21 w22 w23 w24 w25 w26 w27 w28 h) n 0 0 0 [(0, .ref t)] []
  refine z_aload_n hb dX3_denial_0 rfl ?_
  refine z_aload_n hb dX3_denial_1 rfl ?_
  refine z_get (k := 15) (C := RX3) (T := TX3) (N := 29) hb ho zc2 in_X3 (zf_RX3_57 _) dX3_denial_2 z_tw_o (by decide) rfl ?_
  refine z_if_le (tgt := 12) hb dX3_denial_5 (by decide) (fun c_5 => ?_) (fun c_5 => ?_)
  · refine z_iconst (x := nI 0) hb dX3_denial_12 (by decide) ?_
    refine z_call1 (b' := 0) (f' := 0) (rest := []) (av := [.ref t, .int (nI 0)]) (z_siteV hb ho zc2 z_tw_o q2995 q2997 qs66 ⟨_, _, _, _, zk_X3_checked⟩ zy_X3_checked zl_X3_checked dX3_denial_13 : z_Site M _ _ _ _ _ ([.int (nI 0)].reverse ++ .ref t :: []) [] _) zk_X3_checked q104 hrm (m_X3_checked false ht) (by omega) (by decide) (Nat.le_of_ble_eq_true rfl) (by omega) (by omega) ?_
    refine z_ifb_le (tgt := 23) hb dX3_denial_16 (by decide) (fun c_16 => ?_) (fun c_16 => ?_)
    · exact absurd c_16 (by decide)
    · refine z_iconst (x := nI 0) hb dX3_denial_19 (by decide) ?_
      refine z_goto (tgt := 27) hb dX3_denial_20 (by decide) ?_
      refine z_iret hb hr dX3_denial_27 ?_
      rw [hQ]
      exact ⟨rfl, rfl, rfl⟩
  · exact absurd h0 c_5

set_option maxHeartbeats 1000000 in
theorem m_X3_denial_ok {l : Launch} {G : zG} {h : zH} {n : Nat} {t : Nat} {w0 : Nat → Int32} {w1 : Nat → Int32} {w2 : Nat → Int32} {w3 : Nat → Int32} {w4 : Nat → Int32} {w5 : Nat → Int64} {w6 : Nat → Int64} {w7 : Nat → Int64} {w8 : Nat → Int64} {w9 : Nat → Int64} {w10 : Nat → Int64} {w11 : Nat → Int64} {w12 : Int32} {w13 : Int32} {w14 : Int32} {w15 : Int32} {w16 : Int32} {w17 : Int32} {w18 : Bool} {w19 : Nat → Int32} {w20 : Int32} {w21 : Nat → Int32} {w22 : Nat → Int32} {w23 : Nat → Int32} {w24 : Int32} {w25 : Int32} {w26 : Int32} {w27 : Int32} {w28 : Bool}   (ht : z_n0 G ≤ t) (h0 : ¬w15 ≤ 0) : z_C l G yX3_denial 2 0 0 [.ref t] (z_tw G t w0 w1 w2 w3 w4 w5 w6 w7 w8 w9 w10 w11 w12 w13 w14 w15 w16 w17 w18 w19 w20 w21 w22 w23 w24 w25 w26 w27 w28 h) n (z_rv (.int w15) (z_tw G t w0 w1 w2 w3 w4 w5 w6 w7 w8 w9 w10 w11 (nI 0) w13 w14 w15 w16 w17 w18 w19 w20 w21 w22 w23 w24 w25 w26 w27 w28 h) n) := by
  refine z_start zk_X3_denial zpl_RX3 (Nat.le_of_ble_eq_true rfl) ?_
  intro hn0 M hl hG ho hb hN hr hm hH hrm hQ
  subst hl hG
  have ho : zm_o M = RX3 := ho
  show z_V M (z_tw (zm_G M) t w0 w1 w2 w3 w4 w5 w6 w7 w8 w9 w10 w11 w12 w13 w14 w15 w16 w17 w18 w19 w20 w21 w22 w23 w24 w25 w26 w27 w28 h) n 0 0 0 [(0, .ref t)] []
  refine z_aload_n hb dX3_denial_0 rfl ?_
  refine z_aload_n hb dX3_denial_1 rfl ?_
  refine z_get (k := 15) (C := RX3) (T := TX3) (N := 29) hb ho zc2 in_X3 (zf_RX3_57 _) dX3_denial_2 z_tw_o (by decide) rfl ?_
  refine z_if_le (tgt := 12) hb dX3_denial_5 (by decide) (fun c_5 => ?_) (fun c_5 => ?_)
  · exact absurd c_5 h0
  · refine z_iconst (x := nI 1) hb dX3_denial_8 (by decide) ?_
    refine z_goto (tgt := 13) hb dX3_denial_9 (by decide) ?_
    refine z_call1 (b' := 0) (f' := 0) (rest := []) (av := [.ref t, .int (nI 1)]) (z_siteV hb ho zc2 z_tw_o q2995 q2997 qs66 ⟨_, _, _, _, zk_X3_checked⟩ zy_X3_checked zl_X3_checked dX3_denial_13 : z_Site M _ _ _ _ _ ([.int (nI 1)].reverse ++ .ref t :: []) [] _) zk_X3_checked q104 hrm (m_X3_checked true ht) (by omega) (by decide) (Nat.le_of_ble_eq_true rfl) (by omega) (by omega) ?_
    refine z_ifb_le (tgt := 23) hb dX3_denial_16 (by decide) (fun c_16 => ?_) (fun c_16 => ?_)
    · refine z_aload_n hb dX3_denial_23 rfl ?_
      refine z_get (k := 15) (C := RX3) (T := TX3) (N := 29) hb ho zc2 in_X3 (zf_RX3_57 _) dX3_denial_24 z_tw_o (by decide) rfl ?_
      refine z_iret hb hr dX3_denial_27 ?_
      rw [hQ]
      exact ⟨rfl, rfl, rfl⟩
    · exact absurd c_16 (by decide)

set_option maxHeartbeats 1000000 in
theorem m_X3_denialDetail_no {l : Launch} {G : zG} {h : zH} {n : Nat} {t : Nat} {w0 : Nat → Int32} {w1 : Nat → Int32} {w2 : Nat → Int32} {w3 : Nat → Int32} {w4 : Nat → Int32} {w5 : Nat → Int64} {w6 : Nat → Int64} {w7 : Nat → Int64} {w8 : Nat → Int64} {w9 : Nat → Int64} {w10 : Nat → Int64} {w11 : Nat → Int64} {w12 : Int32} {w13 : Int32} {w14 : Int32} {w15 : Int32} {w16 : Int32} {w17 : Int32} {w18 : Bool} {w19 : Nat → Int32} {w20 : Int32} {w21 : Nat → Int32} {w22 : Nat → Int32} {w23 : Nat → Int32} {w24 : Int32} {w25 : Int32} {w26 : Int32} {w27 : Int32} {w28 : Bool}   (ht : z_n0 G ≤ t) (h0 : w15 ≤ 0) : z_C l G yX3_denialDetail 2 0 0 [.ref t] (z_tw G t w0 w1 w2 w3 w4 w5 w6 w7 w8 w9 w10 w11 w12 w13 w14 w15 w16 w17 w18 w19 w20 w21 w22 w23 w24 w25 w26 w27 w28 h) n (z_rv (.int (nI 0)) (z_tw G t w0 w1 w2 w3 w4 w5 w6 w7 w8 w9 w10 w11 (nI 1) w13 w14 w15 w16 w17 w18 w19 w20 w21 w22 w23 w24 w25 w26 w27 w28 h) n) := by
  refine z_start zk_X3_denialDetail zpl_RX3 (Nat.le_of_ble_eq_true rfl) ?_
  intro hn0 M hl hG ho hb hN hr hm hH hrm hQ
  subst hl hG
  have ho : zm_o M = RX3 := ho
  show z_V M (z_tw (zm_G M) t w0 w1 w2 w3 w4 w5 w6 w7 w8 w9 w10 w11 w12 w13 w14 w15 w16 w17 w18 w19 w20 w21 w22 w23 w24 w25 w26 w27 w28 h) n 0 0 0 [(0, .ref t)] []
  refine z_aload_n hb dX3_denialDetail_0 rfl ?_
  refine z_aload_n hb dX3_denialDetail_1 rfl ?_
  refine z_get (k := 15) (C := RX3) (T := TX3) (N := 29) hb ho zc2 in_X3 (zf_RX3_57 _) dX3_denialDetail_2 z_tw_o (by decide) rfl ?_
  refine z_if_le (tgt := 12) hb dX3_denialDetail_5 (by decide) (fun c_5 => ?_) (fun c_5 => ?_)
  · refine z_iconst (x := nI 0) hb dX3_denialDetail_12 (by decide) ?_
    refine z_call1 (b' := 0) (f' := 0) (rest := []) (av := [.ref t, .int (nI 0)]) (z_siteV hb ho zc2 z_tw_o q2995 q2997 qs66 ⟨_, _, _, _, zk_X3_checked⟩ zy_X3_checked zl_X3_checked dX3_denialDetail_13 : z_Site M _ _ _ _ _ ([.int (nI 0)].reverse ++ .ref t :: []) [] _) zk_X3_checked q104 hrm (m_X3_checked false ht) (by omega) (by decide) (Nat.le_of_ble_eq_true rfl) (by omega) (by omega) ?_
    refine z_ifb_le (tgt := 23) hb dX3_denialDetail_16 (by decide) (fun c_16 => ?_) (fun c_16 => ?_)
    · exact absurd c_16 (by decide)
    · refine z_iconst (x := nI 0) hb dX3_denialDetail_19 (by decide) ?_
      refine z_goto (tgt := 27) hb dX3_denialDetail_20 (by decide) ?_
      refine z_iret hb hr dX3_denialDetail_27 ?_
      rw [hQ]
      exact ⟨rfl, rfl, rfl⟩
  · exact absurd h0 c_5

set_option maxHeartbeats 1000000 in
theorem m_X3_denialDetail_ok {l : Launch} {G : zG} {h : zH} {n : Nat} {t : Nat} {w0 : Nat → Int32} {w1 : Nat → Int32} {w2 : Nat → Int32} {w3 : Nat → Int32} {w4 : Nat → Int32} {w5 : Nat → Int64} {w6 : Nat → Int64} {w7 : Nat → Int64} {w8 : Nat → Int64} {w9 : Nat → Int64} {w10 : Nat → Int64} {w11 : Nat → Int64} {w12 : Int32} {w13 : Int32} {w14 : Int32} {w15 : Int32} {w16 : Int32} {w17 : Int32} {w18 : Bool} {w19 : Nat → Int32} {w20 : Int32} {w21 : Nat → Int32} {w22 : Nat → Int32} {w23 : Nat → Int32} {w24 : Int32} {w25 : Int32} {w26 : Int32} {w27 : Int32} {w28 : Bool}   (ht : z_n0 G ≤ t) (h0 : ¬w15 ≤ 0) : z_C l G yX3_denialDetail 2 0 0 [.ref t] (z_tw G t w0 w1 w2 w3 w4 w5 w6 w7 w8 w9 w10 w11 w12 w13 w14 w15 w16 w17 w18 w19 w20 w21 w22 w23 w24 w25 w26 w27 w28 h) n (z_rv (.int w16) (z_tw G t w0 w1 w2 w3 w4 w5 w6 w7 w8 w9 w10 w11 (nI 0) w13 w14 w15 w16 w17 w18 w19 w20 w21 w22 w23 w24 w25 w26 w27 w28 h) n) := by
  refine z_start zk_X3_denialDetail zpl_RX3 (Nat.le_of_ble_eq_true rfl) ?_
  intro hn0 M hl hG ho hb hN hr hm hH hrm hQ
  subst hl hG
  have ho : zm_o M = RX3 := ho
  show z_V M (z_tw (zm_G M) t w0 w1 w2 w3 w4 w5 w6 w7 w8 w9 w10 w11 w12 w13 w14 w15 w16 w17 w18 w19 w20 w21 w22 w23 w24 w25 w26 w27 w28 h) n 0 0 0 [(0, .ref t)] []
  refine z_aload_n hb dX3_denialDetail_0 rfl ?_
  refine z_aload_n hb dX3_denialDetail_1 rfl ?_
  refine z_get (k := 15) (C := RX3) (T := TX3) (N := 29) hb ho zc2 in_X3 (zf_RX3_57 _) dX3_denialDetail_2 z_tw_o (by decide) rfl ?_
  refine z_if_le (tgt := 12) hb dX3_denialDetail_5 (by decide) (fun c_5 => ?_) (fun c_5 => ?_)
  · exact absurd c_5 h0
  · refine z_iconst (x := nI 1) hb dX3_denialDetail_8 (by decide) ?_
    refine z_goto (tgt := 13) hb dX3_denialDetail_9 (by decide) ?_
    refine z_call1 (b' := 0) (f' := 0) (rest := []) (av := [.ref t, .int (nI 1)]) (z_siteV hb ho zc2 z_tw_o q2995 q2997 qs66 ⟨_, _, _, _, zk_X3_checked⟩ zy_X3_checked zl_X3_checked dX3_denialDetail_13 : z_Site M _ _ _ _ _ ([.int (nI 1)].reverse ++ .ref t :: []) [] _) zk_X3_checked q104 hrm (m_X3_checked true ht) (by omega) (by decide) (Nat.le_of_ble_eq_true rfl) (by omega) (by omega) ?_
    refine z_ifb_le (tgt := 23) hb dX3_denialDetail_16 (by decide) (fun c_16 => ?_) (fun c_16 => ?_)
    · refine z_aload_n hb dX3_denialDetail_23 rfl ?_
      refine z_get (k := 16) (C := RX3) (T := TX3) (N := 29) hb ho zc2 in_X3 (zf_RX3_60 _) dX3_denialDetail_24 z_tw_o (by decide) rfl ?_
      refine z_iret hb hr dX3_denialDetail_27 ?_
      rw [hQ]
      exact ⟨rfl, rfl, rfl⟩
    · exact absurd c_16 (by decide)

set_option maxHeartbeats 1000000 in
theorem m_X3_denialCause_no {l : Launch} {G : zG} {h : zH} {n : Nat} {t : Nat} {w0 : Nat → Int32} {w1 : Nat → Int32} {w2 : Nat → Int32} {w3 : Nat → Int32} {w4 : Nat → Int32} {w5 : Nat → Int64} {w6 : Nat → Int64} {w7 : Nat → Int64} {w8 : Nat → Int64} {w9 : Nat → Int64} {w10 : Nat → Int64} {w11 : Nat → Int64} {w12 : Int32} {w13 : Int32} {w14 : Int32} {w15 : Int32} {w16 : Int32} {w17 : Int32} {w18 : Bool} {w19 : Nat → Int32} {w20 : Int32} {w21 : Nat → Int32} {w22 : Nat → Int32} {w23 : Nat → Int32} {w24 : Int32} {w25 : Int32} {w26 : Int32} {w27 : Int32} {w28 : Bool}   (ht : z_n0 G ≤ t) (h0 : w17 ≤ 0) : z_C l G yX3_denialCause 2 0 0 [.ref t] (z_tw G t w0 w1 w2 w3 w4 w5 w6 w7 w8 w9 w10 w11 w12 w13 w14 w15 w16 w17 w18 w19 w20 w21 w22 w23 w24 w25 w26 w27 w28 h) n (z_rv (.int (nI 0)) (z_tw G t w0 w1 w2 w3 w4 w5 w6 w7 w8 w9 w10 w11 (nI 1) w13 w14 w15 w16 w17 w18 w19 w20 w21 w22 w23 w24 w25 w26 w27 w28 h) n) := by
  refine z_start zk_X3_denialCause zpl_RX3 (Nat.le_of_ble_eq_true rfl) ?_
  intro hn0 M hl hG ho hb hN hr hm hH hrm hQ
  subst hl hG
  have ho : zm_o M = RX3 := ho
  show z_V M (z_tw (zm_G M) t w0 w1 w2 w3 w4 w5 w6 w7 w8 w9 w10 w11 w12 w13 w14 w15 w16 w17 w18 w19 w20 w21 w22 w23 w24 w25 w26 w27 w28 h) n 0 0 0 [(0, .ref t)] []
  refine z_aload_n hb dX3_denialCause_0 rfl ?_
  refine z_aload_n hb dX3_denialCause_1 rfl ?_
  refine z_get (k := 17) (C := RX3) (T := TX3) (N := 29) hb ho zc2 in_X3 (zf_RX3_63 _) dX3_denialCause_2 z_tw_o (by decide) rfl ?_
  refine z_if_le (tgt := 12) hb dX3_denialCause_5 (by decide) (fun c_5 => ?_) (fun c_5 => ?_)
  · refine z_iconst (x := nI 0) hb dX3_denialCause_12 (by decide) ?_
    refine z_call1 (b' := 0) (f' := 0) (rest := []) (av := [.ref t, .int (nI 0)]) (z_siteV hb ho zc2 z_tw_o q2995 q2997 qs66 ⟨_, _, _, _, zk_X3_checked⟩ zy_X3_checked zl_X3_checked dX3_denialCause_13 : z_Site M _ _ _ _ _ ([.int (nI 0)].reverse ++ .ref t :: []) [] _) zk_X3_checked q104 hrm (m_X3_checked false ht) (by omega) (by decide) (Nat.le_of_ble_eq_true rfl) (by omega) (by omega) ?_
    refine z_ifb_le (tgt := 23) hb dX3_denialCause_16 (by decide) (fun c_16 => ?_) (fun c_16 => ?_)
    · exact absurd c_16 (by decide)
    · refine z_iconst (x := nI 0) hb dX3_denialCause_19 (by decide) ?_
      refine z_goto (tgt := 27) hb dX3_denialCause_20 (by decide) ?_
      refine z_iret hb hr dX3_denialCause_27 ?_
      rw [hQ]
      exact ⟨rfl, rfl, rfl⟩
  · exact absurd h0 c_5

set_option maxHeartbeats 1000000 in
theorem m_X3_denialCause_ok {l : Launch} {G : zG} {h : zH} {n : Nat} {t : Nat} {w0 : Nat → Int32} {w1 : Nat → Int32} {w2 : Nat → Int32} {w3 : Nat → Int32} {w4 : Nat → Int32} {w5 : Nat → Int64} {w6 : Nat → Int64} {w7 : Nat → Int64} {w8 : Nat → Int64} {w9 : Nat → Int64} {w10 : Nat → Int64} {w11 : Nat → Int64} {w12 : Int32} {w13 : Int32} {w14 : Int32} {w15 : Int32} {w16 : Int32} {w17 : Int32} {w18 : Bool} {w19 : Nat → Int32} {w20 : Int32} {w21 : Nat → Int32} {w22 : Nat → Int32} {w23 : Nat → Int32} {w24 : Int32} {w25 : Int32} {w26 : Int32} {w27 : Int32} {w28 : Bool}   (ht : z_n0 G ≤ t) (h0 : ¬w17 ≤ 0) : z_C l G yX3_denialCause 2 0 0 [.ref t] (z_tw G t w0 w1 w2 w3 w4 w5 w6 w7 w8 w9 w10 w11 w12 w13 w14 w15 w16 w17 w18 w19 w20 w21 w22 w23 w24 w25 w26 w27 w28 h) n (z_rv (.int w17) (z_tw G t w0 w1 w2 w3 w4 w5 w6 w7 w8 w9 w10 w11 (nI 0) w13 w14 w15 w16 w17 w18 w19 w20 w21 w22 w23 w24 w25 w26 w27 w28 h) n) := by
  refine z_start zk_X3_denialCause zpl_RX3 (Nat.le_of_ble_eq_true rfl) ?_
  intro hn0 M hl hG ho hb hN hr hm hH hrm hQ
  subst hl hG
  have ho : zm_o M = RX3 := ho
  show z_V M (z_tw (zm_G M) t w0 w1 w2 w3 w4 w5 w6 w7 w8 w9 w10 w11 w12 w13 w14 w15 w16 w17 w18 w19 w20 w21 w22 w23 w24 w25 w26 w27 w28 h) n 0 0 0 [(0, .ref t)] []
  refine z_aload_n hb dX3_denialCause_0 rfl ?_
  refine z_aload_n hb dX3_denialCause_1 rfl ?_
  refine z_get (k := 17) (C := RX3) (T := TX3) (N := 29) hb ho zc2 in_X3 (zf_RX3_63 _) dX3_denialCause_2 z_tw_o (by decide) rfl ?_
  refine z_if_le (tgt := 12) hb dX3_denialCause_5 (by decide) (fun c_5 => ?_) (fun c_5 => ?_)
  · exact absurd c_5 h0
  · refine z_iconst (x := nI 1) hb dX3_denialCause_8 (by decide) ?_
    refine z_goto (tgt := 13) hb dX3_denialCause_9 (by decide) ?_
    refine z_call1 (b' := 0) (f' := 0) (rest := []) (av := [.ref t, .int (nI 1)]) (z_siteV hb ho zc2 z_tw_o q2995 q2997 qs66 ⟨_, _, _, _, zk_X3_checked⟩ zy_X3_checked zl_X3_checked dX3_denialCause_13 : z_Site M _ _ _ _ _ ([.int (nI 1)].reverse ++ .ref t :: []) [] _) zk_X3_checked q104 hrm (m_X3_checked true ht) (by omega) (by decide) (Nat.le_of_ble_eq_true rfl) (by omega) (by omega) ?_
    refine z_ifb_le (tgt := 23) hb dX3_denialCause_16 (by decide) (fun c_16 => ?_) (fun c_16 => ?_)
    · refine z_aload_n hb dX3_denialCause_23 rfl ?_
      refine z_get (k := 17) (C := RX3) (T := TX3) (N := 29) hb ho zc2 in_X3 (zf_RX3_63 _) dX3_denialCause_24 z_tw_o (by decide) rfl ?_
      refine z_iret hb hr dX3_denialCause_27 ?_
      rw [hQ]
      exact ⟨rfl, rfl, rfl⟩
    · exact absurd c_16 (by decide)

