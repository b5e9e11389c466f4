def tw_lr1 (w0 v : Nat → Int32) (k : Nat) : Int32 := if tw_base w0 k then nI 0 else ((nI 1 <<< (nI (tw_f w0 k) &&& 31) ||| nI 1 <<< (nI (tw_s w0 k) &&& 31)) ||| v (tw_f w0 k)) ||| v (tw_s w0 k)
def tw_lr (w0 v : Nat → Int32) : Nat → (Nat → Int32)
  | 0 => v
  | k + 1 => va_up (tw_lr w0 v k) k (tw_lr1 w0 (tw_lr w0 v k) k)
def tw_lv1 (w0 v : Nat → Int32) (k : Nat) : Int32 := if tw_base w0 k then nI 0 else if v (tw_s w0 k) < v (tw_f w0 k) then v (tw_f w0 k) + nI 1 else v (tw_s w0 k) + nI 1
def tw_lv (w0 v : Nat → Int32) : Nat → (Nat → Int32)
  | 0 => v
  | k + 1 => va_up (tw_lv w0 v k) k (tw_lv1 w0 (tw_lv w0 v k) k)
def tw_la2 (w0 : Nat → Int32) (R k : Nat) (f : Nat → Int64) : Nat → (Nat → Int64)
  | 0 => f
  | d + 1 => tw_comp w0 R k d (tw_la2 w0 R k f d) 5
def tw_la (w0 : Nat → Int32) (R D : Nat) (f : Nat → Int64) : Nat → (Nat → Int64)
  | 0 => f
  | k + 1 => tw_la2 w0 R k (tw_la w0 R D f k) (D + 1)
def tw_tot (f : Nat → Int64) (k d : Nat) : Nat → Int64
  | 0 => 0
  | g + 1 => tw_tot f k d g + f (5 * (7 * k + d) + g)
def tw_sc1 (w0 : Nat → Int32) (k : Nat) : Nat → Nat
  | 0 => 0
  | d + 1 => tw_sc1 w0 k d + (tw_st w0 k d).toNat
def tw_sc (w0 : Nat → Int32) (D : Nat) : Nat → Nat
  | 0 => 0
  | k + 1 => tw_sc w0 D k + tw_sc1 w0 k (D + 1)
def tw_wr1 (f u : Nat → Int64) (k d : Nat) : Nat → Nat
  | 0 => 0
  | g + 1 => tw_wr1 f u k d g + (!decide (f (5 * (7 * k + d) + g) = u (5 * (7 * k + d) + g))).toNat
def tw_wr2 (f u : Nat → Int64) (k : Nat) : Nat → Nat
  | 0 => 0
  | d + 1 => tw_wr2 f u k d + tw_wr1 f u k d 5
def tw_wr (f u : Nat → Int64) (D : Nat) : Nat → Nat
  | 0 => 0
  | k + 1 => tw_wr f u D k + tw_wr2 f u k (D + 1)

set_option maxHeartbeats 1000000 in
theorem m_X3_layReached {l : Launch} {G : zG} {h : zH} {n : Nat} {t : Nat} {w0 : Nat → Int32} {w1 : Nat → Int32} {w2 : Nat → Int32} {w3 : Nat → Int32} {w4 : Nat → Int32} {w5 : Nat → Int64} {w6 : Nat → Int64} {w7 : Nat → Int64} {w8 : Nat → Int64} {w9 : Nat → Int64} {w10 : Nat → Int64} {w11 : Nat → Int64} {w12 : Int32} {w13 : Int32} {w14 : Int32} {w15 : Int32} {w16 : Int32} {w17 : Int32} {w18 : Bool} {w19 : Nat → Int32} {w20 : Int32} {w21 : Nat → Int32} {w22 : Nat → Int32} {w23 : Nat → Int32} {w24 : Int32} {w25 : Int32} {w26 : Int32} {w27 : Int32} {w28 : Bool} {R S D : Nat}   (ht : z_n0 G ≤ t) (hw : z_ok w0 R S D) : z_C l G yX3_layReached 3 0 0 [.ref t] (z_tw G t w0 w1 w2 w3 w4 w5 w6 w7 w8 w9 w10 w11 w12 w13 w14 w15 w16 w17 w18 w19 w20 w21 w22 w23 w24 w25 w26 w27 w28 h) n (z_r0 (z_tw G t w0 w1 w2 w3 (tw_lr w0 w4 S) w5 w6 w7 w8 w9 w10 w11 w12 w13 w14 w15 w16 w17 w18 w19 w20 w21 w22 w23 w24 w25 w26 w27 w28 h) n) := by
  refine z_start zk_X3_layReached zpl_RX3 (Nat.le_of_ble_eq_true rfl) ?_
  intro hn0 M hl hG ho hb hN hr hm hH hrm hQ
  subst hl hG
  have ho : zm_o M = RX3 := ho
  obtain ⟨hR, hR4, hS, hS8, hD, hD6, hF⟩ := id hw
  show z_V M (z_tw (zm_G M) t w0 w1 w2 w3 w4 w5 w6 w7 w8 w9 w10 w11 w12 w13 w14 w15 w16 w17 w18 w19 w20 w21 w22 w23 w24 w25 w26 w27 w28 h) n 0 0 0 [(0, .ref t)] []
  refine z_iconst (x := nI 0) hb dX3_layReached_0 (by decide) ?_
  refine z_istore_n (lv' := [(1, .int (nI 0)), (0, .ref t)]) hb dX3_layReached_1 (by rw [hN]; decide) rfl ?_
  have lp_2 : ∀ (k9_2 : Nat) (k : Nat) (v : Nat → Int32), S - k < k9_2 → (k ≤ S) → (v = tw_lr w0 w4 k) → z_V M (z_tw (zm_G M) t w0 w1 w2 w3 v w5 w6 w7 w8 w9 w10 w11 w12 w13 w14 w15 w16 w17 w18 w19 w20 w21 w22 w23 w24 w25 w26 w27 w28 h) n 0 0 2 [(1, .int (nI k)), (0, .ref t)] [] := by
    intro k9_2
    induction k9_2 with
    | zero => intro k v hk9_2; exact absurd hk9_2 (Nat.not_lt_zero _)
    | succ k9_2 ih_2 =>
      intro k v hk9_2 hk hv
      refine z_iload_n hb dX3_layReached_2 rfl ?_
      refine z_aload_n hb dX3_layReached_3 rfl ?_
      refine z_get (k := 0) (C := RX3) (T := TX3) (N := 29) hb ho zc2 in_X3 (zf_RX3_7 _) dX3_layReached_4 z_tw_o (by decide) rfl ?_
      refine z_iconst (x := nI 3) hb dX3_layReached_7 (by decide) ?_
      refine z_iald (j := 3) hb dX3_layReached_8 z_tw_r0 rfl (by omega) (by omega) ?_
      refine z_toI (y := nI S) hS ?_
      refine z_icmp_geN (tgt := 77) hb dX3_layReached_9 (by decide) (by omega) (by omega) (fun c_9 => ?_) (fun c_9 => ?_)
      · refine z_vret hb hr dX3_layReached_77 ?_
        rw [hQ]
        rw [hv, show k = S by omega]; exact ⟨rfl, rfl, rfl⟩
      · obtain ⟨hF1, hF2, hF3, hF4⟩ := hF k (by omega)
        refine z_aload_n hb dX3_layReached_12 rfl ?_
        refine z_get (k := 4) (C := RX3) (T := TX3) (N := 29) hb ho zc2 in_X3 (zf_RX3_22 _) dX3_layReached_13 z_tw_o (by decide) rfl ?_
        refine z_iload_n hb dX3_layReached_16 rfl ?_
        refine z_aload_n hb dX3_layReached_17 rfl ?_
        refine z_iload_n hb dX3_layReached_18 rfl ?_
        refine z_call1 (b' := 0) (f' := 0) (rest := [.int (nI k), .ref (t + 5)]) (av := [.ref t, .int (nI k)]) (z_siteV hb ho zc2 z_tw_o q2843 q2845 qs39 ⟨_, _, _, _, zk_X3_isBase⟩ zy_X3_isBase zl_X3_isBase dX3_layReached_19 : z_Site M _ _ _ _ _ ([.int (nI k)].reverse ++ .ref t :: [.int (nI k), .ref (t + 5)]) [.int (nI k), .ref (t + 5)] _) zk_X3_isBase q104 hrm (m_X3_isBase k ht (by omega)) (by omega) (by decide) (Nat.le_of_ble_eq_true rfl) (by omega) (by omega) ?_
        refine z_ifb_eq (tgt := 29) hb dX3_layReached_22 (by decide) (fun c_22 => ?_) (fun c_22 => ?_)
        · refine z_iconst (x := nI 1) hb dX3_layReached_29 (by decide) ?_
          refine z_aload_n hb dX3_layReached_30 rfl ?_
          refine z_iload_n hb dX3_layReached_31 rfl ?_
          refine z_iconst (x := nI 2) hb dX3_layReached_32 (by decide) ?_
          refine z_call1 (b' := 0) (f' := 0) (rest := [.int (nI 1), .int (nI k), .ref (t + 5)]) (av := [.ref t, .int (nI k), .int (nI 2)]) (z_siteV hb ho zc2 z_tw_o q2847 q2849 qs40 ⟨_, _, _, _, zk_X3_s⟩ zy_X3_s zl_X3_s dX3_layReached_33 : z_Site M _ _ _ _ _ ([.int (nI k), .int (nI 2)].reverse ++ .ref t :: [.int (nI 1), .int (nI k), .ref (t + 5)]) [.int (nI 1), .int (nI k), .ref (t + 5)] _) zk_X3_s q104 hrm (m_X3_s k 2 ht (by omega)) (by omega) (by decide) (Nat.le_of_ble_eq_true rfl) (by omega) (by omega) ?_
          refine z_toI (y := nI (tw_f w0 k)) (hF k (by omega)).1 ?_
          refine z_ishl hb dX3_layReached_36 ?_
          refine z_iconst (x := nI 1) hb dX3_layReached_37 (by decide) ?_
          refine z_aload_n hb dX3_layReached_38 rfl ?_
          refine z_iload_n hb dX3_layReached_39 rfl ?_
          refine z_iconst (x := nI 3) hb dX3_layReached_40 (by decide) ?_
          refine z_call1 (b' := 0) (f' := 0) (rest := [.int (nI 1), .int ((nI 1) <<< ((nI (tw_f w0 k)) &&& 31)), .int (nI k), .ref (t + 5)]) (av := [.ref t, .int (nI k), .int (nI 3)]) (z_siteV hb ho zc2 z_tw_o q2847 q2849 qs40 ⟨_, _, _, _, zk_X3_s⟩ zy_X3_s zl_X3_s dX3_layReached_41 : z_Site M _ _ _ _ _ ([.int (nI k), .int (nI 3)].reverse ++ .ref t :: [.int (nI 1), .int ((nI 1) <<< ((nI (tw_f w0 k)) &&& 31)), .int (nI k), .ref (t + 5)]) [.int (nI 1), .int ((nI 1) <<< ((nI (tw_f w0 k)) &&& 31)), .int (nI k), .ref (t + 5)] _) zk_X3_s q104 hrm (m_X3_s k 3 ht (by omega)) (by omega) (by decide) (Nat.le_of_ble_eq_true rfl) (by omega) (by omega) ?_
          refine z_toI (y := nI (tw_s w0 k)) (hF k (by omega)).2.2.1 ?_
          refine z_ishl hb dX3_layReached_44 ?_
          refine z_ior hb dX3_layReached_45 ?_
          refine z_aload_n hb dX3_layReached_46 rfl ?_
          refine z_get (k := 4) (C := RX3) (T := TX3) (N := 29) hb ho zc2 in_X3 (zf_RX3_22 _) dX3_layReached_47 z_tw_o (by decide) rfl ?_
          refine z_aload_n hb dX3_layReached_50 rfl ?_
          refine z_iload_n hb dX3_layReached_51 rfl ?_
          refine z_iconst (x := nI 2) hb dX3_layReached_52 (by decide) ?_
          refine z_call1 (b' := 0) (f' := 0) (rest := [.ref (t + 5), .int (((nI 1) <<< ((nI (tw_f w0 k)) &&& 31)) ||| ((nI 1) <<< ((nI (tw_s w0 k)) &&& 31))), .int (nI k), .ref (t + 5)]) (av := [.ref t, .int (nI k), .int (nI 2)]) (z_siteV hb ho zc2 z_tw_o q2847 q2849 qs40 ⟨_, _, _, _, zk_X3_s⟩ zy_X3_s zl_X3_s dX3_layReached_53 : z_Site M _ _ _ _ _ ([.int (nI k), .int (nI 2)].reverse ++ .ref t :: [.ref (t + 5), .int (((nI 1) <<< ((nI (tw_f w0 k)) &&& 31)) ||| ((nI 1) <<< ((nI (tw_s w0 k)) &&& 31))), .int (nI k), .ref (t + 5)]) [.ref (t + 5), .int (((nI 1) <<< ((nI (tw_f w0 k)) &&& 31)) ||| ((nI 1) <<< ((nI (tw_s w0 k)) &&& 31))), .int (nI k), .ref (t + 5)] _) zk_X3_s q104 hrm (m_X3_s k 2 ht (by omega)) (by omega) (by decide) (Nat.le_of_ble_eq_true rfl) (by omega) (by omega) ?_
          refine z_toI (y := nI (tw_f w0 k)) (hF k (by omega)).1 ?_
          refine z_iald (j := tw_f w0 k) hb dX3_layReached_56 z_tw_r4 rfl (by omega) (by omega) ?_
          refine z_ior hb dX3_layReached_57 ?_
          refine z_aload_n hb dX3_layReached_58 rfl ?_
          refine z_get (k := 4) (C := RX3) (T := TX3) (N := 29) hb ho zc2 in_X3 (zf_RX3_22 _) dX3_layReached_59 z_tw_o (by decide) rfl ?_
          refine z_aload_n hb dX3_layReached_62 rfl ?_
          refine z_iload_n hb dX3_layReached_63 rfl ?_
          refine z_iconst (x := nI 3) hb dX3_layReached_64 (by decide) ?_
          refine z_call1 (b' := 0) (f' := 0) (rest := [.ref (t + 5), .int ((((nI 1) <<< ((nI (tw_f w0 k)) &&& 31)) ||| ((nI 1) <<< ((nI (tw_s w0 k)) &&& 31))) ||| (v (tw_f w0 k))), .int (nI k), .ref (t + 5)]) (av := [.ref t, .int (nI k), .int (nI 3)]) (z_siteV hb ho zc2 z_tw_o q2847 q2849 qs40 ⟨_, _, _, _, zk_X3_s⟩ zy_X3_s zl_X3_s dX3_layReached_65 : z_Site M _ _ _ _ _ ([.int (nI k), .int (nI 3)].reverse ++ .ref t :: [.ref (t + 5), .int ((((nI 1) <<< ((nI (tw_f w0 k)) &&& 31)) ||| ((nI 1) <<< ((nI (tw_s w0 k)) &&& 31))) ||| (v (tw_f w0 k))), .int (nI k), .ref (t + 5)]) [.ref (t + 5), .int ((((nI 1) <<< ((nI (tw_f w0 k)) &&& 31)) ||| ((nI 1) <<< ((nI (tw_s w0 k)) &&& 31))) ||| (v (tw_f w0 k))), .int (nI k), .ref (t + 5)] _) zk_X3_s q104 hrm (m_X3_s k 3 ht (by omega)) (by omega) (by decide) (Nat.le_of_ble_eq_true rfl) (by omega) (by omega) ?_
          refine z_toI (y := nI (tw_s w0 k)) (hF k (by omega)).2.2.1 ?_
          refine z_iald (j := tw_s w0 k) hb dX3_layReached_68 z_tw_r4 rfl (by omega) (by omega) ?_
          refine z_ior hb dX3_layReached_69 ?_
          refine z_iast (j := k) hb dX3_layReached_70 z_tw_r4 (by omega) rfl (by omega) (by omega) ?_
          refine z_hh z_tw_u4 ?_
          refine z_iinc (k0 := 0) (lv' := [(1, .int (nI (k + 1))), (0, .ref t)]) hb dX3_layReached_71 rfl (nI_1 k) (by rw [hN]; decide) rfl ?_
          refine z_goto (tgt := 2) hb dX3_layReached_74 (by decide) ?_
          refine z_lv [0, 1] (lv' := [(1, .int (nI (k + 1))), (0, .ref t)]) rfl ?_
          exact ih_2 (k + 1) _ (by omega) (by omega) (by rw [hv]; rw [tw_lr, tw_lr1, if_neg (by simp [c_22])])
        · refine z_iconst (x := nI 0) hb dX3_layReached_25 (by decide) ?_
          refine z_goto (tgt := 70) hb dX3_layReached_26 (by decide) ?_
          refine z_iast (j := k) hb dX3_layReached_70 z_tw_r4 (by omega) rfl (by omega) (by omega) ?_
          refine z_hh z_tw_u4 ?_
          refine z_iinc (k0 := 0) (lv' := [(1, .int (nI (k + 1))), (0, .ref t)]) hb dX3_layReached_71 rfl (nI_1 k) (by rw [hN]; decide) rfl ?_
          refine z_goto (tgt := 2) hb dX3_layReached_74 (by decide) ?_
          refine z_lv [0, 1] (lv' := [(1, .int (nI (k + 1))), (0, .ref t)]) rfl ?_
          exact ih_2 (k + 1) _ (by omega) (by omega) (by rw [hv]; rw [tw_lr, tw_lr1, if_pos c_22])
  refine z_lv [0, 1] (lv' := [(1, .int (nI 0)), (0, .ref t)]) rfl ?_
  exact lp_2 _ 0 _ (Nat.lt_succ_self _) (Nat.zero_le _) rfl

set_option maxHeartbeats 1000000 in
theorem m_X3_dependsOn_no {l : Launch} {G : zG} {h : zH} {n : Nat} {t : Nat} {w0 : Nat → Int32} {w1 : Nat → Int32} {w2 : Nat → Int32} {w3 : Nat → Int32} {w4 : Nat → Int32} {w5 : Nat → Int64} {w6 : Nat → Int64} {w7 : Nat → Int64} {w8 : Nat → Int64} {w9 : Nat → Int64} {w10 : Nat → Int64} {w11 : Nat → Int64} {w12 : Int32} {w13 : Int32} {w14 : Int32} {w15 : Int32} {w16 : Int32} {w17 : Int32} {w18 : Bool} {w19 : Nat → Int32} {w20 : Int32} {w21 : Nat → Int32} {w22 : Nat → Int32} {w23 : Nat → Int32} {w24 : Int32} {w25 : Int32} {w26 : Int32} {w27 : Int32} {w28 : Bool} {R S D : Nat} {x y : Int32}  (ht : z_n0 G ≤ t) (hw : z_ok w0 R S D) (hx : (tw_isS S x && tw_isS S y) = false) : z_C l G yX3_dependsOn 4 0 0 [.ref t, .int x, .int y] (z_tw G t w0 w1 w2 w3 w4 w5 w6 w7 w8 w9 w10 w11 w12 w13 w14 w15 w16 w17 w18 w19 w20 w21 w22 w23 w24 w25 w26 w27 w28 h) n (z_rv (.int (z_b false)) (z_tw G t w0 w1 w2 w3 w4 w5 w6 w7 w8 w9 w10 w11 (nI 1) w13 w14 w15 w16 w17 w18 w19 w20 w21 w22 w23 w24 w25 w26 w27 w28 h) n) := by
  refine z_start zk_X3_dependsOn zpl_RX3 (Nat.le_of_ble_eq_true rfl) ?_
  intro hn0 M hl hG ho hb hN hr hm hH hrm hQ
  subst hl hG
  have ho : zm_o M = RX3 := ho
  obtain ⟨hR, hR4, hS, hS8, hD, hD6, hF⟩ := id hw
  unfold tw_isS at hx
  show z_V M (z_tw (zm_G M) t w0 w1 w2 w3 w4 w5 w6 w7 w8 w9 w10 w11 w12 w13 w14 w15 w16 w17 w18 w19 w20 w21 w22 w23 w24 w25 w26 w27 w28 h) n 0 0 0 [(0, .ref t), (1, .int x), (2, .int y)] []
  refine z_aload_n hb dX3_dependsOn_0 rfl ?_
  refine z_aload_n hb dX3_dependsOn_1 rfl ?_
  refine z_iload_n hb dX3_dependsOn_2 rfl ?_
  refine z_call1 (b' := 0) (f' := 0) (rest := [.ref t]) (av := [.ref t, .int x]) (z_siteV hb ho zc2 z_tw_o q2927 q2929 qs56 ⟨_, _, _, _, zk_X3_isStep⟩ zy_X3_isStep zl_X3_isStep dX3_dependsOn_3 : z_Site M _ _ _ _ _ ([.int x].reverse ++ .ref t :: [.ref t]) [.ref t] _) zk_X3_isStep q104 hrm (m_X3_isStep x ht hw) (by omega) (by decide) (Nat.le_of_ble_eq_true rfl) (by omega) (by omega) ?_
  refine z_ifb_eq (tgt := 21) hb dX3_dependsOn_6 (by decide) (fun c_6 => ?_) (fun c_6 => ?_)
  · refine z_iconst (x := nI 0) hb dX3_dependsOn_21 (by decide) ?_
    refine z_call1 (b' := 0) (f' := 0) (rest := []) (av := [.ref t, .int (nI 0)]) (z_siteV hb ho zc2 z_tw_o q2995 q2997 qs66 ⟨_, _, _, _, zk_X3_checked⟩ zy_X3_checked zl_X3_checked dX3_dependsOn_22 : z_Site M _ _ _ _ _ ([.int (nI 0)].reverse ++ .ref t :: []) [] _) zk_X3_checked q104 hrm (m_X3_checked false ht) (by omega) (by decide) (Nat.le_of_ble_eq_true rfl) (by omega) (by omega) ?_
    refine z_ifb_le (tgt := 30) hb dX3_dependsOn_25 (by decide) (fun c_25 => ?_) (fun c_25 => ?_)
    · exact absurd c_25 (by decide)
    · refine z_iconst (x := nI 0) hb dX3_dependsOn_28 (by decide) ?_
      refine z_zret hb hr rfl dX3_dependsOn_29 ?_
      rw [hQ]
      exact ⟨rfl, rfl, rfl⟩
  · refine z_aload_n hb dX3_dependsOn_9 rfl ?_
    refine z_iload_n hb dX3_dependsOn_10 rfl ?_
    refine z_call1 (b' := 0) (f' := 0) (rest := [.ref t]) (av := [.ref t, .int y]) (z_siteV hb ho zc2 z_tw_o q2927 q2929 qs56 ⟨_, _, _, _, zk_X3_isStep⟩ zy_X3_isStep zl_X3_isStep dX3_dependsOn_11 : z_Site M _ _ _ _ _ ([.int y].reverse ++ .ref t :: [.ref t]) [.ref t] _) zk_X3_isStep q104 hrm (m_X3_isStep y ht hw) (by omega) (by decide) (Nat.le_of_ble_eq_true rfl) (by omega) (by omega) ?_
    refine z_ifb_eq (tgt := 21) hb dX3_dependsOn_14 (by decide) (fun c_14 => ?_) (fun c_14 => ?_)
    · refine z_iconst (x := nI 0) hb dX3_dependsOn_21 (by decide) ?_
      refine z_call1 (b' := 0) (f' := 0) (rest := []) (av := [.ref t, .int (nI 0)]) (z_siteV hb ho zc2 z_tw_o q2995 q2997 qs66 ⟨_, _, _, _, zk_X3_checked⟩ zy_X3_checked zl_X3_checked dX3_dependsOn_22 : z_Site M _ _ _ _ _ ([.int (nI 0)].reverse ++ .ref t :: []) [] _) zk_X3_checked q104 hrm (m_X3_checked false ht) (by omega) (by decide) (Nat.le_of_ble_eq_true rfl) (by omega) (by omega) ?_
      refine z_ifb_le (tgt := 30) hb dX3_dependsOn_25 (by decide) (fun c_25 => ?_) (fun c_25 => ?_)
      · exact absurd c_25 (by decide)
      · refine z_iconst (x := nI 0) hb dX3_dependsOn_28 (by decide) ?_
        refine z_zret hb hr rfl dX3_dependsOn_29 ?_
        rw [hQ]
        exact ⟨rfl, rfl, rfl⟩
    · exact absurd hx (by simp [c_6, c_14])

set_option maxHeartbeats 1000000 in
theorem m_X3_dependsOn_ok {l : Launch} {G : zG} {h : zH} {n : Nat} {t : Nat} {w0 : Nat → Int32} {w1 : Nat → Int32} {w2 : Nat → Int32} {w3 : Nat → Int32} {w4 : Nat → Int32} {w5 : Nat → Int64} {w6 : Nat → Int64} {w7 : Nat → Int64} {w8 : Nat → Int64} {w9 : Nat → Int64} {w10 : Nat → Int64} {w11 : Nat → Int64} {w12 : Int32} {w13 : Int32} {w14 : Int32} {w15 : Int32} {w16 : Int32} {w17 : Int32} {w18 : Bool} {w19 : Nat → Int32} {w20 : Int32} {w21 : Nat → Int32} {w22 : Nat → Int32} {w23 : Nat → Int32} {w24 : Int32} {w25 : Int32} {w26 : Int32} {w27 : Int32} {w28 : Bool} {R S D : Nat} {k o : Nat}  (ht : z_n0 G ≤ t) (hw : z_ok w0 R S D) (hkS : k < S) (hoS : o < S) : z_C l G yX3_dependsOn 4 0 0 [.ref t, .int (nI k), .int (nI o)] (z_tw G t w0 w1 w2 w3 w4 w5 w6 w7 w8 w9 w10 w11 w12 w13 w14 w15 w16 w17 w18 w19 w20 w21 w22 w23 w24 w25 w26 w27 w28 h) n (z_rv (.int (z_b (decide ((tw_lr w0 w4 S k >>> (nI o &&& 31)) &&& nI 1 = nI 1)))) (z_tw G t w0 w1 w2 w3 (tw_lr w0 w4 S) w5 w6 w7 w8 w9 w10 w11 (nI 0) w13 w14 w15 w16 w17 w18 w19 w20 w21 w22 w23 w24 w25 w26 w27 w28 h) n) := by
  refine z_start zk_X3_dependsOn zpl_RX3 (Nat.le_of_ble_eq_true rfl) ?_
  intro hn0 M hl hG ho hb hN hr hm hH hrm hQ
  subst hl hG
  have ho : zm_o M = RX3 := ho
  obtain ⟨hR, hR4, hS, hS8, hD, hD6, hF⟩ := id hw
  have hx := z_inR hkS (by omega)
  have hy := z_inR hoS (by omega)
  show z_V M (z_tw (zm_G M) t w0 w1 w2 w3 w4 w5 w6 w7 w8 w9 w10 w11 w12 w13 w14 w15 w16 w17 w18 w19 w20 w21 w22 w23 w24 w25 w26 w27 w28 h) n 0 0 0 [(0, .ref t), (1, .int (nI k)), (2, .int (nI o))] []
  refine z_aload_n hb dX3_dependsOn_0 rfl ?_
  refine z_aload_n hb dX3_dependsOn_1 rfl ?_
  refine z_iload_n hb dX3_dependsOn_2 rfl ?_
  refine z_call1 (b' := 0) (f' := 0) (rest := [.ref t]) (av := [.ref t, .int (nI k)]) (z_siteV hb ho zc2 z_tw_o q2927 q2929 qs56 ⟨_, _, _, _, zk_X3_isStep⟩ zy_X3_isStep zl_X3_isStep dX3_dependsOn_3 : z_Site M _ _ _ _ _ ([.int (nI k)].reverse ++ .ref t :: [.ref t]) [.ref t] _) zk_X3_isStep q104 hrm (m_X3_isStep (nI k) ht hw) (by omega) (by decide) (Nat.le_of_ble_eq_true rfl) (by omega) (by omega) ?_
  refine z_ifb_eq (tgt := 21) hb dX3_dependsOn_6 (by decide) (fun c_6 => ?_) (fun c_6 => ?_)
  · rw [hx] at c_6; exact absurd c_6 (by decide)
  · refine z_aload_n hb dX3_dependsOn_9 rfl ?_
    refine z_iload_n hb dX3_dependsOn_10 rfl ?_
    refine z_call1 (b' := 0) (f' := 0) (rest := [.ref t]) (av := [.ref t, .int (nI o)]) (z_siteV hb ho zc2 z_tw_o q2927 q2929 qs56 ⟨_, _, _, _, zk_X3_isStep⟩ zy_X3_isStep zl_X3_isStep dX3_dependsOn_11 : z_Site M _ _ _ _ _ ([.int (nI o)].reverse ++ .ref t :: [.ref t]) [.ref t] _) zk_X3_isStep q104 hrm (m_X3_isStep (nI o) ht hw) (by omega) (by decide) (Nat.le_of_ble_eq_true rfl) (by omega) (by omega) ?_
    refine z_ifb_eq (tgt := 21) hb dX3_dependsOn_14 (by decide) (fun c_14 => ?_) (fun c_14 => ?_)
    · rw [hy] at c_14; exact absurd c_14 (by decide)
    · refine z_iconst (x := nI 1) hb dX3_dependsOn_17 (by decide) ?_
      refine z_goto (tgt := 22) hb dX3_dependsOn_18 (by decide) ?_
      refine z_call1 (b' := 0) (f' := 0) (rest := []) (av := [.ref t, .int (nI 1)]) (z_siteV hb ho zc2 z_tw_o q2995 q2997 qs66 ⟨_, _, _, _, zk_X3_checked⟩ zy_X3_checked zl_X3_checked dX3_dependsOn_22 : z_Site M _ _ _ _ _ ([.int (nI 1)].reverse ++ .ref t :: []) [] _) zk_X3_checked q104 hrm (m_X3_checked true ht) (by omega) (by decide) (Nat.le_of_ble_eq_true rfl) (by omega) (by omega) ?_
      refine z_ifb_le (tgt := 30) hb dX3_dependsOn_25 (by decide) (fun c_25 => ?_) (fun c_25 => ?_)
      · refine z_aload_n hb dX3_dependsOn_30 rfl ?_
        refine z_call0 (b' := 0) (f' := 0) (rest := []) (av := [.ref t]) (z_siteV hb ho zc2 z_tw_o q3023 q3025 qs67 ⟨_, _, _, _, zk_X3_layReached⟩ zy_X3_layReached zl_X3_layReached dX3_dependsOn_31 : z_Site M _ _ _ _ _ ([].reverse ++ .ref t :: []) [] _) zk_X3_layReached q104 hrm (m_X3_layReached ht hw) (by omega) (by decide) (Nat.le_of_ble_eq_true rfl) (by omega) (by omega) ?_
        refine z_aload_n hb dX3_dependsOn_34 rfl ?_
        refine z_get (k := 4) (C := RX3) (T := TX3) (N := 29) hb ho zc2 in_X3 (zf_RX3_22 _) dX3_dependsOn_35 z_tw_o (by decide) rfl ?_
        refine z_iload_n hb dX3_dependsOn_38 rfl ?_
        refine z_iald (j := k) hb dX3_dependsOn_39 z_tw_r4 rfl (by omega) (by omega) ?_
        refine z_iload_n hb dX3_dependsOn_40 rfl ?_
        refine z_ishr hb dX3_dependsOn_41 ?_
        refine z_iconst (x := nI 1) hb dX3_dependsOn_42 (by decide) ?_
        refine z_iand hb dX3_dependsOn_43 ?_
        refine z_iconst (x := nI 1) hb dX3_dependsOn_44 (by decide) ?_
        refine z_icmp_ne (tgt := 52) hb dX3_dependsOn_45 (by decide) (fun c_45 => ?_) (fun c_45 => ?_)
        · refine z_iconst (x := nI 0) hb dX3_dependsOn_52 (by decide) ?_
          refine z_zret hb hr rfl dX3_dependsOn_53 ?_
          rw [hQ]
          exact z_rvb0 (by simp [c_45])
        · refine z_iconst (x := nI 1) hb dX3_dependsOn_48 (by decide) ?_
          refine z_goto (tgt := 53) hb dX3_dependsOn_49 (by decide) ?_
          refine z_zret hb hr rfl dX3_dependsOn_53 ?_
          rw [hQ]
          exact z_rvb1 (by simp [c_45])
      · exact absurd c_25 (by decide)

set_option maxHeartbeats 1000000 in
theorem m_X3_level_no {l : Launch} {G : zG} {h : zH} {n : Nat} {t : Nat} {w0 : Nat → Int32} {w1 : Nat → Int32} {w2 : Nat → Int32} {w3 : Nat → Int32} {w4 : Nat → Int32} {w5 : Nat → Int64} {w6 : Nat → Int64} {w7 : Nat → Int64} {w8 : Nat → Int64} {w9 : Nat → Int64} {w10 : Nat → Int64} {w11 : Nat → Int64} {w12 : Int32} {w13 : Int32} {w14 : Int32} {w15 : Int32} {w16 : Int32} {w17 : Int32} {w18 : Bool} {w19 : Nat → Int32} {w20 : Int32} {w21 : Nat → Int32} {w22 : Nat → Int32} {w23 : Nat → Int32} {w24 : Int32} {w25 : Int32} {w26 : Int32} {w27 : Int32} {w28 : Bool} {R S D : Nat} {x : Int32}  (ht : z_n0 G ≤ t) (hw : z_ok w0 R S D) (hx : tw_isS S x = false) : z_C l G yX3_level 3 0 0 [.ref t, .int x] (z_tw G t w0 w1 w2 w3 w4 w5 w6 w7 w8 w9 w10 w11 w12 w13 w14 w15 w16 w17 w18 w19 w20 w21 w22 w23 w24 w25 w26 w27 w28 h) n (z_rv (.int (nI 0)) (z_tw G t w0 w1 w2 w3 w4 w5 w6 w7 w8 w9 w10 w11 (nI 1) w13 w14 w15 w16 w17 w18 w19 w20 w21 w22 w23 w24 w25 w26 w27 w28 h) n) := by
  refine z_start zk_X3_level zpl_RX3 (Nat.le_of_ble_eq_true rfl) ?_
  intro hn0 M hl hG ho hb hN hr hm hH hrm hQ
  subst hl hG
  have ho : zm_o M = RX3 := ho
  obtain ⟨hR, hR4, hS, hS8, hD, hD6, hF⟩ := id hw
  unfold tw_isS at hx
  show z_V M (z_tw (zm_G M) t w0 w1 w2 w3 w4 w5 w6 w7 w8 w9 w10 w11 w12 w13 w14 w15 w16 w17 w18 w19 w20 w21 w22 w23 w24 w25 w26 w27 w28 h) n 0 0 0 [(0, .ref t), (1, .int x)] []
  refine z_aload_n hb dX3_level_0 rfl ?_
  refine z_aload_n hb dX3_level_1 rfl ?_
  refine z_iload_n hb dX3_level_2 rfl ?_
  refine z_call1 (b' := 0) (f' := 0) (rest := [.ref t]) (av := [.ref t, .int x]) (z_siteV hb ho zc2 z_tw_o q2927 q2929 qs56 ⟨_, _, _, _, zk_X3_isStep⟩ zy_X3_isStep zl_X3_isStep dX3_level_3 : z_Site M _ _ _ _ _ ([.int x].reverse ++ .ref t :: [.ref t]) [.ref t] _) zk_X3_isStep q104 hrm (m_X3_isStep x ht hw) (by omega) (by decide) (Nat.le_of_ble_eq_true rfl) (by omega) (by omega) ?_
  refine z_call1 (b' := 0) (f' := 0) (rest := []) (av := [.ref t, .int (z_b (decide (nI 0 ≤ x ∧ x ≤ nI S - nI 1)))]) (z_siteV hb ho zc2 z_tw_o q2995 q2997 qs66 ⟨_, _, _, _, zk_X3_checked⟩ zy_X3_checked zl_X3_checked dX3_level_6 : z_Site M _ _ _ _ _ ([.int (z_b (decide (nI 0 ≤ x ∧ x ≤ nI S - nI 1)))].reverse ++ .ref t :: []) [] _) zk_X3_checked q104 hrm (m_X3_checked (decide (nI 0 ≤ x ∧ x ≤ nI S - nI 1)) ht) (by omega) (by decide) (Nat.le_of_ble_eq_true rfl) (by omega) (by omega) ?_
  refine z_ifb_le (tgt := 14) hb dX3_level_9 (by decide) (fun c_9 => ?_) (fun c_9 => ?_)
  · rw [hx] at c_9; exact absurd c_9 (by decide)
  · refine z_iconst (x := nI 0) hb dX3_level_12 (by decide) ?_
    refine z_iret hb hr dX3_level_13 ?_
    rw [hQ]
    rw [hx]; exact ⟨rfl, rfl, rfl⟩

set_option maxHeartbeats 1000000 in
theorem m_X3_level_ok {l : Launch} {G : zG} {h : zH} {n : Nat} {t : Nat} {w0 : Nat → Int32} {w1 : Nat → Int32} {w2 : Nat → Int32} {w3 : Nat → Int32} {w4 : Nat → Int32} {w5 : Nat → Int64} {w6 : Nat → Int64} {w7 : Nat → Int64} {w8 : Nat → Int64} {w9 : Nat → Int64} {w10 : Nat → Int64} {w11 : Nat → Int64} {w12 : Int32} {w13 : Int32} {w14 : Int32} {w15 : Int32} {w16 : Int32} {w17 : Int32} {w18 : Bool} {w19 : Nat → Int32} {w20 : Int32} {w21 : Nat → Int32} {w22 : Nat → Int32} {w23 : Nat → Int32} {w24 : Int32} {w25 : Int32} {w26 : Int32} {w27 : Int32} {w28 : Bool} {R S D : Nat} {k : Nat}  (ht : z_n0 G ≤ t) (hw : z_ok w0 R S D) (hkS : k < S) : z_C l G yX3_level 3 0 0 [.ref t, .int (nI k)] (z_tw G t w0 w1 w2 w3 w4 w5 w6 w7 w8 w9 w10 w11 w12 w13 w14 w15 w16 w17 w18 w19 w20 w21 w22 w23 w24 w25 w26 w27 w28 h) n (z_rv (.int (tw_lv w0 w4 (k + 1) k)) (z_tw G t w0 w1 w2 w3 (tw_lv w0 w4 (k + 1)) w5 w6 w7 w8 w9 w10 w11 (nI 0) w13 w14 w15 w16 w17 w18 w19 w20 w21 w22 w23 w24 w25 w26 w27 w28 h) n) := by
  refine z_start zk_X3_level zpl_RX3 (Nat.le_of_ble_eq_true rfl) ?_
  intro hn0 M hl hG ho hb hN hr hm hH hrm hQ
  subst hl hG
  have ho : zm_o M = RX3 := ho
  obtain ⟨hR, hR4, hS, hS8, hD, hD6, hF⟩ := id hw
  have hx := z_inR hkS (by omega)
  show z_V M (z_tw (zm_G M) t w0 w1 w2 w3 w4 w5 w6 w7 w8 w9 w10 w11 w12 w13 w14 w15 w16 w17 w18 w19 w20 w21 w22 w23 w24 w25 w26 w27 w28 h) n 0 0 0 [(0, .ref t), (1, .int (nI k))] []
  refine z_aload_n hb dX3_level_0 rfl ?_
  refine z_aload_n hb dX3_level_1 rfl ?_
  refine z_iload_n hb dX3_level_2 rfl ?_
  refine z_call1 (b' := 0) (f' := 0) (rest := [.ref t]) (av := [.ref t, .int (nI k)]) (z_siteV hb ho zc2 z_tw_o q2927 q2929 qs56 ⟨_, _, _, _, zk_X3_isStep⟩ zy_X3_isStep zl_X3_isStep dX3_level_3 : z_Site M _ _ _ _ _ ([.int (nI k)].reverse ++ .ref t :: [.ref t]) [.ref t] _) zk_X3_isStep q104 hrm (m_X3_isStep (nI k) ht hw) (by omega) (by decide) (Nat.le_of_ble_eq_true rfl) (by omega) (by omega) ?_
  refine z_call1 (b' := 0) (f' := 0) (rest := []) (av := [.ref t, .int (z_b (decide (nI 0 ≤ (nI k) ∧ (nI k) ≤ nI S - nI 1)))]) (z_siteV hb ho zc2 z_tw_o q2995 q2997 qs66 ⟨_, _, _, _, zk_X3_checked⟩ zy_X3_checked zl_X3_checked dX3_level_6 : z_Site M _ _ _ _ _ ([.int (z_b (decide (nI 0 ≤ (nI k) ∧ (nI k) ≤ nI S - nI 1)))].reverse ++ .ref t :: []) [] _) zk_X3_checked q104 hrm (m_X3_checked (decide (nI 0 ≤ (nI k) ∧ (nI k) ≤ nI S - nI 1)) ht) (by omega) (by decide) (Nat.le_of_ble_eq_true rfl) (by omega) (by omega) ?_
  refine z_ifb_le (tgt := 14) hb dX3_level_9 (by decide) (fun c_9 => ?_) (fun c_9 => ?_)
  · refine z_iconst (x := nI 0) hb dX3_level_14 (by decide) ?_
    refine z_istore_n (lv' := [(2, .int (nI 0)), (0, .ref t), (1, .int (nI k))]) hb dX3_level_15 (by rw [hN]; decide) rfl ?_
    have lp_16 : ∀ (k9_16 : Nat) (j : Nat) (v : Nat → Int32), k + 1 - j < k9_16 → (j ≤ k + 1) → (v = tw_lv w0 w4 j) → z_V M (z_tw (zm_G M) t w0 w1 w2 w3 v w5 w6 w7 w8 w9 w10 w11 (z_b (!(decide (nI 0 ≤ (nI k) ∧ (nI k) ≤ nI S - nI 1)))) w13 w14 w15 w16 w17 w18 w19 w20 w21 w22 w23 w24 w25 w26 w27 w28 h) n 0 0 16 [(2, .int (nI j)), (0, .ref t), (1, .int (nI k))] [] := by
      intro k9_16
      induction k9_16 with
      | zero => intro j v hk9_16; exact absurd hk9_16 (Nat.not_lt_zero _)
      | succ k9_16 ih_16 =>
        intro j v hk9_16 hj hv
        refine z_iload_n hb dX3_level_16 rfl ?_
        refine z_iload_n hb dX3_level_17 rfl ?_
        refine z_icmp_gtN (tgt := 86) hb dX3_level_18 (by decide) (by omega) (by omega) (fun c_18 => ?_) (fun c_18 => ?_)
        · refine z_aload_n hb dX3_level_86 rfl ?_
          refine z_get (k := 4) (C := RX3) (T := TX3) (N := 29) hb ho zc2 in_X3 (zf_RX3_22 _) dX3_level_87 z_tw_o (by decide) rfl ?_
          refine z_iload_n hb dX3_level_90 rfl ?_
          refine z_iald (j := k) hb dX3_level_91 z_tw_r4 rfl (by omega) (by omega) ?_
          refine z_iret hb hr dX3_level_92 ?_
          rw [hQ]
          rw [hx, hv, show j = k + 1 by omega]; exact ⟨rfl, rfl, rfl⟩
        · obtain ⟨hF1, hF2, hF3, hF4⟩ := hF j (by omega)
          refine z_aload_n hb dX3_level_21 rfl ?_
          refine z_get (k := 4) (C := RX3) (T := TX3) (N := 29) hb ho zc2 in_X3 (zf_RX3_22 _) dX3_level_22 z_tw_o (by decide) rfl ?_
          refine z_aload_n hb dX3_level_25 rfl ?_
          refine z_iload_n hb dX3_level_26 rfl ?_
          refine z_iconst (x := nI 2) hb dX3_level_27 (by decide) ?_
          refine z_call1 (b' := 0) (f' := 0) (rest := [.ref (t + 5)]) (av := [.ref t, .int (nI j), .int (nI 2)]) (z_siteV hb ho zc2 z_tw_o q2847 q2849 qs40 ⟨_, _, _, _, zk_X3_s⟩ zy_X3_s zl_X3_s dX3_level_28 : z_Site M _ _ _ _ _ ([.int (nI j), .int (nI 2)].reverse ++ .ref t :: [.ref (t + 5)]) [.ref (t + 5)] _) zk_X3_s q104 hrm (m_X3_s j 2 ht (by omega)) (by omega) (by decide) (Nat.le_of_ble_eq_true rfl) (by omega) (by omega) ?_
          refine z_toI (y := nI (tw_f w0 j)) (hF j (by omega)).1 ?_
          refine z_iald (j := tw_f w0 j) hb dX3_level_31 z_tw_r4 rfl (by omega) (by omega) ?_
          refine z_istore_n (lv' := [(3, .int (v (tw_f w0 j))), (2, .int (nI j)), (0, .ref t), (1, .int (nI k))]) hb dX3_level_32 (by rw [hN]; decide) rfl ?_
          refine z_aload_n hb dX3_level_33 rfl ?_
          refine z_get (k := 4) (C := RX3) (T := TX3) (N := 29) hb ho zc2 in_X3 (zf_RX3_22 _) dX3_level_34 z_tw_o (by decide) rfl ?_
          refine z_aload_n hb dX3_level_37 rfl ?_
          refine z_iload_n hb dX3_level_38 rfl ?_
          refine z_iconst (x := nI 3) hb dX3_level_39 (by decide) ?_
          refine z_call1 (b' := 0) (f' := 0) (rest := [.ref (t + 5)]) (av := [.ref t, .int (nI j), .int (nI 3)]) (z_siteV hb ho zc2 z_tw_o q2847 q2849 qs40 ⟨_, _, _, _, zk_X3_s⟩ zy_X3_s zl_X3_s dX3_level_40 : z_Site M _ _ _ _ _ ([.int (nI j), .int (nI 3)].reverse ++ .ref t :: [.ref (t + 5)]) [.ref (t + 5)] _) zk_X3_s q104 hrm (m_X3_s j 3 ht (by omega)) (by omega) (by decide) (Nat.le_of_ble_eq_true rfl) (by omega) (by omega) ?_
          refine z_toI (y := nI (tw_s w0 j)) (hF j (by omega)).2.2.1 ?_
          refine z_iald (j := tw_s w0 j) hb dX3_level_43 z_tw_r4 rfl (by omega) (by omega) ?_
          refine z_istore (lv' := [(4, .int (v (tw_s w0 j))), (3, .int (v (tw_f w0 j))), (2, .int (nI j)), (0, .ref t), (1, .int (nI k))]) hb dX3_level_44 (by rw [hN]; decide) rfl ?_
          refine z_aload_n hb dX3_level_46 rfl ?_
          refine z_get (k := 4) (C := RX3) (T := TX3) (N := 29) hb ho zc2 in_X3 (zf_RX3_22 _) dX3_level_47 z_tw_o (by decide) rfl ?_
          refine z_iload_n hb dX3_level_50 rfl ?_
          refine z_aload_n hb dX3_level_51 rfl ?_
          refine z_iload_n hb dX3_level_52 rfl ?_
          refine z_call1 (b' := 0) (f' := 0) (rest := [.int (nI j), .ref (t + 5)]) (av := [.ref t, .int (nI j)]) (z_siteV hb ho zc2 z_tw_o q2843 q2845 qs39 ⟨_, _, _, _, zk_X3_isBase⟩ zy_X3_isBase zl_X3_isBase dX3_level_53 : z_Site M _ _ _ _ _ ([.int (nI j)].reverse ++ .ref t :: [.int (nI j), .ref (t + 5)]) [.int (nI j), .ref (t + 5)] _) zk_X3_isBase q104 hrm (m_X3_isBase j ht (by omega)) (by omega) (by decide) (Nat.le_of_ble_eq_true rfl) (by omega) (by omega) ?_
          refine z_ifb_eq (tgt := 63) hb dX3_level_56 (by decide) (fun c_56 => ?_) (fun c_56 => ?_)
          · refine z_iload_n hb dX3_level_63 rfl ?_
            refine z_iload hb dX3_level_64 rfl ?_
            refine z_icmp_le (tgt := 75) hb dX3_level_66 (by decide) (fun c_66 => ?_) (fun c_66 => ?_)
            · refine z_iload hb dX3_level_75 rfl ?_
              refine z_iconst (x := nI 1) hb dX3_level_77 (by decide) ?_
              refine z_iadd hb dX3_level_78 ?_
              refine z_iast (j := j) hb dX3_level_79 z_tw_r4 (by omega) rfl (by omega) (by omega) ?_
              refine z_hh z_tw_u4 ?_
              refine z_iinc (k0 := 2) (lv' := [(2, .int (nI (j + 1))), (4, .int (v (tw_s w0 j))), (3, .int (v (tw_f w0 j))), (0, .ref t), (1, .int (nI k))]) hb dX3_level_80 rfl (nI_1 j) (by rw [hN]; decide) rfl ?_
              refine z_goto (tgt := 16) hb dX3_level_83 (by decide) ?_
              refine z_lv [0, 3, 4] (lv' := [(2, .int (nI (j + 1))), (0, .ref t), (1, .int (nI k))]) rfl ?_
              exact ih_16 (j + 1) _ (by omega) (by omega) (by rw [hv]; rw [hv] at *; rw [tw_lv, tw_lv1, if_neg (by simp [c_56]), if_neg (Int32.not_lt.mpr c_66)])
            · refine z_iload_n hb dX3_level_69 rfl ?_
              refine z_iconst (x := nI 1) hb dX3_level_70 (by decide) ?_
              refine z_iadd hb dX3_level_71 ?_
              refine z_goto (tgt := 79) hb dX3_level_72 (by decide) ?_
              refine z_iast (j := j) hb dX3_level_79 z_tw_r4 (by omega) rfl (by omega) (by omega) ?_
              refine z_hh z_tw_u4 ?_
              refine z_iinc (k0 := 2) (lv' := [(2, .int (nI (j + 1))), (4, .int (v (tw_s w0 j))), (3, .int (v (tw_f w0 j))), (0, .ref t), (1, .int (nI k))]) hb dX3_level_80 rfl (nI_1 j) (by rw [hN]; decide) rfl ?_
              refine z_goto (tgt := 16) hb dX3_level_83 (by decide) ?_
              refine z_lv [0, 3, 4] (lv' := [(2, .int (nI (j + 1))), (0, .ref t), (1, .int (nI k))]) rfl ?_
              exact ih_16 (j + 1) _ (by omega) (by omega) (by rw [hv]; rw [hv] at *; rw [tw_lv, tw_lv1, if_neg (by simp [c_56]), if_pos (Int32.not_le.mp c_66)])
          · refine z_iconst (x := nI 0) hb dX3_level_59 (by decide) ?_
            refine z_goto (tgt := 79) hb dX3_level_60 (by decide) ?_
            refine z_iast (j := j) hb dX3_level_79 z_tw_r4 (by omega) rfl (by omega) (by omega) ?_
            refine z_hh z_tw_u4 ?_
            refine z_iinc (k0 := 2) (lv' := [(2, .int (nI (j + 1))), (4, .int (v (tw_s w0 j))), (3, .int (v (tw_f w0 j))), (0, .ref t), (1, .int (nI k))]) hb dX3_level_80 rfl (nI_1 j) (by rw [hN]; decide) rfl ?_
            refine z_goto (tgt := 16) hb dX3_level_83 (by decide) ?_
            refine z_lv [0, 3, 4] (lv' := [(2, .int (nI (j + 1))), (0, .ref t), (1, .int (nI k))]) rfl ?_
            exact ih_16 (j + 1) _ (by omega) (by omega) (by rw [hv]; rw [hv] at *; rw [tw_lv, tw_lv1, if_pos c_56])
    refine z_lv [0, 1, 2] (lv' := [(2, .int (nI 0)), (0, .ref t), (1, .int (nI k))]) rfl ?_
    exact lp_16 _ 0 _ (Nat.lt_succ_self _) (Nat.zero_le _) rfl
  · rw [hx] at c_9; exact absurd c_9 (by decide)

set_option maxHeartbeats 1000000 in
theorem m_X3_layAnew {l : Launch} {G : zG} {h : zH} {n : Nat} {t : Nat} {w0 : Nat → Int32} {w1 : Nat → Int32} {w2 : Nat → Int32} {w3 : Nat → Int32} {w4 : Nat → Int32} {w5 : Nat → Int64} {w6 : Nat → Int64} {w7 : Nat → Int64} {w8 : Nat → Int64} {w9 : Nat → Int64} {w10 : Nat → Int64} {w11 : Nat → Int64} {w12 : Int32} {w13 : Int32} {w14 : Int32} {w15 : Int32} {w16 : Int32} {w17 : Int32} {w18 : Bool} {w19 : Nat → Int32} {w20 : Int32} {w21 : Nat → Int32} {w22 : Nat → Int32} {w23 : Nat → Int32} {w24 : Int32} {w25 : Int32} {w26 : Int32} {w27 : Int32} {w28 : Bool} {R S D : Nat}   (ht : z_n0 G ≤ t) (hw : z_ok w0 R S D) : z_C l G yX3_layAnew 5 0 0 [.ref t] (z_tw G t w0 w1 w2 w3 w4 w5 w6 w7 w8 w9 w10 w11 w12 w13 w14 w15 w16 w17 w18 w19 w20 w21 w22 w23 w24 w25 w26 w27 w28 h) n (z_r0 (z_tw G t w0 w1 w2 w3 w4 w5 w6 w7 w8 (tw_la w0 R D w9 S) w10 w11 w12 w13 w14 w15 w16 w17 w18 w19 w20 w21 w22 w23 w24 w25 w26 w27 w28 h) n) := by
  refine z_start zk_X3_layAnew zpl_RX3 (Nat.le_of_ble_eq_true rfl) ?_
  intro hn0 M hl hG ho hb hN hr hm hH hrm hQ
  subst hl hG
  have ho : zm_o M = RX3 := ho
  obtain ⟨hR, hR4, hS, hS8, hD, hD6, hF⟩ := id hw
  show z_V M (z_tw (zm_G M) t w0 w1 w2 w3 w4 w5 w6 w7 w8 w9 w10 w11 w12 w13 w14 w15 w16 w17 w18 w19 w20 w21 w22 w23 w24 w25 w26 w27 w28 h) n 0 0 0 [(0, .ref t)] []
  refine z_iconst (x := nI 0) hb dX3_layAnew_0 (by decide) ?_
  refine z_istore_n (lv' := [(1, .int (nI 0)), (0, .ref t)]) hb dX3_layAnew_1 (by rw [hN]; decide) rfl ?_
  have lp_2 : ∀ (k9_2 : Nat) (k : Nat) (f : Nat → Int64), S - k < k9_2 → (k ≤ S) → (f = tw_la w0 R D w9 k) → z_V M (z_tw (zm_G M) t w0 w1 w2 w3 w4 w5 w6 w7 w8 f w10 w11 w12 w13 w14 w15 w16 w17 w18 w19 w20 w21 w22 w23 w24 w25 w26 w27 w28 h) n 0 0 2 [(1, .int (nI k)), (0, .ref t)] [] := by
    intro k9_2
    induction k9_2 with
    | zero => intro k f hk9_2; exact absurd hk9_2 (Nat.not_lt_zero _)
    | succ k9_2 ih_2 =>
      intro k f hk9_2 hk hf
      refine z_iload_n hb dX3_layAnew_2 rfl ?_
      refine z_aload_n hb dX3_layAnew_3 rfl ?_
      refine z_get (k := 0) (C := RX3) (T := TX3) (N := 29) hb ho zc2 in_X3 (zf_RX3_7 _) dX3_layAnew_4 z_tw_o (by decide) rfl ?_
      refine z_iconst (x := nI 3) hb dX3_layAnew_7 (by decide) ?_
      refine z_iald (j := 3) hb dX3_layAnew_8 z_tw_r0 rfl (by omega) (by omega) ?_
      refine z_toI (y := nI S) hS ?_
      refine z_icmp_geN (tgt := 71) hb dX3_layAnew_9 (by decide) (by omega) (by omega) (fun c_9 => ?_) (fun c_9 => ?_)
      · refine z_vret hb hr dX3_layAnew_71 ?_
        rw [hQ]
        rw [hf, show k = S by omega]; exact ⟨rfl, rfl, rfl⟩
      · refine z_iconst (x := nI 0) hb dX3_layAnew_12 (by decide) ?_
        refine z_istore_n (lv' := [(2, .int (nI 0)), (1, .int (nI k)), (0, .ref t)]) hb dX3_layAnew_13 (by rw [hN]; decide) rfl ?_
        have lp_14 : ∀ (k9_14 : Nat) (d : Nat) (f2 : Nat → Int64), D + 1 - d < k9_14 → (d ≤ D + 1) → (f2 = tw_la2 w0 R k f d) → z_V M (z_tw (zm_G M) t w0 w1 w2 w3 w4 w5 w6 w7 w8 f2 w10 w11 w12 w13 w14 w15 w16 w17 w18 w19 w20 w21 w22 w23 w24 w25 w26 w27 w28 h) n 0 0 14 [(2, .int (nI d)), (1, .int (nI k)), (0, .ref t)] [] := by
          intro k9_14
          induction k9_14 with
          | zero => intro d f2 hk9_14; exact absurd hk9_14 (Nat.not_lt_zero _)
          | succ k9_14 ih_14 =>
            intro d f2 hk9_14 hd hf2
            refine z_iload_n hb dX3_layAnew_14 rfl ?_
            refine z_aload_n hb dX3_layAnew_15 rfl ?_
            refine z_get (k := 0) (C := RX3) (T := TX3) (N := 29) hb ho zc2 in_X3 (zf_RX3_7 _) dX3_layAnew_16 z_tw_o (by decide) rfl ?_
            refine z_iconst (x := nI 0) hb dX3_layAnew_19 (by decide) ?_
            refine z_iald (j := 0) hb dX3_layAnew_20 z_tw_r0 rfl (by omega) (by omega) ?_
            refine z_toI (y := nI D) hD ?_
            refine z_icmp_gtN (tgt := 65) hb dX3_layAnew_21 (by decide) (by omega) (by omega) (fun c_21 => ?_) (fun c_21 => ?_)
            · refine z_iinc (k0 := 1) (lv' := [(1, .int (nI (k + 1))), (2, .int (nI d)), (0, .ref t)]) hb dX3_layAnew_65 rfl (nI_1 k) (by rw [hN]; decide) rfl ?_
              refine z_goto (tgt := 2) hb dX3_layAnew_68 (by decide) ?_
              refine z_lv [0, 2] (lv' := [(1, .int (nI (k + 1))), (0, .ref t)]) rfl ?_
              exact ih_2 (k + 1) _ (by omega) (by omega) (by rw [hf2, show d = D + 1 by omega, hf]; rfl)
            · refine z_iconst (x := nI 0) hb dX3_layAnew_24 (by decide) ?_
              refine z_istore_n (lv' := [(3, .int (nI 0)), (2, .int (nI d)), (1, .int (nI k)), (0, .ref t)]) hb dX3_layAnew_25 (by rw [hN]; decide) rfl ?_
              have lp_26 : ∀ (k9_26 : Nat) (g : Nat) (f3 : Nat → Int64), 5 - g < k9_26 → (g ≤ 5) → (f3 = tw_comp w0 R k d f2 g) → z_V M (z_tw (zm_G M) t w0 w1 w2 w3 w4 w5 w6 w7 w8 f3 w10 w11 w12 w13 w14 w15 w16 w17 w18 w19 w20 w21 w22 w23 w24 w25 w26 w27 w28 h) n 0 0 26 [(3, .int (nI g)), (2, .int (nI d)), (1, .int (nI k)), (0, .ref t)] [] := by
                intro k9_26
                induction k9_26 with
                | zero => intro g f3 hk9_26; exact absurd hk9_26 (Nat.not_lt_zero _)
                | succ k9_26 ih_26 =>
                  intro g f3 hk9_26 hg hf3
                  refine z_iload_n hb dX3_layAnew_26 rfl ?_
                  refine z_iconst (x := nI 5) hb dX3_layAnew_27 (by decide) ?_
                  refine z_icmp_geN (tgt := 59) hb dX3_layAnew_28 (by decide) (by omega) (by omega) (fun c_28 => ?_) (fun c_28 => ?_)
                  · refine z_iinc (k0 := 1) (lv' := [(2, .int (nI (d + 1))), (3, .int (nI g)), (1, .int (nI k)), (0, .ref t)]) hb dX3_layAnew_59 rfl (nI_1 d) (by rw [hN]; decide) rfl ?_
                    refine z_goto (tgt := 14) hb dX3_layAnew_62 (by decide) ?_
                    refine z_lv [0, 2, 3] (lv' := [(2, .int (nI (d + 1))), (1, .int (nI k)), (0, .ref t)]) rfl ?_
                    exact ih_14 (d + 1) _ (by omega) (by omega) (by rw [hf3, show g = 5 by omega, hf2]; rfl)
                  · refine z_aload_n hb dX3_layAnew_31 rfl ?_
                    refine z_get (k := 9) (C := RX3) (T := TX3) (N := 29) hb ho zc2 in_X3 (zf_RX3_38 _) dX3_layAnew_32 z_tw_o (by decide) rfl ?_
                    refine z_iload_n hb dX3_layAnew_35 rfl ?_
                    refine z_iload_n hb dX3_layAnew_36 rfl ?_
                    refine z_iload_n hb dX3_layAnew_37 rfl ?_
                    refine z_call1 (b' := 0) (f' := 0) (rest := [.ref (t + 10)]) (av := [.int (nI k), .int (nI d), .int (nI g)]) (z_siteS hb ho q2836 q2837 q104 ⟨_, _, _, _, zk_X3_at⟩ zy_X3_at zl_X3_at dX3_layAnew_38 : z_Site M _ _ _ _ _ ([.int (nI k), .int (nI d), .int (nI g)].reverse ++ [.ref (t + 10)]) [.ref (t + 10)] _) zk_X3_at q104 hrm (m_X3_at k d g ht) (by omega) (by decide) (Nat.le_of_ble_eq_true rfl) (by omega) (by omega) ?_
                    refine z_aload_n hb dX3_layAnew_41 rfl ?_
                    refine z_iload_n hb dX3_layAnew_42 rfl ?_
                    refine z_iload_n hb dX3_layAnew_43 rfl ?_
                    refine z_iload_n hb dX3_layAnew_44 rfl ?_
                    refine z_aload_n hb dX3_layAnew_45 rfl ?_
                    refine z_get (k := 9) (C := RX3) (T := TX3) (N := 29) hb ho zc2 in_X3 (zf_RX3_38 _) dX3_layAnew_46 z_tw_o (by decide) rfl ?_
                    refine z_call1 (b' := 0) (f' := 0) (rest := [.int (nI (5 * (7 * k + d) + g)), .ref (t + 10)]) (av := [.ref t, .int (nI k), .int (nI d), .int (nI g), .ref (t + 10)]) (z_siteV hb ho zc2 z_tw_o q2839 q2841 qs38 ⟨_, _, _, _, zk_X3_made⟩ zy_X3_made zl_X3_made dX3_layAnew_49 : z_Site M _ _ _ _ _ ([.int (nI k), .int (nI d), .int (nI g), .ref (t + 10)].reverse ++ .ref t :: [.int (nI (5 * (7 * k + d) + g)), .ref (t + 10)]) [.int (nI (5 * (7 * k + d) + g)), .ref (t + 10)] _) zk_X3_made q104 hrm (m_X3_made k d g (t + 10) ht hw (by omega) (by omega) (by omega) z_tw_r9) (by omega) (by decide) (Nat.le_of_ble_eq_true rfl) (by omega) (by omega) ?_
                    refine z_last (j := 5 * (7 * k + d) + g) hb dX3_layAnew_52 z_tw_r9 (by omega) rfl (by omega) (by omega) ?_
                    refine z_hh z_tw_u9 ?_
                    refine z_iinc (k0 := 0) (lv' := [(3, .int (nI (g + 1))), (2, .int (nI d)), (1, .int (nI k)), (0, .ref t)]) hb dX3_layAnew_53 rfl (nI_1 g) (by rw [hN]; decide) rfl ?_
                    refine z_goto (tgt := 26) hb dX3_layAnew_56 (by decide) ?_
                    refine z_lv [0, 1, 2, 3] (lv' := [(3, .int (nI (g + 1))), (2, .int (nI d)), (1, .int (nI k)), (0, .ref t)]) rfl ?_
                    exact ih_26 (g + 1) _ (by omega) (by omega) (by rw [hf3]; rfl)
              refine z_lv [0, 1, 2, 3] (lv' := [(3, .int (nI 0)), (2, .int (nI d)), (1, .int (nI k)), (0, .ref t)]) rfl ?_
              exact lp_26 _ 0 _ (Nat.lt_succ_self _) (Nat.zero_le _) rfl
        refine z_lv [0, 1, 2] (lv' := [(2, .int (nI 0)), (1, .int (nI k)), (0, .ref t)]) rfl ?_
        exact lp_14 _ 0 _ (Nat.lt_succ_self _) (Nat.zero_le _) rfl
  refine z_lv [0, 1] (lv' := [(1, .int (nI 0)), (0, .ref t)]) rfl ?_
  exact lp_2 _ 0 _ (Nat.lt_succ_self _) (Nat.zero_le _) rfl

set_option maxHeartbeats 1000000 in
theorem m_X3_cannotAsk_ok {l : Launch} {G : zG} {h : zH} {n : Nat} {t : Nat} {w0 : Nat → Int32} {w1 : Nat → Int32} {w2 : Nat → Int32} {w3 : Nat → Int32} {w4 : Nat → Int32} {w5 : Nat → Int64} {w6 : Nat → Int64} {w7 : Nat → Int64} {w8 : Nat → Int64} {w9 : Nat → Int64} {w10 : Nat → Int64} {w11 : Nat → Int64} {w12 : Int32} {w13 : Int32} {w14 : Int32} {w15 : Int32} {w16 : Int32} {w17 : Int32} {w18 : Bool} {w19 : Nat → Int32} {w20 : Int32} {w21 : Nat → Int32} {w22 : Nat → Int32} {w23 : Nat → Int32} {w24 : Int32} {w25 : Int32} {w26 : Int32} {w27 : Int32} {w28 : Bool} {R S D : Nat} {k d c : Nat}  (ht : z_n0 G ≤ t) (hw : z_ok w0 R S D) (hkS : k < S) (hd : d ≤ D) (hc : 97 ≤ c ∧ c ≤ 101) : z_C l G yX3_cannotAsk 3 0 0 [.ref t, .int (nI k), .int (nI d), .int (nI c)] (z_tw G t w0 w1 w2 w3 w4 w5 w6 w7 w8 w9 w10 w11 w12 w13 w14 w15 w16 w17 w18 w19 w20 w21 w22 w23 w24 w25 w26 w27 w28 h) n (z_rv (.int (nI 0)) (z_tw G t w0 w1 w2 w3 w4 w5 w6 w7 w8 w9 w10 w11 w12 w13 w14 w15 w16 w17 w18 w19 w20 w21 w22 w23 w24 w25 w26 w27 w28 h) n) := by
  refine z_start zk_X3_cannotAsk zpl_RX3 (Nat.le_of_ble_eq_true rfl) ?_
  intro hn0 M hl hG ho hb hN hr hm hH hrm hQ
  subst hl hG
  have ho : zm_o M = RX3 := ho
  obtain ⟨hR, hR4, hS, hS8, hD, hD6, hF⟩ := id hw
  have hx := z_inR hkS (by omega)
  have hy := z_inN (Nat.zero_le d) hd (by omega)
  have hz := z_inN hc.1 hc.2 (by omega)
  show z_V M (z_tw (zm_G M) t w0 w1 w2 w3 w4 w5 w6 w7 w8 w9 w10 w11 w12 w13 w14 w15 w16 w17 w18 w19 w20 w21 w22 w23 w24 w25 w26 w27 w28 h) n 0 0 0 [(0, .ref t), (1, .int (nI k)), (2, .int (nI d)), (3, .int (nI c))] []
  refine z_aload_n hb dX3_cannotAsk_0 rfl ?_
  refine z_iload_n hb dX3_cannotAsk_1 rfl ?_
  refine z_call1 (b' := 0) (f' := 0) (rest := []) (av := [.ref t, .int (nI k)]) (z_siteV hb ho zc2 z_tw_o q2927 q2929 qs56 ⟨_, _, _, _, zk_X3_isStep⟩ zy_X3_isStep zl_X3_isStep dX3_cannotAsk_2 : z_Site M _ _ _ _ _ ([.int (nI k)].reverse ++ .ref t :: []) [] _) zk_X3_isStep q104 hrm (m_X3_isStep (nI k) ht hw) (by omega) (by decide) (Nat.le_of_ble_eq_true rfl) (by omega) (by omega) ?_
  refine z_ifb_ne (tgt := 10) hb dX3_cannotAsk_5 (by decide) (fun c_5 => ?_) (fun c_5 => ?_)
  · refine z_aload_n hb dX3_cannotAsk_10 rfl ?_
    refine z_iload_n hb dX3_cannotAsk_11 rfl ?_
    refine z_call1 (b' := 0) (f' := 0) (rest := []) (av := [.ref t, .int (nI d)]) (z_siteV hb ho zc2 z_tw_o q2971 q2973 qs63 ⟨_, _, _, _, zk_X3_isDay⟩ zy_X3_isDay zl_X3_isDay dX3_cannotAsk_12 : z_Site M _ _ _ _ _ ([.int (nI d)].reverse ++ .ref t :: []) [] _) zk_X3_isDay q104 hrm (m_X3_isDay (nI d) ht hw) (by omega) (by decide) (Nat.le_of_ble_eq_true rfl) (by omega) (by omega) ?_
    refine z_ifb_eq (tgt := 29) hb dX3_cannotAsk_15 (by decide) (fun c_15 => ?_) (fun c_15 => ?_)
    · rw [hy] at c_15; exact absurd c_15 (by decide)
    · refine z_iload_n hb dX3_cannotAsk_18 rfl ?_
      refine z_call1 (b' := 0) (f' := 0) (rest := []) (av := [.int (nI c)]) (z_siteS hb ho q2806 q2807 q104 ⟨_, _, _, _, zk_X3_isGroup⟩ zy_X3_isGroup zl_X3_isGroup dX3_cannotAsk_19 : z_Site M _ _ _ _ _ ([.int (nI c)].reverse ++ []) [] _) zk_X3_isGroup q104 hrm (m_X3_isGroup (nI c) ht) (by omega) (by decide) (Nat.le_of_ble_eq_true rfl) (by omega) (by omega) ?_
      refine z_ifb_eq (tgt := 29) hb dX3_cannotAsk_22 (by decide) (fun c_22 => ?_) (fun c_22 => ?_)
      · rw [hz] at c_22; exact absurd c_22 (by decide)
      · refine z_iconst (x := nI 0) hb dX3_cannotAsk_25 (by decide) ?_
        refine z_goto (tgt := 30) hb dX3_cannotAsk_26 (by decide) ?_
        refine z_iret hb hr dX3_cannotAsk_30 ?_
        rw [hQ]
        exact ⟨rfl, rfl, rfl⟩
  · rw [hx] at c_5; exact absurd c_5 (by decide)

set_option maxHeartbeats 1000000 in
theorem m_X3_value_no {l : Launch} {G : zG} {h : zH} {n : Nat} {t : Nat} {w0 : Nat → Int32} {w1 : Nat → Int32} {w2 : Nat → Int32} {w3 : Nat → Int32} {w4 : Nat → Int32} {w5 : Nat → Int64} {w6 : Nat → Int64} {w7 : Nat → Int64} {w8 : Nat → Int64} {w9 : Nat → Int64} {w10 : Nat → Int64} {w11 : Nat → Int64} {w12 : Int32} {w13 : Int32} {w14 : Int32} {w15 : Int32} {w16 : Int32} {w17 : Int32} {w18 : Bool} {w19 : Nat → Int32} {w20 : Int32} {w21 : Nat → Int32} {w22 : Nat → Int32} {w23 : Nat → Int32} {w24 : Int32} {w25 : Int32} {w26 : Int32} {w27 : Int32} {w28 : Bool} {R S D : Nat} {x d c : Int32}  (ht : z_n0 G ≤ t) (hw : z_ok w0 R S D) (hx : ¬tw_ask S D x d c = 0) : z_C l G yX3_value 4 0 0 [.ref t, .int x, .int d, .int c] (z_tw G t w0 w1 w2 w3 w4 w5 w6 w7 w8 w9 w10 w11 w12 w13 w14 w15 w16 w17 w18 w19 w20 w21 w22 w23 w24 w25 w26 w27 w28 h) n (z_rv (.long 0) (z_tw G t w0 w1 w2 w3 w4 w5 w6 w7 w8 w9 w10 w11 (nI (tw_ask S D x d c)) w13 w14 w15 w16 w17 w18 w19 w20 w21 w22 w23 w24 w25 w26 w27 w28 h) n) := by
  refine z_start zk_X3_value zpl_RX3 (Nat.le_of_ble_eq_true rfl) ?_
  intro hn0 M hl hG ho hb hN hr hm hH hrm hQ
  subst hl hG
  have ho : zm_o M = RX3 := ho
  obtain ⟨hR, hR4, hS, hS8, hD, hD6, hF⟩ := id hw
  have hle := tw_ask_le S D x d c
  show z_V M (z_tw (zm_G M) t w0 w1 w2 w3 w4 w5 w6 w7 w8 w9 w10 w11 w12 w13 w14 w15 w16 w17 w18 w19 w20 w21 w22 w23 w24 w25 w26 w27 w28 h) n 0 0 0 [(0, .ref t), (1, .int x), (2, .int d), (3, .int c)] []
  refine z_aload_n hb dX3_value_0 rfl ?_
  refine z_aload_n hb dX3_value_1 rfl ?_
  refine z_iload_n hb dX3_value_2 rfl ?_
  refine z_iload_n hb dX3_value_3 rfl ?_
  refine z_iload_n hb dX3_value_4 rfl ?_
  refine z_call1 (b' := 0) (f' := 0) (rest := [.ref t]) (av := [.ref t, .int x, .int d, .int c]) (z_siteV hb ho zc2 z_tw_o q3035 q3037 qs68 ⟨_, _, _, _, zk_X3_cannotAsk⟩ zy_X3_cannotAsk zl_X3_cannotAsk dX3_value_5 : z_Site M _ _ _ _ _ ([.int x, .int d, .int c].reverse ++ .ref t :: [.ref t]) [.ref t] _) zk_X3_cannotAsk q104 hrm (m_X3_cannotAsk x d c ht hw) (by omega) (by decide) (Nat.le_of_ble_eq_true rfl) (by omega) (by omega) ?_
  refine z_put (k := 12) (C := RX3) (T := TX3) (N := 29) hb ho zc2 in_X3 tyX3_ok nmX3 (zf_RX3_47 _) dX3_value_8 z_tw_o ht (by decide) (Or.inl rfl) rfl rfl rfl (Nat.le_of_ble_eq_true rfl) ?_
  refine z_hh z_tw_u12 ?_
  refine z_aload_n hb dX3_value_11 rfl ?_
  refine z_get (k := 12) (C := RX3) (T := TX3) (N := 29) hb ho zc2 in_X3 (zf_RX3_47 _) dX3_value_12 z_tw_o (by decide) rfl ?_
  refine z_if_leN (tgt := 22) hb dX3_value_15 (by decide) (by omega) (fun c_15 => ?_) (fun c_15 => ?_)
  · exact absurd c_15 (by omega)
  · refine z_lconst (x := 0) hb dX3_value_18 rfl ?_
    refine z_goto (tgt := 36) hb dX3_value_19 (by decide) ?_
    refine z_lret hb hr dX3_value_36 ?_
    rw [hQ]
    exact ⟨rfl, rfl, rfl⟩

set_option maxHeartbeats 1000000 in
theorem m_X3_value_ok {l : Launch} {G : zG} {h : zH} {n : Nat} {t : Nat} {w0 : Nat → Int32} {w1 : Nat → Int32} {w2 : Nat → Int32} {w3 : Nat → Int32} {w4 : Nat → Int32} {w5 : Nat → Int64} {w6 : Nat → Int64} {w7 : Nat → Int64} {w8 : Nat → Int64} {w9 : Nat → Int64} {w10 : Nat → Int64} {w11 : Nat → Int64} {w12 : Int32} {w13 : Int32} {w14 : Int32} {w15 : Int32} {w16 : Int32} {w17 : Int32} {w18 : Bool} {w19 : Nat → Int32} {w20 : Int32} {w21 : Nat → Int32} {w22 : Nat → Int32} {w23 : Nat → Int32} {w24 : Int32} {w25 : Int32} {w26 : Int32} {w27 : Int32} {w28 : Bool} {R S D : Nat} {k d g : Nat}  (ht : z_n0 G ≤ t) (hw : z_ok w0 R S D) (hkS : k < S) (hd : d ≤ D) (hg : g < 5) : z_C l G yX3_value 4 0 0 [.ref t, .int (nI k), .int (nI d), .int (nI (97 + g))] (z_tw G t w0 w1 w2 w3 w4 w5 w6 w7 w8 w9 w10 w11 w12 w13 w14 w15 w16 w17 w18 w19 w20 w21 w22 w23 w24 w25 w26 w27 w28 h) n (z_rv (.long (w5 (5 * (7 * k + d) + g))) (z_tw G t w0 w1 w2 w3 w4 w5 w6 w7 w8 w9 w10 w11 (nI 0) w13 w14 w15 w16 w17 w18 w19 w20 w21 w22 w23 w24 w25 w26 w27 w28 h) n) := by
  refine z_start zk_X3_value zpl_RX3 (Nat.le_of_ble_eq_true rfl) ?_
  intro hn0 M hl hG ho hb hN hr hm hH hrm hQ
  subst hl hG
  have ho : zm_o M = RX3 := ho
  obtain ⟨hR, hR4, hS, hS8, hD, hD6, hF⟩ := id hw
  show z_V M (z_tw (zm_G M) t w0 w1 w2 w3 w4 w5 w6 w7 w8 w9 w10 w11 w12 w13 w14 w15 w16 w17 w18 w19 w20 w21 w22 w23 w24 w25 w26 w27 w28 h) n 0 0 0 [(0, .ref t), (1, .int (nI k)), (2, .int (nI d)), (3, .int (nI (97 + g)))] []
  refine z_aload_n hb dX3_value_0 rfl ?_
  refine z_aload_n hb dX3_value_1 rfl ?_
  refine z_iload_n hb dX3_value_2 rfl ?_
  refine z_iload_n hb dX3_value_3 rfl ?_
  refine z_iload_n hb dX3_value_4 rfl ?_
  refine z_call1 (b' := 0) (f' := 0) (rest := [.ref t]) (av := [.ref t, .int (nI k), .int (nI d), .int (nI (97 + g))]) (z_siteV hb ho zc2 z_tw_o q3035 q3037 qs68 ⟨_, _, _, _, zk_X3_cannotAsk⟩ zy_X3_cannotAsk zl_X3_cannotAsk dX3_value_5 : z_Site M _ _ _ _ _ ([.int (nI k), .int (nI d), .int (nI (97 + g))].reverse ++ .ref t :: [.ref t]) [.ref t] _) zk_X3_cannotAsk q104 hrm (m_X3_cannotAsk_ok ht hw hkS hd (by omega)) (by omega) (by decide) (Nat.le_of_ble_eq_true rfl) (by omega) (by omega) ?_
  refine z_put (k := 12) (C := RX3) (T := TX3) (N := 29) hb ho zc2 in_X3 tyX3_ok nmX3 (zf_RX3_47 _) dX3_value_8 z_tw_o ht (by decide) (Or.inl rfl) rfl rfl rfl (Nat.le_of_ble_eq_true rfl) ?_
  refine z_hh z_tw_u12 ?_
  refine z_aload_n hb dX3_value_11 rfl ?_
  refine z_get (k := 12) (C := RX3) (T := TX3) (N := 29) hb ho zc2 in_X3 (zf_RX3_47 _) dX3_value_12 z_tw_o (by decide) rfl ?_
  refine z_if_leN (tgt := 22) hb dX3_value_15 (by decide) (by omega) (fun c_15 => ?_) (fun c_15 => ?_)
  · refine z_aload_n hb dX3_value_22 rfl ?_
    refine z_get (k := 5) (C := RX3) (T := TX3) (N := 29) hb ho zc2 in_X3 (zf_RX3_25 _) dX3_value_23 z_tw_o (by decide) rfl ?_
    refine z_iload_n hb dX3_value_26 rfl ?_
    refine z_iload_n hb dX3_value_27 rfl ?_
    refine z_iload_n hb dX3_value_28 rfl ?_
    refine z_bipush (x := nI 97) hb dX3_value_29 (by decide) ?_
    refine z_isub hb dX3_value_31 ?_
    refine z_toI (y := nI g) ((pk_sub (by omega)).trans (congrArg nI (by omega))) ?_
    refine z_call1 (b' := 0) (f' := 0) (rest := [.ref (t + 6)]) (av := [.int (nI k), .int (nI d), .int (nI g)]) (z_siteS hb ho q2836 q2837 q104 ⟨_, _, _, _, zk_X3_at⟩ zy_X3_at zl_X3_at dX3_value_32 : z_Site M _ _ _ _ _ ([.int (nI k), .int (nI d), .int (nI g)].reverse ++ [.ref (t + 6)]) [.ref (t + 6)] _) zk_X3_at q104 hrm (m_X3_at k d g ht) (by omega) (by decide) (Nat.le_of_ble_eq_true rfl) (by omega) (by omega) ?_
    refine z_lald (j := 5 * (7 * k + d) + g) hb dX3_value_35 z_tw_r5 rfl (by omega) (by omega) ?_
    refine z_lret hb hr dX3_value_36 ?_
    rw [hQ]
    exact ⟨rfl, rfl, rfl⟩
  · exact absurd c_15 (by omega)

set_option maxHeartbeats 1000000 in
theorem m_X3_valueAnew_no {l : Launch} {G : zG} {h : zH} {n : Nat} {t : Nat} {w0 : Nat → Int32} {w1 : Nat → Int32} {w2 : Nat → Int32} {w3 : Nat → Int32} {w4 : Nat → Int32} {w5 : Nat → Int64} {w6 : Nat → Int64} {w7 : Nat → Int64} {w8 : Nat → Int64} {w9 : Nat → Int64} {w10 : Nat → Int64} {w11 : Nat → Int64} {w12 : Int32} {w13 : Int32} {w14 : Int32} {w15 : Int32} {w16 : Int32} {w17 : Int32} {w18 : Bool} {w19 : Nat → Int32} {w20 : Int32} {w21 : Nat → Int32} {w22 : Nat → Int32} {w23 : Nat → Int32} {w24 : Int32} {w25 : Int32} {w26 : Int32} {w27 : Int32} {w28 : Bool} {R S D : Nat} {x d c : Int32}  (ht : z_n0 G ≤ t) (hw : z_ok w0 R S D) (hx : ¬tw_ask S D x d c = 0) : z_C l G yX3_valueAnew 6 0 0 [.ref t, .int x, .int d, .int c] (z_tw G t w0 w1 w2 w3 w4 w5 w6 w7 w8 w9 w10 w11 w12 w13 w14 w15 w16 w17 w18 w19 w20 w21 w22 w23 w24 w25 w26 w27 w28 h) n (z_rv (.long 0) (z_tw G t w0 w1 w2 w3 w4 w5 w6 w7 w8 w9 w10 w11 (nI (tw_ask S D x d c)) w13 w14 w15 w16 w17 w18 w19 w20 w21 w22 w23 w24 w25 w26 w27 w28 h) n) := by
  refine z_start zk_X3_valueAnew zpl_RX3 (Nat.le_of_ble_eq_true rfl) ?_
  intro hn0 M hl hG ho hb hN hr hm hH hrm hQ
  subst hl hG
  have ho : zm_o M = RX3 := ho
  obtain ⟨hR, hR4, hS, hS8, hD, hD6, hF⟩ := id hw
  have hle := tw_ask_le S D x d c
  show z_V M (z_tw (zm_G M) t w0 w1 w2 w3 w4 w5 w6 w7 w8 w9 w10 w11 w12 w13 w14 w15 w16 w17 w18 w19 w20 w21 w22 w23 w24 w25 w26 w27 w28 h) n 0 0 0 [(0, .ref t), (1, .int x), (2, .int d), (3, .int c)] []
  refine z_aload_n hb dX3_valueAnew_0 rfl ?_
  refine z_aload_n hb dX3_valueAnew_1 rfl ?_
  refine z_iload_n hb dX3_valueAnew_2 rfl ?_
  refine z_iload_n hb dX3_valueAnew_3 rfl ?_
  refine z_iload_n hb dX3_valueAnew_4 rfl ?_
  refine z_call1 (b' := 0) (f' := 0) (rest := [.ref t]) (av := [.ref t, .int x, .int d, .int c]) (z_siteV hb ho zc2 z_tw_o q3035 q3037 qs68 ⟨_, _, _, _, zk_X3_cannotAsk⟩ zy_X3_cannotAsk zl_X3_cannotAsk dX3_valueAnew_5 : z_Site M _ _ _ _ _ ([.int x, .int d, .int c].reverse ++ .ref t :: [.ref t]) [.ref t] _) zk_X3_cannotAsk q104 hrm (m_X3_cannotAsk x d c ht hw) (by omega) (by decide) (Nat.le_of_ble_eq_true rfl) (by omega) (by omega) ?_
  refine z_put (k := 12) (C := RX3) (T := TX3) (N := 29) hb ho zc2 in_X3 tyX3_ok nmX3 (zf_RX3_47 _) dX3_valueAnew_8 z_tw_o ht (by decide) (Or.inl rfl) rfl rfl rfl (Nat.le_of_ble_eq_true rfl) ?_
  refine z_hh z_tw_u12 ?_
  refine z_aload_n hb dX3_valueAnew_11 rfl ?_
  refine z_get (k := 12) (C := RX3) (T := TX3) (N := 29) hb ho zc2 in_X3 (zf_RX3_47 _) dX3_valueAnew_12 z_tw_o (by decide) rfl ?_
  refine z_if_leN (tgt := 20) hb dX3_valueAnew_15 (by decide) (by omega) (fun c_15 => ?_) (fun c_15 => ?_)
  · exact absurd c_15 (by omega)
  · refine z_lconst (x := 0) hb dX3_valueAnew_18 rfl ?_
    refine z_lret hb hr dX3_valueAnew_19 ?_
    rw [hQ]
    exact ⟨rfl, rfl, rfl⟩

set_option maxHeartbeats 1000000 in
theorem m_X3_valueAnew_ok {l : Launch} {G : zG} {h : zH} {n : Nat} {t : Nat} {w0 : Nat → Int32} {w1 : Nat → Int32} {w2 : Nat → Int32} {w3 : Nat → Int32} {w4 : Nat → Int32} {w5 : Nat → Int64} {w6 : Nat → Int64} {w7 : Nat → Int64} {w8 : Nat → Int64} {w9 : Nat → Int64} {w10 : Nat → Int64} {w11 : Nat → Int64} {w12 : Int32} {w13 : Int32} {w14 : Int32} {w15 : Int32} {w16 : Int32} {w17 : Int32} {w18 : Bool} {w19 : Nat → Int32} {w20 : Int32} {w21 : Nat → Int32} {w22 : Nat → Int32} {w23 : Nat → Int32} {w24 : Int32} {w25 : Int32} {w26 : Int32} {w27 : Int32} {w28 : Bool} {R S D : Nat} {k d g : Nat}  (ht : z_n0 G ≤ t) (hw : z_ok w0 R S D) (hkS : k < S) (hd : d ≤ D) (hg : g < 5) : z_C l G yX3_valueAnew 6 0 0 [.ref t, .int (nI k), .int (nI d), .int (nI (97 + g))] (z_tw G t w0 w1 w2 w3 w4 w5 w6 w7 w8 w9 w10 w11 w12 w13 w14 w15 w16 w17 w18 w19 w20 w21 w22 w23 w24 w25 w26 w27 w28 h) n (z_rv (.long (tw_la w0 R D w9 S (5 * (7 * k + d) + g))) (z_tw G t w0 w1 w2 w3 w4 w5 w6 w7 w8 (tw_la w0 R D w9 S) w10 w11 (nI 0) w13 w14 w15 w16 w17 w18 w19 w20 w21 w22 w23 w24 w25 w26 w27 w28 h) n) := by
  refine z_start zk_X3_valueAnew zpl_RX3 (Nat.le_of_ble_eq_true rfl) ?_
  intro hn0 M hl hG ho hb hN hr hm hH hrm hQ
  subst hl hG
  have ho : zm_o M = RX3 := ho
  obtain ⟨hR, hR4, hS, hS8, hD, hD6, hF⟩ := id hw
  show z_V M (z_tw (zm_G M) t w0 w1 w2 w3 w4 w5 w6 w7 w8 w9 w10 w11 w12 w13 w14 w15 w16 w17 w18 w19 w20 w21 w22 w23 w24 w25 w26 w27 w28 h) n 0 0 0 [(0, .ref t), (1, .int (nI k)), (2, .int (nI d)), (3, .int (nI (97 + g)))] []
  refine z_aload_n hb dX3_valueAnew_0 rfl ?_
  refine z_aload_n hb dX3_valueAnew_1 rfl ?_
  refine z_iload_n hb dX3_valueAnew_2 rfl ?_
  refine z_iload_n hb dX3_valueAnew_3 rfl ?_
  refine z_iload_n hb dX3_valueAnew_4 rfl ?_
  refine z_call1 (b' := 0) (f' := 0) (rest := [.ref t]) (av := [.ref t, .int (nI k), .int (nI d), .int (nI (97 + g))]) (z_siteV hb ho zc2 z_tw_o q3035 q3037 qs68 ⟨_, _, _, _, zk_X3_cannotAsk⟩ zy_X3_cannotAsk zl_X3_cannotAsk dX3_valueAnew_5 : z_Site M _ _ _ _ _ ([.int (nI k), .int (nI d), .int (nI (97 + g))].reverse ++ .ref t :: [.ref t]) [.ref t] _) zk_X3_cannotAsk q104 hrm (m_X3_cannotAsk_ok ht hw hkS hd (by omega)) (by omega) (by decide) (Nat.le_of_ble_eq_true rfl) (by omega) (by omega) ?_
  refine z_put (k := 12) (C := RX3) (T := TX3) (N := 29) hb ho zc2 in_X3 tyX3_ok nmX3 (zf_RX3_47 _) dX3_valueAnew_8 z_tw_o ht (by decide) (Or.inl rfl) rfl rfl rfl (Nat.le_of_ble_eq_true rfl) ?_
  refine z_hh z_tw_u12 ?_
  refine z_aload_n hb dX3_valueAnew_11 rfl ?_
  refine z_get (k := 12) (C := RX3) (T := TX3) (N := 29) hb ho zc2 in_X3 (zf_RX3_47 _) dX3_valueAnew_12 z_tw_o (by decide) rfl ?_
  refine z_if_leN (tgt := 20) hb dX3_valueAnew_15 (by decide) (by omega) (fun c_15 => ?_) (fun c_15 => ?_)
  · refine z_aload_n hb dX3_valueAnew_20 rfl ?_
    refine z_call0 (b' := 0) (f' := 0) (rest := []) (av := [.ref t]) (z_siteV hb ho zc2 z_tw_o q3043 q3045 qs69 ⟨_, _, _, _, zk_X3_layAnew⟩ zy_X3_layAnew zl_X3_layAnew dX3_valueAnew_21 : z_Site M _ _ _ _ _ ([].reverse ++ .ref t :: []) [] _) zk_X3_layAnew q104 hrm (m_X3_layAnew ht hw) (by omega) (by decide) (Nat.le_of_ble_eq_true rfl) (by omega) (by omega) ?_
    refine z_aload_n hb dX3_valueAnew_24 rfl ?_
    refine z_get (k := 9) (C := RX3) (T := TX3) (N := 29) hb ho zc2 in_X3 (zf_RX3_38 _) dX3_valueAnew_25 z_tw_o (by decide) rfl ?_
    refine z_iload_n hb dX3_valueAnew_28 rfl ?_
    refine z_iload_n hb dX3_valueAnew_29 rfl ?_
    refine z_iload_n hb dX3_valueAnew_30 rfl ?_
    refine z_bipush (x := nI 97) hb dX3_valueAnew_31 (by decide) ?_
    refine z_isub hb dX3_valueAnew_33 ?_
    refine z_toI (y := nI g) ((pk_sub (by omega)).trans (congrArg nI (by omega))) ?_
    refine z_call1 (b' := 0) (f' := 0) (rest := [.ref (t + 10)]) (av := [.int (nI k), .int (nI d), .int (nI g)]) (z_siteS hb ho q2836 q2837 q104 ⟨_, _, _, _, zk_X3_at⟩ zy_X3_at zl_X3_at dX3_valueAnew_34 : z_Site M _ _ _ _ _ ([.int (nI k), .int (nI d), .int (nI g)].reverse ++ [.ref (t + 10)]) [.ref (t + 10)] _) zk_X3_at q104 hrm (m_X3_at k d g ht) (by omega) (by decide) (Nat.le_of_ble_eq_true rfl) (by omega) (by omega) ?_
    refine z_lald (j := 5 * (7 * k + d) + g) hb dX3_valueAnew_37 z_tw_r9 rfl (by omega) (by omega) ?_
    refine z_lret hb hr dX3_valueAnew_38 ?_
    rw [hQ]
    exact ⟨rfl, rfl, rfl⟩
  · exact absurd c_15 (by omega)

set_option maxHeartbeats 1000000 in
theorem m_X3_total_no {l : Launch} {G : zG} {h : zH} {n : Nat} {t : Nat} {w0 : Nat → Int32} {w1 : Nat → Int32} {w2 : Nat → Int32} {w3 : Nat → Int32} {w4 : Nat → Int32} {w5 : Nat → Int64} {w6 : Nat → Int64} {w7 : Nat → Int64} {w8 : Nat → Int64} {w9 : Nat → Int64} {w10 : Nat → Int64} {w11 : Nat → Int64} {w12 : Int32} {w13 : Int32} {w14 : Int32} {w15 : Int32} {w16 : Int32} {w17 : Int32} {w18 : Bool} {w19 : Nat → Int32} {w20 : Int32} {w21 : Nat → Int32} {w22 : Nat → Int32} {w23 : Nat → Int32} {w24 : Int32} {w25 : Int32} {w26 : Int32} {w27 : Int32} {w28 : Bool} {R S D : Nat} {x d : Int32}  (ht : z_n0 G ≤ t) (hw : z_ok w0 R S D) (hx : ¬tw_ask S D x d (nI 97) = 0) : z_C l G yX3_total 4 0 0 [.ref t, .int x, .int d] (z_tw G t w0 w1 w2 w3 w4 w5 w6 w7 w8 w9 w10 w11 w12 w13 w14 w15 w16 w17 w18 w19 w20 w21 w22 w23 w24 w25 w26 w27 w28 h) n (z_rv (.long 0) (z_tw G t w0 w1 w2 w3 w4 w5 w6 w7 w8 w9 w10 w11 (nI (tw_ask S D x d (nI 97))) w13 w14 w15 w16 w17 w18 w19 w20 w21 w22 w23 w24 w25 w26 w27 w28 h) n) := by
  refine z_start zk_X3_total zpl_RX3 (Nat.le_of_ble_eq_true rfl) ?_
  intro hn0 M hl hG ho hb hN hr hm hH hrm hQ
  subst hl hG
  have ho : zm_o M = RX3 := ho
  obtain ⟨hR, hR4, hS, hS8, hD, hD6, hF⟩ := id hw
  have hle := tw_ask_le S D x d (nI 97)
  show z_V M (z_tw (zm_G M) t w0 w1 w2 w3 w4 w5 w6 w7 w8 w9 w10 w11 w12 w13 w14 w15 w16 w17 w18 w19 w20 w21 w22 w23 w24 w25 w26 w27 w28 h) n 0 0 0 [(0, .ref t), (1, .int x), (2, .int d)] []
  refine z_aload_n hb dX3_total_0 rfl ?_
  refine z_aload_n hb dX3_total_1 rfl ?_
  refine z_iload_n hb dX3_total_2 rfl ?_
  refine z_iload_n hb dX3_total_3 rfl ?_
  refine z_bipush (x := nI 97) hb dX3_total_4 (by decide) ?_
  refine z_call1 (b' := 0) (f' := 0) (rest := [.ref t]) (av := [.ref t, .int x, .int d, .int (nI 97)]) (z_siteV hb ho zc2 z_tw_o q3035 q3037 qs68 ⟨_, _, _, _, zk_X3_cannotAsk⟩ zy_X3_cannotAsk zl_X3_cannotAsk dX3_total_6 : z_Site M _ _ _ _ _ ([.int x, .int d, .int (nI 97)].reverse ++ .ref t :: [.ref t]) [.ref t] _) zk_X3_cannotAsk q104 hrm (m_X3_cannotAsk x d (nI 97) ht hw) (by omega) (by decide) (Nat.le_of_ble_eq_true rfl) (by omega) (by omega) ?_
  refine z_put (k := 12) (C := RX3) (T := TX3) (N := 29) hb ho zc2 in_X3 tyX3_ok nmX3 (zf_RX3_47 _) dX3_total_9 z_tw_o ht (by decide) (Or.inl rfl) rfl rfl rfl (Nat.le_of_ble_eq_true rfl) ?_
  refine z_hh z_tw_u12 ?_
  refine z_lconst (x := 0) hb dX3_total_12 rfl ?_
  refine z_lstore_n (lv' := [(3, .long 0), (0, .ref t), (1, .int x), (2, .int d)]) hb dX3_total_13 (by rw [hN]; decide) rfl ?_
  refine z_iconst (x := nI 0) hb dX3_total_14 (by decide) ?_
  refine z_istore (lv' := [(5, .int (nI 0)), (3, .long 0), (0, .ref t), (1, .int x), (2, .int d)]) hb dX3_total_15 (by rw [hN]; decide) rfl ?_
  refine z_iload hb dX3_total_17 rfl ?_
  refine z_iconst (x := nI 5) hb dX3_total_19 (by decide) ?_
  refine z_icmp_geN (tgt := 51) hb dX3_total_20 (by decide) (by omega) (by omega) (fun c_20 => ?_) (fun c_20 => ?_)
  · exact absurd c_20 (by omega)
  · refine z_aload_n hb dX3_total_23 rfl ?_
    refine z_get (k := 12) (C := RX3) (T := TX3) (N := 29) hb ho zc2 in_X3 (zf_RX3_47 _) dX3_total_24 z_tw_o (by decide) rfl ?_
    refine z_if_neN (tgt := 51) hb dX3_total_27 (by decide) (by omega) (fun c_27 => ?_) (fun c_27 => ?_)
    · refine z_lload_n hb dX3_total_51 rfl ?_
      refine z_lret hb hr dX3_total_52 ?_
      rw [hQ]
      exact ⟨rfl, rfl, rfl⟩
    · exact absurd c_27 (by omega)

set_option maxHeartbeats 1000000 in
theorem m_X3_total_ok {l : Launch} {G : zG} {h : zH} {n : Nat} {t : Nat} {w0 : Nat → Int32} {w1 : Nat → Int32} {w2 : Nat → Int32} {w3 : Nat → Int32} {w4 : Nat → Int32} {w5 : Nat → Int64} {w6 : Nat → Int64} {w7 : Nat → Int64} {w8 : Nat → Int64} {w9 : Nat → Int64} {w10 : Nat → Int64} {w11 : Nat → Int64} {w12 : Int32} {w13 : Int32} {w14 : Int32} {w15 : Int32} {w16 : Int32} {w17 : Int32} {w18 : Bool} {w19 : Nat → Int32} {w20 : Int32} {w21 : Nat → Int32} {w22 : Nat → Int32} {w23 : Nat → Int32} {w24 : Int32} {w25 : Int32} {w26 : Int32} {w27 : Int32} {w28 : Bool} {R S D : Nat} {k d : Nat}  (ht : z_n0 G ≤ t) (hw : z_ok w0 R S D) (hkS : k < S) (hd : d ≤ D) : z_C l G yX3_total 4 0 0 [.ref t, .int (nI k), .int (nI d)] (z_tw G t w0 w1 w2 w3 w4 w5 w6 w7 w8 w9 w10 w11 w12 w13 w14 w15 w16 w17 w18 w19 w20 w21 w22 w23 w24 w25 w26 w27 w28 h) n (z_rv (.long (tw_tot w5 k d 5)) (z_tw G t w0 w1 w2 w3 w4 w5 w6 w7 w8 w9 w10 w11 (nI 0) w13 w14 w15 w16 w17 w18 w19 w20 w21 w22 w23 w24 w25 w26 w27 w28 h) n) := by
  refine z_start zk_X3_total zpl_RX3 (Nat.le_of_ble_eq_true rfl) ?_
  intro hn0 M hl hG ho hb hN hr hm hH hrm hQ
  subst hl hG
  have ho : zm_o M = RX3 := ho
  obtain ⟨hR, hR4, hS, hS8, hD, hD6, hF⟩ := id hw
  show z_V M (z_tw (zm_G M) t w0 w1 w2 w3 w4 w5 w6 w7 w8 w9 w10 w11 w12 w13 w14 w15 w16 w17 w18 w19 w20 w21 w22 w23 w24 w25 w26 w27 w28 h) n 0 0 0 [(0, .ref t), (1, .int (nI k)), (2, .int (nI d))] []
  refine z_aload_n hb dX3_total_0 rfl ?_
  refine z_aload_n hb dX3_total_1 rfl ?_
  refine z_iload_n hb dX3_total_2 rfl ?_
  refine z_iload_n hb dX3_total_3 rfl ?_
  refine z_bipush (x := nI 97) hb dX3_total_4 (by decide) ?_
  refine z_call1 (b' := 0) (f' := 0) (rest := [.ref t]) (av := [.ref t, .int (nI k), .int (nI d), .int (nI 97)]) (z_siteV hb ho zc2 z_tw_o q3035 q3037 qs68 ⟨_, _, _, _, zk_X3_cannotAsk⟩ zy_X3_cannotAsk zl_X3_cannotAsk dX3_total_6 : z_Site M _ _ _ _ _ ([.int (nI k), .int (nI d), .int (nI 97)].reverse ++ .ref t :: [.ref t]) [.ref t] _) zk_X3_cannotAsk q104 hrm (m_X3_cannotAsk_ok ht hw hkS hd (by omega)) (by omega) (by decide) (Nat.le_of_ble_eq_true rfl) (by omega) (by omega) ?_
  refine z_put (k := 12) (C := RX3) (T := TX3) (N := 29) hb ho zc2 in_X3 tyX3_ok nmX3 (zf_RX3_47 _) dX3_total_9 z_tw_o ht (by decide) (Or.inl rfl) rfl rfl rfl (Nat.le_of_ble_eq_true rfl) ?_
  refine z_hh z_tw_u12 ?_
  refine z_lconst (x := 0) hb dX3_total_12 rfl ?_
  refine z_lstore_n (lv' := [(3, .long 0), (0, .ref t), (1, .int (nI k)), (2, .int (nI d))]) hb dX3_total_13 (by rw [hN]; decide) rfl ?_
  refine z_iconst (x := nI 0) hb dX3_total_14 (by decide) ?_
  refine z_istore (lv' := [(5, .int (nI 0)), (3, .long 0), (0, .ref t), (1, .int (nI k)), (2, .int (nI d))]) hb dX3_total_15 (by rw [hN]; decide) rfl ?_
  have lp_17 : ∀ (k9_17 : Nat) (g : Nat) (v : Int64), 5 - g < k9_17 → (g ≤ 5) → (v = tw_tot w5 k d g) → z_V M (z_tw (zm_G M) t w0 w1 w2 w3 w4 w5 w6 w7 w8 w9 w10 w11 (nI 0) w13 w14 w15 w16 w17 w18 w19 w20 w21 w22 w23 w24 w25 w26 w27 w28 h) n 0 0 17 [(5, .int (nI g)), (3, .long v), (0, .ref t), (1, .int (nI k)), (2, .int (nI d))] [] := by
    intro k9_17
    induction k9_17 with
    | zero => intro g v hk9_17; exact absurd hk9_17 (Nat.not_lt_zero _)
    | succ k9_17 ih_17 =>
      intro g v hk9_17 hg hv
      refine z_iload hb dX3_total_17 rfl ?_
      refine z_iconst (x := nI 5) hb dX3_total_19 (by decide) ?_
      refine z_icmp_geN (tgt := 51) hb dX3_total_20 (by decide) (by omega) (by omega) (fun c_20 => ?_) (fun c_20 => ?_)
      · refine z_lload_n hb dX3_total_51 rfl ?_
        refine z_lret hb hr dX3_total_52 ?_
        rw [hQ]
        rw [hv, show g = 5 by omega]; exact ⟨rfl, rfl, rfl⟩
      · refine z_aload_n hb dX3_total_23 rfl ?_
        refine z_get (k := 12) (C := RX3) (T := TX3) (N := 29) hb ho zc2 in_X3 (zf_RX3_47 _) dX3_total_24 z_tw_o (by decide) rfl ?_
        refine z_if_neN (tgt := 51) hb dX3_total_27 (by decide) (by omega) (fun c_27 => ?_) (fun c_27 => ?_)
        · exact absurd c_27 (by omega)
        · refine z_lload_n hb dX3_total_30 rfl ?_
          refine z_aload_n hb dX3_total_31 rfl ?_
          refine z_get (k := 5) (C := RX3) (T := TX3) (N := 29) hb ho zc2 in_X3 (zf_RX3_25 _) dX3_total_32 z_tw_o (by decide) rfl ?_
          refine z_iload_n hb dX3_total_35 rfl ?_
          refine z_iload_n hb dX3_total_36 rfl ?_
          refine z_iload hb dX3_total_37 rfl ?_
          refine z_call1 (b' := 0) (f' := 0) (rest := [.ref (t + 6), .long v]) (av := [.int (nI k), .int (nI d), .int (nI g)]) (z_siteS hb ho q2836 q2837 q104 ⟨_, _, _, _, zk_X3_at⟩ zy_X3_at zl_X3_at dX3_total_39 : z_Site M _ _ _ _ _ ([.int (nI k), .int (nI d), .int (nI g)].reverse ++ [.ref (t + 6), .long v]) [.ref (t + 6), .long v] _) zk_X3_at q104 hrm (m_X3_at k d g ht) (by omega) (by decide) (Nat.le_of_ble_eq_true rfl) (by omega) (by omega) ?_
          refine z_lald (j := 5 * (7 * k + d) + g) hb dX3_total_42 z_tw_r5 rfl (by omega) (by omega) ?_
          refine z_ladd hb dX3_total_43 ?_
          refine z_lstore_n (lv' := [(3, .long (v + (w5 (5 * (7 * k + d) + g)))), (5, .int (nI g)), (0, .ref t), (1, .int (nI k)), (2, .int (nI d))]) hb dX3_total_44 (by rw [hN]; decide) rfl ?_
          refine z_iinc (k0 := 1) (lv' := [(5, .int (nI (g + 1))), (3, .long (v + (w5 (5 * (7 * k + d) + g)))), (0, .ref t), (1, .int (nI k)), (2, .int (nI d))]) hb dX3_total_45 rfl (nI_1 g) (by rw [hN]; decide) rfl ?_
          refine z_goto (tgt := 17) hb dX3_total_48 (by decide) ?_
          refine z_lv [0, 1, 2, 3, 4] (lv' := [(5, .int (nI (g + 1))), (3, .long (v + (w5 (5 * (7 * k + d) + g)))), (0, .ref t), (1, .int (nI k)), (2, .int (nI d))]) rfl ?_
          exact ih_17 (g + 1) _ (by omega) (by omega) (by rw [hv]; rfl)
  refine z_lv [0, 1, 2, 3, 4] (lv' := [(5, .int (nI 0)), (3, .long 0), (0, .ref t), (1, .int (nI k)), (2, .int (nI d))]) rfl ?_
  exact lp_17 _ 0 _ (Nat.lt_succ_self _) (Nat.zero_le _) rfl

set_option maxHeartbeats 1000000 in
theorem m_X3_isStale_no {l : Launch} {G : zG} {h : zH} {n : Nat} {t : Nat} {w0 : Nat → Int32} {w1 : Nat → Int32} {w2 : Nat → Int32} {w3 : Nat → Int32} {w4 : Nat → Int32} {w5 : Nat → Int64} {w6 : Nat → Int64} {w7 : Nat → Int64} {w8 : Nat → Int64} {w9 : Nat → Int64} {w10 : Nat → Int64} {w11 : Nat → Int64} {w12 : Int32} {w13 : Int32} {w14 : Int32} {w15 : Int32} {w16 : Int32} {w17 : Int32} {w18 : Bool} {w19 : Nat → Int32} {w20 : Int32} {w21 : Nat → Int32} {w22 : Nat → Int32} {w23 : Nat → Int32} {w24 : Int32} {w25 : Int32} {w26 : Int32} {w27 : Int32} {w28 : Bool} {R S D : Nat} {x d : Int32}  (ht : z_n0 G ≤ t) (hw : z_ok w0 R S D) (hx : ¬tw_ask S D x d (nI 97) = 0) : z_C l G yX3_isStale 4 0 0 [.ref t, .int x, .int d] (z_tw G t w0 w1 w2 w3 w4 w5 w6 w7 w8 w9 w10 w11 w12 w13 w14 w15 w16 w17 w18 w19 w20 w21 w22 w23 w24 w25 w26 w27 w28 h) n (z_rv (.int (z_b false)) (z_tw G t w0 w1 w2 w3 w4 w5 w6 w7 w8 w9 w10 w11 (nI (tw_ask S D x d (nI 97))) w13 w14 w15 w16 w17 w18 w19 w20 w21 w22 w23 w24 w25 w26 w27 w28 h) n) := by
  refine z_start zk_X3_isStale zpl_RX3 (Nat.le_of_ble_eq_true rfl) ?_
  intro hn0 M hl hG ho hb hN hr hm hH hrm hQ
  subst hl hG
  have ho : zm_o M = RX3 := ho
  obtain ⟨hR, hR4, hS, hS8, hD, hD6, hF⟩ := id hw
  have hle := tw_ask_le S D x d (nI 97)
  show z_V M (z_tw (zm_G M) t w0 w1 w2 w3 w4 w5 w6 w7 w8 w9 w10 w11 w12 w13 w14 w15 w16 w17 w18 w19 w20 w21 w22 w23 w24 w25 w26 w27 w28 h) n 0 0 0 [(0, .ref t), (1, .int x), (2, .int d)] []
  refine z_aload_n hb dX3_isStale_0 rfl ?_
  refine z_aload_n hb dX3_isStale_1 rfl ?_
  refine z_iload_n hb dX3_isStale_2 rfl ?_
  refine z_iload_n hb dX3_isStale_3 rfl ?_
  refine z_bipush (x := nI 97) hb dX3_isStale_4 (by decide) ?_
  refine z_call1 (b' := 0) (f' := 0) (rest := [.ref t]) (av := [.ref t, .int x, .int d, .int (nI 97)]) (z_siteV hb ho zc2 z_tw_o q3035 q3037 qs68 ⟨_, _, _, _, zk_X3_cannotAsk⟩ zy_X3_cannotAsk zl_X3_cannotAsk dX3_isStale_6 : z_Site M _ _ _ _ _ ([.int x, .int d, .int (nI 97)].reverse ++ .ref t :: [.ref t]) [.ref t] _) zk_X3_cannotAsk q104 hrm (m_X3_cannotAsk x d (nI 97) ht hw) (by omega) (by decide) (Nat.le_of_ble_eq_true rfl) (by omega) (by omega) ?_
  refine z_put (k := 12) (C := RX3) (T := TX3) (N := 29) hb ho zc2 in_X3 tyX3_ok nmX3 (zf_RX3_47 _) dX3_isStale_9 z_tw_o ht (by decide) (Or.inl rfl) rfl rfl rfl (Nat.le_of_ble_eq_true rfl) ?_
  refine z_hh z_tw_u12 ?_
  refine z_aload_n hb dX3_isStale_12 rfl ?_
  refine z_get (k := 12) (C := RX3) (T := TX3) (N := 29) hb ho zc2 in_X3 (zf_RX3_47 _) dX3_isStale_13 z_tw_o (by decide) rfl ?_
  refine z_if_neN (tgt := 32) hb dX3_isStale_16 (by decide) (by omega) (fun c_16 => ?_) (fun c_16 => ?_)
  · refine z_iconst (x := nI 0) hb dX3_isStale_32 (by decide) ?_
    refine z_zret hb hr rfl dX3_isStale_33 ?_
    rw [hQ]
    exact ⟨rfl, rfl, rfl⟩
  · exact absurd c_16 (by omega)

set_option maxHeartbeats 1000000 in
theorem m_X3_isStale_ok {l : Launch} {G : zG} {h : zH} {n : Nat} {t : Nat} {w0 : Nat → Int32} {w1 : Nat → Int32} {w2 : Nat → Int32} {w3 : Nat → Int32} {w4 : Nat → Int32} {w5 : Nat → Int64} {w6 : Nat → Int64} {w7 : Nat → Int64} {w8 : Nat → Int64} {w9 : Nat → Int64} {w10 : Nat → Int64} {w11 : Nat → Int64} {w12 : Int32} {w13 : Int32} {w14 : Int32} {w15 : Int32} {w16 : Int32} {w17 : Int32} {w18 : Bool} {w19 : Nat → Int32} {w20 : Int32} {w21 : Nat → Int32} {w22 : Nat → Int32} {w23 : Nat → Int32} {w24 : Int32} {w25 : Int32} {w26 : Int32} {w27 : Int32} {w28 : Bool} {R S D : Nat} {k d : Nat}  (ht : z_n0 G ≤ t) (hw : z_ok w0 R S D) (hkS : k < S) (hd : d ≤ D) : z_C l G yX3_isStale 4 0 0 [.ref t, .int (nI k), .int (nI d)] (z_tw G t w0 w1 w2 w3 w4 w5 w6 w7 w8 w9 w10 w11 w12 w13 w14 w15 w16 w17 w18 w19 w20 w21 w22 w23 w24 w25 w26 w27 w28 h) n (z_rv (.int (z_b (tw_st w0 k d))) (z_tw G t w0 w1 w2 w3 w4 w5 w6 w7 w8 w9 w10 w11 (nI 0) w13 w14 w15 w16 w17 w18 w19 w20 w21 w22 w23 w24 w25 w26 w27 w28 h) n) := by
  refine z_start zk_X3_isStale zpl_RX3 (Nat.le_of_ble_eq_true rfl) ?_
  intro hn0 M hl hG ho hb hN hr hm hH hrm hQ
  subst hl hG
  have ho : zm_o M = RX3 := ho
  obtain ⟨hR, hR4, hS, hS8, hD, hD6, hF⟩ := id hw
  show z_V M (z_tw (zm_G M) t w0 w1 w2 w3 w4 w5 w6 w7 w8 w9 w10 w11 w12 w13 w14 w15 w16 w17 w18 w19 w20 w21 w22 w23 w24 w25 w26 w27 w28 h) n 0 0 0 [(0, .ref t), (1, .int (nI k)), (2, .int (nI d))] []
  refine z_aload_n hb dX3_isStale_0 rfl ?_
  refine z_aload_n hb dX3_isStale_1 rfl ?_
  refine z_iload_n hb dX3_isStale_2 rfl ?_
  refine z_iload_n hb dX3_isStale_3 rfl ?_
  refine z_bipush (x := nI 97) hb dX3_isStale_4 (by decide) ?_
  refine z_call1 (b' := 0) (f' := 0) (rest := [.ref t]) (av := [.ref t, .int (nI k), .int (nI d), .int (nI 97)]) (z_siteV hb ho zc2 z_tw_o q3035 q3037 qs68 ⟨_, _, _, _, zk_X3_cannotAsk⟩ zy_X3_cannotAsk zl_X3_cannotAsk dX3_isStale_6 : z_Site M _ _ _ _ _ ([.int (nI k), .int (nI d), .int (nI 97)].reverse ++ .ref t :: [.ref t]) [.ref t] _) zk_X3_cannotAsk q104 hrm (m_X3_cannotAsk_ok ht hw hkS hd (by omega)) (by omega) (by decide) (Nat.le_of_ble_eq_true rfl) (by omega) (by omega) ?_
  refine z_put (k := 12) (C := RX3) (T := TX3) (N := 29) hb ho zc2 in_X3 tyX3_ok nmX3 (zf_RX3_47 _) dX3_isStale_9 z_tw_o ht (by decide) (Or.inl rfl) rfl rfl rfl (Nat.le_of_ble_eq_true rfl) ?_
  refine z_hh z_tw_u12 ?_
  refine z_aload_n hb dX3_isStale_12 rfl ?_
  refine z_get (k := 12) (C := RX3) (T := TX3) (N := 29) hb ho zc2 in_X3 (zf_RX3_47 _) dX3_isStale_13 z_tw_o (by decide) rfl ?_
  refine z_if_neN (tgt := 32) hb dX3_isStale_16 (by decide) (by omega) (fun c_16 => ?_) (fun c_16 => ?_)
  · exact absurd c_16 (by omega)
  · refine z_aload_n hb dX3_isStale_19 rfl ?_
    refine z_iload_n hb dX3_isStale_20 rfl ?_
    refine z_iload_n hb dX3_isStale_21 rfl ?_
    refine z_call1 (b' := 0) (f' := 0) (rest := []) (av := [.ref t, .int (nI k), .int (nI d)]) (z_siteV hb ho zc2 z_tw_o q2828 q2830 qs36 ⟨_, _, _, _, zk_X3_isStaleNow⟩ zy_X3_isStaleNow zl_X3_isStaleNow dX3_isStale_22 : z_Site M _ _ _ _ _ ([.int (nI k), .int (nI d)].reverse ++ .ref t :: []) [] _) zk_X3_isStaleNow q104 hrm (m_X3_isStaleNow k d ht (by omega) (by omega)) (by omega) (by decide) (Nat.le_of_ble_eq_true rfl) (by omega) (by omega) ?_
    refine z_ifb_eq (tgt := 32) hb dX3_isStale_25 (by decide) (fun c_25 => ?_) (fun c_25 => ?_)
    · refine z_iconst (x := nI 0) hb dX3_isStale_32 (by decide) ?_
      refine z_zret hb hr rfl dX3_isStale_33 ?_
      rw [hQ]
      exact z_rvb0 c_25
    · refine z_iconst (x := nI 1) hb dX3_isStale_28 (by decide) ?_
      refine z_goto (tgt := 33) hb dX3_isStale_29 (by decide) ?_
      refine z_zret hb hr rfl dX3_isStale_33 ?_
      rw [hQ]
      exact z_rvb1 c_25

set_option maxHeartbeats 1000000 in
theorem m_X3_staleCount {l : Launch} {G : zG} {h : zH} {n : Nat} {t : Nat} {w0 : Nat → Int32} {w1 : Nat → Int32} {w2 : Nat → Int32} {w3 : Nat → Int32} {w4 : Nat → Int32} {w5 : Nat → Int64} {w6 : Nat → Int64} {w7 : Nat → Int64} {w8 : Nat → Int64} {w9 : Nat → Int64} {w10 : Nat → Int64} {w11 : Nat → Int64} {w12 : Int32} {w13 : Int32} {w14 : Int32} {w15 : Int32} {w16 : Int32} {w17 : Int32} {w18 : Bool} {w19 : Nat → Int32} {w20 : Int32} {w21 : Nat → Int32} {w22 : Nat → Int32} {w23 : Nat → Int32} {w24 : Int32} {w25 : Int32} {w26 : Int32} {w27 : Int32} {w28 : Bool} {R S D : Nat}   (ht : z_n0 G ≤ t) (hw : z_ok w0 R S D) : z_C l G yX3_staleCount 2 0 0 [.ref t] (z_tw G t w0 w1 w2 w3 w4 w5 w6 w7 w8 w9 w10 w11 w12 w13 w14 w15 w16 w17 w18 w19 w20 w21 w22 w23 w24 w25 w26 w27 w28 h) n (z_rv (.int (nI (tw_sc w0 D S))) (z_tw G t w0 w1 w2 w3 w4 w5 w6 w7 w8 w9 w10 w11 w12 w13 w14 w15 w16 w17 w18 w19 w20 w21 w22 w23 w24 w25 w26 w27 w28 h) n) := by
  refine z_start zk_X3_staleCount zpl_RX3 (Nat.le_of_ble_eq_true rfl) ?_
  intro hn0 M hl hG ho hb hN hr hm hH hrm hQ
  subst hl hG
  have ho : zm_o M = RX3 := ho
  obtain ⟨hR, hR4, hS, hS8, hD, hD6, hF⟩ := id hw
  show z_V M (z_tw (zm_G M) t w0 w1 w2 w3 w4 w5 w6 w7 w8 w9 w10 w11 w12 w13 w14 w15 w16 w17 w18 w19 w20 w21 w22 w23 w24 w25 w26 w27 w28 h) n 0 0 0 [(0, .ref t)] []
  refine z_iconst (x := nI 0) hb dX3_staleCount_0 (by decide) ?_
  refine z_istore_n (lv' := [(1, .int (nI 0)), (0, .ref t)]) hb dX3_staleCount_1 (by rw [hN]; decide) rfl ?_
  refine z_iconst (x := nI 0) hb dX3_staleCount_2 (by decide) ?_
  refine z_istore_n (lv' := [(2, .int (nI 0)), (1, .int (nI 0)), (0, .ref t)]) hb dX3_staleCount_3 (by rw [hN]; decide) rfl ?_
  have lp_4 : ∀ (k9_4 : Nat) (k : Nat) (c : Nat), S - k < k9_4 → (k ≤ S) → (c = tw_sc w0 D k) → z_V M (z_tw (zm_G M) t w0 w1 w2 w3 w4 w5 w6 w7 w8 w9 w10 w11 w12 w13 w14 w15 w16 w17 w18 w19 w20 w21 w22 w23 w24 w25 w26 w27 w28 h) n 0 0 4 [(2, .int (nI k)), (1, .int (nI c)), (0, .ref t)] [] := by
    intro k9_4
    induction k9_4 with
    | zero => intro k c hk9_4; exact absurd hk9_4 (Nat.not_lt_zero _)
    | succ k9_4 ih_4 =>
      intro k c hk9_4 hk hc
      refine z_iload_n hb dX3_staleCount_4 rfl ?_
      refine z_aload_n hb dX3_staleCount_5 rfl ?_
      refine z_get (k := 0) (C := RX3) (T := TX3) (N := 29) hb ho zc2 in_X3 (zf_RX3_7 _) dX3_staleCount_6 z_tw_o (by decide) rfl ?_
      refine z_iconst (x := nI 3) hb dX3_staleCount_9 (by decide) ?_
      refine z_iald (j := 3) hb dX3_staleCount_10 z_tw_r0 rfl (by omega) (by omega) ?_
      refine z_toI (y := nI S) hS ?_
      refine z_icmp_geN (tgt := 55) hb dX3_staleCount_11 (by decide) (by omega) (by omega) (fun c_11 => ?_) (fun c_11 => ?_)
      · refine z_iload_n hb dX3_staleCount_55 rfl ?_
        refine z_iret hb hr dX3_staleCount_56 ?_
        rw [hQ]
        exact z_rve (by rw [hc, show k = S by omega])
      · refine z_iconst (x := nI 0) hb dX3_staleCount_14 (by decide) ?_
        refine z_istore_n (lv' := [(3, .int (nI 0)), (2, .int (nI k)), (1, .int (nI c)), (0, .ref t)]) hb dX3_staleCount_15 (by rw [hN]; decide) rfl ?_
        have lp_16 : ∀ (k9_16 : Nat) (d : Nat) (c2 : Nat), D + 1 - d < k9_16 → (d ≤ D + 1) → (c2 = c + tw_sc1 w0 k d) → z_V M (z_tw (zm_G M) t w0 w1 w2 w3 w4 w5 w6 w7 w8 w9 w10 w11 w12 w13 w14 w15 w16 w17 w18 w19 w20 w21 w22 w23 w24 w25 w26 w27 w28 h) n 0 0 16 [(3, .int (nI d)), (2, .int (nI k)), (1, .int (nI c2)), (0, .ref t)] [] := by
          intro k9_16
          induction k9_16 with
          | zero => intro d c2 hk9_16; exact absurd hk9_16 (Nat.not_lt_zero _)
          | succ k9_16 ih_16 =>
            intro d c2 hk9_16 hd hc2
            refine z_iload_n hb dX3_staleCount_16 rfl ?_
            refine z_aload_n hb dX3_staleCount_17 rfl ?_
            refine z_get (k := 0) (C := RX3) (T := TX3) (N := 29) hb ho zc2 in_X3 (zf_RX3_7 _) dX3_staleCount_18 z_tw_o (by decide) rfl ?_
            refine z_iconst (x := nI 0) hb dX3_staleCount_21 (by decide) ?_
            refine z_iald (j := 0) hb dX3_staleCount_22 z_tw_r0 rfl (by omega) (by omega) ?_
            refine z_toI (y := nI D) hD ?_
            refine z_icmp_gtN (tgt := 49) hb dX3_staleCount_23 (by decide) (by omega) (by omega) (fun c_23 => ?_) (fun c_23 => ?_)
            · refine z_iinc (k0 := 1) (lv' := [(2, .int (nI (k + 1))), (3, .int (nI d)), (1, .int (nI c2)), (0, .ref t)]) hb dX3_staleCount_49 rfl (nI_1 k) (by rw [hN]; decide) rfl ?_
              refine z_goto (tgt := 4) hb dX3_staleCount_52 (by decide) ?_
              refine z_lv [0, 2, 3] (lv' := [(2, .int (nI (k + 1))), (1, .int (nI c2)), (0, .ref t)]) rfl ?_
              exact ih_4 (k + 1) _ (by omega) (by omega) (by rw [hc2, show d = D + 1 by omega, hc]; rfl)
            · refine z_iload_n hb dX3_staleCount_26 rfl ?_
              refine z_aload_n hb dX3_staleCount_27 rfl ?_
              refine z_iload_n hb dX3_staleCount_28 rfl ?_
              refine z_iload_n hb dX3_staleCount_29 rfl ?_
              refine z_call1 (b' := 0) (f' := 0) (rest := [.int (nI c2)]) (av := [.ref t, .int (nI k), .int (nI d)]) (z_siteV hb ho zc2 z_tw_o q2828 q2830 qs36 ⟨_, _, _, _, zk_X3_isStaleNow⟩ zy_X3_isStaleNow zl_X3_isStaleNow dX3_staleCount_30 : z_Site M _ _ _ _ _ ([.int (nI k), .int (nI d)].reverse ++ .ref t :: [.int (nI c2)]) [.int (nI c2)] _) zk_X3_isStaleNow q104 hrm (m_X3_isStaleNow k d ht (by omega) (by omega)) (by omega) (by decide) (Nat.le_of_ble_eq_true rfl) (by omega) (by omega) ?_
              refine z_ifb_eq (tgt := 40) hb dX3_staleCount_33 (by decide) (fun c_33 => ?_) (fun c_33 => ?_)
              · refine z_iconst (x := nI 0) hb dX3_staleCount_40 (by decide) ?_
                refine z_iadd hb dX3_staleCount_41 ?_
                refine z_toI (y := nI c2) (nI_add c2 0) ?_
                refine z_istore_n (lv' := [(1, .int (nI c2)), (3, .int (nI d)), (2, .int (nI k)), (0, .ref t)]) hb dX3_staleCount_42 (by rw [hN]; decide) rfl ?_
                refine z_iinc (k0 := 1) (lv' := [(3, .int (nI (d + 1))), (1, .int (nI c2)), (2, .int (nI k)), (0, .ref t)]) hb dX3_staleCount_43 rfl (nI_1 d) (by rw [hN]; decide) rfl ?_
                refine z_goto (tgt := 16) hb dX3_staleCount_46 (by decide) ?_
                refine z_lv [0, 2, 1, 3] (lv' := [(3, .int (nI (d + 1))), (2, .int (nI k)), (1, .int (nI c2)), (0, .ref t)]) rfl ?_
                exact ih_16 (d + 1) _ (by omega) (by omega) (by rw [hc2, tw_sc1, c_33]; rfl)
              · refine z_iconst (x := nI 1) hb dX3_staleCount_36 (by decide) ?_
                refine z_goto (tgt := 41) hb dX3_staleCount_37 (by decide) ?_
                refine z_iadd hb dX3_staleCount_41 ?_
                refine z_toI (y := nI (c2 + 1)) (nI_add c2 1) ?_
                refine z_istore_n (lv' := [(1, .int (nI (c2 + 1))), (3, .int (nI d)), (2, .int (nI k)), (0, .ref t)]) hb dX3_staleCount_42 (by rw [hN]; decide) rfl ?_
                refine z_iinc (k0 := 1) (lv' := [(3, .int (nI (d + 1))), (1, .int (nI (c2 + 1))), (2, .int (nI k)), (0, .ref t)]) hb dX3_staleCount_43 rfl (nI_1 d) (by rw [hN]; decide) rfl ?_
                refine z_goto (tgt := 16) hb dX3_staleCount_46 (by decide) ?_
                refine z_lv [0, 2, 1, 3] (lv' := [(3, .int (nI (d + 1))), (2, .int (nI k)), (1, .int (nI (c2 + 1))), (0, .ref t)]) rfl ?_
                exact ih_16 (d + 1) _ (by omega) (by omega) (by rw [hc2, tw_sc1, c_33]; rfl)
        refine z_lv [0, 1, 2, 3] (lv' := [(3, .int (nI 0)), (2, .int (nI k)), (1, .int (nI c)), (0, .ref t)]) rfl ?_
        exact lp_16 _ 0 _ (Nat.lt_succ_self _) (Nat.zero_le _) rfl
  refine z_lv [0, 1, 2] (lv' := [(2, .int (nI 0)), (1, .int (nI 0)), (0, .ref t)]) rfl ?_
  exact lp_4 _ 0 _ (Nat.lt_succ_self _) (Nat.zero_le _) rfl

set_option maxHeartbeats 1000000 in
theorem m_X3_stale {l : Launch} {G : zG} {h : zH} {n : Nat} {t : Nat} {w0 : Nat → Int32} {w1 : Nat → Int32} {w2 : Nat → Int32} {w3 : Nat → Int32} {w4 : Nat → Int32} {w5 : Nat → Int64} {w6 : Nat → Int64} {w7 : Nat → Int64} {w8 : Nat → Int64} {w9 : Nat → Int64} {w10 : Nat → Int64} {w11 : Nat → Int64} {w12 : Int32} {w13 : Int32} {w14 : Int32} {w15 : Int32} {w16 : Int32} {w17 : Int32} {w18 : Bool} {w19 : Nat → Int32} {w20 : Int32} {w21 : Nat → Int32} {w22 : Nat → Int32} {w23 : Nat → Int32} {w24 : Int32} {w25 : Int32} {w26 : Int32} {w27 : Int32} {w28 : Bool} {R S D : Nat}   (ht : z_n0 G ≤ t) (hw : z_ok w0 R S D) : z_C l G yX3_stale 3 0 0 [.ref t] (z_tw G t w0 w1 w2 w3 w4 w5 w6 w7 w8 w9 w10 w11 w12 w13 w14 w15 w16 w17 w18 w19 w20 w21 w22 w23 w24 w25 w26 w27 w28 h) n (z_rv (.int (nI (tw_sc w0 D S))) (z_tw G t w0 w1 w2 w3 w4 w5 w6 w7 w8 w9 w10 w11 (nI 0) w13 w14 w15 w16 w17 w18 w19 w20 w21 w22 w23 w24 w25 w26 w27 w28 h) n) := by
  refine z_start zk_X3_stale zpl_RX3 (Nat.le_of_ble_eq_true rfl) ?_
  intro hn0 M hl hG ho hb hN hr hm hH hrm hQ
  subst hl hG
  have ho : zm_o M = RX3 := ho
  obtain ⟨hR, hR4, hS, hS8, hD, hD6, hF⟩ := id hw
  show z_V M (z_tw (zm_G M) t w0 w1 w2 w3 w4 w5 w6 w7 w8 w9 w10 w11 w12 w13 w14 w15 w16 w17 w18 w19 w20 w21 w22 w23 w24 w25 w26 w27 w28 h) n 0 0 0 [(0, .ref t)] []
  refine z_aload_n hb dX3_stale_0 rfl ?_
  refine z_aload_n hb dX3_stale_1 rfl ?_
  refine z_call1 (b' := 0) (f' := 0) (rest := [.ref t]) (av := [.ref t]) (z_siteV hb ho zc2 z_tw_o q3059 q3061 qs70 ⟨_, _, _, _, zk_X3_staleCount⟩ zy_X3_staleCount zl_X3_staleCount dX3_stale_2 : z_Site M _ _ _ _ _ ([].reverse ++ .ref t :: [.ref t]) [.ref t] _) zk_X3_staleCount q104 hrm (m_X3_staleCount ht hw) (by omega) (by decide) (Nat.le_of_ble_eq_true rfl) (by omega) (by omega) ?_
  refine z_call1 (b' := 0) (f' := 0) (rest := []) (av := [.ref t, .int (nI (tw_sc w0 D S))]) (z_siteV hb ho zc2 z_tw_o q2983 q2985 qs65 ⟨_, _, _, _, zk_X3_plain⟩ zy_X3_plain zl_X3_plain dX3_stale_5 : z_Site M _ _ _ _ _ ([.int (nI (tw_sc w0 D S))].reverse ++ .ref t :: []) [] _) zk_X3_plain q104 hrm (m_X3_plain (nI (tw_sc w0 D S)) ht) (by omega) (by decide) (Nat.le_of_ble_eq_true rfl) (by omega) (by omega) ?_
  refine z_iret hb hr dX3_stale_8 ?_
  rw [hQ]
  exact ⟨rfl, rfl, rfl⟩

set_option maxHeartbeats 1000000 in
theorem m_X3_wrong {l : Launch} {G : zG} {h : zH} {n : Nat} {t : Nat} {w0 : Nat → Int32} {w1 : Nat → Int32} {w2 : Nat → Int32} {w3 : Nat → Int32} {w4 : Nat → Int32} {w5 : Nat → Int64} {w6 : Nat → Int64} {w7 : Nat → Int64} {w8 : Nat → Int64} {w9 : Nat → Int64} {w10 : Nat → Int64} {w11 : Nat → Int64} {w12 : Int32} {w13 : Int32} {w14 : Int32} {w15 : Int32} {w16 : Int32} {w17 : Int32} {w18 : Bool} {w19 : Nat → Int32} {w20 : Int32} {w21 : Nat → Int32} {w22 : Nat → Int32} {w23 : Nat → Int32} {w24 : Int32} {w25 : Int32} {w26 : Int32} {w27 : Int32} {w28 : Bool} {R S D : Nat}   (ht : z_n0 G ≤ t) (hw : z_ok w0 R S D) : z_C l G yX3_wrong 6 0 0 [.ref t] (z_tw G t w0 w1 w2 w3 w4 w5 w6 w7 w8 w9 w10 w11 w12 w13 w14 w15 w16 w17 w18 w19 w20 w21 w22 w23 w24 w25 w26 w27 w28 h) n (z_rv (.int (nI (tw_wr w5 (tw_la w0 R D w9 S) D S))) (z_tw G t w0 w1 w2 w3 w4 w5 w6 w7 w8 (tw_la w0 R D w9 S) w10 w11 (nI 0) w13 w14 w15 w16 w17 w18 w19 w20 w21 w22 w23 w24 w25 w26 w27 w28 h) n) := by
  refine z_start zk_X3_wrong zpl_RX3 (Nat.le_of_ble_eq_true rfl) ?_
  intro hn0 M hl hG ho hb hN hr hm hH hrm hQ
  subst hl hG
  have ho : zm_o M = RX3 := ho
  obtain ⟨hR, hR4, hS, hS8, hD, hD6, hF⟩ := id hw
  show z_V M (z_tw (zm_G M) t w0 w1 w2 w3 w4 w5 w6 w7 w8 w9 w10 w11 w12 w13 w14 w15 w16 w17 w18 w19 w20 w21 w22 w23 w24 w25 w26 w27 w28 h) n 0 0 0 [(0, .ref t)] []
  refine z_aload_n hb dX3_wrong_0 rfl ?_
  refine z_iconst (x := nI 0) hb dX3_wrong_1 (by decide) ?_
  refine z_put (k := 12) (C := RX3) (T := TX3) (N := 29) hb ho zc2 in_X3 tyX3_ok nmX3 (zf_RX3_47 _) dX3_wrong_2 z_tw_o ht (by decide) (Or.inl rfl) rfl rfl rfl (Nat.le_of_ble_eq_true rfl) ?_
  refine z_hh z_tw_u12 ?_
  refine z_aload_n hb dX3_wrong_5 rfl ?_
  refine z_call0 (b' := 0) (f' := 0) (rest := []) (av := [.ref t]) (z_siteV hb ho zc2 z_tw_o q3043 q3045 qs69 ⟨_, _, _, _, zk_X3_layAnew⟩ zy_X3_layAnew zl_X3_layAnew dX3_wrong_6 : z_Site M _ _ _ _ _ ([].reverse ++ .ref t :: []) [] _) zk_X3_layAnew q104 hrm (m_X3_layAnew ht hw) (by omega) (by decide) (Nat.le_of_ble_eq_true rfl) (by omega) (by omega) ?_
  refine z_iconst (x := nI 0) hb dX3_wrong_9 (by decide) ?_
  refine z_istore_n (lv' := [(1, .int (nI 0)), (0, .ref t)]) hb dX3_wrong_10 (by rw [hN]; decide) rfl ?_
  refine z_iconst (x := nI 0) hb dX3_wrong_11 (by decide) ?_
  refine z_istore_n (lv' := [(2, .int (nI 0)), (1, .int (nI 0)), (0, .ref t)]) hb dX3_wrong_12 (by rw [hN]; decide) rfl ?_
  have lp_13 : ∀ (k9_13 : Nat) (k : Nat) (c : Nat), S - k < k9_13 → (k ≤ S) → (c = tw_wr w5 (tw_la w0 R D w9 S) D k) → z_V M (z_tw (zm_G M) t w0 w1 w2 w3 w4 w5 w6 w7 w8 (tw_la w0 R D w9 S) w10 w11 (nI 0) w13 w14 w15 w16 w17 w18 w19 w20 w21 w22 w23 w24 w25 w26 w27 w28 h) n 0 0 13 [(2, .int (nI k)), (1, .int (nI c)), (0, .ref t)] [] := by
    intro k9_13
    induction k9_13 with
    | zero => intro k c hk9_13; exact absurd hk9_13 (Nat.not_lt_zero _)
    | succ k9_13 ih_13 =>
      intro k c hk9_13 hk hc
      refine z_iload_n hb dX3_wrong_13 rfl ?_
      refine z_aload_n hb dX3_wrong_14 rfl ?_
      refine z_get (k := 0) (C := RX3) (T := TX3) (N := 29) hb ho zc2 in_X3 (zf_RX3_7 _) dX3_wrong_15 z_tw_o (by decide) rfl ?_
      refine z_iconst (x := nI 3) hb dX3_wrong_18 (by decide) ?_
      refine z_iald (j := 3) hb dX3_wrong_19 z_tw_r0 rfl (by omega) (by omega) ?_
      refine z_toI (y := nI S) hS ?_
      refine z_icmp_geN (tgt := 98) hb dX3_wrong_20 (by decide) (by omega) (by omega) (fun c_20 => ?_) (fun c_20 => ?_)
      · refine z_iload_n hb dX3_wrong_98 rfl ?_
        refine z_iret hb hr dX3_wrong_99 ?_
        rw [hQ]
        rw [hc, show k = S by omega]; exact ⟨rfl, rfl, rfl⟩
      · refine z_iconst (x := nI 0) hb dX3_wrong_23 (by decide) ?_
        refine z_istore_n (lv' := [(3, .int (nI 0)), (2, .int (nI k)), (1, .int (nI c)), (0, .ref t)]) hb dX3_wrong_24 (by rw [hN]; decide) rfl ?_
        have lp_25 : ∀ (k9_25 : Nat) (d : Nat) (c2 : Nat), D + 1 - d < k9_25 → (d ≤ D + 1) → (c2 = c + tw_wr2 w5 (tw_la w0 R D w9 S) k d) → z_V M (z_tw (zm_G M) t w0 w1 w2 w3 w4 w5 w6 w7 w8 (tw_la w0 R D w9 S) w10 w11 (nI 0) w13 w14 w15 w16 w17 w18 w19 w20 w21 w22 w23 w24 w25 w26 w27 w28 h) n 0 0 25 [(3, .int (nI d)), (2, .int (nI k)), (1, .int (nI c2)), (0, .ref t)] [] := by
          intro k9_25
          induction k9_25 with
          | zero => intro d c2 hk9_25; exact absurd hk9_25 (Nat.not_lt_zero _)
          | succ k9_25 ih_25 =>
            intro d c2 hk9_25 hd hc2
            refine z_iload_n hb dX3_wrong_25 rfl ?_
            refine z_aload_n hb dX3_wrong_26 rfl ?_
            refine z_get (k := 0) (C := RX3) (T := TX3) (N := 29) hb ho zc2 in_X3 (zf_RX3_7 _) dX3_wrong_27 z_tw_o (by decide) rfl ?_
            refine z_iconst (x := nI 0) hb dX3_wrong_30 (by decide) ?_
            refine z_iald (j := 0) hb dX3_wrong_31 z_tw_r0 rfl (by omega) (by omega) ?_
            refine z_toI (y := nI D) hD ?_
            refine z_icmp_gtN (tgt := 92) hb dX3_wrong_32 (by decide) (by omega) (by omega) (fun c_32 => ?_) (fun c_32 => ?_)
            · refine z_iinc (k0 := 1) (lv' := [(2, .int (nI (k + 1))), (3, .int (nI d)), (1, .int (nI c2)), (0, .ref t)]) hb dX3_wrong_92 rfl (nI_1 k) (by rw [hN]; decide) rfl ?_
              refine z_goto (tgt := 13) hb dX3_wrong_95 (by decide) ?_
              refine z_lv [0, 2, 3] (lv' := [(2, .int (nI (k + 1))), (1, .int (nI c2)), (0, .ref t)]) rfl ?_
              exact ih_13 (k + 1) _ (by omega) (by omega) (by rw [hc2, show d = D + 1 by omega, hc]; rfl)
            · refine z_iconst (x := nI 0) hb dX3_wrong_35 (by decide) ?_
              refine z_istore (lv' := [(4, .int (nI 0)), (3, .int (nI d)), (2, .int (nI k)), (1, .int (nI c2)), (0, .ref t)]) hb dX3_wrong_36 (by rw [hN]; decide) rfl ?_
              have lp_38 : ∀ (k9_38 : Nat) (g : Nat) (c3 : Nat), 5 - g < k9_38 → (g ≤ 5) → (c3 = c2 + tw_wr1 w5 (tw_la w0 R D w9 S) k d g) → z_V M (z_tw (zm_G M) t w0 w1 w2 w3 w4 w5 w6 w7 w8 (tw_la w0 R D w9 S) w10 w11 (nI 0) w13 w14 w15 w16 w17 w18 w19 w20 w21 w22 w23 w24 w25 w26 w27 w28 h) n 0 0 38 [(4, .int (nI g)), (3, .int (nI d)), (2, .int (nI k)), (1, .int (nI c3)), (0, .ref t)] [] := by
                intro k9_38
                induction k9_38 with
                | zero => intro g c3 hk9_38; exact absurd hk9_38 (Nat.not_lt_zero _)
                | succ k9_38 ih_38 =>
                  intro g c3 hk9_38 hg hc3
                  refine z_iload hb dX3_wrong_38 rfl ?_
                  refine z_iconst (x := nI 5) hb dX3_wrong_40 (by decide) ?_
                  refine z_icmp_geN (tgt := 86) hb dX3_wrong_41 (by decide) (by omega) (by omega) (fun c_41 => ?_) (fun c_41 => ?_)
                  · refine z_iinc (k0 := 1) (lv' := [(3, .int (nI (d + 1))), (4, .int (nI g)), (2, .int (nI k)), (1, .int (nI c3)), (0, .ref t)]) hb dX3_wrong_86 rfl (nI_1 d) (by rw [hN]; decide) rfl ?_
                    refine z_goto (tgt := 25) hb dX3_wrong_89 (by decide) ?_
                    refine z_lv [0, 2, 3, 4] (lv' := [(3, .int (nI (d + 1))), (2, .int (nI k)), (1, .int (nI c3)), (0, .ref t)]) rfl ?_
                    exact ih_25 (d + 1) _ (by omega) (by omega) (by rw [hc3, show g = 5 by omega, hc2]; rw [tw_wr2]; omega)
                  · refine z_iload_n hb dX3_wrong_44 rfl ?_
                    refine z_aload_n hb dX3_wrong_45 rfl ?_
                    refine z_get (k := 5) (C := RX3) (T := TX3) (N := 29) hb ho zc2 in_X3 (zf_RX3_25 _) dX3_wrong_46 z_tw_o (by decide) rfl ?_
                    refine z_iload_n hb dX3_wrong_49 rfl ?_
                    refine z_iload_n hb dX3_wrong_50 rfl ?_
                    refine z_iload hb dX3_wrong_51 rfl ?_
                    refine z_call1 (b' := 0) (f' := 0) (rest := [.ref (t + 6), .int (nI c3)]) (av := [.int (nI k), .int (nI d), .int (nI g)]) (z_siteS hb ho q2836 q2837 q104 ⟨_, _, _, _, zk_X3_at⟩ zy_X3_at zl_X3_at dX3_wrong_53 : z_Site M _ _ _ _ _ ([.int (nI k), .int (nI d), .int (nI g)].reverse ++ [.ref (t + 6), .int (nI c3)]) [.ref (t + 6), .int (nI c3)] _) zk_X3_at q104 hrm (m_X3_at k d g ht) (by omega) (by decide) (Nat.le_of_ble_eq_true rfl) (by omega) (by omega) ?_
                    refine z_lald (j := 5 * (7 * k + d) + g) hb dX3_wrong_56 z_tw_r5 rfl (by omega) (by omega) ?_
                    refine z_aload_n hb dX3_wrong_57 rfl ?_
                    refine z_get (k := 9) (C := RX3) (T := TX3) (N := 29) hb ho zc2 in_X3 (zf_RX3_38 _) dX3_wrong_58 z_tw_o (by decide) rfl ?_
                    refine z_iload_n hb dX3_wrong_61 rfl ?_
                    refine z_iload_n hb dX3_wrong_62 rfl ?_
                    refine z_iload hb dX3_wrong_63 rfl ?_
                    refine z_call1 (b' := 0) (f' := 0) (rest := [.ref (t + 10), .long (w5 (5 * (7 * k + d) + g)), .int (nI c3)]) (av := [.int (nI k), .int (nI d), .int (nI g)]) (z_siteS hb ho q2836 q2837 q104 ⟨_, _, _, _, zk_X3_at⟩ zy_X3_at zl_X3_at dX3_wrong_65 : z_Site M _ _ _ _ _ ([.int (nI k), .int (nI d), .int (nI g)].reverse ++ [.ref (t + 10), .long (w5 (5 * (7 * k + d) + g)), .int (nI c3)]) [.ref (t + 10), .long (w5 (5 * (7 * k + d) + g)), .int (nI c3)] _) zk_X3_at q104 hrm (m_X3_at k d g ht) (by omega) (by decide) (Nat.le_of_ble_eq_true rfl) (by omega) (by omega) ?_
                    refine z_lald (j := 5 * (7 * k + d) + g) hb dX3_wrong_68 z_tw_r9 rfl (by omega) (by omega) ?_
                    refine z_lif_eq (tgt := 77) hb dX3_wrong_69 dX3_wrong_70 (by decide) (fun c_70 => ?_) (fun c_70 => ?_)
                    · refine z_iconst (x := nI 0) hb dX3_wrong_77 (by decide) ?_
                      refine z_iadd hb dX3_wrong_78 ?_
                      refine z_toI (y := nI c3) (nI_add c3 0) ?_
                      refine z_istore_n (lv' := [(1, .int (nI c3)), (4, .int (nI g)), (3, .int (nI d)), (2, .int (nI k)), (0, .ref t)]) hb dX3_wrong_79 (by rw [hN]; decide) rfl ?_
                      refine z_iinc (k0 := 1) (lv' := [(4, .int (nI (g + 1))), (1, .int (nI c3)), (3, .int (nI d)), (2, .int (nI k)), (0, .ref t)]) hb dX3_wrong_80 rfl (nI_1 g) (by rw [hN]; decide) rfl ?_
                      refine z_goto (tgt := 38) hb dX3_wrong_83 (by decide) ?_
                      refine z_lv [0, 2, 3, 1, 4] (lv' := [(4, .int (nI (g + 1))), (3, .int (nI d)), (2, .int (nI k)), (1, .int (nI c3)), (0, .ref t)]) rfl ?_
                      exact ih_38 (g + 1) _ (by omega) (by omega) (by rw [hc3, tw_wr1]; simp [c_70]; try omega)
                    · refine z_iconst (x := nI 1) hb dX3_wrong_73 (by decide) ?_
                      refine z_goto (tgt := 78) hb dX3_wrong_74 (by decide) ?_
                      refine z_iadd hb dX3_wrong_78 ?_
                      refine z_toI (y := nI (c3 + 1)) (nI_add c3 1) ?_
                      refine z_istore_n (lv' := [(1, .int (nI (c3 + 1))), (4, .int (nI g)), (3, .int (nI d)), (2, .int (nI k)), (0, .ref t)]) hb dX3_wrong_79 (by rw [hN]; decide) rfl ?_
                      refine z_iinc (k0 := 1) (lv' := [(4, .int (nI (g + 1))), (1, .int (nI (c3 + 1))), (3, .int (nI d)), (2, .int (nI k)), (0, .ref t)]) hb dX3_wrong_80 rfl (nI_1 g) (by rw [hN]; decide) rfl ?_
                      refine z_goto (tgt := 38) hb dX3_wrong_83 (by decide) ?_
                      refine z_lv [0, 2, 3, 1, 4] (lv' := [(4, .int (nI (g + 1))), (3, .int (nI d)), (2, .int (nI k)), (1, .int (nI (c3 + 1))), (0, .ref t)]) rfl ?_
                      exact ih_38 (g + 1) _ (by omega) (by omega) (by rw [hc3, tw_wr1]; simp [c_70]; try omega)
              refine z_lv [0, 1, 2, 3, 4] (lv' := [(4, .int (nI 0)), (3, .int (nI d)), (2, .int (nI k)), (1, .int (nI c2)), (0, .ref t)]) rfl ?_
              exact lp_38 _ 0 _ (Nat.lt_succ_self _) (Nat.zero_le _) rfl
        refine z_lv [0, 1, 2, 3] (lv' := [(3, .int (nI 0)), (2, .int (nI k)), (1, .int (nI c)), (0, .ref t)]) rfl ?_
        exact lp_25 _ 0 _ (Nat.lt_succ_self _) (Nat.zero_le _) rfl
  refine z_lv [0, 1, 2] (lv' := [(2, .int (nI 0)), (1, .int (nI 0)), (0, .ref t)]) rfl ?_
  exact lp_13 _ 0 _ (Nat.lt_succ_self _) (Nat.zero_le _) rfl

