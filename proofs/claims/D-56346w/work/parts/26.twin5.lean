theorem z_b_n (c : Bool) : z_b c = nI c.toNat := by cases c <;> rfl
theorem z_bool1 {c : Bool} : (z_b c = nI 1) ↔ c = true := by cases c <;> decide
theorem tw_st_up {w0 : Nat → Int32} {k d : Nat} {c : Bool} : tw_st (va_up w0 (208 + 7 * k + d) (z_b c)) k d = c := by
  unfold tw_st
  rw [va_ups]
  cases c <;> decide
theorem z_ok.upR {w0 : Nat → Int32} {R S D R' : Nat} (h : z_ok w0 R S D) (hR' : R' ≤ 40) : z_ok (va_up w0 1 (nI R')) R' S D := by
  obtain ⟨hR, hR4, hS, hS8, hD, hD6, hF⟩ := h
  refine ⟨va_ups, hR', by rw [va_upn (by omega)]; exact hS, hS8, by rw [va_upn (by omega)]; exact hD, hD6, fun k hk => ?_⟩
  have h1 := hF k hk
  unfold tw_f tw_s at h1 ⊢
  rw [va_upn (by omega), va_upn (by omega)]
  exact h1
theorem z_ok.upD {w0 : Nat → Int32} {R S D D' : Nat} (h : z_ok w0 R S D) (hD' : D' ≤ 6) : z_ok (va_up w0 0 (nI D')) R S D' := by
  obtain ⟨hR, hR4, hS, hS8, hD, hD6, hF⟩ := h
  refine ⟨by rw [va_upn (by omega)]; exact hR, hR4, by rw [va_upn (by omega)]; exact hS, hS8, va_ups, hD', fun k hk => ?_⟩
  have h1 := hF k hk
  unfold tw_f tw_s at h1 ⊢
  rw [va_upn (by omega), va_upn (by omega)]
  exact h1
theorem tw_rowF_lt {w0 : Nat → Int32} {x : Int32} : ∀ {d k p : Nat}, tw_rowF w0 x k d = some p → k ≤ p ∧ p < k + d ∧ w0 (16 + 4 * p) = x
  | 0, k, p, h => by cases h
  | d + 1, k, p, h => by
    rw [tw_rowF] at h
    by_cases hx : w0 (16 + 4 * k) = x
    · rw [if_pos hx] at h
      cases h
      exact ⟨Nat.le_refl _, by omega, hx⟩
    · rw [if_neg hx] at h
      have := tw_rowF_lt h
      exact ⟨by omega, by omega, this.2.2⟩
theorem tw_row_lt {w0 : Nat → Int32} {R p : Nat} {x : Int32} (h : tw_row w0 R x = some p) : p < R := by
  have := tw_rowF_lt h
  omega
/-- a new row -/
def tw_nrow (w0 : Nat → Int32) (R g d a : Nat) : Nat → Int32 := va_up (va_up (va_up (va_up (va_up (va_up w0 (16 + 4 * R) (w0 2)) (16 + 4 * R + 1) (nI d)) (16 + 4 * R + 2) (nI g)) (16 + 4 * R + 3) (nI a)) 1 (nI (R + 1))) 2 (w0 2 + nI 1)
theorem tw_nrow_ok {w0 : Nat → Int32} {R S D g d a : Nat} (h : z_ok w0 R S D) (hR : R < 40) : z_ok (tw_nrow w0 R g d a) (R + 1) S D :=
  (((((h.up (by omega)).up (by omega)).up (by omega)).up (by omega)).upR (by omega)).up (by omega)
/-- c places down, from s on -/
def tw_shl {α : Type} (w : Nat → α) (s c : Nat) : Nat → (Nat → α)
  | 0 => w
  | j + 1 => va_up (tw_shl w s c j) (s + j) (tw_shl w s c j (s + j + c))
theorem tw_shl_ok {w : Nat → Int32} {R S D s c : Nat} (h : z_ok w R S D) (hs : 16 ≤ s) : ∀ j : Nat, s + j ≤ 176 → z_ok (tw_shl w s c j) R S D
  | 0, _ => h
  | j + 1, hj => (tw_shl_ok h hs j (by omega)).up (by omega)
def tw_gone0 (w0 : Nat → Int32) (R : Nat) : Nat → Int32 := va_up (va_up w0 1 (nI (R - 1))) 4 (w0 4 + nI 1)
def tw_gone (w0 : Nat → Int32) (R p : Nat) : Nat → Int32 := tw_shl (tw_gone0 w0 R) (16 + 4 * p) 4 (4 * (R - 1 - p))
theorem tw_gone0_ok {w0 : Nat → Int32} {R S D : Nat} (h : z_ok w0 R S D) : z_ok (tw_gone0 w0 R) (R - 1) S D := (h.upR (by have := h.2.1; omega)).up (by omega)
theorem tw_gone_ok {w0 : Nat → Int32} {R S D p : Nat} (h : z_ok w0 R S D) (hp : p < R) : z_ok (tw_gone w0 R p) (R - 1) S D := tw_shl_ok (tw_gone0_ok h) (by omega) _ (by have := h.2.1; omega)
/-- a partition computed and judged -/
def tw_j0 (w : Nat → Int32) (k d : Nat) : Nat → Int32 := va_up w (208 + 7 * k + d) (z_b (tw_from w k d))
theorem tw_j0_ok {w : Nat → Int32} {R S D k d : Nat} (h : z_ok w R S D) : z_ok (tw_j0 w k d) R S D := h.up (by omega)
def tw_bg0 (w : Nat → Int32) (D : Nat) : Nat → (Nat → Int32)
  | 0 => w
  | k + 1 => tw_j0 (tw_bg0 w D k) k D
def tw_bg5 (w : Nat → Int32) (R D : Nat) (f : Nat → Int64) : Nat → (Nat → Int64)
  | 0 => f
  | k + 1 => tw_comp (tw_bg0 w D k) R k D (tw_bg5 w R D f k) 5
def tw_bgc (w : Nat → Int32) (D : Nat) : Nat → Nat
  | 0 => 0
  | k + 1 => tw_bgc w D k + (tw_from (tw_bg0 w D k) k D).toNat
theorem tw_bg0_ok {w : Nat → Int32} {R S D : Nat} (h : z_ok w R S D) : ∀ k : Nat, z_ok (tw_bg0 w D k) R S D
  | 0 => h
  | k + 1 => tw_j0_ok (tw_bg0_ok h k)
theorem tw_bgc_le (w : Nat → Int32) (D : Nat) : ∀ k : Nat, tw_bgc w D k ≤ k
  | 0 => Nat.le_refl _
  | k + 1 => by
    have := tw_bgc_le w D k
    rw [tw_bgc]
    cases tw_from (tw_bg0 w D k) k D <;> simp <;> omega
def tw_ns0 (w : Nat → Int32) (k : Nat) : Nat → (Nat → Int32)
  | 0 => w
  | d + 1 => tw_j0 (tw_ns0 w k d) k d
def tw_ns5 (w : Nat → Int32) (R k : Nat) (f : Nat → Int64) : Nat → (Nat → Int64)
  | 0 => f
  | d + 1 => tw_comp (tw_ns0 w k d) R k d (tw_ns5 w R k f d) 5
theorem tw_ns0_ok {w : Nat → Int32} {R S D k : Nat} (h : z_ok w R S D) : ∀ d : Nat, z_ok (tw_ns0 w k d) R S D
  | 0 => h
  | d + 1 => tw_j0_ok (tw_ns0_ok h d)

set_option maxHeartbeats 1000000 in
theorem m_X3_judged {l : Launch} {G : zG} {h : zH} {n : Nat} {t : Nat} {w0 : Nat → Int32} {w1 : Nat → Int32} {w2 : Nat → Int32} {w3 : Nat → Int32} {w4 : Nat → Int32} {w5 : Nat → Int64} {w6 : Nat → Int64} {w7 : Nat → Int64} {w8 : Nat → Int64} {w9 : Nat → Int64} {w10 : Nat → Int64} {w11 : Nat → Int64} {w12 : Int32} {w13 : Int32} {w14 : Int32} {w15 : Int32} {w16 : Int32} {w17 : Int32} {w18 : Bool} {w19 : Nat → Int32} {w20 : Int32} {w21 : Nat → Int32} {w22 : Nat → Int32} {w23 : Nat → Int32} {w24 : Int32} {w25 : Int32} {w26 : Int32} {w27 : Int32} {w28 : Bool} {R S D : Nat}  (k : Nat) (d : Nat) (ht : z_n0 G ≤ t) (hw : z_ok w0 R S D) (hkS : k < S) (hd : d ≤ D) : z_C l G yX3_judged 6 0 0 [.ref t, .int (nI k), .int (nI d)] (z_tw G t w0 w1 w2 w3 w4 w5 w6 w7 w8 w9 w10 w11 w12 w13 w14 w15 w16 w17 w18 w19 w20 w21 w22 w23 w24 w25 w26 w27 w28 h) n (z_rv (.int (z_b (tw_from w0 k d))) (z_tw G t (tw_j0 w0 k d) w1 w2 w3 w4 (tw_comp w0 R k d w5 5) w6 w7 w8 w9 w10 w11 w12 w13 w14 w15 w16 w17 w18 w19 w20 w21 w22 w23 w24 w25 w26 w27 w28 h) n) := by
  refine z_start zk_X3_judged zpl_RX3 (Nat.le_of_ble_eq_true rfl) ?_
  intro hn0 M hl hG ho hb hN hr hm hH hrm hQ
  subst hl hG
  have ho : zm_o M = RX3 := ho
  obtain ⟨hR, hR4, hS, hS8, hD, hD6, hF⟩ := id hw
  show z_V M (z_tw (zm_G M) t w0 w1 w2 w3 w4 w5 w6 w7 w8 w9 w10 w11 w12 w13 w14 w15 w16 w17 w18 w19 w20 w21 w22 w23 w24 w25 w26 w27 w28 h) n 0 0 0 [(0, .ref t), (1, .int (nI k)), (2, .int (nI d))] []
  refine z_aload_n hb dX3_judged_0 rfl ?_
  refine z_iload_n hb dX3_judged_1 rfl ?_
  refine z_iload_n hb dX3_judged_2 rfl ?_
  refine z_call0 (b' := 0) (f' := 0) (rest := []) (av := [.ref t, .int (nI k), .int (nI d)]) (z_siteV hb ho zc2 z_tw_o q2832 q2834 qs37 ⟨_, _, _, _, zk_X3_compute⟩ zy_X3_compute zl_X3_compute dX3_judged_3 : z_Site M _ _ _ _ _ ([.int (nI k), .int (nI d)].reverse ++ .ref t :: []) [] _) zk_X3_compute q104 hrm (m_X3_compute k d ht hw (by omega) (by omega)) (by omega) (by decide) (Nat.le_of_ble_eq_true rfl) (by omega) (by omega) ?_
  refine z_aload_n hb dX3_judged_6 rfl ?_
  refine z_iload_n hb dX3_judged_7 rfl ?_
  refine z_iload_n hb dX3_judged_8 rfl ?_
  refine z_aload_n hb dX3_judged_9 rfl ?_
  refine z_iload_n hb dX3_judged_10 rfl ?_
  refine z_iload_n hb dX3_judged_11 rfl ?_
  refine z_call1 (b' := 0) (f' := 0) (rest := [.int (nI d), .int (nI k), .ref t]) (av := [.ref t, .int (nI k), .int (nI d)]) (z_siteV hb ho zc2 z_tw_o q2867 q2869 qs45 ⟨_, _, _, _, zk_X3_isFromStale⟩ zy_X3_isFromStale zl_X3_isFromStale dX3_judged_12 : z_Site M _ _ _ _ _ ([.int (nI k), .int (nI d)].reverse ++ .ref t :: [.int (nI d), .int (nI k), .ref t]) [.int (nI d), .int (nI k), .ref t] _) zk_X3_isFromStale q104 hrm (m_X3_isFromStale k d ht hw (by omega) (by omega)) (by omega) (by decide) (Nat.le_of_ble_eq_true rfl) (by omega) (by omega) ?_
  refine z_call0 (b' := 0) (f' := 0) (rest := []) (av := [.ref t, .int (nI k), .int (nI d), .int (z_b (tw_from w0 k d))]) (z_siteV hb ho zc2 z_tw_o q2863 q2865 qs44 ⟨_, _, _, _, zk_X3_mark⟩ zy_X3_mark zl_X3_mark dX3_judged_15 : z_Site M _ _ _ _ _ ([.int (nI k), .int (nI d), .int (z_b (tw_from w0 k d))].reverse ++ .ref t :: []) [] _) zk_X3_mark q104 hrm (m_X3_mark k d (tw_from w0 k d) ht (by omega) (by omega)) (by omega) (by decide) (Nat.le_of_ble_eq_true rfl) (by omega) (by omega) ?_
  refine z_aload_n hb dX3_judged_18 rfl ?_
  refine z_iload_n hb dX3_judged_19 rfl ?_
  refine z_iload_n hb dX3_judged_20 rfl ?_
  refine z_call1 (b' := 0) (f' := 0) (rest := []) (av := [.ref t, .int (nI k), .int (nI d)]) (z_siteV hb ho zc2 z_tw_o q2828 q2830 qs36 ⟨_, _, _, _, zk_X3_isStaleNow⟩ zy_X3_isStaleNow zl_X3_isStaleNow dX3_judged_21 : z_Site M _ _ _ _ _ ([.int (nI k), .int (nI d)].reverse ++ .ref t :: []) [] _) zk_X3_isStaleNow q104 hrm (m_X3_isStaleNow k d ht (by omega) (by omega)) (by omega) (by decide) (Nat.le_of_ble_eq_true rfl) (by omega) (by omega) ?_
  refine z_ifb_eq (tgt := 31) hb dX3_judged_24 (by decide) (fun c_24 => ?_) (fun c_24 => ?_)
  · refine z_iconst (x := nI 0) hb dX3_judged_31 (by decide) ?_
    refine z_iret hb hr dX3_judged_32 ?_
    rw [hQ]
    rw [tw_st_up] at c_24; exact ⟨by rw [c_24]; rfl, rfl, rfl⟩
  · refine z_iconst (x := nI 1) hb dX3_judged_27 (by decide) ?_
    refine z_goto (tgt := 32) hb dX3_judged_28 (by decide) ?_
    refine z_iret hb hr dX3_judged_32 ?_
    rw [hQ]
    rw [tw_st_up] at c_24; exact ⟨by rw [c_24]; rfl, rfl, rfl⟩

set_option maxHeartbeats 1000000 in
theorem m_X3_begins {l : Launch} {G : zG} {h : zH} {n : Nat} {t : Nat} {w0 : Nat → Int32} {w1 : Nat → Int32} {w2 : Nat → Int32} {w3 : Nat → Int32} {w4 : Nat → Int32} {w5 : Nat → Int64} {w6 : Nat → Int64} {w7 : Nat → Int64} {w8 : Nat → Int64} {w9 : Nat → Int64} {w10 : Nat → Int64} {w11 : Nat → Int64} {w12 : Int32} {w13 : Int32} {w14 : Int32} {w15 : Int32} {w16 : Int32} {w17 : Int32} {w18 : Bool} {w19 : Nat → Int32} {w20 : Int32} {w21 : Nat → Int32} {w22 : Nat → Int32} {w23 : Nat → Int32} {w24 : Int32} {w25 : Int32} {w26 : Int32} {w27 : Int32} {w28 : Bool} {R S D : Nat}   (ht : z_n0 G ≤ t) (hw : z_ok w0 R S D) (hD5 : D < 6) : z_C l G yX3_begins 7 0 0 [.ref t] (z_tw G t w0 w1 w2 w3 w4 w5 w6 w7 w8 w9 w10 w11 w12 w13 w14 w15 w16 w17 w18 w19 w20 w21 w22 w23 w24 w25 w26 w27 w28 h) n (z_rv (.int (nI (tw_bgc (va_up w0 0 (nI (D + 1))) (D + 1) S))) (z_tw G t (tw_bg0 (va_up w0 0 (nI (D + 1))) (D + 1) S) w1 w2 w3 w4 (tw_bg5 (va_up w0 0 (nI (D + 1))) R (D + 1) w5 S) w6 w7 w8 w9 w10 w11 w12 w13 w14 w15 w16 w17 w18 w19 w20 w21 w22 w23 w24 w25 w26 w27 w28 h) n) := by
  refine z_start zk_X3_begins zpl_RX3 (Nat.le_of_ble_eq_true rfl) ?_
  intro hn0 M hl hG ho hb hN hr hm hH hrm hQ
  subst hl hG
  have ho : zm_o M = RX3 := ho
  obtain ⟨hR, hR4, hS, hS8, hD, hD6, hF⟩ := id hw
  show z_V M (z_tw (zm_G M) t w0 w1 w2 w3 w4 w5 w6 w7 w8 w9 w10 w11 w12 w13 w14 w15 w16 w17 w18 w19 w20 w21 w22 w23 w24 w25 w26 w27 w28 h) n 0 0 0 [(0, .ref t)] []
  refine z_iconst (x := nI 0) hb dX3_begins_0 (by decide) ?_
  refine z_istore_n (lv' := [(1, .int (nI 0)), (0, .ref t)]) hb dX3_begins_1 (by rw [hN]; decide) rfl ?_
  refine z_aload_n hb dX3_begins_2 rfl ?_
  refine z_get (k := 0) (C := RX3) (T := TX3) (N := 29) hb ho zc2 in_X3 (zf_RX3_7 _) dX3_begins_3 z_tw_o (by decide) rfl ?_
  refine z_iconst (x := nI 0) hb dX3_begins_6 (by decide) ?_
  refine z_dup2_11 hb dX3_begins_7 rfl rfl ?_
  refine z_iald (j := 0) hb dX3_begins_8 z_tw_r0 rfl (by omega) (by omega) ?_
  refine z_toI (y := nI D) hD ?_
  refine z_iconst (x := nI 1) hb dX3_begins_9 (by decide) ?_
  refine z_iadd hb dX3_begins_10 ?_
  refine z_toI (y := nI (D + 1)) (nI_add D 1) ?_
  refine z_iast (j := 0) hb dX3_begins_11 z_tw_r0 (by omega) rfl (by omega) (by omega) ?_
  refine z_hh z_tw_u0 ?_
  refine z_iconst (x := nI 0) hb dX3_begins_12 (by decide) ?_
  refine z_istore_n (lv' := [(2, .int (nI 0)), (1, .int (nI 0)), (0, .ref t)]) hb dX3_begins_13 (by rw [hN]; decide) rfl ?_
  have lp_14 : ∀ (k9_14 : Nat) (k : Nat) (c : Nat) (w : Nat → Int32) (f : Nat → Int64), S - k < k9_14 → (k ≤ S) → (c = tw_bgc (va_up w0 0 (nI (D + 1))) (D + 1) k) → (w = tw_bg0 (va_up w0 0 (nI (D + 1))) (D + 1) k) → (f = tw_bg5 (va_up w0 0 (nI (D + 1))) R (D + 1) w5 k) → (z_ok w R S (D + 1)) → z_V M (z_tw (zm_G M) t w w1 w2 w3 w4 f w6 w7 w8 w9 w10 w11 w12 w13 w14 w15 w16 w17 w18 w19 w20 w21 w22 w23 w24 w25 w26 w27 w28 h) n 0 0 14 [(2, .int (nI k)), (1, .int (nI c)), (0, .ref t)] [] := by
    intro k9_14
    induction k9_14 with
    | zero => intro k c w f hk9_14; exact absurd hk9_14 (Nat.not_lt_zero _)
    | succ k9_14 ih_14 =>
      intro k c w f hk9_14 hk hc hw2 hf hok
      refine z_iload_n hb dX3_begins_14 rfl ?_
      refine z_aload_n hb dX3_begins_15 rfl ?_
      refine z_get (k := 0) (C := RX3) (T := TX3) (N := 29) hb ho zc2 in_X3 (zf_RX3_7 _) dX3_begins_16 z_tw_o (by decide) rfl ?_
      refine z_iconst (x := nI 3) hb dX3_begins_19 (by decide) ?_
      refine z_iald (j := 3) hb dX3_begins_20 z_tw_r0 rfl (by omega) (by omega) ?_
      refine z_toI (y := nI S) hok.2.2.1 ?_
      refine z_icmp_geN (tgt := 44) hb dX3_begins_21 (by decide) (by omega) (by omega) (fun c_21 => ?_) (fun c_21 => ?_)
      · refine z_iload_n hb dX3_begins_44 rfl ?_
        refine z_iret hb hr dX3_begins_45 ?_
        rw [hQ]
        rw [hc, hw2, hf, show k = S by omega]; exact ⟨rfl, rfl, rfl⟩
      · refine z_iload_n hb dX3_begins_24 rfl ?_
        refine z_aload_n hb dX3_begins_25 rfl ?_
        refine z_iload_n hb dX3_begins_26 rfl ?_
        refine z_aload_n hb dX3_begins_27 rfl ?_
        refine z_get (k := 0) (C := RX3) (T := TX3) (N := 29) hb ho zc2 in_X3 (zf_RX3_7 _) dX3_begins_28 z_tw_o (by decide) rfl ?_
        refine z_iconst (x := nI 0) hb dX3_begins_31 (by decide) ?_
        refine z_iald (j := 0) hb dX3_begins_32 z_tw_r0 rfl (by omega) (by omega) ?_
        refine z_toI (y := nI (D + 1)) hok.2.2.2.2.1 ?_
        refine z_call1 (b' := 0) (f' := 0) (rest := [.int (nI c)]) (av := [.ref t, .int (nI k), .int (nI (D + 1))]) (z_siteV hb ho zc2 z_tw_o q2899 q2901 qs51 ⟨_, _, _, _, zk_X3_judged⟩ zy_X3_judged zl_X3_judged dX3_begins_33 : z_Site M _ _ _ _ _ ([.int (nI k), .int (nI (D + 1))].reverse ++ .ref t :: [.int (nI c)]) [.int (nI c)] _) zk_X3_judged q104 hrm (m_X3_judged k (D + 1) ht hok (by omega) (by omega)) (by omega) (by decide) (Nat.le_of_ble_eq_true rfl) (by omega) (by omega) ?_
        refine z_toI (y := nI ((tw_from w k (D + 1)).toNat)) (z_b_n _) ?_
        refine z_iadd hb dX3_begins_36 ?_
        refine z_toI (y := nI (c + ((tw_from w k (D + 1)).toNat))) (nI_add c ((tw_from w k (D + 1)).toNat)) ?_
        refine z_istore_n (lv' := [(1, .int (nI (c + ((tw_from w k (D + 1)).toNat)))), (2, .int (nI k)), (0, .ref t)]) hb dX3_begins_37 (by rw [hN]; decide) rfl ?_
        refine z_iinc (k0 := 1) (lv' := [(2, .int (nI (k + 1))), (1, .int (nI (c + ((tw_from w k (D + 1)).toNat)))), (0, .ref t)]) hb dX3_begins_38 rfl (nI_1 k) (by rw [hN]; decide) rfl ?_
        refine z_goto (tgt := 14) hb dX3_begins_41 (by decide) ?_
        refine z_lv [0, 1, 2] (lv' := [(2, .int (nI (k + 1))), (1, .int (nI (c + ((tw_from w k (D + 1)).toNat)))), (0, .ref t)]) rfl ?_
        exact ih_14 (k + 1) _ _ _ (by omega) (by omega) (by rw [hc, hw2]; rfl) (by rw [hw2]; rfl) (by rw [hf, hw2]; rfl) (tw_j0_ok hok)
  refine z_lv [0, 1, 2] (lv' := [(2, .int (nI 0)), (1, .int (nI 0)), (0, .ref t)]) rfl ?_
  exact lp_14 _ 0 0 _ _ (Nat.lt_succ_self _) (Nat.zero_le _) rfl rfl rfl (hw.upD (by omega))

set_option maxHeartbeats 1000000 in
theorem m_X3_newRow_now {l : Launch} {G : zG} {h : zH} {n : Nat} {t : Nat} {w0 : Nat → Int32} {w1 : Nat → Int32} {w2 : Nat → Int32} {w3 : Nat → Int32} {w4 : Nat → Int32} {w5 : Nat → Int64} {w6 : Nat → Int64} {w7 : Nat → Int64} {w8 : Nat → Int64} {w9 : Nat → Int64} {w10 : Nat → Int64} {w11 : Nat → Int64} {w12 : Int32} {w13 : Int32} {w14 : Int32} {w15 : Int32} {w16 : Int32} {w17 : Int32} {w18 : Bool} {w19 : Nat → Int32} {w20 : Int32} {w21 : Nat → Int32} {w22 : Nat → Int32} {w23 : Nat → Int32} {w24 : Int32} {w25 : Int32} {w26 : Int32} {w27 : Int32} {w28 : Bool} {R S D : Nat} {g a : Nat}  (ht : z_n0 G ≤ t) (hw : z_ok w0 R S D) (hR40 : R < 40) : z_C l G yX3_newRow 7 0 0 [.ref t, .int (nI g), .int (nI D), .int (nI a)] (z_tw G t w0 w1 w2 w3 w4 w5 w6 w7 w8 w9 w10 w11 w12 w13 w14 w15 w16 w17 w18 w19 w20 w21 w22 w23 w24 w25 w26 w27 w28 h) n (z_rv (.int (w0 2)) (z_tw G t (tw_nrow w0 R g D a) w1 w2 w3 w4 (tw_tt (tw_nrow w0 R g D a) (R + 1) D w5 S) w6 w7 w8 w9 w10 w11 w12 w13 w14 w15 w16 w17 w18 w19 w20 w21 w22 w23 w24 w25 w26 w27 w28 h) n) := by
  refine z_start zk_X3_newRow zpl_RX3 (Nat.le_of_ble_eq_true rfl) ?_
  intro hn0 M hl hG ho hb hN hr hm hH hrm hQ
  subst hl hG
  have ho : zm_o M = RX3 := ho
  obtain ⟨hR, hR4, hS, hS8, hD, hD6, hF⟩ := id hw
  show z_V M (z_tw (zm_G M) t w0 w1 w2 w3 w4 w5 w6 w7 w8 w9 w10 w11 w12 w13 w14 w15 w16 w17 w18 w19 w20 w21 w22 w23 w24 w25 w26 w27 w28 h) n 0 0 0 [(0, .ref t), (1, .int (nI g)), (2, .int (nI D)), (3, .int (nI a))] []
  refine z_bipush (x := nI 16) hb dX3_newRow_0 (by decide) ?_
  refine z_iconst (x := nI 4) hb dX3_newRow_2 (by decide) ?_
  refine z_aload_n hb dX3_newRow_3 rfl ?_
  refine z_get (k := 0) (C := RX3) (T := TX3) (N := 29) hb ho zc2 in_X3 (zf_RX3_7 _) dX3_newRow_4 z_tw_o (by decide) rfl ?_
  refine z_iconst (x := nI 1) hb dX3_newRow_7 (by decide) ?_
  refine z_iald (j := 1) hb dX3_newRow_8 z_tw_r0 rfl (by omega) (by omega) ?_
  refine z_toI (y := nI R) hR ?_
  refine z_imul hb dX3_newRow_9 ?_
  refine z_toI (y := nI (4 * R)) (pk_mul 4 R) ?_
  refine z_iadd hb dX3_newRow_10 ?_
  refine z_toI (y := nI (16 + (4 * R))) (nI_add 16 (4 * R)) ?_
  refine z_istore (lv' := [(4, .int (nI (16 + (4 * R)))), (0, .ref t), (1, .int (nI g)), (2, .int (nI D)), (3, .int (nI a))]) hb dX3_newRow_11 (by rw [hN]; decide) rfl ?_
  refine z_aload_n hb dX3_newRow_13 rfl ?_
  refine z_get (k := 0) (C := RX3) (T := TX3) (N := 29) hb ho zc2 in_X3 (zf_RX3_7 _) dX3_newRow_14 z_tw_o (by decide) rfl ?_
  refine z_iconst (x := nI 2) hb dX3_newRow_17 (by decide) ?_
  refine z_iald (j := 2) hb dX3_newRow_18 z_tw_r0 rfl (by omega) (by omega) ?_
  refine z_istore (lv' := [(5, .int (w0 2)), (4, .int (nI (16 + (4 * R)))), (0, .ref t), (1, .int (nI g)), (2, .int (nI D)), (3, .int (nI a))]) hb dX3_newRow_19 (by rw [hN]; decide) rfl ?_
  refine z_aload_n hb dX3_newRow_21 rfl ?_
  refine z_get (k := 0) (C := RX3) (T := TX3) (N := 29) hb ho zc2 in_X3 (zf_RX3_7 _) dX3_newRow_22 z_tw_o (by decide) rfl ?_
  refine z_iload hb dX3_newRow_25 rfl ?_
  refine z_iconst (x := nI 0) hb dX3_newRow_27 (by decide) ?_
  refine z_iadd hb dX3_newRow_28 ?_
  refine z_toI (y := nI (16 + (4 * R))) (nI_add (16 + (4 * R)) 0) ?_
  refine z_iload hb dX3_newRow_29 rfl ?_
  refine z_iast (j := 16 + (4 * R)) hb dX3_newRow_31 z_tw_r0 (by omega) rfl (by omega) (by omega) ?_
  refine z_hh z_tw_u0 ?_
  refine z_aload_n hb dX3_newRow_32 rfl ?_
  refine z_get (k := 0) (C := RX3) (T := TX3) (N := 29) hb ho zc2 in_X3 (zf_RX3_7 _) dX3_newRow_33 z_tw_o (by decide) rfl ?_
  refine z_iload hb dX3_newRow_36 rfl ?_
  refine z_iconst (x := nI 1) hb dX3_newRow_38 (by decide) ?_
  refine z_iadd hb dX3_newRow_39 ?_
  refine z_toI (y := nI (16 + (4 * R) + 1)) (nI_add (16 + (4 * R)) 1) ?_
  refine z_iload_n hb dX3_newRow_40 rfl ?_
  refine z_iast (j := 16 + (4 * R) + 1) hb dX3_newRow_41 z_tw_r0 (by omega) rfl (by omega) (by omega) ?_
  refine z_hh z_tw_u0 ?_
  refine z_aload_n hb dX3_newRow_42 rfl ?_
  refine z_get (k := 0) (C := RX3) (T := TX3) (N := 29) hb ho zc2 in_X3 (zf_RX3_7 _) dX3_newRow_43 z_tw_o (by decide) rfl ?_
  refine z_iload hb dX3_newRow_46 rfl ?_
  refine z_iconst (x := nI 2) hb dX3_newRow_48 (by decide) ?_
  refine z_iadd hb dX3_newRow_49 ?_
  refine z_toI (y := nI (16 + (4 * R) + 2)) (nI_add (16 + (4 * R)) 2) ?_
  refine z_iload_n hb dX3_newRow_50 rfl ?_
  refine z_iast (j := 16 + (4 * R) + 2) hb dX3_newRow_51 z_tw_r0 (by omega) rfl (by omega) (by omega) ?_
  refine z_hh z_tw_u0 ?_
  refine z_aload_n hb dX3_newRow_52 rfl ?_
  refine z_get (k := 0) (C := RX3) (T := TX3) (N := 29) hb ho zc2 in_X3 (zf_RX3_7 _) dX3_newRow_53 z_tw_o (by decide) rfl ?_
  refine z_iload hb dX3_newRow_56 rfl ?_
  refine z_iconst (x := nI 3) hb dX3_newRow_58 (by decide) ?_
  refine z_iadd hb dX3_newRow_59 ?_
  refine z_toI (y := nI (16 + (4 * R) + 3)) (nI_add (16 + (4 * R)) 3) ?_
  refine z_iload_n hb dX3_newRow_60 rfl ?_
  refine z_iast (j := 16 + (4 * R) + 3) hb dX3_newRow_61 z_tw_r0 (by omega) rfl (by omega) (by omega) ?_
  refine z_hh z_tw_u0 ?_
  refine z_aload_n hb dX3_newRow_62 rfl ?_
  refine z_get (k := 0) (C := RX3) (T := TX3) (N := 29) hb ho zc2 in_X3 (zf_RX3_7 _) dX3_newRow_63 z_tw_o (by decide) rfl ?_
  refine z_iconst (x := nI 1) hb dX3_newRow_66 (by decide) ?_
  refine z_dup2_11 hb dX3_newRow_67 rfl rfl ?_
  refine z_iald (j := 1) hb dX3_newRow_68 z_tw_r0 rfl (by omega) (by omega) ?_
  refine z_toI (y := nI R) (by rw [va_upn (by omega), va_upn (by omega), va_upn (by omega), va_upn (by omega)]; exact hR) ?_
  refine z_iconst (x := nI 1) hb dX3_newRow_69 (by decide) ?_
  refine z_iadd hb dX3_newRow_70 ?_
  refine z_toI (y := nI (R + 1)) (nI_add R 1) ?_
  refine z_iast (j := 1) hb dX3_newRow_71 z_tw_r0 (by omega) rfl (by omega) (by omega) ?_
  refine z_hh z_tw_u0 ?_
  refine z_aload_n hb dX3_newRow_72 rfl ?_
  refine z_get (k := 0) (C := RX3) (T := TX3) (N := 29) hb ho zc2 in_X3 (zf_RX3_7 _) dX3_newRow_73 z_tw_o (by decide) rfl ?_
  refine z_iconst (x := nI 2) hb dX3_newRow_76 (by decide) ?_
  refine z_dup2_11 hb dX3_newRow_77 rfl rfl ?_
  refine z_iald (j := 2) hb dX3_newRow_78 z_tw_r0 rfl (by omega) (by omega) ?_
  refine z_toI (y := w0 2) (by rw [va_upn (by omega), va_upn (by omega), va_upn (by omega), va_upn (by omega), va_upn (by omega)]) ?_
  refine z_iconst (x := nI 1) hb dX3_newRow_79 (by decide) ?_
  refine z_iadd hb dX3_newRow_80 ?_
  refine z_iast (j := 2) hb dX3_newRow_81 z_tw_r0 (by omega) rfl (by omega) (by omega) ?_
  refine z_hh z_tw_u0 ?_
  refine z_hh (h2 := z_tw (zm_G M) t (tw_nrow w0 R g D a) w1 w2 w3 w4 w5 w6 w7 w8 w9 w10 w11 w12 w13 w14 w15 w16 w17 w18 w19 w20 w21 w22 w23 w24 w25 w26 w27 w28 h) rfl ?_
  refine z_aload_n hb dX3_newRow_82 rfl ?_
  refine z_iload_n hb dX3_newRow_83 rfl ?_
  refine z_call0 (b' := 0) (f' := 0) (rest := []) (av := [.ref t, .int (nI D)]) (z_siteV hb ho zc2 z_tw_o q2824 q2826 qs35 ⟨_, _, _, _, zk_X3_touched⟩ zy_X3_touched zl_X3_touched dX3_newRow_84 : z_Site M _ _ _ _ _ ([.int (nI D)].reverse ++ .ref t :: []) [] _) zk_X3_touched q104 hrm (m_X3_touched_now ht (tw_nrow_ok hw hR40)) (by omega) (by decide) (Nat.le_of_ble_eq_true rfl) (by omega) (by omega) ?_
  refine z_iload hb dX3_newRow_87 rfl ?_
  refine z_iret hb hr dX3_newRow_89 ?_
  rw [hQ]
  exact ⟨rfl, rfl, rfl⟩

set_option maxHeartbeats 1000000 in
theorem m_X3_newRow_past {l : Launch} {G : zG} {h : zH} {n : Nat} {t : Nat} {w0 : Nat → Int32} {w1 : Nat → Int32} {w2 : Nat → Int32} {w3 : Nat → Int32} {w4 : Nat → Int32} {w5 : Nat → Int64} {w6 : Nat → Int64} {w7 : Nat → Int64} {w8 : Nat → Int64} {w9 : Nat → Int64} {w10 : Nat → Int64} {w11 : Nat → Int64} {w12 : Int32} {w13 : Int32} {w14 : Int32} {w15 : Int32} {w16 : Int32} {w17 : Int32} {w18 : Bool} {w19 : Nat → Int32} {w20 : Int32} {w21 : Nat → Int32} {w22 : Nat → Int32} {w23 : Nat → Int32} {w24 : Int32} {w25 : Int32} {w26 : Int32} {w27 : Int32} {w28 : Bool} {R S D : Nat} {g d a : Nat}  (ht : z_n0 G ≤ t) (hw : z_ok w0 R S D) (hR40 : R < 40) (hdp : d < D) : z_C l G yX3_newRow 7 0 0 [.ref t, .int (nI g), .int (nI d), .int (nI a)] (z_tw G t w0 w1 w2 w3 w4 w5 w6 w7 w8 w9 w10 w11 w12 w13 w14 w15 w16 w17 w18 w19 w20 w21 w22 w23 w24 w25 w26 w27 w28 h) n (z_rv (.int (w0 2)) (z_tw G t (tw_sp (va_up (tw_nrow w0 R g d a) 5 ((tw_nrow w0 R g d a) 5 + nI 1)) d D S) w1 w2 w3 w4 w5 w6 w7 w8 w9 w10 w11 w12 w13 w14 w15 w16 w17 w18 w19 w20 w21 w22 w23 w24 w25 w26 w27 w28 h) n) := by
  refine z_start zk_X3_newRow zpl_RX3 (Nat.le_of_ble_eq_true rfl) ?_
  intro hn0 M hl hG ho hb hN hr hm hH hrm hQ
  subst hl hG
  have ho : zm_o M = RX3 := ho
  obtain ⟨hR, hR4, hS, hS8, hD, hD6, hF⟩ := id hw
  show z_V M (z_tw (zm_G M) t w0 w1 w2 w3 w4 w5 w6 w7 w8 w9 w10 w11 w12 w13 w14 w15 w16 w17 w18 w19 w20 w21 w22 w23 w24 w25 w26 w27 w28 h) n 0 0 0 [(0, .ref t), (1, .int (nI g)), (2, .int (nI d)), (3, .int (nI a))] []
  refine z_bipush (x := nI 16) hb dX3_newRow_0 (by decide) ?_
  refine z_iconst (x := nI 4) hb dX3_newRow_2 (by decide) ?_
  refine z_aload_n hb dX3_newRow_3 rfl ?_
  refine z_get (k := 0) (C := RX3) (T := TX3) (N := 29) hb ho zc2 in_X3 (zf_RX3_7 _) dX3_newRow_4 z_tw_o (by decide) rfl ?_
  refine z_iconst (x := nI 1) hb dX3_newRow_7 (by decide) ?_
  refine z_iald (j := 1) hb dX3_newRow_8 z_tw_r0 rfl (by omega) (by omega) ?_
  refine z_toI (y := nI R) hR ?_
  refine z_imul hb dX3_newRow_9 ?_
  refine z_toI (y := nI (4 * R)) (pk_mul 4 R) ?_
  refine z_iadd hb dX3_newRow_10 ?_
  refine z_toI (y := nI (16 + (4 * R))) (nI_add 16 (4 * R)) ?_
  refine z_istore (lv' := [(4, .int (nI (16 + (4 * R)))), (0, .ref t), (1, .int (nI g)), (2, .int (nI d)), (3, .int (nI a))]) hb dX3_newRow_11 (by rw [hN]; decide) rfl ?_
  refine z_aload_n hb dX3_newRow_13 rfl ?_
  refine z_get (k := 0) (C := RX3) (T := TX3) (N := 29) hb ho zc2 in_X3 (zf_RX3_7 _) dX3_newRow_14 z_tw_o (by decide) rfl ?_
  refine z_iconst (x := nI 2) hb dX3_newRow_17 (by decide) ?_
  refine z_iald (j := 2) hb dX3_newRow_18 z_tw_r0 rfl (by omega) (by omega) ?_
  refine z_istore (lv' := [(5, .int (w0 2)), (4, .int (nI (16 + (4 * R)))), (0, .ref t), (1, .int (nI g)), (2, .int (nI d)), (3, .int (nI a))]) hb dX3_newRow_19 (by rw [hN]; decide) rfl ?_
  refine z_aload_n hb dX3_newRow_21 rfl ?_
  refine z_get (k := 0) (C := RX3) (T := TX3) (N := 29) hb ho zc2 in_X3 (zf_RX3_7 _) dX3_newRow_22 z_tw_o (by decide) rfl ?_
  refine z_iload hb dX3_newRow_25 rfl ?_
  refine z_iconst (x := nI 0) hb dX3_newRow_27 (by decide) ?_
  refine z_iadd hb dX3_newRow_28 ?_
  refine z_toI (y := nI (16 + (4 * R))) (nI_add (16 + (4 * R)) 0) ?_
  refine z_iload hb dX3_newRow_29 rfl ?_
  refine z_iast (j := 16 + (4 * R)) hb dX3_newRow_31 z_tw_r0 (by omega) rfl (by omega) (by omega) ?_
  refine z_hh z_tw_u0 ?_
  refine z_aload_n hb dX3_newRow_32 rfl ?_
  refine z_get (k := 0) (C := RX3) (T := TX3) (N := 29) hb ho zc2 in_X3 (zf_RX3_7 _) dX3_newRow_33 z_tw_o (by decide) rfl ?_
  refine z_iload hb dX3_newRow_36 rfl ?_
  refine z_iconst (x := nI 1) hb dX3_newRow_38 (by decide) ?_
  refine z_iadd hb dX3_newRow_39 ?_
  refine z_toI (y := nI (16 + (4 * R) + 1)) (nI_add (16 + (4 * R)) 1) ?_
  refine z_iload_n hb dX3_newRow_40 rfl ?_
  refine z_iast (j := 16 + (4 * R) + 1) hb dX3_newRow_41 z_tw_r0 (by omega) rfl (by omega) (by omega) ?_
  refine z_hh z_tw_u0 ?_
  refine z_aload_n hb dX3_newRow_42 rfl ?_
  refine z_get (k := 0) (C := RX3) (T := TX3) (N := 29) hb ho zc2 in_X3 (zf_RX3_7 _) dX3_newRow_43 z_tw_o (by decide) rfl ?_
  refine z_iload hb dX3_newRow_46 rfl ?_
  refine z_iconst (x := nI 2) hb dX3_newRow_48 (by decide) ?_
  refine z_iadd hb dX3_newRow_49 ?_
  refine z_toI (y := nI (16 + (4 * R) + 2)) (nI_add (16 + (4 * R)) 2) ?_
  refine z_iload_n hb dX3_newRow_50 rfl ?_
  refine z_iast (j := 16 + (4 * R) + 2) hb dX3_newRow_51 z_tw_r0 (by omega) rfl (by omega) (by omega) ?_
  refine z_hh z_tw_u0 ?_
  refine z_aload_n hb dX3_newRow_52 rfl ?_
  refine z_get (k := 0) (C := RX3) (T := TX3) (N := 29) hb ho zc2 in_X3 (zf_RX3_7 _) dX3_newRow_53 z_tw_o (by decide) rfl ?_
  refine z_iload hb dX3_newRow_56 rfl ?_
  refine z_iconst (x := nI 3) hb dX3_newRow_58 (by decide) ?_
  refine z_iadd hb dX3_newRow_59 ?_
  refine z_toI (y := nI (16 + (4 * R) + 3)) (nI_add (16 + (4 * R)) 3) ?_
  refine z_iload_n hb dX3_newRow_60 rfl ?_
  refine z_iast (j := 16 + (4 * R) + 3) hb dX3_newRow_61 z_tw_r0 (by omega) rfl (by omega) (by omega) ?_
  refine z_hh z_tw_u0 ?_
  refine z_aload_n hb dX3_newRow_62 rfl ?_
  refine z_get (k := 0) (C := RX3) (T := TX3) (N := 29) hb ho zc2 in_X3 (zf_RX3_7 _) dX3_newRow_63 z_tw_o (by decide) rfl ?_
  refine z_iconst (x := nI 1) hb dX3_newRow_66 (by decide) ?_
  refine z_dup2_11 hb dX3_newRow_67 rfl rfl ?_
  refine z_iald (j := 1) hb dX3_newRow_68 z_tw_r0 rfl (by omega) (by omega) ?_
  refine z_toI (y := nI R) (by rw [va_upn (by omega), va_upn (by omega), va_upn (by omega), va_upn (by omega)]; exact hR) ?_
  refine z_iconst (x := nI 1) hb dX3_newRow_69 (by decide) ?_
  refine z_iadd hb dX3_newRow_70 ?_
  refine z_toI (y := nI (R + 1)) (nI_add R 1) ?_
  refine z_iast (j := 1) hb dX3_newRow_71 z_tw_r0 (by omega) rfl (by omega) (by omega) ?_
  refine z_hh z_tw_u0 ?_
  refine z_aload_n hb dX3_newRow_72 rfl ?_
  refine z_get (k := 0) (C := RX3) (T := TX3) (N := 29) hb ho zc2 in_X3 (zf_RX3_7 _) dX3_newRow_73 z_tw_o (by decide) rfl ?_
  refine z_iconst (x := nI 2) hb dX3_newRow_76 (by decide) ?_
  refine z_dup2_11 hb dX3_newRow_77 rfl rfl ?_
  refine z_iald (j := 2) hb dX3_newRow_78 z_tw_r0 rfl (by omega) (by omega) ?_
  refine z_toI (y := w0 2) (by rw [va_upn (by omega), va_upn (by omega), va_upn (by omega), va_upn (by omega), va_upn (by omega)]) ?_
  refine z_iconst (x := nI 1) hb dX3_newRow_79 (by decide) ?_
  refine z_iadd hb dX3_newRow_80 ?_
  refine z_iast (j := 2) hb dX3_newRow_81 z_tw_r0 (by omega) rfl (by omega) (by omega) ?_
  refine z_hh z_tw_u0 ?_
  refine z_hh (h2 := z_tw (zm_G M) t (tw_nrow w0 R g d a) w1 w2 w3 w4 w5 w6 w7 w8 w9 w10 w11 w12 w13 w14 w15 w16 w17 w18 w19 w20 w21 w22 w23 w24 w25 w26 w27 w28 h) rfl ?_
  refine z_aload_n hb dX3_newRow_82 rfl ?_
  refine z_iload_n hb dX3_newRow_83 rfl ?_
  refine z_call0 (b' := 0) (f' := 0) (rest := []) (av := [.ref t, .int (nI d)]) (z_siteV hb ho zc2 z_tw_o q2824 q2826 qs35 ⟨_, _, _, _, zk_X3_touched⟩ zy_X3_touched zl_X3_touched dX3_newRow_84 : z_Site M _ _ _ _ _ ([.int (nI d)].reverse ++ .ref t :: []) [] _) zk_X3_touched q104 hrm (m_X3_touched_past ht (tw_nrow_ok hw hR40) hdp) (by omega) (by decide) (Nat.le_of_ble_eq_true rfl) (by omega) (by omega) ?_
  refine z_iload hb dX3_newRow_87 rfl ?_
  refine z_iret hb hr dX3_newRow_89 ?_
  rw [hQ]
  exact ⟨rfl, rfl, rfl⟩

set_option maxHeartbeats 1000000 in
theorem m_X3_goneRow_now {l : Launch} {G : zG} {h : zH} {n : Nat} {t : Nat} {w0 : Nat → Int32} {w1 : Nat → Int32} {w2 : Nat → Int32} {w3 : Nat → Int32} {w4 : Nat → Int32} {w5 : Nat → Int64} {w6 : Nat → Int64} {w7 : Nat → Int64} {w8 : Nat → Int64} {w9 : Nat → Int64} {w10 : Nat → Int64} {w11 : Nat → Int64} {w12 : Int32} {w13 : Int32} {w14 : Int32} {w15 : Int32} {w16 : Int32} {w17 : Int32} {w18 : Bool} {w19 : Nat → Int32} {w20 : Int32} {w21 : Nat → Int32} {w22 : Nat → Int32} {w23 : Nat → Int32} {w24 : Int32} {w25 : Int32} {w26 : Int32} {w27 : Int32} {w28 : Bool} {R S D : Nat} {x : Int32} {p d : Nat}  (ht : z_n0 G ≤ t) (hw : z_ok w0 R S D) (hrow : tw_row w0 R x = some p) (hday : w0 (16 + 4 * p + 1) = nI D) : z_C l G yX3_goneRow 7 0 0 [.ref t, .int x] (z_tw G t w0 w1 w2 w3 w4 w5 w6 w7 w8 w9 w10 w11 w12 w13 w14 w15 w16 w17 w18 w19 w20 w21 w22 w23 w24 w25 w26 w27 w28 h) n (z_rv (.int (w0 (16 + 4 * p + 3))) (z_tw G t (tw_gone w0 R p) w1 w2 w3 w4 (tw_tt (tw_gone w0 R p) (R - 1) D w5 S) w6 w7 w8 w9 w10 w11 w12 w13 w14 w15 w16 w17 w18 w19 w20 w21 w22 w23 w24 w25 w26 w27 w28 h) n) := by
  refine z_start zk_X3_goneRow zpl_RX3 (Nat.le_of_ble_eq_true rfl) ?_
  intro hn0 M hl hG ho hb hN hr hm hH hrm hQ
  subst hl hG
  have ho : zm_o M = RX3 := ho
  obtain ⟨hR, hR4, hS, hS8, hD, hD6, hF⟩ := id hw
  have hpR := tw_row_lt hrow
  show z_V M (z_tw (zm_G M) t w0 w1 w2 w3 w4 w5 w6 w7 w8 w9 w10 w11 w12 w13 w14 w15 w16 w17 w18 w19 w20 w21 w22 w23 w24 w25 w26 w27 w28 h) n 0 0 0 [(0, .ref t), (1, .int x)] []
  refine z_aload_n hb dX3_goneRow_0 rfl ?_
  refine z_iload_n hb dX3_goneRow_1 rfl ?_
  refine z_call1 (b' := 0) (f' := 0) (rest := []) (av := [.ref t, .int x]) (z_siteV hb ho zc2 z_tw_o q2879 q2881 qs47 ⟨_, _, _, _, zk_X3_row⟩ zy_X3_row zl_X3_row dX3_goneRow_2 : z_Site M _ _ _ _ _ ([.int x].reverse ++ .ref t :: []) [] _) zk_X3_row q104 hrm (m_X3_row x ht hw) (by omega) (by decide) (Nat.le_of_ble_eq_true rfl) (by omega) (by omega) ?_
  refine z_toI (y := nI p) (by rw [hrow]; rfl) ?_
  refine z_istore_n (lv' := [(2, .int (nI p)), (0, .ref t), (1, .int x)]) hb dX3_goneRow_5 (by rw [hN]; decide) rfl ?_
  refine z_aload_n hb dX3_goneRow_6 rfl ?_
  refine z_iload_n hb dX3_goneRow_7 rfl ?_
  refine z_iconst (x := nI 1) hb dX3_goneRow_8 (by decide) ?_
  refine z_call1 (b' := 0) (f' := 0) (rest := []) (av := [.ref t, .int (nI p), .int (nI 1)]) (z_siteV hb ho zc2 z_tw_o q2859 q2861 qs43 ⟨_, _, _, _, zk_X3_r⟩ zy_X3_r zl_X3_r dX3_goneRow_9 : z_Site M _ _ _ _ _ ([.int (nI p), .int (nI 1)].reverse ++ .ref t :: []) [] _) zk_X3_r q104 hrm (m_X3_r p 1 ht (by omega)) (by omega) (by decide) (Nat.le_of_ble_eq_true rfl) (by omega) (by omega) ?_
  refine z_toI (y := nI D) hday ?_
  refine z_istore_n (lv' := [(3, .int (nI D)), (2, .int (nI p)), (0, .ref t), (1, .int x)]) hb dX3_goneRow_12 (by rw [hN]; decide) rfl ?_
  refine z_aload_n hb dX3_goneRow_13 rfl ?_
  refine z_iload_n hb dX3_goneRow_14 rfl ?_
  refine z_iconst (x := nI 3) hb dX3_goneRow_15 (by decide) ?_
  refine z_call1 (b' := 0) (f' := 0) (rest := []) (av := [.ref t, .int (nI p), .int (nI 3)]) (z_siteV hb ho zc2 z_tw_o q2859 q2861 qs43 ⟨_, _, _, _, zk_X3_r⟩ zy_X3_r zl_X3_r dX3_goneRow_16 : z_Site M _ _ _ _ _ ([.int (nI p), .int (nI 3)].reverse ++ .ref t :: []) [] _) zk_X3_r q104 hrm (m_X3_r p 3 ht (by omega)) (by omega) (by decide) (Nat.le_of_ble_eq_true rfl) (by omega) (by omega) ?_
  refine z_istore (lv' := [(4, .int (w0 (16 + 4 * p + 3))), (3, .int (nI D)), (2, .int (nI p)), (0, .ref t), (1, .int x)]) hb dX3_goneRow_19 (by rw [hN]; decide) rfl ?_
  refine z_aload_n hb dX3_goneRow_21 rfl ?_
  refine z_get (k := 0) (C := RX3) (T := TX3) (N := 29) hb ho zc2 in_X3 (zf_RX3_7 _) dX3_goneRow_22 z_tw_o (by decide) rfl ?_
  refine z_iconst (x := nI 1) hb dX3_goneRow_25 (by decide) ?_
  refine z_dup2_11 hb dX3_goneRow_26 rfl rfl ?_
  refine z_iald (j := 1) hb dX3_goneRow_27 z_tw_r0 rfl (by omega) (by omega) ?_
  refine z_toI (y := nI R) hR ?_
  refine z_iconst (x := nI 1) hb dX3_goneRow_28 (by decide) ?_
  refine z_isub hb dX3_goneRow_29 ?_
  refine z_toI (y := nI (R - 1)) (pk_sub (by omega)) ?_
  refine z_iast (j := 1) hb dX3_goneRow_30 z_tw_r0 (by omega) rfl (by omega) (by omega) ?_
  refine z_hh z_tw_u0 ?_
  refine z_aload_n hb dX3_goneRow_31 rfl ?_
  refine z_get (k := 0) (C := RX3) (T := TX3) (N := 29) hb ho zc2 in_X3 (zf_RX3_7 _) dX3_goneRow_32 z_tw_o (by decide) rfl ?_
  refine z_iconst (x := nI 4) hb dX3_goneRow_35 (by decide) ?_
  refine z_dup2_11 hb dX3_goneRow_36 rfl rfl ?_
  refine z_iald (j := 4) hb dX3_goneRow_37 z_tw_r0 rfl (by omega) (by omega) ?_
  refine z_toI (y := w0 4) (by rw [va_upn (by omega)]) ?_
  refine z_iconst (x := nI 1) hb dX3_goneRow_38 (by decide) ?_
  refine z_iadd hb dX3_goneRow_39 ?_
  refine z_iast (j := 4) hb dX3_goneRow_40 z_tw_r0 (by omega) rfl (by omega) (by omega) ?_
  refine z_hh z_tw_u0 ?_
  refine z_hh (h2 := z_tw (zm_G M) t (tw_gone0 w0 R) w1 w2 w3 w4 w5 w6 w7 w8 w9 w10 w11 w12 w13 w14 w15 w16 w17 w18 w19 w20 w21 w22 w23 w24 w25 w26 w27 w28 h) rfl ?_
  refine z_bipush (x := nI 16) hb dX3_goneRow_41 (by decide) ?_
  refine z_iconst (x := nI 4) hb dX3_goneRow_43 (by decide) ?_
  refine z_iload_n hb dX3_goneRow_44 rfl ?_
  refine z_imul hb dX3_goneRow_45 ?_
  refine z_toI (y := nI (4 * p)) (pk_mul 4 p) ?_
  refine z_iadd hb dX3_goneRow_46 ?_
  refine z_toI (y := nI (16 + (4 * p))) (nI_add 16 (4 * p)) ?_
  refine z_istore (lv' := [(5, .int (nI (16 + (4 * p)))), (4, .int (w0 (16 + 4 * p + 3))), (3, .int (nI D)), (2, .int (nI p)), (0, .ref t), (1, .int x)]) hb dX3_goneRow_47 (by rw [hN]; decide) rfl ?_
  have lp_49 : ∀ (k9_49 : Nat) (j : Nat) (w : Nat → Int32), 4 * (R - 1 - p) - j < k9_49 → (j ≤ 4 * (R - 1 - p)) → (w = tw_shl (tw_gone0 w0 R) (16 + 4 * p) 4 j) → (z_ok w (R - 1) S D) → z_V M (z_tw (zm_G M) t w w1 w2 w3 w4 w5 w6 w7 w8 w9 w10 w11 w12 w13 w14 w15 w16 w17 w18 w19 w20 w21 w22 w23 w24 w25 w26 w27 w28 h) n 0 0 49 [(5, .int (nI (16 + 4 * p + j))), (0, .ref t), (1, .int x), (2, .int (nI p)), (3, .int (nI D)), (4, .int (w0 (16 + 4 * p + 3)))] [] := by
    intro k9_49
    induction k9_49 with
    | zero => intro j w hk9_49; exact absurd hk9_49 (Nat.not_lt_zero _)
    | succ k9_49 ih_49 =>
      intro j w hk9_49 hj hw2 hok
      refine z_iload hb dX3_goneRow_49 rfl ?_
      refine z_bipush (x := nI 16) hb dX3_goneRow_51 (by decide) ?_
      refine z_iconst (x := nI 4) hb dX3_goneRow_53 (by decide) ?_
      refine z_aload_n hb dX3_goneRow_54 rfl ?_
      refine z_get (k := 0) (C := RX3) (T := TX3) (N := 29) hb ho zc2 in_X3 (zf_RX3_7 _) dX3_goneRow_55 z_tw_o (by decide) rfl ?_
      refine z_iconst (x := nI 1) hb dX3_goneRow_58 (by decide) ?_
      refine z_iald (j := 1) hb dX3_goneRow_59 z_tw_r0 rfl (by omega) (by omega) ?_
      refine z_toI (y := nI (R - 1)) hok.1 ?_
      refine z_imul hb dX3_goneRow_60 ?_
      refine z_toI (y := nI (4 * (R - 1))) (pk_mul 4 (R - 1)) ?_
      refine z_iadd hb dX3_goneRow_61 ?_
      refine z_toI (y := nI (16 + (4 * (R - 1)))) (nI_add 16 (4 * (R - 1))) ?_
      refine z_icmp_geN (tgt := 87) hb dX3_goneRow_62 (by decide) (by omega) (by omega) (fun c_62 => ?_) (fun c_62 => ?_)
      · refine z_hh (h2 := z_tw (zm_G M) t (tw_gone w0 R p) w1 w2 w3 w4 w5 w6 w7 w8 w9 w10 w11 w12 w13 w14 w15 w16 w17 w18 w19 w20 w21 w22 w23 w24 w25 w26 w27 w28 h) (by rw [hw2, show j = 4 * (R - 1 - p) by omega]; rfl) ?_
        refine z_aload_n hb dX3_goneRow_87 rfl ?_
        refine z_iload_n hb dX3_goneRow_88 rfl ?_
        refine z_call0 (b' := 0) (f' := 0) (rest := []) (av := [.ref t, .int (nI D)]) (z_siteV hb ho zc2 z_tw_o q2824 q2826 qs35 ⟨_, _, _, _, zk_X3_touched⟩ zy_X3_touched zl_X3_touched dX3_goneRow_89 : z_Site M _ _ _ _ _ ([.int (nI D)].reverse ++ .ref t :: []) [] _) zk_X3_touched q104 hrm (m_X3_touched_now ht (tw_gone_ok hw hpR)) (by omega) (by decide) (Nat.le_of_ble_eq_true rfl) (by omega) (by omega) ?_
        refine z_iload hb dX3_goneRow_92 rfl ?_
        refine z_iret hb hr dX3_goneRow_94 ?_
        rw [hQ]
        exact ⟨rfl, rfl, rfl⟩
      · refine z_aload_n hb dX3_goneRow_65 rfl ?_
        refine z_get (k := 0) (C := RX3) (T := TX3) (N := 29) hb ho zc2 in_X3 (zf_RX3_7 _) dX3_goneRow_66 z_tw_o (by decide) rfl ?_
        refine z_iload hb dX3_goneRow_69 rfl ?_
        refine z_aload_n hb dX3_goneRow_71 rfl ?_
        refine z_get (k := 0) (C := RX3) (T := TX3) (N := 29) hb ho zc2 in_X3 (zf_RX3_7 _) dX3_goneRow_72 z_tw_o (by decide) rfl ?_
        refine z_iload hb dX3_goneRow_75 rfl ?_
        refine z_iconst (x := nI 4) hb dX3_goneRow_77 (by decide) ?_
        refine z_iadd hb dX3_goneRow_78 ?_
        refine z_toI (y := nI (16 + 4 * p + j + 4)) (nI_add (16 + 4 * p + j) 4) ?_
        refine z_iald (j := 16 + 4 * p + j + 4) hb dX3_goneRow_79 z_tw_r0 rfl (by omega) (by omega) ?_
        refine z_iast (j := 16 + 4 * p + j) hb dX3_goneRow_80 z_tw_r0 (by omega) rfl (by omega) (by omega) ?_
        refine z_hh z_tw_u0 ?_
        refine z_iinc (k0 := 0) (lv' := [(5, .int (nI (16 + 4 * p + j + 1))), (0, .ref t), (1, .int x), (2, .int (nI p)), (3, .int (nI D)), (4, .int (w0 (16 + 4 * p + 3)))]) hb dX3_goneRow_81 rfl (nI_1 (16 + 4 * p + j)) (by rw [hN]; decide) rfl ?_
        refine z_goto (tgt := 49) hb dX3_goneRow_84 (by decide) ?_
        refine z_lv [0, 1, 2, 3, 4, 5] (lv' := [(5, .int (nI (16 + 4 * p + j + 1))), (0, .ref t), (1, .int x), (2, .int (nI p)), (3, .int (nI D)), (4, .int (w0 (16 + 4 * p + 3)))]) rfl ?_
        exact ih_49 (j + 1) _ (by omega) (by omega) (by rw [hw2]; rfl) (hok.up (by omega))
  refine z_lv [0, 4, 5, 3, 2, 1] (lv' := [(5, .int (nI (16 + (4 * p)))), (0, .ref t), (1, .int x), (2, .int (nI p)), (3, .int (nI D)), (4, .int (w0 (16 + 4 * p + 3)))]) rfl ?_
  exact lp_49 _ 0 _ (Nat.lt_succ_self _) (Nat.zero_le _) rfl (tw_gone0_ok hw)

set_option maxHeartbeats 1000000 in
theorem m_X3_goneRow_past {l : Launch} {G : zG} {h : zH} {n : Nat} {t : Nat} {w0 : Nat → Int32} {w1 : Nat → Int32} {w2 : Nat → Int32} {w3 : Nat → Int32} {w4 : Nat → Int32} {w5 : Nat → Int64} {w6 : Nat → Int64} {w7 : Nat → Int64} {w8 : Nat → Int64} {w9 : Nat → Int64} {w10 : Nat → Int64} {w11 : Nat → Int64} {w12 : Int32} {w13 : Int32} {w14 : Int32} {w15 : Int32} {w16 : Int32} {w17 : Int32} {w18 : Bool} {w19 : Nat → Int32} {w20 : Int32} {w21 : Nat → Int32} {w22 : Nat → Int32} {w23 : Nat → Int32} {w24 : Int32} {w25 : Int32} {w26 : Int32} {w27 : Int32} {w28 : Bool} {R S D : Nat} {x : Int32} {p d : Nat}  (ht : z_n0 G ≤ t) (hw : z_ok w0 R S D) (hrow : tw_row w0 R x = some p) (hday : w0 (16 + 4 * p + 1) = nI d) (hdp : d < D) : z_C l G yX3_goneRow 7 0 0 [.ref t, .int x] (z_tw G t w0 w1 w2 w3 w4 w5 w6 w7 w8 w9 w10 w11 w12 w13 w14 w15 w16 w17 w18 w19 w20 w21 w22 w23 w24 w25 w26 w27 w28 h) n (z_rv (.int (w0 (16 + 4 * p + 3))) (z_tw G t (tw_sp (va_up (tw_gone w0 R p) 5 ((tw_gone w0 R p) 5 + nI 1)) d D S) w1 w2 w3 w4 w5 w6 w7 w8 w9 w10 w11 w12 w13 w14 w15 w16 w17 w18 w19 w20 w21 w22 w23 w24 w25 w26 w27 w28 h) n) := by
  refine z_start zk_X3_goneRow zpl_RX3 (Nat.le_of_ble_eq_true rfl) ?_
  intro hn0 M hl hG ho hb hN hr hm hH hrm hQ
  subst hl hG
  have ho : zm_o M = RX3 := ho
  obtain ⟨hR, hR4, hS, hS8, hD, hD6, hF⟩ := id hw
  have hpR := tw_row_lt hrow
  show z_V M (z_tw (zm_G M) t w0 w1 w2 w3 w4 w5 w6 w7 w8 w9 w10 w11 w12 w13 w14 w15 w16 w17 w18 w19 w20 w21 w22 w23 w24 w25 w26 w27 w28 h) n 0 0 0 [(0, .ref t), (1, .int x)] []
  refine z_aload_n hb dX3_goneRow_0 rfl ?_
  refine z_iload_n hb dX3_goneRow_1 rfl ?_
  refine z_call1 (b' := 0) (f' := 0) (rest := []) (av := [.ref t, .int x]) (z_siteV hb ho zc2 z_tw_o q2879 q2881 qs47 ⟨_, _, _, _, zk_X3_row⟩ zy_X3_row zl_X3_row dX3_goneRow_2 : z_Site M _ _ _ _ _ ([.int x].reverse ++ .ref t :: []) [] _) zk_X3_row q104 hrm (m_X3_row x ht hw) (by omega) (by decide) (Nat.le_of_ble_eq_true rfl) (by omega) (by omega) ?_
  refine z_toI (y := nI p) (by rw [hrow]; rfl) ?_
  refine z_istore_n (lv' := [(2, .int (nI p)), (0, .ref t), (1, .int x)]) hb dX3_goneRow_5 (by rw [hN]; decide) rfl ?_
  refine z_aload_n hb dX3_goneRow_6 rfl ?_
  refine z_iload_n hb dX3_goneRow_7 rfl ?_
  refine z_iconst (x := nI 1) hb dX3_goneRow_8 (by decide) ?_
  refine z_call1 (b' := 0) (f' := 0) (rest := []) (av := [.ref t, .int (nI p), .int (nI 1)]) (z_siteV hb ho zc2 z_tw_o q2859 q2861 qs43 ⟨_, _, _, _, zk_X3_r⟩ zy_X3_r zl_X3_r dX3_goneRow_9 : z_Site M _ _ _ _ _ ([.int (nI p), .int (nI 1)].reverse ++ .ref t :: []) [] _) zk_X3_r q104 hrm (m_X3_r p 1 ht (by omega)) (by omega) (by decide) (Nat.le_of_ble_eq_true rfl) (by omega) (by omega) ?_
  refine z_toI (y := nI d) hday ?_
  refine z_istore_n (lv' := [(3, .int (nI d)), (2, .int (nI p)), (0, .ref t), (1, .int x)]) hb dX3_goneRow_12 (by rw [hN]; decide) rfl ?_
  refine z_aload_n hb dX3_goneRow_13 rfl ?_
  refine z_iload_n hb dX3_goneRow_14 rfl ?_
  refine z_iconst (x := nI 3) hb dX3_goneRow_15 (by decide) ?_
  refine z_call1 (b' := 0) (f' := 0) (rest := []) (av := [.ref t, .int (nI p), .int (nI 3)]) (z_siteV hb ho zc2 z_tw_o q2859 q2861 qs43 ⟨_, _, _, _, zk_X3_r⟩ zy_X3_r zl_X3_r dX3_goneRow_16 : z_Site M _ _ _ _ _ ([.int (nI p), .int (nI 3)].reverse ++ .ref t :: []) [] _) zk_X3_r q104 hrm (m_X3_r p 3 ht (by omega)) (by omega) (by decide) (Nat.le_of_ble_eq_true rfl) (by omega) (by omega) ?_
  refine z_istore (lv' := [(4, .int (w0 (16 + 4 * p + 3))), (3, .int (nI d)), (2, .int (nI p)), (0, .ref t), (1, .int x)]) hb dX3_goneRow_19 (by rw [hN]; decide) rfl ?_
  refine z_aload_n hb dX3_goneRow_21 rfl ?_
  refine z_get (k := 0) (C := RX3) (T := TX3) (N := 29) hb ho zc2 in_X3 (zf_RX3_7 _) dX3_goneRow_22 z_tw_o (by decide) rfl ?_
  refine z_iconst (x := nI 1) hb dX3_goneRow_25 (by decide) ?_
  refine z_dup2_11 hb dX3_goneRow_26 rfl rfl ?_
  refine z_iald (j := 1) hb dX3_goneRow_27 z_tw_r0 rfl (by omega) (by omega) ?_
  refine z_toI (y := nI R) hR ?_
  refine z_iconst (x := nI 1) hb dX3_goneRow_28 (by decide) ?_
  refine z_isub hb dX3_goneRow_29 ?_
  refine z_toI (y := nI (R - 1)) (pk_sub (by omega)) ?_
  refine z_iast (j := 1) hb dX3_goneRow_30 z_tw_r0 (by omega) rfl (by omega) (by omega) ?_
  refine z_hh z_tw_u0 ?_
  refine z_aload_n hb dX3_goneRow_31 rfl ?_
  refine z_get (k := 0) (C := RX3) (T := TX3) (N := 29) hb ho zc2 in_X3 (zf_RX3_7 _) dX3_goneRow_32 z_tw_o (by decide) rfl ?_
  refine z_iconst (x := nI 4) hb dX3_goneRow_35 (by decide) ?_
  refine z_dup2_11 hb dX3_goneRow_36 rfl rfl ?_
  refine z_iald (j := 4) hb dX3_goneRow_37 z_tw_r0 rfl (by omega) (by omega) ?_
  refine z_toI (y := w0 4) (by rw [va_upn (by omega)]) ?_
  refine z_iconst (x := nI 1) hb dX3_goneRow_38 (by decide) ?_
  refine z_iadd hb dX3_goneRow_39 ?_
  refine z_iast (j := 4) hb dX3_goneRow_40 z_tw_r0 (by omega) rfl (by omega) (by omega) ?_
  refine z_hh z_tw_u0 ?_
  refine z_hh (h2 := z_tw (zm_G M) t (tw_gone0 w0 R) w1 w2 w3 w4 w5 w6 w7 w8 w9 w10 w11 w12 w13 w14 w15 w16 w17 w18 w19 w20 w21 w22 w23 w24 w25 w26 w27 w28 h) rfl ?_
  refine z_bipush (x := nI 16) hb dX3_goneRow_41 (by decide) ?_
  refine z_iconst (x := nI 4) hb dX3_goneRow_43 (by decide) ?_
  refine z_iload_n hb dX3_goneRow_44 rfl ?_
  refine z_imul hb dX3_goneRow_45 ?_
  refine z_toI (y := nI (4 * p)) (pk_mul 4 p) ?_
  refine z_iadd hb dX3_goneRow_46 ?_
  refine z_toI (y := nI (16 + (4 * p))) (nI_add 16 (4 * p)) ?_
  refine z_istore (lv' := [(5, .int (nI (16 + (4 * p)))), (4, .int (w0 (16 + 4 * p + 3))), (3, .int (nI d)), (2, .int (nI p)), (0, .ref t), (1, .int x)]) hb dX3_goneRow_47 (by rw [hN]; decide) rfl ?_
  have lp_49 : ∀ (k9_49 : Nat) (j : Nat) (w : Nat → Int32), 4 * (R - 1 - p) - j < k9_49 → (j ≤ 4 * (R - 1 - p)) → (w = tw_shl (tw_gone0 w0 R) (16 + 4 * p) 4 j) → (z_ok w (R - 1) S D) → z_V M (z_tw (zm_G M) t w w1 w2 w3 w4 w5 w6 w7 w8 w9 w10 w11 w12 w13 w14 w15 w16 w17 w18 w19 w20 w21 w22 w23 w24 w25 w26 w27 w28 h) n 0 0 49 [(5, .int (nI (16 + 4 * p + j))), (0, .ref t), (1, .int x), (2, .int (nI p)), (3, .int (nI d)), (4, .int (w0 (16 + 4 * p + 3)))] [] := by
    intro k9_49
    induction k9_49 with
    | zero => intro j w hk9_49; exact absurd hk9_49 (Nat.not_lt_zero _)
    | succ k9_49 ih_49 =>
      intro j w hk9_49 hj hw2 hok
      refine z_iload hb dX3_goneRow_49 rfl ?_
      refine z_bipush (x := nI 16) hb dX3_goneRow_51 (by decide) ?_
      refine z_iconst (x := nI 4) hb dX3_goneRow_53 (by decide) ?_
      refine z_aload_n hb dX3_goneRow_54 rfl ?_
      refine z_get (k := 0) (C := RX3) (T := TX3) (N := 29) hb ho zc2 in_X3 (zf_RX3_7 _) dX3_goneRow_55 z_tw_o (by decide) rfl ?_
      refine z_iconst (x := nI 1) hb dX3_goneRow_58 (by decide) ?_
      refine z_iald (j := 1) hb dX3_goneRow_59 z_tw_r0 rfl (by omega) (by omega) ?_
      refine z_toI (y := nI (R - 1)) hok.1 ?_
      refine z_imul hb dX3_goneRow_60 ?_
      refine z_toI (y := nI (4 * (R - 1))) (pk_mul 4 (R - 1)) ?_
      refine z_iadd hb dX3_goneRow_61 ?_
      refine z_toI (y := nI (16 + (4 * (R - 1)))) (nI_add 16 (4 * (R - 1))) ?_
      refine z_icmp_geN (tgt := 87) hb dX3_goneRow_62 (by decide) (by omega) (by omega) (fun c_62 => ?_) (fun c_62 => ?_)
      · refine z_hh (h2 := z_tw (zm_G M) t (tw_gone w0 R p) w1 w2 w3 w4 w5 w6 w7 w8 w9 w10 w11 w12 w13 w14 w15 w16 w17 w18 w19 w20 w21 w22 w23 w24 w25 w26 w27 w28 h) (by rw [hw2, show j = 4 * (R - 1 - p) by omega]; rfl) ?_
        refine z_aload_n hb dX3_goneRow_87 rfl ?_
        refine z_iload_n hb dX3_goneRow_88 rfl ?_
        refine z_call0 (b' := 0) (f' := 0) (rest := []) (av := [.ref t, .int (nI d)]) (z_siteV hb ho zc2 z_tw_o q2824 q2826 qs35 ⟨_, _, _, _, zk_X3_touched⟩ zy_X3_touched zl_X3_touched dX3_goneRow_89 : z_Site M _ _ _ _ _ ([.int (nI d)].reverse ++ .ref t :: []) [] _) zk_X3_touched q104 hrm (m_X3_touched_past ht (tw_gone_ok hw hpR) hdp) (by omega) (by decide) (Nat.le_of_ble_eq_true rfl) (by omega) (by omega) ?_
        refine z_iload hb dX3_goneRow_92 rfl ?_
        refine z_iret hb hr dX3_goneRow_94 ?_
        rw [hQ]
        exact ⟨rfl, rfl, rfl⟩
      · refine z_aload_n hb dX3_goneRow_65 rfl ?_
        refine z_get (k := 0) (C := RX3) (T := TX3) (N := 29) hb ho zc2 in_X3 (zf_RX3_7 _) dX3_goneRow_66 z_tw_o (by decide) rfl ?_
        refine z_iload hb dX3_goneRow_69 rfl ?_
        refine z_aload_n hb dX3_goneRow_71 rfl ?_
        refine z_get (k := 0) (C := RX3) (T := TX3) (N := 29) hb ho zc2 in_X3 (zf_RX3_7 _) dX3_goneRow_72 z_tw_o (by decide) rfl ?_
        refine z_iload hb dX3_goneRow_75 rfl ?_
        refine z_iconst (x := nI 4) hb dX3_goneRow_77 (by decide) ?_
        refine z_iadd hb dX3_goneRow_78 ?_
        refine z_toI (y := nI (16 + 4 * p + j + 4)) (nI_add (16 + 4 * p + j) 4) ?_
        refine z_iald (j := 16 + 4 * p + j + 4) hb dX3_goneRow_79 z_tw_r0 rfl (by omega) (by omega) ?_
        refine z_iast (j := 16 + 4 * p + j) hb dX3_goneRow_80 z_tw_r0 (by omega) rfl (by omega) (by omega) ?_
        refine z_hh z_tw_u0 ?_
        refine z_iinc (k0 := 0) (lv' := [(5, .int (nI (16 + 4 * p + j + 1))), (0, .ref t), (1, .int x), (2, .int (nI p)), (3, .int (nI d)), (4, .int (w0 (16 + 4 * p + 3)))]) hb dX3_goneRow_81 rfl (nI_1 (16 + 4 * p + j)) (by rw [hN]; decide) rfl ?_
        refine z_goto (tgt := 49) hb dX3_goneRow_84 (by decide) ?_
        refine z_lv [0, 1, 2, 3, 4, 5] (lv' := [(5, .int (nI (16 + 4 * p + j + 1))), (0, .ref t), (1, .int x), (2, .int (nI p)), (3, .int (nI d)), (4, .int (w0 (16 + 4 * p + 3)))]) rfl ?_
        exact ih_49 (j + 1) _ (by omega) (by omega) (by rw [hw2]; rfl) (hok.up (by omega))
  refine z_lv [0, 4, 5, 3, 2, 1] (lv' := [(5, .int (nI (16 + (4 * p)))), (0, .ref t), (1, .int x), (2, .int (nI p)), (3, .int (nI d)), (4, .int (w0 (16 + 4 * p + 3)))]) rfl ?_
  exact lp_49 _ 0 _ (Nat.lt_succ_self _) (Nat.zero_le _) rfl (tw_gone0_ok hw)

