theorem va_ups {α : Type} {f : Nat → α} {k : Nat} {v : α} : va_up f k v k = v := if_pos rfl
theorem va_upn {α : Type} {f : Nat → α} {k j : Nat} {v : α} (h : j ≠ k) : va_up f k v j = f j := if_neg h
theorem z_ok.up {w0 : Nat → Int32} {R S D j : Nat} {v : Int32} (h : z_ok w0 R S D) (hj : j = 2 ∨ j = 4 ∨ j = 5 ∨ j = 6 ∨ 208 ≤ j ∨ (16 ≤ j ∧ j < 176)) : z_ok (va_up w0 j v) R S D := by
  obtain ⟨hR, hR4, hS, hS8, hD, hD6, hF⟩ := h
  refine ⟨by rw [va_upn (by omega)]; exact hR, hR4, by rw [va_upn (by omega)]; exact hS, hS8, by rw [va_upn (by omega)]; exact hD, hD6, fun k hk => ?_⟩
  have h1 := hF k hk
  unfold tw_f tw_s at h1 ⊢
  rw [va_upn (by omega), va_upn (by omega)]
  exact h1
def tw_tt (w0 : Nat → Int32) (R D : Nat) (f : Nat → Int64) : Nat → (Nat → Int64)
  | 0 => f
  | k + 1 => if tw_st w0 k D then tw_tt w0 R D f k else tw_comp w0 R k D (tw_tt w0 R D f k) 5
def tw_sp1 (w : Nat → Int32) (k : Nat) : Nat → (Nat → Int32)
  | 0 => w
  | e + 1 => if tw_from (tw_sp1 w k e) k e then va_up (tw_sp1 w k e) (208 + 7 * k + e) (z_b true) else tw_sp1 w k e
def tw_sp0 (w : Nat → Int32) (k d : Nat) : Nat → Int32 := if tw_base w k then va_up w (208 + 7 * k + d) (z_b true) else w
def tw_sp (w : Nat → Int32) (d D : Nat) : Nat → (Nat → Int32)
  | 0 => w
  | k + 1 => tw_sp1 (tw_sp0 (tw_sp w d D k) k d) k (D + 1)
def tw_sh {α : Type} (f : Nat → α) (N : Nat) : Nat → (Nat → α)
  | 0 => f
  | k + 1 => va_cpy (tw_sh f N k) (tw_sh f N k) (N * (k + 1)) (N * k) N

set_option maxHeartbeats 1000000 in
theorem m_X3_copy {l : Launch} {G : zG} {h : zH} {n : Nat} (a0 a1 N0 N1 fi ti : Nat) (f g : Nat → Int32) (h0 : h a0 = some (z_ai G N0 f)) (h1 : h a1 = some (z_ai G N1 g)) (hn : z_n0 G ≤ a1) (hne : a0 ≠ a1) (hf : fi + 272 ≤ N0) (ht : ti + 272 ≤ N1) (hN : N0 < 2 ^ 20) (hN1 : N1 < 2 ^ 20) : z_C l G yX3_copy 1 0 0 [.ref a0, .int (nI fi), .ref a1, .int (nI ti)] h n (z_r0 (z_up h a1 (z_ai G N1 (va_cpy f g fi ti 272))) n) := by
  refine z_start zk_X3_copy zpl_RX3 (Nat.le_of_ble_eq_true rfl) ?_
  intro hn0 M hl hG ho hb hN hr hm hH hrm hQ
  subst hl hG
  have ho : zm_o M = RX3 := ho
  show z_V M h n 0 0 0 [(0, .ref a0), (1, .int (nI fi)), (2, .ref a1), (3, .int (nI ti))] []
  refine z_iconst (x := nI 0) hb dX3_copy_0 (by decide) ?_
  refine z_istore (lv' := [(4, .int (nI 0)), (0, .ref a0), (1, .int (nI fi)), (2, .ref a1), (3, .int (nI ti))]) hb dX3_copy_1 (by rw [hN]; decide) rfl ?_
  refine z_hh (h2 := z_up h a1 (z_ai (zm_G M) N1 (va_cpy f g fi ti 0))) (by rw [z_cpy0, z_up_self h1]) ?_
  have lp_3 : ∀ (k9_3 : Nat) (k : Nat), 272 - k < k9_3 → (k ≤ 272) → z_V M (z_up h a1 (z_ai (zm_G M) N1 (va_cpy f g fi ti k))) n 0 0 3 [(4, .int (nI k)), (0, .ref a0), (1, .int (nI fi)), (2, .ref a1), (3, .int (nI ti))] [] := by
    intro k9_3
    induction k9_3 with
    | zero => intro k hk9_3; exact absurd hk9_3 (Nat.not_lt_zero _)
    | succ k9_3 ih_3 =>
      intro k hk9_3 hk
      refine z_iload hb dX3_copy_3 rfl ?_
      refine z_sipush (x := nI 272) hb dX3_copy_5 (by decide) ?_
      refine z_icmp_geN (tgt := 29) hb dX3_copy_8 (by decide) (by omega) (by omega) (fun c_8 => ?_) (fun c_8 => ?_)
      · refine z_vret hb hr dX3_copy_29 ?_
        rw [hQ]
        rw [show k = 272 by omega]; exact ⟨rfl, rfl, rfl⟩
      · refine z_aload_n hb dX3_copy_11 rfl ?_
        refine z_iload_n hb dX3_copy_12 rfl ?_
        refine z_iload hb dX3_copy_13 rfl ?_
        refine z_iadd hb dX3_copy_15 ?_
        refine z_toI (y := nI (ti + k)) (nI_add ti k) ?_
        refine z_aload_n hb dX3_copy_16 rfl ?_
        refine z_iload_n hb dX3_copy_17 rfl ?_
        refine z_iload hb dX3_copy_18 rfl ?_
        refine z_iadd hb dX3_copy_20 ?_
        refine z_toI (y := nI (fi + k)) (nI_add fi k) ?_
        refine z_iald (j := fi + k) hb dX3_copy_21 ((z_up_n hne).trans h0) rfl (by omega) (by omega) ?_
        refine z_iast (j := ti + k) hb dX3_copy_22 z_up_s hn rfl (by omega) (by omega) ?_
        refine z_hh (h2 := z_up h a1 (z_ai (zm_G M) N1 (va_cpy f g fi ti (k + 1)))) (by rw [z_up_up, z_cpyS]) ?_
        refine z_iinc (k0 := 0) (lv' := [(4, .int (nI (k + 1))), (0, .ref a0), (1, .int (nI fi)), (2, .ref a1), (3, .int (nI ti))]) hb dX3_copy_23 rfl (nI_1 k) (by rw [hN]; decide) rfl ?_
        refine z_goto (tgt := 3) hb dX3_copy_26 (by decide) ?_
        refine z_lv [0, 1, 2, 3, 4] (lv' := [(4, .int (nI (k + 1))), (0, .ref a0), (1, .int (nI fi)), (2, .ref a1), (3, .int (nI ti))]) rfl ?_
        exact ih_3 (k + 1) (by omega) (by omega)
  refine z_lv [0, 1, 2, 3, 4] (lv' := [(4, .int (nI 0)), (0, .ref a0), (1, .int (nI fi)), (2, .ref a1), (3, .int (nI ti))]) rfl ?_
  exact lp_3 _ 0 (Nat.lt_succ_self _) (Nat.zero_le _)

set_option maxHeartbeats 1000000 in
theorem m_X3_copyS {l : Launch} {G : zG} {h : zH} {n : Nat} (a0 N0 fi ti : Nat) (f : Nat → Int32) (h0 : h a0 = some (z_ai G N0 f)) (hn : z_n0 G ≤ a0) (hf : fi + 272 ≤ N0) (ht : ti + 272 ≤ fi) (hN : N0 < 2 ^ 20) : z_C l G yX3_copy 1 0 0 [.ref a0, .int (nI fi), .ref a0, .int (nI ti)] h n (z_r0 (z_up h a0 (z_ai G N0 (va_cpy f f fi ti 272))) n) := by
  refine z_start zk_X3_copy zpl_RX3 (Nat.le_of_ble_eq_true rfl) ?_
  intro hn0 M hl hG ho hb hN hr hm hH hrm hQ
  subst hl hG
  have ho : zm_o M = RX3 := ho
  show z_V M h n 0 0 0 [(0, .ref a0), (1, .int (nI fi)), (2, .ref a0), (3, .int (nI ti))] []
  refine z_iconst (x := nI 0) hb dX3_copy_0 (by decide) ?_
  refine z_istore (lv' := [(4, .int (nI 0)), (0, .ref a0), (1, .int (nI fi)), (2, .ref a0), (3, .int (nI ti))]) hb dX3_copy_1 (by rw [hN]; decide) rfl ?_
  refine z_hh (h2 := z_up h a0 (z_ai (zm_G M) N0 (va_cpy f f fi ti 0))) (by rw [z_cpy0, z_up_self h0]) ?_
  have lp_3 : ∀ (k9_3 : Nat) (k : Nat), 272 - k < k9_3 → (k ≤ 272) → z_V M (z_up h a0 (z_ai (zm_G M) N0 (va_cpy f f fi ti k))) n 0 0 3 [(4, .int (nI k)), (0, .ref a0), (1, .int (nI fi)), (2, .ref a0), (3, .int (nI ti))] [] := by
    intro k9_3
    induction k9_3 with
    | zero => intro k hk9_3; exact absurd hk9_3 (Nat.not_lt_zero _)
    | succ k9_3 ih_3 =>
      intro k hk9_3 hk
      refine z_iload hb dX3_copy_3 rfl ?_
      refine z_sipush (x := nI 272) hb dX3_copy_5 (by decide) ?_
      refine z_icmp_geN (tgt := 29) hb dX3_copy_8 (by decide) (by omega) (by omega) (fun c_8 => ?_) (fun c_8 => ?_)
      · refine z_vret hb hr dX3_copy_29 ?_
        rw [hQ]
        rw [show k = 272 by omega]; exact ⟨rfl, rfl, rfl⟩
      · refine z_aload_n hb dX3_copy_11 rfl ?_
        refine z_iload_n hb dX3_copy_12 rfl ?_
        refine z_iload hb dX3_copy_13 rfl ?_
        refine z_iadd hb dX3_copy_15 ?_
        refine z_toI (y := nI (ti + k)) (nI_add ti k) ?_
        refine z_aload_n hb dX3_copy_16 rfl ?_
        refine z_iload_n hb dX3_copy_17 rfl ?_
        refine z_iload hb dX3_copy_18 rfl ?_
        refine z_iadd hb dX3_copy_20 ?_
        refine z_toI (y := nI (fi + k)) (nI_add fi k) ?_
        refine z_iald (j := fi + k) hb dX3_copy_21 z_up_s rfl (by omega) (by omega) ?_
        refine z_iast (j := ti + k) hb dX3_copy_22 z_up_s hn rfl (by omega) (by omega) ?_
        refine z_hh (h2 := z_up h a0 (z_ai (zm_G M) N0 (va_cpy f f fi ti (k + 1)))) (by rw [z_up_up, show va_cpy f f fi ti k (fi + k) = f (fi + k) from if_neg (by omega), z_cpyS]) ?_
        refine z_iinc (k0 := 0) (lv' := [(4, .int (nI (k + 1))), (0, .ref a0), (1, .int (nI fi)), (2, .ref a0), (3, .int (nI ti))]) hb dX3_copy_23 rfl (nI_1 k) (by rw [hN]; decide) rfl ?_
        refine z_goto (tgt := 3) hb dX3_copy_26 (by decide) ?_
        refine z_lv [0, 1, 2, 3, 4] (lv' := [(4, .int (nI (k + 1))), (0, .ref a0), (1, .int (nI fi)), (2, .ref a0), (3, .int (nI ti))]) rfl ?_
        exact ih_3 (k + 1) (by omega) (by omega)
  refine z_lv [0, 1, 2, 3, 4] (lv' := [(4, .int (nI 0)), (0, .ref a0), (1, .int (nI fi)), (2, .ref a0), (3, .int (nI ti))]) rfl ?_
  exact lp_3 _ 0 (Nat.lt_succ_self _) (Nat.zero_le _)

set_option maxHeartbeats 1000000 in
theorem m_X3_copyKept {l : Launch} {G : zG} {h : zH} {n : Nat} (a0 a1 N0 N1 fi ti : Nat) (f g : Nat → Int64) (h0 : h a0 = some (z_al G N0 f)) (h1 : h a1 = some (z_al G N1 g)) (hn : z_n0 G ≤ a1) (hne : a0 ≠ a1) (hf : fi + 280 ≤ N0) (ht : ti + 280 ≤ N1) (hN : N0 < 2 ^ 20) (hN1 : N1 < 2 ^ 20) : z_C l G yX3_copyKept 1 0 0 [.ref a0, .int (nI fi), .ref a1, .int (nI ti)] h n (z_r0 (z_up h a1 (z_al G N1 (va_cpy f g fi ti 280))) n) := by
  refine z_start zk_X3_copyKept zpl_RX3 (Nat.le_of_ble_eq_true rfl) ?_
  intro hn0 M hl hG ho hb hN hr hm hH hrm hQ
  subst hl hG
  have ho : zm_o M = RX3 := ho
  show z_V M h n 0 0 0 [(0, .ref a0), (1, .int (nI fi)), (2, .ref a1), (3, .int (nI ti))] []
  refine z_iconst (x := nI 0) hb dX3_copyKept_0 (by decide) ?_
  refine z_istore (lv' := [(4, .int (nI 0)), (0, .ref a0), (1, .int (nI fi)), (2, .ref a1), (3, .int (nI ti))]) hb dX3_copyKept_1 (by rw [hN]; decide) rfl ?_
  refine z_hh (h2 := z_up h a1 (z_al (zm_G M) N1 (va_cpy f g fi ti 0))) (by rw [z_cpy0, z_up_self h1]) ?_
  have lp_3 : ∀ (k9_3 : Nat) (k : Nat), 280 - k < k9_3 → (k ≤ 280) → z_V M (z_up h a1 (z_al (zm_G M) N1 (va_cpy f g fi ti k))) n 0 0 3 [(4, .int (nI k)), (0, .ref a0), (1, .int (nI fi)), (2, .ref a1), (3, .int (nI ti))] [] := by
    intro k9_3
    induction k9_3 with
    | zero => intro k hk9_3; exact absurd hk9_3 (Nat.not_lt_zero _)
    | succ k9_3 ih_3 =>
      intro k hk9_3 hk
      refine z_iload hb dX3_copyKept_3 rfl ?_
      refine z_sipush (x := nI 280) hb dX3_copyKept_5 (by decide) ?_
      refine z_icmp_geN (tgt := 29) hb dX3_copyKept_8 (by decide) (by omega) (by omega) (fun c_8 => ?_) (fun c_8 => ?_)
      · refine z_vret hb hr dX3_copyKept_29 ?_
        rw [hQ]
        rw [show k = 280 by omega]; exact ⟨rfl, rfl, rfl⟩
      · refine z_aload_n hb dX3_copyKept_11 rfl ?_
        refine z_iload_n hb dX3_copyKept_12 rfl ?_
        refine z_iload hb dX3_copyKept_13 rfl ?_
        refine z_iadd hb dX3_copyKept_15 ?_
        refine z_toI (y := nI (ti + k)) (nI_add ti k) ?_
        refine z_aload_n hb dX3_copyKept_16 rfl ?_
        refine z_iload_n hb dX3_copyKept_17 rfl ?_
        refine z_iload hb dX3_copyKept_18 rfl ?_
        refine z_iadd hb dX3_copyKept_20 ?_
        refine z_toI (y := nI (fi + k)) (nI_add fi k) ?_
        refine z_lald (j := fi + k) hb dX3_copyKept_21 ((z_up_n hne).trans h0) rfl (by omega) (by omega) ?_
        refine z_last (j := ti + k) hb dX3_copyKept_22 z_up_s hn rfl (by omega) (by omega) ?_
        refine z_hh (h2 := z_up h a1 (z_al (zm_G M) N1 (va_cpy f g fi ti (k + 1)))) (by rw [z_up_up, z_cpyS]) ?_
        refine z_iinc (k0 := 0) (lv' := [(4, .int (nI (k + 1))), (0, .ref a0), (1, .int (nI fi)), (2, .ref a1), (3, .int (nI ti))]) hb dX3_copyKept_23 rfl (nI_1 k) (by rw [hN]; decide) rfl ?_
        refine z_goto (tgt := 3) hb dX3_copyKept_26 (by decide) ?_
        refine z_lv [0, 1, 2, 3, 4] (lv' := [(4, .int (nI (k + 1))), (0, .ref a0), (1, .int (nI fi)), (2, .ref a1), (3, .int (nI ti))]) rfl ?_
        exact ih_3 (k + 1) (by omega) (by omega)
  refine z_lv [0, 1, 2, 3, 4] (lv' := [(4, .int (nI 0)), (0, .ref a0), (1, .int (nI fi)), (2, .ref a1), (3, .int (nI ti))]) rfl ?_
  exact lp_3 _ 0 (Nat.lt_succ_self _) (Nat.zero_le _)

set_option maxHeartbeats 1000000 in
theorem m_X3_copyKeptS {l : Launch} {G : zG} {h : zH} {n : Nat} (a0 N0 fi ti : Nat) (f : Nat → Int64) (h0 : h a0 = some (z_al G N0 f)) (hn : z_n0 G ≤ a0) (hf : fi + 280 ≤ N0) (ht : ti + 280 ≤ fi) (hN : N0 < 2 ^ 20) : z_C l G yX3_copyKept 1 0 0 [.ref a0, .int (nI fi), .ref a0, .int (nI ti)] h n (z_r0 (z_up h a0 (z_al G N0 (va_cpy f f fi ti 280))) n) := by
  refine z_start zk_X3_copyKept zpl_RX3 (Nat.le_of_ble_eq_true rfl) ?_
  intro hn0 M hl hG ho hb hN hr hm hH hrm hQ
  subst hl hG
  have ho : zm_o M = RX3 := ho
  show z_V M h n 0 0 0 [(0, .ref a0), (1, .int (nI fi)), (2, .ref a0), (3, .int (nI ti))] []
  refine z_iconst (x := nI 0) hb dX3_copyKept_0 (by decide) ?_
  refine z_istore (lv' := [(4, .int (nI 0)), (0, .ref a0), (1, .int (nI fi)), (2, .ref a0), (3, .int (nI ti))]) hb dX3_copyKept_1 (by rw [hN]; decide) rfl ?_
  refine z_hh (h2 := z_up h a0 (z_al (zm_G M) N0 (va_cpy f f fi ti 0))) (by rw [z_cpy0, z_up_self h0]) ?_
  have lp_3 : ∀ (k9_3 : Nat) (k : Nat), 280 - k < k9_3 → (k ≤ 280) → z_V M (z_up h a0 (z_al (zm_G M) N0 (va_cpy f f fi ti k))) n 0 0 3 [(4, .int (nI k)), (0, .ref a0), (1, .int (nI fi)), (2, .ref a0), (3, .int (nI ti))] [] := by
    intro k9_3
    induction k9_3 with
    | zero => intro k hk9_3; exact absurd hk9_3 (Nat.not_lt_zero _)
    | succ k9_3 ih_3 =>
      intro k hk9_3 hk
      refine z_iload hb dX3_copyKept_3 rfl ?_
      refine z_sipush (x := nI 280) hb dX3_copyKept_5 (by decide) ?_
      refine z_icmp_geN (tgt := 29) hb dX3_copyKept_8 (by decide) (by omega) (by omega) (fun c_8 => ?_) (fun c_8 => ?_)
      · refine z_vret hb hr dX3_copyKept_29 ?_
        rw [hQ]
        rw [show k = 280 by omega]; exact ⟨rfl, rfl, rfl⟩
      · refine z_aload_n hb dX3_copyKept_11 rfl ?_
        refine z_iload_n hb dX3_copyKept_12 rfl ?_
        refine z_iload hb dX3_copyKept_13 rfl ?_
        refine z_iadd hb dX3_copyKept_15 ?_
        refine z_toI (y := nI (ti + k)) (nI_add ti k) ?_
        refine z_aload_n hb dX3_copyKept_16 rfl ?_
        refine z_iload_n hb dX3_copyKept_17 rfl ?_
        refine z_iload hb dX3_copyKept_18 rfl ?_
        refine z_iadd hb dX3_copyKept_20 ?_
        refine z_toI (y := nI (fi + k)) (nI_add fi k) ?_
        refine z_lald (j := fi + k) hb dX3_copyKept_21 z_up_s rfl (by omega) (by omega) ?_
        refine z_last (j := ti + k) hb dX3_copyKept_22 z_up_s hn rfl (by omega) (by omega) ?_
        refine z_hh (h2 := z_up h a0 (z_al (zm_G M) N0 (va_cpy f f fi ti (k + 1)))) (by rw [z_up_up, show va_cpy f f fi ti k (fi + k) = f (fi + k) from if_neg (by omega), z_cpyS]) ?_
        refine z_iinc (k0 := 0) (lv' := [(4, .int (nI (k + 1))), (0, .ref a0), (1, .int (nI fi)), (2, .ref a0), (3, .int (nI ti))]) hb dX3_copyKept_23 rfl (nI_1 k) (by rw [hN]; decide) rfl ?_
        refine z_goto (tgt := 3) hb dX3_copyKept_26 (by decide) ?_
        refine z_lv [0, 1, 2, 3, 4] (lv' := [(4, .int (nI (k + 1))), (0, .ref a0), (1, .int (nI fi)), (2, .ref a0), (3, .int (nI ti))]) rfl ?_
        exact ih_3 (k + 1) (by omega) (by omega)
  refine z_lv [0, 1, 2, 3, 4] (lv' := [(4, .int (nI 0)), (0, .ref a0), (1, .int (nI fi)), (2, .ref a0), (3, .int (nI ti))]) rfl ?_
  exact lp_3 _ 0 (Nat.lt_succ_self _) (Nat.zero_le _)

set_option maxHeartbeats 1000000 in
theorem m_X3_begin {l : Launch} {G : zG} {h : zH} {n : Nat} {t : Nat} {w0 : Nat → Int32} {w1 : Nat → Int32} {w2 : Nat → Int32} {w3 : Nat → Int32} {w4 : Nat → Int32} {w5 : Nat → Int64} {w6 : Nat → Int64} {w7 : Nat → Int64} {w8 : Nat → Int64} {w9 : Nat → Int64} {w10 : Nat → Int64} {w11 : Nat → Int64} {w12 : Int32} {w13 : Int32} {w14 : Int32} {w15 : Int32} {w16 : Int32} {w17 : Int32} {w18 : Bool} {w19 : Nat → Int32} {w20 : Int32} {w21 : Nat → Int32} {w22 : Nat → Int32} {w23 : Nat → Int32} {w24 : Int32} {w25 : Int32} {w26 : Int32} {w27 : Int32} {w28 : Bool}   (ht : z_n0 G ≤ t) : z_C l G yX3_begin 2 0 0 [.ref t] (z_tw G t w0 w1 w2 w3 w4 w5 w6 w7 w8 w9 w10 w11 w12 w13 w14 w15 w16 w17 w18 w19 w20 w21 w22 w23 w24 w25 w26 w27 w28 h) n (z_r0 (z_tw G t w0 (va_cpy w0 w1 0 0 272) w2 w3 w4 w5 (va_cpy w5 w6 0 0 280) w7 w8 w9 w10 w11 (nI 0) w13 w14 w15 w16 w17 w18 w19 w20 w21 w22 w23 w24 w25 w26 w27 w28 h) n) := by
  refine z_start zk_X3_begin zpl_RX3 (Nat.le_of_ble_eq_true rfl) ?_
  intro hn0 M hl hG ho hb hN hr hm hH hrm hQ
  subst hl hG
  have ho : zm_o M = RX3 := ho
  show z_V M (z_tw (zm_G M) t w0 w1 w2 w3 w4 w5 w6 w7 w8 w9 w10 w11 w12 w13 w14 w15 w16 w17 w18 w19 w20 w21 w22 w23 w24 w25 w26 w27 w28 h) n 0 0 0 [(0, .ref t)] []
  refine z_aload_n hb dX3_begin_0 rfl ?_
  refine z_iconst (x := nI 0) hb dX3_begin_1 (by decide) ?_
  refine z_put (k := 12) (C := RX3) (T := TX3) (N := 29) hb ho zc2 in_X3 tyX3_ok nmX3 (zf_RX3_47 _) dX3_begin_2 z_tw_o ht (by decide) (Or.inl rfl) rfl rfl rfl (Nat.le_of_ble_eq_true rfl) ?_
  refine z_hh z_tw_u12 ?_
  refine z_aload_n hb dX3_begin_5 rfl ?_
  refine z_get (k := 0) (C := RX3) (T := TX3) (N := 29) hb ho zc2 in_X3 (zf_RX3_7 _) dX3_begin_6 z_tw_o (by decide) rfl ?_
  refine z_iconst (x := nI 0) hb dX3_begin_9 (by decide) ?_
  refine z_aload_n hb dX3_begin_10 rfl ?_
  refine z_get (k := 1) (C := RX3) (T := TX3) (N := 29) hb ho zc2 in_X3 (zf_RX3_13 _) dX3_begin_11 z_tw_o (by decide) rfl ?_
  refine z_iconst (x := nI 0) hb dX3_begin_14 (by decide) ?_
  refine z_call0 (b' := 0) (f' := 0) (rest := []) (av := [.ref (t + 1), .int (nI 0), .ref (t + 2), .int (nI 0)]) (z_siteS hb ho q2796 q2797 q104 ⟨_, _, _, _, zk_X3_copy⟩ zy_X3_copy zl_X3_copy dX3_begin_15 : z_Site M _ _ _ _ _ ([.ref (t + 1), .int (nI 0), .ref (t + 2), .int (nI 0)].reverse ++ []) [] _) zk_X3_copy q104 hrm (m_X3_copy (t + 1) (t + 2) 272 272 0 0 w0 w1 z_tw_r0 z_tw_r1 (by omega) (by omega) (by omega) (by omega) (by omega) (by omega)) (by omega) (by decide) (Nat.le_of_ble_eq_true rfl) (by omega) (by omega) ?_
  refine z_hh z_tw_u1 ?_
  refine z_aload_n hb dX3_begin_18 rfl ?_
  refine z_get (k := 5) (C := RX3) (T := TX3) (N := 29) hb ho zc2 in_X3 (zf_RX3_25 _) dX3_begin_19 z_tw_o (by decide) rfl ?_
  refine z_iconst (x := nI 0) hb dX3_begin_22 (by decide) ?_
  refine z_aload_n hb dX3_begin_23 rfl ?_
  refine z_get (k := 6) (C := RX3) (T := TX3) (N := 29) hb ho zc2 in_X3 (zf_RX3_29 _) dX3_begin_24 z_tw_o (by decide) rfl ?_
  refine z_iconst (x := nI 0) hb dX3_begin_27 (by decide) ?_
  refine z_call0 (b' := 0) (f' := 0) (rest := []) (av := [.ref (t + 6), .int (nI 0), .ref (t + 7), .int (nI 0)]) (z_siteS hb ho q2799 q2800 q104 ⟨_, _, _, _, zk_X3_copyKept⟩ zy_X3_copyKept zl_X3_copyKept dX3_begin_28 : z_Site M _ _ _ _ _ ([.ref (t + 6), .int (nI 0), .ref (t + 7), .int (nI 0)].reverse ++ []) [] _) zk_X3_copyKept q104 hrm (m_X3_copyKept (t + 6) (t + 7) 280 280 0 0 w5 w6 z_tw_r5 z_tw_r6 (by omega) (by omega) (by omega) (by omega) (by omega) (by omega)) (by omega) (by decide) (Nat.le_of_ble_eq_true rfl) (by omega) (by omega) ?_
  refine z_hh z_tw_u6 ?_
  refine z_vret hb hr dX3_begin_31 ?_
  rw [hQ]
  exact ⟨rfl, rfl, rfl⟩

set_option maxHeartbeats 1000000 in
theorem m_X3_commit_lt {l : Launch} {G : zG} {h : zH} {n : Nat} {t : Nat} {w0 : Nat → Int32} {w1 : Nat → Int32} {w2 : Nat → Int32} {w3 : Nat → Int32} {w4 : Nat → Int32} {w5 : Nat → Int64} {w6 : Nat → Int64} {w7 : Nat → Int64} {w8 : Nat → Int64} {w9 : Nat → Int64} {w10 : Nat → Int64} {w11 : Nat → Int64} {w12 : Int32} {w13 : Int32} {w14 : Int32} {w15 : Int32} {w16 : Int32} {w17 : Int32} {w18 : Bool} {w19 : Nat → Int32} {w20 : Int32} {w21 : Nat → Int32} {w22 : Nat → Int32} {w23 : Nat → Int32} {w24 : Int32} {w25 : Int32} {w26 : Int32} {w27 : Int32} {w28 : Bool} {dep : Nat} (v : Int32) (ht : z_n0 G ≤ t) (hd8 : dep < 8) : z_C l G yX3_commit 2 0 0 [.ref t, .int v] (z_tw G t w0 w1 w2 w3 w4 w5 w6 w7 w8 w9 w10 w11 w12 (nI dep) w14 w15 w16 w17 w18 w19 w20 w21 w22 w23 w24 w25 w26 w27 w28 h) n (z_rv (.int v) (z_tw G t w0 w1 w2 (va_cpy w1 w3 0 (272 * dep) 272) w4 w5 w6 w7 (va_cpy w6 w8 0 (280 * dep) 280) w9 w10 w11 w12 (nI (dep + 1)) w14 w15 w16 w17 w18 w19 w20 w21 w22 w23 w24 w25 w26 w27 w28 h) n) := by
  refine z_start zk_X3_commit zpl_RX3 (Nat.le_of_ble_eq_true rfl) ?_
  intro hn0 M hl hG ho hb hN hr hm hH hrm hQ
  subst hl hG
  have ho : zm_o M = RX3 := ho
  show z_V M (z_tw (zm_G M) t w0 w1 w2 w3 w4 w5 w6 w7 w8 w9 w10 w11 w12 (nI dep) w14 w15 w16 w17 w18 w19 w20 w21 w22 w23 w24 w25 w26 w27 w28 h) n 0 0 0 [(0, .ref t), (1, .int v)] []
  refine z_aload_n hb dX3_commit_0 rfl ?_
  refine z_get (k := 13) (C := RX3) (T := TX3) (N := 29) hb ho zc2 in_X3 (zf_RX3_51 _) dX3_commit_1 z_tw_o (by decide) rfl ?_
  refine z_bipush (x := nI 8) hb dX3_commit_4 (by decide) ?_
  refine z_icmp_neN (tgt := 79) hb dX3_commit_6 (by decide) (by omega) (by omega) (fun c_6 => ?_) (fun c_6 => ?_)
  · refine z_aload_n hb dX3_commit_79 rfl ?_
    refine z_get (k := 1) (C := RX3) (T := TX3) (N := 29) hb ho zc2 in_X3 (zf_RX3_13 _) dX3_commit_80 z_tw_o (by decide) rfl ?_
    refine z_iconst (x := nI 0) hb dX3_commit_83 (by decide) ?_
    refine z_aload_n hb dX3_commit_84 rfl ?_
    refine z_get (k := 3) (C := RX3) (T := TX3) (N := 29) hb ho zc2 in_X3 (zf_RX3_19 _) dX3_commit_85 z_tw_o (by decide) rfl ?_
    refine z_sipush (x := nI 272) hb dX3_commit_88 (by decide) ?_
    refine z_aload_n hb dX3_commit_91 rfl ?_
    refine z_get (k := 13) (C := RX3) (T := TX3) (N := 29) hb ho zc2 in_X3 (zf_RX3_51 _) dX3_commit_92 z_tw_o (by decide) rfl ?_
    refine z_imul hb dX3_commit_95 ?_
    refine z_toI (y := nI (272 * dep)) (pk_mul 272 dep) ?_
    refine z_call0 (b' := 0) (f' := 0) (rest := []) (av := [.ref (t + 2), .int (nI 0), .ref (t + 4), .int (nI (272 * dep))]) (z_siteS hb ho q2796 q2797 q104 ⟨_, _, _, _, zk_X3_copy⟩ zy_X3_copy zl_X3_copy dX3_commit_96 : z_Site M _ _ _ _ _ ([.ref (t + 2), .int (nI 0), .ref (t + 4), .int (nI (272 * dep))].reverse ++ []) [] _) zk_X3_copy q104 hrm (m_X3_copy (t + 2) (t + 4) 272 2176 0 (272 * dep) w1 w3 z_tw_r1 z_tw_r3 (by omega) (by omega) (by omega) (by omega) (by omega) (by omega)) (by omega) (by decide) (Nat.le_of_ble_eq_true rfl) (by omega) (by omega) ?_
    refine z_hh z_tw_u3 ?_
    refine z_aload_n hb dX3_commit_99 rfl ?_
    refine z_get (k := 6) (C := RX3) (T := TX3) (N := 29) hb ho zc2 in_X3 (zf_RX3_29 _) dX3_commit_100 z_tw_o (by decide) rfl ?_
    refine z_iconst (x := nI 0) hb dX3_commit_103 (by decide) ?_
    refine z_aload_n hb dX3_commit_104 rfl ?_
    refine z_get (k := 8) (C := RX3) (T := TX3) (N := 29) hb ho zc2 in_X3 (zf_RX3_35 _) dX3_commit_105 z_tw_o (by decide) rfl ?_
    refine z_sipush (x := nI 280) hb dX3_commit_108 (by decide) ?_
    refine z_aload_n hb dX3_commit_111 rfl ?_
    refine z_get (k := 13) (C := RX3) (T := TX3) (N := 29) hb ho zc2 in_X3 (zf_RX3_51 _) dX3_commit_112 z_tw_o (by decide) rfl ?_
    refine z_imul hb dX3_commit_115 ?_
    refine z_toI (y := nI (280 * dep)) (pk_mul 280 dep) ?_
    refine z_call0 (b' := 0) (f' := 0) (rest := []) (av := [.ref (t + 7), .int (nI 0), .ref (t + 9), .int (nI (280 * dep))]) (z_siteS hb ho q2799 q2800 q104 ⟨_, _, _, _, zk_X3_copyKept⟩ zy_X3_copyKept zl_X3_copyKept dX3_commit_116 : z_Site M _ _ _ _ _ ([.ref (t + 7), .int (nI 0), .ref (t + 9), .int (nI (280 * dep))].reverse ++ []) [] _) zk_X3_copyKept q104 hrm (m_X3_copyKept (t + 7) (t + 9) 280 2240 0 (280 * dep) w6 w8 z_tw_r6 z_tw_r8 (by omega) (by omega) (by omega) (by omega) (by omega) (by omega)) (by omega) (by decide) (Nat.le_of_ble_eq_true rfl) (by omega) (by omega) ?_
    refine z_hh z_tw_u8 ?_
    refine z_aload_n hb dX3_commit_119 rfl ?_
    refine z_dup hb dX3_commit_120 rfl ?_
    refine z_get (k := 13) (C := RX3) (T := TX3) (N := 29) hb ho zc2 in_X3 (zf_RX3_51 _) dX3_commit_121 z_tw_o (by decide) rfl ?_
    refine z_iconst (x := nI 1) hb dX3_commit_124 (by decide) ?_
    refine z_iadd hb dX3_commit_125 ?_
    refine z_toI (y := nI (dep + 1)) (nI_add dep 1) ?_
    refine z_put (k := 13) (C := RX3) (T := TX3) (N := 29) hb ho zc2 in_X3 tyX3_ok nmX3 (zf_RX3_51 _) dX3_commit_126 z_tw_o ht (by decide) (Or.inl rfl) rfl rfl rfl (Nat.le_of_ble_eq_true rfl) ?_
    refine z_hh z_tw_u13 ?_
    refine z_iload_n hb dX3_commit_129 rfl ?_
    refine z_iret hb hr dX3_commit_130 ?_
    rw [hQ]
    exact ⟨rfl, rfl, rfl⟩
  · exact absurd c_6 (by omega)

set_option maxHeartbeats 1000000 in
theorem m_X3_commit_8 {l : Launch} {G : zG} {h : zH} {n : Nat} {t : Nat} {w0 : Nat → Int32} {w1 : Nat → Int32} {w2 : Nat → Int32} {w3 : Nat → Int32} {w4 : Nat → Int32} {w5 : Nat → Int64} {w6 : Nat → Int64} {w7 : Nat → Int64} {w8 : Nat → Int64} {w9 : Nat → Int64} {w10 : Nat → Int64} {w11 : Nat → Int64} {w12 : Int32} {w13 : Int32} {w14 : Int32} {w15 : Int32} {w16 : Int32} {w17 : Int32} {w18 : Bool} {w19 : Nat → Int32} {w20 : Int32} {w21 : Nat → Int32} {w22 : Nat → Int32} {w23 : Nat → Int32} {w24 : Int32} {w25 : Int32} {w26 : Int32} {w27 : Int32} {w28 : Bool}  (v : Int32) (ht : z_n0 G ≤ t) : z_C l G yX3_commit 2 0 0 [.ref t, .int v] (z_tw G t w0 w1 w2 w3 w4 w5 w6 w7 w8 w9 w10 w11 w12 (nI 8) w14 w15 w16 w17 w18 w19 w20 w21 w22 w23 w24 w25 w26 w27 w28 h) n (z_rv (.int v) (z_tw G t w0 w1 w2 (va_cpy w1 (tw_sh w3 272 7) 0 1904 272) w4 w5 w6 w7 (va_cpy w6 (tw_sh w8 280 7) 0 1960 280) w9 w10 w11 w12 (nI 8) w14 w15 w16 w17 w18 w19 w20 w21 w22 w23 w24 w25 w26 w27 w28 h) n) := by
  refine z_start zk_X3_commit zpl_RX3 (Nat.le_of_ble_eq_true rfl) ?_
  intro hn0 M hl hG ho hb hN hr hm hH hrm hQ
  subst hl hG
  have ho : zm_o M = RX3 := ho
  show z_V M (z_tw (zm_G M) t w0 w1 w2 w3 w4 w5 w6 w7 w8 w9 w10 w11 w12 (nI 8) w14 w15 w16 w17 w18 w19 w20 w21 w22 w23 w24 w25 w26 w27 w28 h) n 0 0 0 [(0, .ref t), (1, .int v)] []
  refine z_aload_n hb dX3_commit_0 rfl ?_
  refine z_get (k := 13) (C := RX3) (T := TX3) (N := 29) hb ho zc2 in_X3 (zf_RX3_51 _) dX3_commit_1 z_tw_o (by decide) rfl ?_
  refine z_bipush (x := nI 8) hb dX3_commit_4 (by decide) ?_
  refine z_icmp_neN (tgt := 79) hb dX3_commit_6 (by decide) (by omega) (by omega) (fun c_6 => ?_) (fun c_6 => ?_)
  · exact absurd rfl c_6
  · refine z_iconst (x := nI 1) hb dX3_commit_9 (by decide) ?_
    refine z_istore_n (lv' := [(2, .int (nI 1)), (0, .ref t), (1, .int v)]) hb dX3_commit_10 (by rw [hN]; decide) rfl ?_
    have lp_11 : ∀ (k9_11 : Nat) (j : Nat), 7 - j < k9_11 → (j ≤ 7) → z_V M (z_tw (zm_G M) t w0 w1 w2 (tw_sh w3 272 j) w4 w5 w6 w7 (tw_sh w8 280 j) w9 w10 w11 w12 (nI 8) w14 w15 w16 w17 w18 w19 w20 w21 w22 w23 w24 w25 w26 w27 w28 h) n 0 0 11 [(2, .int (nI (j + 1))), (0, .ref t), (1, .int v)] [] := by
      intro k9_11
      induction k9_11 with
      | zero => intro j hk9_11; exact absurd hk9_11 (Nat.not_lt_zero _)
      | succ k9_11 ih_11 =>
        intro j hk9_11 hj
        refine z_iload_n hb dX3_commit_11 rfl ?_
        refine z_bipush (x := nI 8) hb dX3_commit_12 (by decide) ?_
        refine z_icmp_geN (tgt := 69) hb dX3_commit_14 (by decide) (by omega) (by omega) (fun c_14 => ?_) (fun c_14 => ?_)
        · refine z_aload_n hb dX3_commit_69 rfl ?_
          refine z_dup hb dX3_commit_70 rfl ?_
          refine z_get (k := 13) (C := RX3) (T := TX3) (N := 29) hb ho zc2 in_X3 (zf_RX3_51 _) dX3_commit_71 z_tw_o (by decide) rfl ?_
          refine z_iconst (x := nI 1) hb dX3_commit_74 (by decide) ?_
          refine z_isub hb dX3_commit_75 ?_
          refine z_toI (y := nI 7) (pk_sub (by omega)) ?_
          refine z_put (k := 13) (C := RX3) (T := TX3) (N := 29) hb ho zc2 in_X3 tyX3_ok nmX3 (zf_RX3_51 _) dX3_commit_76 z_tw_o ht (by decide) (Or.inl rfl) rfl rfl rfl (Nat.le_of_ble_eq_true rfl) ?_
          refine z_hh z_tw_u13 ?_
          refine z_aload_n hb dX3_commit_79 rfl ?_
          refine z_get (k := 1) (C := RX3) (T := TX3) (N := 29) hb ho zc2 in_X3 (zf_RX3_13 _) dX3_commit_80 z_tw_o (by decide) rfl ?_
          refine z_iconst (x := nI 0) hb dX3_commit_83 (by decide) ?_
          refine z_aload_n hb dX3_commit_84 rfl ?_
          refine z_get (k := 3) (C := RX3) (T := TX3) (N := 29) hb ho zc2 in_X3 (zf_RX3_19 _) dX3_commit_85 z_tw_o (by decide) rfl ?_
          refine z_sipush (x := nI 272) hb dX3_commit_88 (by decide) ?_
          refine z_aload_n hb dX3_commit_91 rfl ?_
          refine z_get (k := 13) (C := RX3) (T := TX3) (N := 29) hb ho zc2 in_X3 (zf_RX3_51 _) dX3_commit_92 z_tw_o (by decide) rfl ?_
          refine z_imul hb dX3_commit_95 ?_
          refine z_toI (y := nI 1904) (pk_mul 272 7) ?_
          refine z_call0 (b' := 0) (f' := 0) (rest := []) (av := [.ref (t + 2), .int (nI 0), .ref (t + 4), .int (nI 1904)]) (z_siteS hb ho q2796 q2797 q104 ⟨_, _, _, _, zk_X3_copy⟩ zy_X3_copy zl_X3_copy dX3_commit_96 : z_Site M _ _ _ _ _ ([.ref (t + 2), .int (nI 0), .ref (t + 4), .int (nI 1904)].reverse ++ []) [] _) zk_X3_copy q104 hrm (m_X3_copy (t + 2) (t + 4) 272 2176 0 1904 w1 (tw_sh w3 272 j) z_tw_r1 z_tw_r3 (by omega) (by omega) (by omega) (by omega) (by omega) (by omega)) (by omega) (by decide) (Nat.le_of_ble_eq_true rfl) (by omega) (by omega) ?_
          refine z_hh z_tw_u3 ?_
          refine z_aload_n hb dX3_commit_99 rfl ?_
          refine z_get (k := 6) (C := RX3) (T := TX3) (N := 29) hb ho zc2 in_X3 (zf_RX3_29 _) dX3_commit_100 z_tw_o (by decide) rfl ?_
          refine z_iconst (x := nI 0) hb dX3_commit_103 (by decide) ?_
          refine z_aload_n hb dX3_commit_104 rfl ?_
          refine z_get (k := 8) (C := RX3) (T := TX3) (N := 29) hb ho zc2 in_X3 (zf_RX3_35 _) dX3_commit_105 z_tw_o (by decide) rfl ?_
          refine z_sipush (x := nI 280) hb dX3_commit_108 (by decide) ?_
          refine z_aload_n hb dX3_commit_111 rfl ?_
          refine z_get (k := 13) (C := RX3) (T := TX3) (N := 29) hb ho zc2 in_X3 (zf_RX3_51 _) dX3_commit_112 z_tw_o (by decide) rfl ?_
          refine z_imul hb dX3_commit_115 ?_
          refine z_toI (y := nI 1960) (pk_mul 280 7) ?_
          refine z_call0 (b' := 0) (f' := 0) (rest := []) (av := [.ref (t + 7), .int (nI 0), .ref (t + 9), .int (nI 1960)]) (z_siteS hb ho q2799 q2800 q104 ⟨_, _, _, _, zk_X3_copyKept⟩ zy_X3_copyKept zl_X3_copyKept dX3_commit_116 : z_Site M _ _ _ _ _ ([.ref (t + 7), .int (nI 0), .ref (t + 9), .int (nI 1960)].reverse ++ []) [] _) zk_X3_copyKept q104 hrm (m_X3_copyKept (t + 7) (t + 9) 280 2240 0 1960 w6 (tw_sh w8 280 j) z_tw_r6 z_tw_r8 (by omega) (by omega) (by omega) (by omega) (by omega) (by omega)) (by omega) (by decide) (Nat.le_of_ble_eq_true rfl) (by omega) (by omega) ?_
          refine z_hh z_tw_u8 ?_
          refine z_aload_n hb dX3_commit_119 rfl ?_
          refine z_dup hb dX3_commit_120 rfl ?_
          refine z_get (k := 13) (C := RX3) (T := TX3) (N := 29) hb ho zc2 in_X3 (zf_RX3_51 _) dX3_commit_121 z_tw_o (by decide) rfl ?_
          refine z_iconst (x := nI 1) hb dX3_commit_124 (by decide) ?_
          refine z_iadd hb dX3_commit_125 ?_
          refine z_toI (y := nI 8) (nI_add 7 1) ?_
          refine z_put (k := 13) (C := RX3) (T := TX3) (N := 29) hb ho zc2 in_X3 tyX3_ok nmX3 (zf_RX3_51 _) dX3_commit_126 z_tw_o ht (by decide) (Or.inl rfl) rfl rfl rfl (Nat.le_of_ble_eq_true rfl) ?_
          refine z_hh z_tw_u13 ?_
          refine z_iload_n hb dX3_commit_129 rfl ?_
          refine z_iret hb hr dX3_commit_130 ?_
          rw [hQ]
          obtain rfl : j = 7 := by omega
          exact ⟨rfl, rfl, rfl⟩
        · refine z_aload_n hb dX3_commit_17 rfl ?_
          refine z_get (k := 3) (C := RX3) (T := TX3) (N := 29) hb ho zc2 in_X3 (zf_RX3_19 _) dX3_commit_18 z_tw_o (by decide) rfl ?_
          refine z_sipush (x := nI 272) hb dX3_commit_21 (by decide) ?_
          refine z_iload_n hb dX3_commit_24 rfl ?_
          refine z_imul hb dX3_commit_25 ?_
          refine z_toI (y := nI (272 * (j + 1))) (pk_mul 272 (j + 1)) ?_
          refine z_aload_n hb dX3_commit_26 rfl ?_
          refine z_get (k := 3) (C := RX3) (T := TX3) (N := 29) hb ho zc2 in_X3 (zf_RX3_19 _) dX3_commit_27 z_tw_o (by decide) rfl ?_
          refine z_sipush (x := nI 272) hb dX3_commit_30 (by decide) ?_
          refine z_iload_n hb dX3_commit_33 rfl ?_
          refine z_iconst (x := nI 1) hb dX3_commit_34 (by decide) ?_
          refine z_isub hb dX3_commit_35 ?_
          refine z_toI (y := nI ((j + 1) - 1)) (pk_sub (by omega)) ?_
          refine z_imul hb dX3_commit_36 ?_
          refine z_toI (y := nI (272 * ((j + 1) - 1))) (pk_mul 272 ((j + 1) - 1)) ?_
          refine z_call0 (b' := 0) (f' := 0) (rest := []) (av := [.ref (t + 4), .int (nI (272 * (j + 1))), .ref (t + 4), .int (nI (272 * ((j + 1) - 1)))]) (z_siteS hb ho q2796 q2797 q104 ⟨_, _, _, _, zk_X3_copy⟩ zy_X3_copy zl_X3_copy dX3_commit_37 : z_Site M _ _ _ _ _ ([.ref (t + 4), .int (nI (272 * (j + 1))), .ref (t + 4), .int (nI (272 * ((j + 1) - 1)))].reverse ++ []) [] _) zk_X3_copy q104 hrm (m_X3_copyS (t + 4) 2176 (272 * (j + 1)) (272 * ((j + 1) - 1)) (tw_sh w3 272 j) z_tw_r3 (by omega) (by omega) (by omega) (by omega)) (by omega) (by decide) (Nat.le_of_ble_eq_true rfl) (by omega) (by omega) ?_
          refine z_hh z_tw_u3 ?_
          refine z_aload_n hb dX3_commit_40 rfl ?_
          refine z_get (k := 8) (C := RX3) (T := TX3) (N := 29) hb ho zc2 in_X3 (zf_RX3_35 _) dX3_commit_41 z_tw_o (by decide) rfl ?_
          refine z_sipush (x := nI 280) hb dX3_commit_44 (by decide) ?_
          refine z_iload_n hb dX3_commit_47 rfl ?_
          refine z_imul hb dX3_commit_48 ?_
          refine z_toI (y := nI (280 * (j + 1))) (pk_mul 280 (j + 1)) ?_
          refine z_aload_n hb dX3_commit_49 rfl ?_
          refine z_get (k := 8) (C := RX3) (T := TX3) (N := 29) hb ho zc2 in_X3 (zf_RX3_35 _) dX3_commit_50 z_tw_o (by decide) rfl ?_
          refine z_sipush (x := nI 280) hb dX3_commit_53 (by decide) ?_
          refine z_iload_n hb dX3_commit_56 rfl ?_
          refine z_iconst (x := nI 1) hb dX3_commit_57 (by decide) ?_
          refine z_isub hb dX3_commit_58 ?_
          refine z_toI (y := nI ((j + 1) - 1)) (pk_sub (by omega)) ?_
          refine z_imul hb dX3_commit_59 ?_
          refine z_toI (y := nI (280 * ((j + 1) - 1))) (pk_mul 280 ((j + 1) - 1)) ?_
          refine z_call0 (b' := 0) (f' := 0) (rest := []) (av := [.ref (t + 9), .int (nI (280 * (j + 1))), .ref (t + 9), .int (nI (280 * ((j + 1) - 1)))]) (z_siteS hb ho q2799 q2800 q104 ⟨_, _, _, _, zk_X3_copyKept⟩ zy_X3_copyKept zl_X3_copyKept dX3_commit_60 : z_Site M _ _ _ _ _ ([.ref (t + 9), .int (nI (280 * (j + 1))), .ref (t + 9), .int (nI (280 * ((j + 1) - 1)))].reverse ++ []) [] _) zk_X3_copyKept q104 hrm (m_X3_copyKeptS (t + 9) 2240 (280 * (j + 1)) (280 * ((j + 1) - 1)) (tw_sh w8 280 j) z_tw_r8 (by omega) (by omega) (by omega) (by omega)) (by omega) (by decide) (Nat.le_of_ble_eq_true rfl) (by omega) (by omega) ?_
          refine z_hh z_tw_u8 ?_
          refine z_iinc (k0 := 0) (lv' := [(2, .int (nI (j + 2))), (0, .ref t), (1, .int v)]) hb dX3_commit_63 rfl (nI_1 (j + 1)) (by rw [hN]; decide) rfl ?_
          refine z_goto (tgt := 11) hb dX3_commit_66 (by decide) ?_
          refine z_lv [0, 1, 2] (lv' := [(2, .int (nI (j + 2))), (0, .ref t), (1, .int v)]) rfl ?_
          exact ih_11 (j + 1) (by omega) (by omega)
    refine z_lv [0, 1, 2] (lv' := [(2, .int (nI 1)), (0, .ref t), (1, .int v)]) rfl ?_
    exact lp_11 _ 0 (Nat.lt_succ_self _) (Nat.zero_le _)

