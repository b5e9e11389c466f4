/-- a new step -/
def tw_nst (w0 : Nat → Int32) (S : Nat) (kd b : Int32) (a c : Nat) : Nat → Int32 := va_up (va_up (va_up (va_up (va_up w0 (176 + 4 * S) kd) (176 + 4 * S + 1) b) (176 + 4 * S + 2) (nI a)) (176 + 4 * S + 3) (nI c)) 3 (nI (S + 1))
theorem z_nIc {a : Nat} (h : a < 2 ^ 31) : (nI a).toNatClampNeg = a := by
  rw [Int32.toNatClampNeg, nI_toInt h]; exact Int.toNat_natCast a
theorem tw_nst_ok {w0 : Nat → Int32} {R S D a c : Nat} {kd b : Int32} (h : z_ok w0 R S D) (hS7 : S < 8) (ha : a < 8) (hc : c < 8) : z_ok (tw_nst w0 S kd b a c) R (S + 1) D := by
  obtain ⟨hR, hR4, hS, hS8, hD, hD6, hF⟩ := h
  have e : ∀ j, j ≠ 3 → j ≠ 176 + 4 * S → j ≠ 176 + 4 * S + 1 → j ≠ 176 + 4 * S + 2 → j ≠ 176 + 4 * S + 3 → tw_nst w0 S kd b a c j = w0 j := fun j h1 h2 h3 h4 h5 => by
    rw [tw_nst, va_upn h1, va_upn h5, va_upn h4, va_upn h3, va_upn h2]
  have e2 : tw_nst w0 S kd b a c (176 + 4 * S + 2) = nI a := by rw [tw_nst, va_upn (by omega), va_upn (by omega), va_ups]
  have e3 : tw_nst w0 S kd b a c (176 + 4 * S + 3) = nI c := by rw [tw_nst, va_upn (by omega), va_ups]
  refine ⟨by rw [e 1 (by omega) (by omega) (by omega) (by omega) (by omega)]; exact hR, hR4, va_ups, by omega, by rw [e 0 (by omega) (by omega) (by omega) (by omega) (by omega)]; exact hD, hD6, fun k hk => ?_⟩
  rcases Nat.lt_or_ge k S with q | q
  · have h1 := hF k q
    unfold tw_f tw_s at h1 ⊢
    rw [e _ (by omega) (by omega) (by omega) (by omega) (by omega), e _ (by omega) (by omega) (by omega) (by omega) (by omega)]
    exact h1
  · obtain rfl : k = S := by omega
    unfold tw_f tw_s
    rw [e2, e3, z_nIc (by omega), z_nIc (by omega)]
    exact ⟨rfl, ha, rfl, hc⟩
def tw_dec (w : Nat → Int32) (i k : Nat) : Nat → Int32 := va_up w i (w i - (if w i ≤ nI k then nI 0 else nI 1))
def tw_decs (w : Nat → Int32) (k : Nat) : Nat → (Nat → Int32)
  | 0 => w
  | j + 1 => tw_dec (tw_dec (tw_decs w k j) (176 + 4 * (k + j) + 2) k) (176 + 4 * (k + j) + 3) k
def tw_cut1 (w0 : Nat → Int32) (S k : Nat) : Nat → Int32 := tw_shl (va_up w0 3 (nI (S - 1))) (176 + 4 * k) 4 (4 * (S - 1 - k))
def tw_cut2 (w0 : Nat → Int32) (S k : Nat) : Nat → Int32 := tw_shl (tw_cut1 w0 S k) (208 + 7 * k) 7 (7 * (S - 1 - k))
def tw_cut (w0 : Nat → Int32) (S k : Nat) : Nat → Int32 := tw_decs (tw_cut2 w0 S k) k (S - 1 - k)
def tw_cut5 (f : Nat → Int64) (S k : Nat) : Nat → Int64 := tw_shl f (5 * (7 * k)) 35 (35 * (S - 1 - k))
def tw_rp0 (w : Nat → Int32) (d : Nat) : Nat → (Nat → Int32)
  | 0 => w
  | k + 1 => va_up (tw_rp0 w d k) (208 + 7 * k + d) (z_b false)
def tw_rp5 (w : Nat → Int32) (R d : Nat) (f : Nat → Int64) : Nat → (Nat → Int64)
  | 0 => f
  | k + 1 => tw_comp (tw_rp0 w d k) R k d (tw_rp5 w R d f k) 5
def tw_rpc (w : Nat → Int32) (d : Nat) : Nat → Nat
  | 0 => 0
  | k + 1 => tw_rpc w d k + (tw_st (tw_rp0 w d k) k d).toNat
def tw_rep (w : Nat → Int32) (S d : Nat) : Nat → Int32 := va_up (tw_rp0 w d S) 6 (tw_rp0 w d S 6 + nI (tw_rpc w d S))
theorem tw_rp0_ok {w : Nat → Int32} {R S D d : Nat} (h : z_ok w R S D) : ∀ k : Nat, z_ok (tw_rp0 w d k) R S D
  | 0 => h
  | k + 1 => (tw_rp0_ok h k).up (by omega)

set_option maxHeartbeats 1000000 in
theorem m_X3_newStep {l : Launch} {G : zG} {h : zH} {n : Nat} {t : Nat} {w0 : Nat → Int32} {w1 : Nat → Int32} {w2 : Nat → Int32} {w3 : Nat → Int32} {w4 : Nat → Int32} {w5 : Nat → Int64} {w6 : Nat → Int64} {w7 : Nat → Int64} {w8 : Nat → Int64} {w9 : Nat → Int64} {w10 : Nat → Int64} {w11 : Nat → Int64} {w12 : Int32} {w13 : Int32} {w14 : Int32} {w15 : Int32} {w16 : Int32} {w17 : Int32} {w18 : Bool} {w19 : Nat → Int32} {w20 : Int32} {w21 : Nat → Int32} {w22 : Nat → Int32} {w23 : Nat → Int32} {w24 : Int32} {w25 : Int32} {w26 : Int32} {w27 : Int32} {w28 : Bool} {R S D : Nat} {kd b : Int32} {a c : Nat}  (ht : z_n0 G ≤ t) (hw : z_ok w0 R S D) (hS7 : S < 8) (ha : a < 8) (hc : c < 8) : z_C l G yX3_newStep 7 0 0 [.ref t, .int kd, .int b, .int (nI a), .int (nI c)] (z_tw G t w0 w1 w2 w3 w4 w5 w6 w7 w8 w9 w10 w11 w12 w13 w14 w15 w16 w17 w18 w19 w20 w21 w22 w23 w24 w25 w26 w27 w28 h) n (z_rv (.int (nI S)) (z_tw G t (tw_ns0 (tw_nst w0 S kd b a c) S (D + 1)) w1 w2 w3 w4 (tw_ns5 (tw_nst w0 S kd b a c) R S w5 (D + 1)) w6 w7 w8 w9 w10 w11 w12 w13 w14 w15 w16 w17 w18 w19 w20 w21 w22 w23 w24 w25 w26 w27 w28 h) n) := by
  refine z_start zk_X3_newStep zpl_RX3 (Nat.le_of_ble_eq_true rfl) ?_
  intro hn0 M hl hG ho hb hN hr hm hH hrm hQ
  subst hl hG
  have ho : zm_o M = RX3 := ho
  obtain ⟨hR, hR4, hS, hS8, hD, hD6, hF⟩ := id hw
  show z_V M (z_tw (zm_G M) t w0 w1 w2 w3 w4 w5 w6 w7 w8 w9 w10 w11 w12 w13 w14 w15 w16 w17 w18 w19 w20 w21 w22 w23 w24 w25 w26 w27 w28 h) n 0 0 0 [(0, .ref t), (1, .int kd), (2, .int b), (3, .int (nI a)), (4, .int (nI c))] []
  refine z_aload_n hb dX3_newStep_0 rfl ?_
  refine z_get (k := 0) (C := RX3) (T := TX3) (N := 29) hb ho zc2 in_X3 (zf_RX3_7 _) dX3_newStep_1 z_tw_o (by decide) rfl ?_
  refine z_iconst (x := nI 3) hb dX3_newStep_4 (by decide) ?_
  refine z_iald (j := 3) hb dX3_newStep_5 z_tw_r0 rfl (by omega) (by omega) ?_
  refine z_toI (y := nI S) hS ?_
  refine z_istore (lv' := [(5, .int (nI S)), (0, .ref t), (1, .int kd), (2, .int b), (3, .int (nI a)), (4, .int (nI c))]) hb dX3_newStep_6 (by rw [hN]; decide) rfl ?_
  refine z_sipush (x := nI 176) hb dX3_newStep_8 (by decide) ?_
  refine z_iconst (x := nI 4) hb dX3_newStep_11 (by decide) ?_
  refine z_iload hb dX3_newStep_12 rfl ?_
  refine z_imul hb dX3_newStep_14 ?_
  refine z_toI (y := nI (4 * S)) (pk_mul 4 S) ?_
  refine z_iadd hb dX3_newStep_15 ?_
  refine z_toI (y := nI (176 + (4 * S))) (nI_add 176 (4 * S)) ?_
  refine z_istore (lv' := [(6, .int (nI (176 + (4 * S)))), (5, .int (nI S)), (0, .ref t), (1, .int kd), (2, .int b), (3, .int (nI a)), (4, .int (nI c))]) hb dX3_newStep_16 (by rw [hN]; decide) rfl ?_
  refine z_iconst (x := nI 0) hb dX3_newStep_18 (by decide) ?_
  refine z_istore (lv' := [(7, .int (nI 0)), (6, .int (nI (176 + (4 * S)))), (5, .int (nI S)), (0, .ref t), (1, .int kd), (2, .int b), (3, .int (nI a)), (4, .int (nI c))]) hb dX3_newStep_19 (by rw [hN]; decide) rfl ?_
  refine z_aload_n hb dX3_newStep_21 rfl ?_
  refine z_get (k := 0) (C := RX3) (T := TX3) (N := 29) hb ho zc2 in_X3 (zf_RX3_7 _) dX3_newStep_22 z_tw_o (by decide) rfl ?_
  refine z_iload hb dX3_newStep_25 rfl ?_
  refine z_iconst (x := nI 0) hb dX3_newStep_27 (by decide) ?_
  refine z_iadd hb dX3_newStep_28 ?_
  refine z_toI (y := nI (176 + (4 * S))) (nI_add (176 + (4 * S)) 0) ?_
  refine z_iload_n hb dX3_newStep_29 rfl ?_
  refine z_iast (j := 176 + (4 * S)) hb dX3_newStep_30 z_tw_r0 (by omega) rfl (by omega) (by omega) ?_
  refine z_hh z_tw_u0 ?_
  refine z_aload_n hb dX3_newStep_31 rfl ?_
  refine z_get (k := 0) (C := RX3) (T := TX3) (N := 29) hb ho zc2 in_X3 (zf_RX3_7 _) dX3_newStep_32 z_tw_o (by decide) rfl ?_
  refine z_iload hb dX3_newStep_35 rfl ?_
  refine z_iconst (x := nI 1) hb dX3_newStep_37 (by decide) ?_
  refine z_iadd hb dX3_newStep_38 ?_
  refine z_toI (y := nI (176 + (4 * S) + 1)) (nI_add (176 + (4 * S)) 1) ?_
  refine z_iload_n hb dX3_newStep_39 rfl ?_
  refine z_iast (j := 176 + (4 * S) + 1) hb dX3_newStep_40 z_tw_r0 (by omega) rfl (by omega) (by omega) ?_
  refine z_hh z_tw_u0 ?_
  refine z_aload_n hb dX3_newStep_41 rfl ?_
  refine z_get (k := 0) (C := RX3) (T := TX3) (N := 29) hb ho zc2 in_X3 (zf_RX3_7 _) dX3_newStep_42 z_tw_o (by decide) rfl ?_
  refine z_iload hb dX3_newStep_45 rfl ?_
  refine z_iconst (x := nI 2) hb dX3_newStep_47 (by decide) ?_
  refine z_iadd hb dX3_newStep_48 ?_
  refine z_toI (y := nI (176 + (4 * S) + 2)) (nI_add (176 + (4 * S)) 2) ?_
  refine z_iload_n hb dX3_newStep_49 rfl ?_
  refine z_iast (j := 176 + (4 * S) + 2) hb dX3_newStep_50 z_tw_r0 (by omega) rfl (by omega) (by omega) ?_
  refine z_hh z_tw_u0 ?_
  refine z_aload_n hb dX3_newStep_51 rfl ?_
  refine z_get (k := 0) (C := RX3) (T := TX3) (N := 29) hb ho zc2 in_X3 (zf_RX3_7 _) dX3_newStep_52 z_tw_o (by decide) rfl ?_
  refine z_iload hb dX3_newStep_55 rfl ?_
  refine z_iconst (x := nI 3) hb dX3_newStep_57 (by decide) ?_
  refine z_iadd hb dX3_newStep_58 ?_
  refine z_toI (y := nI (176 + (4 * S) + 3)) (nI_add (176 + (4 * S)) 3) ?_
  refine z_iload hb dX3_newStep_59 rfl ?_
  refine z_iast (j := 176 + (4 * S) + 3) hb dX3_newStep_61 z_tw_r0 (by omega) rfl (by omega) (by omega) ?_
  refine z_hh z_tw_u0 ?_
  refine z_aload_n hb dX3_newStep_62 rfl ?_
  refine z_get (k := 0) (C := RX3) (T := TX3) (N := 29) hb ho zc2 in_X3 (zf_RX3_7 _) dX3_newStep_63 z_tw_o (by decide) rfl ?_
  refine z_iconst (x := nI 3) hb dX3_newStep_66 (by decide) ?_
  refine z_dup2_11 hb dX3_newStep_67 rfl rfl ?_
  refine z_iald (j := 3) hb dX3_newStep_68 z_tw_r0 rfl (by omega) (by omega) ?_
  refine z_toI (y := nI S) (by rw [va_upn (by omega), va_upn (by omega), va_upn (by omega), va_upn (by omega)]; exact hS) ?_
  refine z_iconst (x := nI 1) hb dX3_newStep_69 (by decide) ?_
  refine z_iadd hb dX3_newStep_70 ?_
  refine z_toI (y := nI (S + 1)) (nI_add S 1) ?_
  refine z_iast (j := 3) hb dX3_newStep_71 z_tw_r0 (by omega) rfl (by omega) (by omega) ?_
  refine z_hh z_tw_u0 ?_
  refine z_hh (h2 := z_tw (zm_G M) t (tw_nst w0 S kd b a c) w1 w2 w3 w4 w5 w6 w7 w8 w9 w10 w11 w12 w13 w14 w15 w16 w17 w18 w19 w20 w21 w22 w23 w24 w25 w26 w27 w28 h) rfl ?_
  refine z_iconst (x := nI 0) hb dX3_newStep_72 (by decide) ?_
  refine z_istore (lv' := [(8, .int (nI 0)), (7, .int (nI 0)), (6, .int (nI (176 + (4 * S)))), (5, .int (nI S)), (0, .ref t), (1, .int kd), (2, .int b), (3, .int (nI a)), (4, .int (nI c))]) hb dX3_newStep_73 (by rw [hN]; decide) rfl ?_
  have lp_75 : ∀ (k9_75 : Nat) (e : Nat) (u : Nat) (w : Nat → Int32) (f : Nat → Int64), D + 1 - e < k9_75 → (e ≤ D + 1) → (w = tw_ns0 (tw_nst w0 S kd b a c) S e) → (f = tw_ns5 (tw_nst w0 S kd b a c) R S w5 e) → (z_ok w R (S + 1) D) → z_V M (z_tw (zm_G M) t w w1 w2 w3 w4 f w6 w7 w8 w9 w10 w11 w12 w13 w14 w15 w16 w17 w18 w19 w20 w21 w22 w23 w24 w25 w26 w27 w28 h) n 0 0 75 [(8, .int (nI e)), (7, .int (nI u)), (0, .ref t), (1, .int kd), (2, .int b), (3, .int (nI a)), (4, .int (nI c)), (5, .int (nI S)), (6, .int (nI (176 + 4 * S)))] [] := by
    intro k9_75
    induction k9_75 with
    | zero => intro e u w f hk9_75; exact absurd hk9_75 (Nat.not_lt_zero _)
    | succ k9_75 ih_75 =>
      intro e u w f hk9_75 he hw2 hf hok
      refine z_iload hb dX3_newStep_75 rfl ?_
      refine z_aload_n hb dX3_newStep_77 rfl ?_
      refine z_get (k := 0) (C := RX3) (T := TX3) (N := 29) hb ho zc2 in_X3 (zf_RX3_7 _) dX3_newStep_78 z_tw_o (by decide) rfl ?_
      refine z_iconst (x := nI 0) hb dX3_newStep_81 (by decide) ?_
      refine z_iald (j := 0) hb dX3_newStep_82 z_tw_r0 rfl (by omega) (by omega) ?_
      refine z_toI (y := nI D) hok.2.2.2.2.1 ?_
      refine z_icmp_gtN (tgt := 105) hb dX3_newStep_83 (by decide) (by omega) (by omega) (fun c_83 => ?_) (fun c_83 => ?_)
      · refine z_iload hb dX3_newStep_105 rfl ?_
        refine z_iret hb hr dX3_newStep_107 ?_
        rw [hQ]
        rw [hw2, hf, show e = D + 1 by omega]; exact ⟨rfl, rfl, rfl⟩
      · refine z_iload hb dX3_newStep_86 rfl ?_
        refine z_aload_n hb dX3_newStep_88 rfl ?_
        refine z_iload hb dX3_newStep_89 rfl ?_
        refine z_iload hb dX3_newStep_91 rfl ?_
        refine z_call1 (b' := 0) (f' := 0) (rest := [.int (nI u)]) (av := [.ref t, .int (nI S), .int (nI e)]) (z_siteV hb ho zc2 z_tw_o q2899 q2901 qs51 ⟨_, _, _, _, zk_X3_judged⟩ zy_X3_judged zl_X3_judged dX3_newStep_93 : z_Site M _ _ _ _ _ ([.int (nI S), .int (nI e)].reverse ++ .ref t :: [.int (nI u)]) [.int (nI u)] _) zk_X3_judged q104 hrm (m_X3_judged S e ht hok (by omega) (by omega)) (by omega) (by decide) (Nat.le_of_ble_eq_true rfl) (by omega) (by omega) ?_
        refine z_toI (y := nI ((tw_from w S e).toNat)) (z_b_n _) ?_
        refine z_iadd hb dX3_newStep_96 ?_
        refine z_toI (y := nI (u + ((tw_from w S e).toNat))) (nI_add u ((tw_from w S e).toNat)) ?_
        refine z_istore (lv' := [(7, .int (nI (u + ((tw_from w S e).toNat)))), (8, .int (nI e)), (0, .ref t), (1, .int kd), (2, .int b), (3, .int (nI a)), (4, .int (nI c)), (5, .int (nI S)), (6, .int (nI (176 + 4 * S)))]) hb dX3_newStep_97 (by rw [hN]; decide) rfl ?_
        refine z_iinc (k0 := 1) (lv' := [(8, .int (nI (e + 1))), (7, .int (nI (u + ((tw_from w S e).toNat)))), (0, .ref t), (1, .int kd), (2, .int b), (3, .int (nI a)), (4, .int (nI c)), (5, .int (nI S)), (6, .int (nI (176 + 4 * S)))]) hb dX3_newStep_99 rfl (nI_1 e) (by rw [hN]; decide) rfl ?_
        refine z_goto (tgt := 75) hb dX3_newStep_102 (by decide) ?_
        refine z_lv [0, 1, 2, 3, 4, 5, 6, 7, 8] (lv' := [(8, .int (nI (e + 1))), (7, .int (nI (u + ((tw_from w S e).toNat)))), (0, .ref t), (1, .int kd), (2, .int b), (3, .int (nI a)), (4, .int (nI c)), (5, .int (nI S)), (6, .int (nI (176 + 4 * S)))]) rfl ?_
        exact ih_75 (e + 1) _ _ _ (by omega) (by omega) (by rw [hw2]; rfl) (by rw [hf, hw2]; rfl) (tw_j0_ok hok)
  refine z_lv [0, 1, 4, 5, 6, 7, 8, 3, 2] (lv' := [(8, .int (nI 0)), (7, .int (nI 0)), (0, .ref t), (1, .int kd), (2, .int b), (3, .int (nI a)), (4, .int (nI c)), (5, .int (nI S)), (6, .int (nI (176 + (4 * S))))]) rfl ?_
  exact lp_75 _ 0 0 _ _ (Nat.lt_succ_self _) (Nat.zero_le _) rfl rfl (tw_nst_ok hw hS7 ha hc)

set_option maxHeartbeats 1000000 in
theorem m_X3_cut {l : Launch} {G : zG} {h : zH} {n : Nat} {t : Nat} {w0 : Nat → Int32} {w1 : Nat → Int32} {w2 : Nat → Int32} {w3 : Nat → Int32} {w4 : Nat → Int32} {w5 : Nat → Int64} {w6 : Nat → Int64} {w7 : Nat → Int64} {w8 : Nat → Int64} {w9 : Nat → Int64} {w10 : Nat → Int64} {w11 : Nat → Int64} {w12 : Int32} {w13 : Int32} {w14 : Int32} {w15 : Int32} {w16 : Int32} {w17 : Int32} {w18 : Bool} {w19 : Nat → Int32} {w20 : Int32} {w21 : Nat → Int32} {w22 : Nat → Int32} {w23 : Nat → Int32} {w24 : Int32} {w25 : Int32} {w26 : Int32} {w27 : Int32} {w28 : Bool} {R S D : Nat} {k : Nat}  (ht : z_n0 G ≤ t) (hw : z_ok w0 R S D) (hkS : k < S) : z_C l G yX3_cut 2 0 0 [.ref t, .int (nI k)] (z_tw G t w0 w1 w2 w3 w4 w5 w6 w7 w8 w9 w10 w11 w12 w13 w14 w15 w16 w17 w18 w19 w20 w21 w22 w23 w24 w25 w26 w27 w28 h) n (z_rv (.int (nI (S - 1))) (z_tw G t (tw_cut w0 S k) w1 w2 w3 w4 (tw_cut5 w5 S k) w6 w7 w8 w9 w10 w11 w12 w13 w14 w15 w16 w17 w18 w19 w20 w21 w22 w23 w24 w25 w26 w27 w28 h) n) := by
  refine z_start zk_X3_cut zpl_RX3 (Nat.le_of_ble_eq_true rfl) ?_
  intro hn0 M hl hG ho hb hN hr hm hH hrm hQ
  subst hl hG
  have ho : zm_o M = RX3 := ho
  obtain ⟨hR, hR4, hS, hS8, hD, hD6, hF⟩ := id hw
  show z_V M (z_tw (zm_G M) t w0 w1 w2 w3 w4 w5 w6 w7 w8 w9 w10 w11 w12 w13 w14 w15 w16 w17 w18 w19 w20 w21 w22 w23 w24 w25 w26 w27 w28 h) n 0 0 0 [(0, .ref t), (1, .int (nI k))] []
  refine z_aload_n hb dX3_cut_0 rfl ?_
  refine z_get (k := 0) (C := RX3) (T := TX3) (N := 29) hb ho zc2 in_X3 (zf_RX3_7 _) dX3_cut_1 z_tw_o (by decide) rfl ?_
  refine z_iconst (x := nI 3) hb dX3_cut_4 (by decide) ?_
  refine z_dup2_11 hb dX3_cut_5 rfl rfl ?_
  refine z_iald (j := 3) hb dX3_cut_6 z_tw_r0 rfl (by omega) (by omega) ?_
  refine z_toI (y := nI S) hS ?_
  refine z_iconst (x := nI 1) hb dX3_cut_7 (by decide) ?_
  refine z_isub hb dX3_cut_8 ?_
  refine z_toI (y := nI (S - 1)) (pk_sub (by omega)) ?_
  refine z_iast (j := 3) hb dX3_cut_9 z_tw_r0 (by omega) rfl (by omega) (by omega) ?_
  refine z_hh z_tw_u0 ?_
  refine z_sipush (x := nI 176) hb dX3_cut_10 (by decide) ?_
  refine z_iconst (x := nI 4) hb dX3_cut_13 (by decide) ?_
  refine z_iload_n hb dX3_cut_14 rfl ?_
  refine z_imul hb dX3_cut_15 ?_
  refine z_toI (y := nI (4 * k)) (pk_mul 4 k) ?_
  refine z_iadd hb dX3_cut_16 ?_
  refine z_toI (y := nI (176 + (4 * k))) (nI_add 176 (4 * k)) ?_
  refine z_istore_n (lv' := [(2, .int (nI (176 + (4 * k)))), (0, .ref t), (1, .int (nI k))]) hb dX3_cut_17 (by rw [hN]; decide) rfl ?_
  have lp_18 : ∀ (k9_18 : Nat) (j : Nat) (w : Nat → Int32), 4 * (S - 1 - k) - j < k9_18 → (j ≤ 4 * (S - 1 - k)) → (w = tw_shl (va_up w0 3 (nI (S - 1))) (176 + 4 * k) 4 j) → (w 3 = nI (S - 1)) → z_V M (z_tw (zm_G M) t w w1 w2 w3 w4 w5 w6 w7 w8 w9 w10 w11 w12 w13 w14 w15 w16 w17 w18 w19 w20 w21 w22 w23 w24 w25 w26 w27 w28 h) n 0 0 18 [(2, .int (nI (176 + 4 * k + j))), (0, .ref t), (1, .int (nI k))] [] := by
    intro k9_18
    induction k9_18 with
    | zero => intro j w hk9_18; exact absurd hk9_18 (Nat.not_lt_zero _)
    | succ k9_18 ih_18 =>
      intro j w hk9_18 hj hw2 h3
      refine z_iload_n hb dX3_cut_18 rfl ?_
      refine z_sipush (x := nI 176) hb dX3_cut_19 (by decide) ?_
      refine z_iconst (x := nI 4) hb dX3_cut_22 (by decide) ?_
      refine z_aload_n hb dX3_cut_23 rfl ?_
      refine z_get (k := 0) (C := RX3) (T := TX3) (N := 29) hb ho zc2 in_X3 (zf_RX3_7 _) dX3_cut_24 z_tw_o (by decide) rfl ?_
      refine z_iconst (x := nI 3) hb dX3_cut_27 (by decide) ?_
      refine z_iald (j := 3) hb dX3_cut_28 z_tw_r0 rfl (by omega) (by omega) ?_
      refine z_toI (y := nI (S - 1)) h3 ?_
      refine z_imul hb dX3_cut_29 ?_
      refine z_toI (y := nI (4 * (S - 1))) (pk_mul 4 (S - 1)) ?_
      refine z_iadd hb dX3_cut_30 ?_
      refine z_toI (y := nI (176 + (4 * (S - 1)))) (nI_add 176 (4 * (S - 1))) ?_
      refine z_icmp_geN (tgt := 54) hb dX3_cut_31 (by decide) (by omega) (by omega) (fun c_31 => ?_) (fun c_31 => ?_)
      · refine z_sipush (x := nI 208) hb dX3_cut_54 (by decide) ?_
        refine z_bipush (x := nI 7) hb dX3_cut_57 (by decide) ?_
        refine z_iload_n hb dX3_cut_59 rfl ?_
        refine z_imul hb dX3_cut_60 ?_
        refine z_toI (y := nI (7 * k)) (pk_mul 7 k) ?_
        refine z_iadd hb dX3_cut_61 ?_
        refine z_toI (y := nI (208 + (7 * k))) (nI_add 208 (7 * k)) ?_
        refine z_istore_n (lv' := [(2, .int (nI (208 + (7 * k)))), (0, .ref t), (1, .int (nI k))]) hb dX3_cut_62 (by rw [hN]; decide) rfl ?_
        have lp_63 : ∀ (k9_63 : Nat) (j : Nat) (w : Nat → Int32), 7 * (S - 1 - k) - j < k9_63 → (j ≤ 7 * (S - 1 - k)) → (w = tw_shl (tw_cut1 w0 S k) (208 + 7 * k) 7 j) → (w 3 = nI (S - 1)) → z_V M (z_tw (zm_G M) t w w1 w2 w3 w4 w5 w6 w7 w8 w9 w10 w11 w12 w13 w14 w15 w16 w17 w18 w19 w20 w21 w22 w23 w24 w25 w26 w27 w28 h) n 0 0 63 [(2, .int (nI (208 + 7 * k + j))), (0, .ref t), (1, .int (nI k))] [] := by
          intro k9_63
          induction k9_63 with
          | zero => intro j w hk9_63; exact absurd hk9_63 (Nat.not_lt_zero _)
          | succ k9_63 ih_63 =>
            intro j w hk9_63 hj hw2 h3
            refine z_iload_n hb dX3_cut_63 rfl ?_
            refine z_sipush (x := nI 208) hb dX3_cut_64 (by decide) ?_
            refine z_bipush (x := nI 7) hb dX3_cut_67 (by decide) ?_
            refine z_aload_n hb dX3_cut_69 rfl ?_
            refine z_get (k := 0) (C := RX3) (T := TX3) (N := 29) hb ho zc2 in_X3 (zf_RX3_7 _) dX3_cut_70 z_tw_o (by decide) rfl ?_
            refine z_iconst (x := nI 3) hb dX3_cut_73 (by decide) ?_
            refine z_iald (j := 3) hb dX3_cut_74 z_tw_r0 rfl (by omega) (by omega) ?_
            refine z_toI (y := nI (S - 1)) h3 ?_
            refine z_imul hb dX3_cut_75 ?_
            refine z_toI (y := nI (7 * (S - 1))) (pk_mul 7 (S - 1)) ?_
            refine z_iadd hb dX3_cut_76 ?_
            refine z_toI (y := nI (208 + (7 * (S - 1)))) (nI_add 208 (7 * (S - 1))) ?_
            refine z_icmp_geN (tgt := 101) hb dX3_cut_77 (by decide) (by omega) (by omega) (fun c_77 => ?_) (fun c_77 => ?_)
            · refine z_iload_n hb dX3_cut_101 rfl ?_
              refine z_iconst (x := nI 0) hb dX3_cut_102 (by decide) ?_
              refine z_iconst (x := nI 0) hb dX3_cut_103 (by decide) ?_
              refine z_call1 (b' := 0) (f' := 0) (rest := []) (av := [.int (nI k), .int (nI 0), .int (nI 0)]) (z_siteS hb ho q2836 q2837 q104 ⟨_, _, _, _, zk_X3_at⟩ zy_X3_at zl_X3_at dX3_cut_104 : z_Site M _ _ _ _ _ ([.int (nI k), .int (nI 0), .int (nI 0)].reverse ++ []) [] _) zk_X3_at q104 hrm (m_X3_at k 0 0 ht) (by omega) (by decide) (Nat.le_of_ble_eq_true rfl) (by omega) (by omega) ?_
              refine z_toI (y := nI (5 * (7 * k) + 0)) rfl ?_
              refine z_istore_n (lv' := [(2, .int (nI (5 * (7 * k) + 0))), (0, .ref t), (1, .int (nI k))]) hb dX3_cut_107 (by rw [hN]; decide) rfl ?_
              have lp_108 : ∀ (k9_108 : Nat) (j3 : Nat) (f : Nat → Int64), 35 * (S - 1 - k) - j3 < k9_108 → (j3 ≤ 35 * (S - 1 - k)) → (f = tw_shl w5 (5 * (7 * k)) 35 j3) → z_V M (z_tw (zm_G M) t w w1 w2 w3 w4 f w6 w7 w8 w9 w10 w11 w12 w13 w14 w15 w16 w17 w18 w19 w20 w21 w22 w23 w24 w25 w26 w27 w28 h) n 0 0 108 [(2, .int (nI (5 * (7 * k) + j3))), (0, .ref t), (1, .int (nI k))] [] := by
                intro k9_108
                induction k9_108 with
                | zero => intro j3 f hk9_108; exact absurd hk9_108 (Nat.not_lt_zero _)
                | succ k9_108 ih_108 =>
                  intro j3 f hk9_108 hj3 hf
                  refine z_iload_n hb dX3_cut_108 rfl ?_
                  refine z_aload_n hb dX3_cut_109 rfl ?_
                  refine z_get (k := 0) (C := RX3) (T := TX3) (N := 29) hb ho zc2 in_X3 (zf_RX3_7 _) dX3_cut_110 z_tw_o (by decide) rfl ?_
                  refine z_iconst (x := nI 3) hb dX3_cut_113 (by decide) ?_
                  refine z_iald (j := 3) hb dX3_cut_114 z_tw_r0 rfl (by omega) (by omega) ?_
                  refine z_toI (y := nI (S - 1)) h3 ?_
                  refine z_iconst (x := nI 0) hb dX3_cut_115 (by decide) ?_
                  refine z_iconst (x := nI 0) hb dX3_cut_116 (by decide) ?_
                  refine z_call1 (b' := 0) (f' := 0) (rest := [.int (nI (5 * (7 * k) + j3))]) (av := [.int (nI (S - 1)), .int (nI 0), .int (nI 0)]) (z_siteS hb ho q2836 q2837 q104 ⟨_, _, _, _, zk_X3_at⟩ zy_X3_at zl_X3_at dX3_cut_117 : z_Site M _ _ _ _ _ ([.int (nI (S - 1)), .int (nI 0), .int (nI 0)].reverse ++ [.int (nI (5 * (7 * k) + j3))]) [.int (nI (5 * (7 * k) + j3))] _) zk_X3_at q104 hrm (m_X3_at (S - 1) 0 0 ht) (by omega) (by decide) (Nat.le_of_ble_eq_true rfl) (by omega) (by omega) ?_
                  refine z_toI (y := nI (5 * (7 * (S - 1)) + 0)) rfl ?_
                  refine z_icmp_geN (tgt := 144) hb dX3_cut_120 (by decide) (by omega) (by omega) (fun c_120 => ?_) (fun c_120 => ?_)
                  · refine z_hh (h2 := z_tw (zm_G M) t w w1 w2 w3 w4 (tw_cut5 w5 S k) w6 w7 w8 w9 w10 w11 w12 w13 w14 w15 w16 w17 w18 w19 w20 w21 w22 w23 w24 w25 w26 w27 w28 h) (by rw [hf, show j3 = 35 * (S - 1 - k) by omega]; rfl) ?_
                    refine z_iload_n hb dX3_cut_144 rfl ?_
                    refine z_istore_n (lv' := [(2, .int (nI k)), (0, .ref t), (1, .int (nI k))]) hb dX3_cut_145 (by rw [hN]; decide) rfl ?_
                    have lp_146 : ∀ (k9_146 : Nat) (j : Nat) (w : Nat → Int32), S - 1 - k - j < k9_146 → (j ≤ S - 1 - k) → (w = tw_decs (tw_cut2 w0 S k) k j) → (w 3 = nI (S - 1)) → z_V M (z_tw (zm_G M) t w w1 w2 w3 w4 (tw_cut5 w5 S k) w6 w7 w8 w9 w10 w11 w12 w13 w14 w15 w16 w17 w18 w19 w20 w21 w22 w23 w24 w25 w26 w27 w28 h) n 0 0 146 [(2, .int (nI (k + j))), (0, .ref t), (1, .int (nI k))] [] := by
                      intro k9_146
                      induction k9_146 with
                      | zero => intro j w hk9_146; exact absurd hk9_146 (Nat.not_lt_zero _)
                      | succ k9_146 ih_146 =>
                        intro j w hk9_146 hj hw2 h3
                        refine z_iload_n hb dX3_cut_146 rfl ?_
                        refine z_aload_n hb dX3_cut_147 rfl ?_
                        refine z_get (k := 0) (C := RX3) (T := TX3) (N := 29) hb ho zc2 in_X3 (zf_RX3_7 _) dX3_cut_148 z_tw_o (by decide) rfl ?_
                        refine z_iconst (x := nI 3) hb dX3_cut_151 (by decide) ?_
                        refine z_iald (j := 3) hb dX3_cut_152 z_tw_r0 rfl (by omega) (by omega) ?_
                        refine z_toI (y := nI (S - 1)) h3 ?_
                        refine z_icmp_geN (tgt := 226) hb dX3_cut_153 (by decide) (by omega) (by omega) (fun c_153 => ?_) (fun c_153 => ?_)
                        · refine z_aload_n hb dX3_cut_226 rfl ?_
                          refine z_get (k := 0) (C := RX3) (T := TX3) (N := 29) hb ho zc2 in_X3 (zf_RX3_7 _) dX3_cut_227 z_tw_o (by decide) rfl ?_
                          refine z_iconst (x := nI 3) hb dX3_cut_230 (by decide) ?_
                          refine z_iald (j := 3) hb dX3_cut_231 z_tw_r0 rfl (by omega) (by omega) ?_
                          refine z_toI (y := nI (S - 1)) h3 ?_
                          refine z_iret hb hr dX3_cut_232 ?_
                          rw [hQ]
                          rw [hw2, show j = S - 1 - k by omega]; exact ⟨rfl, rfl, rfl⟩
                        · refine z_sipush (x := nI 176) hb dX3_cut_156 (by decide) ?_
                          refine z_iconst (x := nI 4) hb dX3_cut_159 (by decide) ?_
                          refine z_iload_n hb dX3_cut_160 rfl ?_
                          refine z_imul hb dX3_cut_161 ?_
                          refine z_toI (y := nI (4 * (k + j))) (pk_mul 4 (k + j)) ?_
                          refine z_iadd hb dX3_cut_162 ?_
                          refine z_toI (y := nI (176 + (4 * (k + j)))) (nI_add 176 (4 * (k + j))) ?_
                          refine z_istore_n (lv' := [(3, .int (nI (176 + (4 * (k + j))))), (2, .int (nI (k + j))), (0, .ref t), (1, .int (nI k))]) hb dX3_cut_163 (by rw [hN]; decide) rfl ?_
                          refine z_aload_n hb dX3_cut_164 rfl ?_
                          refine z_get (k := 0) (C := RX3) (T := TX3) (N := 29) hb ho zc2 in_X3 (zf_RX3_7 _) dX3_cut_165 z_tw_o (by decide) rfl ?_
                          refine z_iload_n hb dX3_cut_168 rfl ?_
                          refine z_iconst (x := nI 2) hb dX3_cut_169 (by decide) ?_
                          refine z_iadd hb dX3_cut_170 ?_
                          refine z_toI (y := nI (176 + (4 * (k + j)) + 2)) (nI_add (176 + (4 * (k + j))) 2) ?_
                          refine z_dup2_11 hb dX3_cut_171 rfl rfl ?_
                          refine z_iald (j := 176 + (4 * (k + j)) + 2) hb dX3_cut_172 z_tw_r0 rfl (by omega) (by omega) ?_
                          refine z_aload_n hb dX3_cut_173 rfl ?_
                          refine z_get (k := 0) (C := RX3) (T := TX3) (N := 29) hb ho zc2 in_X3 (zf_RX3_7 _) dX3_cut_174 z_tw_o (by decide) rfl ?_
                          refine z_iload_n hb dX3_cut_177 rfl ?_
                          refine z_iconst (x := nI 2) hb dX3_cut_178 (by decide) ?_
                          refine z_iadd hb dX3_cut_179 ?_
                          refine z_toI (y := nI (176 + (4 * (k + j)) + 2)) (nI_add (176 + (4 * (k + j))) 2) ?_
                          refine z_iald (j := 176 + (4 * (k + j)) + 2) hb dX3_cut_180 z_tw_r0 rfl (by omega) (by omega) ?_
                          refine z_iload_n hb dX3_cut_181 rfl ?_
                          refine z_icmp_le (tgt := 189) hb dX3_cut_182 (by decide) (fun c_182 => ?_) (fun c_182 => ?_)
                          · refine z_iconst (x := nI 0) hb dX3_cut_189 (by decide) ?_
                            refine z_isub hb dX3_cut_190 ?_
                            refine z_iast (j := 176 + (4 * (k + j)) + 2) hb dX3_cut_191 z_tw_r0 (by omega) rfl (by omega) (by omega) ?_
                            refine z_hh z_tw_u0 ?_
                            refine z_aload_n hb dX3_cut_192 rfl ?_
                            refine z_get (k := 0) (C := RX3) (T := TX3) (N := 29) hb ho zc2 in_X3 (zf_RX3_7 _) dX3_cut_193 z_tw_o (by decide) rfl ?_
                            refine z_iload_n hb dX3_cut_196 rfl ?_
                            refine z_iconst (x := nI 3) hb dX3_cut_197 (by decide) ?_
                            refine z_iadd hb dX3_cut_198 ?_
                            refine z_toI (y := nI (176 + (4 * (k + j)) + 3)) (nI_add (176 + (4 * (k + j))) 3) ?_
                            refine z_dup2_11 hb dX3_cut_199 rfl rfl ?_
                            refine z_iald (j := 176 + (4 * (k + j)) + 3) hb dX3_cut_200 z_tw_r0 rfl (by omega) (by omega) ?_
                            refine z_toI (y := w (176 + (4 * (k + j)) + 3)) (by rw [va_upn (by omega)]) ?_
                            refine z_aload_n hb dX3_cut_201 rfl ?_
                            refine z_get (k := 0) (C := RX3) (T := TX3) (N := 29) hb ho zc2 in_X3 (zf_RX3_7 _) dX3_cut_202 z_tw_o (by decide) rfl ?_
                            refine z_iload_n hb dX3_cut_205 rfl ?_
                            refine z_iconst (x := nI 3) hb dX3_cut_206 (by decide) ?_
                            refine z_iadd hb dX3_cut_207 ?_
                            refine z_toI (y := nI (176 + (4 * (k + j)) + 3)) (nI_add (176 + (4 * (k + j))) 3) ?_
                            refine z_iald (j := 176 + (4 * (k + j)) + 3) hb dX3_cut_208 z_tw_r0 rfl (by omega) (by omega) ?_
                            refine z_toI (y := w (176 + (4 * (k + j)) + 3)) (by rw [va_upn (by omega)]) ?_
                            refine z_iload_n hb dX3_cut_209 rfl ?_
                            refine z_icmp_le (tgt := 217) hb dX3_cut_210 (by decide) (fun c_210 => ?_) (fun c_210 => ?_)
                            · refine z_iconst (x := nI 0) hb dX3_cut_217 (by decide) ?_
                              refine z_isub hb dX3_cut_218 ?_
                              refine z_iast (j := 176 + (4 * (k + j)) + 3) hb dX3_cut_219 z_tw_r0 (by omega) rfl (by omega) (by omega) ?_
                              refine z_hh z_tw_u0 ?_
                              refine z_iinc (k0 := 1) (lv' := [(2, .int (nI (k + j + 1))), (3, .int (nI (176 + (4 * (k + j))))), (0, .ref t), (1, .int (nI k))]) hb dX3_cut_220 rfl (nI_1 (k + j)) (by rw [hN]; decide) rfl ?_
                              refine z_goto (tgt := 146) hb dX3_cut_223 (by decide) ?_
                              refine z_lv [0, 2, 3] (lv' := [(2, .int (nI (k + j + 1))), (0, .ref t), (1, .int (nI k))]) rfl ?_
                              exact ih_146 (j + 1) _ (by omega) (by omega) (by rw [hw2] at *; rw [tw_decs, tw_dec, tw_dec, va_upn (show 176 + 4 * (k + j) + 3 ≠ 176 + 4 * (k + j) + 2 by omega)]; first | rw [if_pos c_182, if_pos c_210] | rw [if_pos c_182, if_neg c_210] | rw [if_neg c_182, if_pos c_210] | rw [if_neg c_182, if_neg c_210]) (by simp only [va_upn (show (3 : Nat) ≠ 176 + 4 * (k + j) + 2 by omega), va_upn (show (3 : Nat) ≠ 176 + 4 * (k + j) + 3 by omega)]; exact h3)
                            · refine z_iconst (x := nI 1) hb dX3_cut_213 (by decide) ?_
                              refine z_goto (tgt := 218) hb dX3_cut_214 (by decide) ?_
                              refine z_isub hb dX3_cut_218 ?_
                              refine z_iast (j := 176 + (4 * (k + j)) + 3) hb dX3_cut_219 z_tw_r0 (by omega) rfl (by omega) (by omega) ?_
                              refine z_hh z_tw_u0 ?_
                              refine z_iinc (k0 := 1) (lv' := [(2, .int (nI (k + j + 1))), (3, .int (nI (176 + (4 * (k + j))))), (0, .ref t), (1, .int (nI k))]) hb dX3_cut_220 rfl (nI_1 (k + j)) (by rw [hN]; decide) rfl ?_
                              refine z_goto (tgt := 146) hb dX3_cut_223 (by decide) ?_
                              refine z_lv [0, 2, 3] (lv' := [(2, .int (nI (k + j + 1))), (0, .ref t), (1, .int (nI k))]) rfl ?_
                              exact ih_146 (j + 1) _ (by omega) (by omega) (by rw [hw2] at *; rw [tw_decs, tw_dec, tw_dec, va_upn (show 176 + 4 * (k + j) + 3 ≠ 176 + 4 * (k + j) + 2 by omega)]; first | rw [if_pos c_182, if_pos c_210] | rw [if_pos c_182, if_neg c_210] | rw [if_neg c_182, if_pos c_210] | rw [if_neg c_182, if_neg c_210]) (by simp only [va_upn (show (3 : Nat) ≠ 176 + 4 * (k + j) + 2 by omega), va_upn (show (3 : Nat) ≠ 176 + 4 * (k + j) + 3 by omega)]; exact h3)
                          · refine z_iconst (x := nI 1) hb dX3_cut_185 (by decide) ?_
                            refine z_goto (tgt := 190) hb dX3_cut_186 (by decide) ?_
                            refine z_isub hb dX3_cut_190 ?_
                            refine z_iast (j := 176 + (4 * (k + j)) + 2) hb dX3_cut_191 z_tw_r0 (by omega) rfl (by omega) (by omega) ?_
                            refine z_hh z_tw_u0 ?_
                            refine z_aload_n hb dX3_cut_192 rfl ?_
                            refine z_get (k := 0) (C := RX3) (T := TX3) (N := 29) hb ho zc2 in_X3 (zf_RX3_7 _) dX3_cut_193 z_tw_o (by decide) rfl ?_
                            refine z_iload_n hb dX3_cut_196 rfl ?_
                            refine z_iconst (x := nI 3) hb dX3_cut_197 (by decide) ?_
                            refine z_iadd hb dX3_cut_198 ?_
                            refine z_toI (y := nI (176 + (4 * (k + j)) + 3)) (nI_add (176 + (4 * (k + j))) 3) ?_
                            refine z_dup2_11 hb dX3_cut_199 rfl rfl ?_
                            refine z_iald (j := 176 + (4 * (k + j)) + 3) hb dX3_cut_200 z_tw_r0 rfl (by omega) (by omega) ?_
                            refine z_toI (y := w (176 + (4 * (k + j)) + 3)) (by rw [va_upn (by omega)]) ?_
                            refine z_aload_n hb dX3_cut_201 rfl ?_
                            refine z_get (k := 0) (C := RX3) (T := TX3) (N := 29) hb ho zc2 in_X3 (zf_RX3_7 _) dX3_cut_202 z_tw_o (by decide) rfl ?_
                            refine z_iload_n hb dX3_cut_205 rfl ?_
                            refine z_iconst (x := nI 3) hb dX3_cut_206 (by decide) ?_
                            refine z_iadd hb dX3_cut_207 ?_
                            refine z_toI (y := nI (176 + (4 * (k + j)) + 3)) (nI_add (176 + (4 * (k + j))) 3) ?_
                            refine z_iald (j := 176 + (4 * (k + j)) + 3) hb dX3_cut_208 z_tw_r0 rfl (by omega) (by omega) ?_
                            refine z_toI (y := w (176 + (4 * (k + j)) + 3)) (by rw [va_upn (by omega)]) ?_
                            refine z_iload_n hb dX3_cut_209 rfl ?_
                            refine z_icmp_le (tgt := 217) hb dX3_cut_210 (by decide) (fun c_210 => ?_) (fun c_210 => ?_)
                            · refine z_iconst (x := nI 0) hb dX3_cut_217 (by decide) ?_
                              refine z_isub hb dX3_cut_218 ?_
                              refine z_iast (j := 176 + (4 * (k + j)) + 3) hb dX3_cut_219 z_tw_r0 (by omega) rfl (by omega) (by omega) ?_
                              refine z_hh z_tw_u0 ?_
                              refine z_iinc (k0 := 1) (lv' := [(2, .int (nI (k + j + 1))), (3, .int (nI (176 + (4 * (k + j))))), (0, .ref t), (1, .int (nI k))]) hb dX3_cut_220 rfl (nI_1 (k + j)) (by rw [hN]; decide) rfl ?_
                              refine z_goto (tgt := 146) hb dX3_cut_223 (by decide) ?_
                              refine z_lv [0, 2, 3] (lv' := [(2, .int (nI (k + j + 1))), (0, .ref t), (1, .int (nI k))]) rfl ?_
                              exact ih_146 (j + 1) _ (by omega) (by omega) (by rw [hw2] at *; rw [tw_decs, tw_dec, tw_dec, va_upn (show 176 + 4 * (k + j) + 3 ≠ 176 + 4 * (k + j) + 2 by omega)]; first | rw [if_pos c_182, if_pos c_210] | rw [if_pos c_182, if_neg c_210] | rw [if_neg c_182, if_pos c_210] | rw [if_neg c_182, if_neg c_210]) (by simp only [va_upn (show (3 : Nat) ≠ 176 + 4 * (k + j) + 2 by omega), va_upn (show (3 : Nat) ≠ 176 + 4 * (k + j) + 3 by omega)]; exact h3)
                            · refine z_iconst (x := nI 1) hb dX3_cut_213 (by decide) ?_
                              refine z_goto (tgt := 218) hb dX3_cut_214 (by decide) ?_
                              refine z_isub hb dX3_cut_218 ?_
                              refine z_iast (j := 176 + (4 * (k + j)) + 3) hb dX3_cut_219 z_tw_r0 (by omega) rfl (by omega) (by omega) ?_
                              refine z_hh z_tw_u0 ?_
                              refine z_iinc (k0 := 1) (lv' := [(2, .int (nI (k + j + 1))), (3, .int (nI (176 + (4 * (k + j))))), (0, .ref t), (1, .int (nI k))]) hb dX3_cut_220 rfl (nI_1 (k + j)) (by rw [hN]; decide) rfl ?_
                              refine z_goto (tgt := 146) hb dX3_cut_223 (by decide) ?_
                              refine z_lv [0, 2, 3] (lv' := [(2, .int (nI (k + j + 1))), (0, .ref t), (1, .int (nI k))]) rfl ?_
                              exact ih_146 (j + 1) _ (by omega) (by omega) (by rw [hw2] at *; rw [tw_decs, tw_dec, tw_dec, va_upn (show 176 + 4 * (k + j) + 3 ≠ 176 + 4 * (k + j) + 2 by omega)]; first | rw [if_pos c_182, if_pos c_210] | rw [if_pos c_182, if_neg c_210] | rw [if_neg c_182, if_pos c_210] | rw [if_neg c_182, if_neg c_210]) (by simp only [va_upn (show (3 : Nat) ≠ 176 + 4 * (k + j) + 2 by omega), va_upn (show (3 : Nat) ≠ 176 + 4 * (k + j) + 3 by omega)]; exact h3)
                    refine z_lv [0, 1, 2] (lv' := [(2, .int (nI k)), (0, .ref t), (1, .int (nI k))]) rfl ?_
                    exact lp_146 _ 0 _ (Nat.lt_succ_self _) (Nat.zero_le _) (by rw [hw2, show j = 7 * (S - 1 - k) by omega]; rfl) h3
                  · refine z_aload_n hb dX3_cut_123 rfl ?_
                    refine z_get (k := 5) (C := RX3) (T := TX3) (N := 29) hb ho zc2 in_X3 (zf_RX3_25 _) dX3_cut_124 z_tw_o (by decide) rfl ?_
                    refine z_iload_n hb dX3_cut_127 rfl ?_
                    refine z_aload_n hb dX3_cut_128 rfl ?_
                    refine z_get (k := 5) (C := RX3) (T := TX3) (N := 29) hb ho zc2 in_X3 (zf_RX3_25 _) dX3_cut_129 z_tw_o (by decide) rfl ?_
                    refine z_iload_n hb dX3_cut_132 rfl ?_
                    refine z_bipush (x := nI 35) hb dX3_cut_133 (by decide) ?_
                    refine z_iadd hb dX3_cut_135 ?_
                    refine z_toI (y := nI (5 * (7 * k) + j3 + 35)) (nI_add (5 * (7 * k) + j3) 35) ?_
                    refine z_lald (j := 5 * (7 * k) + j3 + 35) hb dX3_cut_136 z_tw_r5 rfl (by omega) (by omega) ?_
                    refine z_last (j := 5 * (7 * k) + j3) hb dX3_cut_137 z_tw_r5 (by omega) rfl (by omega) (by omega) ?_
                    refine z_hh z_tw_u5 ?_
                    refine z_iinc (k0 := 0) (lv' := [(2, .int (nI (5 * (7 * k) + j3 + 1))), (0, .ref t), (1, .int (nI k))]) hb dX3_cut_138 rfl (nI_1 (5 * (7 * k) + j3)) (by rw [hN]; decide) rfl ?_
                    refine z_goto (tgt := 108) hb dX3_cut_141 (by decide) ?_
                    refine z_lv [0, 1, 2] (lv' := [(2, .int (nI (5 * (7 * k) + j3 + 1))), (0, .ref t), (1, .int (nI k))]) rfl ?_
                    exact ih_108 (j3 + 1) _ (by omega) (by omega) (by rw [hf]; rfl)
              refine z_lv [0, 1, 2] (lv' := [(2, .int (nI (5 * (7 * k) + 0))), (0, .ref t), (1, .int (nI k))]) rfl ?_
              exact lp_108 _ 0 _ (Nat.lt_succ_self _) (Nat.zero_le _) rfl
            · refine z_aload_n hb dX3_cut_80 rfl ?_
              refine z_get (k := 0) (C := RX3) (T := TX3) (N := 29) hb ho zc2 in_X3 (zf_RX3_7 _) dX3_cut_81 z_tw_o (by decide) rfl ?_
              refine z_iload_n hb dX3_cut_84 rfl ?_
              refine z_aload_n hb dX3_cut_85 rfl ?_
              refine z_get (k := 0) (C := RX3) (T := TX3) (N := 29) hb ho zc2 in_X3 (zf_RX3_7 _) dX3_cut_86 z_tw_o (by decide) rfl ?_
              refine z_iload_n hb dX3_cut_89 rfl ?_
              refine z_bipush (x := nI 7) hb dX3_cut_90 (by decide) ?_
              refine z_iadd hb dX3_cut_92 ?_
              refine z_toI (y := nI (208 + 7 * k + j + 7)) (nI_add (208 + 7 * k + j) 7) ?_
              refine z_iald (j := 208 + 7 * k + j + 7) hb dX3_cut_93 z_tw_r0 rfl (by omega) (by omega) ?_
              refine z_iast (j := 208 + 7 * k + j) hb dX3_cut_94 z_tw_r0 (by omega) rfl (by omega) (by omega) ?_
              refine z_hh z_tw_u0 ?_
              refine z_iinc (k0 := 0) (lv' := [(2, .int (nI (208 + 7 * k + j + 1))), (0, .ref t), (1, .int (nI k))]) hb dX3_cut_95 rfl (nI_1 (208 + 7 * k + j)) (by rw [hN]; decide) rfl ?_
              refine z_goto (tgt := 63) hb dX3_cut_98 (by decide) ?_
              refine z_lv [0, 1, 2] (lv' := [(2, .int (nI (208 + 7 * k + j + 1))), (0, .ref t), (1, .int (nI k))]) rfl ?_
              exact ih_63 (j + 1) _ (by omega) (by omega) (by rw [hw2]; rfl) ((va_upn (by omega)).trans h3)
        refine z_lv [0, 1, 2] (lv' := [(2, .int (nI (208 + (7 * k)))), (0, .ref t), (1, .int (nI k))]) rfl ?_
        exact lp_63 _ 0 _ (Nat.lt_succ_self _) (Nat.zero_le _) (by rw [hw2, show j = 4 * (S - 1 - k) by omega]; rfl) h3
      · refine z_aload_n hb dX3_cut_34 rfl ?_
        refine z_get (k := 0) (C := RX3) (T := TX3) (N := 29) hb ho zc2 in_X3 (zf_RX3_7 _) dX3_cut_35 z_tw_o (by decide) rfl ?_
        refine z_iload_n hb dX3_cut_38 rfl ?_
        refine z_aload_n hb dX3_cut_39 rfl ?_
        refine z_get (k := 0) (C := RX3) (T := TX3) (N := 29) hb ho zc2 in_X3 (zf_RX3_7 _) dX3_cut_40 z_tw_o (by decide) rfl ?_
        refine z_iload_n hb dX3_cut_43 rfl ?_
        refine z_iconst (x := nI 4) hb dX3_cut_44 (by decide) ?_
        refine z_iadd hb dX3_cut_45 ?_
        refine z_toI (y := nI (176 + 4 * k + j + 4)) (nI_add (176 + 4 * k + j) 4) ?_
        refine z_iald (j := 176 + 4 * k + j + 4) hb dX3_cut_46 z_tw_r0 rfl (by omega) (by omega) ?_
        refine z_iast (j := 176 + 4 * k + j) hb dX3_cut_47 z_tw_r0 (by omega) rfl (by omega) (by omega) ?_
        refine z_hh z_tw_u0 ?_
        refine z_iinc (k0 := 0) (lv' := [(2, .int (nI (176 + 4 * k + j + 1))), (0, .ref t), (1, .int (nI k))]) hb dX3_cut_48 rfl (nI_1 (176 + 4 * k + j)) (by rw [hN]; decide) rfl ?_
        refine z_goto (tgt := 18) hb dX3_cut_51 (by decide) ?_
        refine z_lv [0, 1, 2] (lv' := [(2, .int (nI (176 + 4 * k + j + 1))), (0, .ref t), (1, .int (nI k))]) rfl ?_
        exact ih_18 (j + 1) _ (by omega) (by omega) (by rw [hw2]; rfl) ((va_upn (by omega)).trans h3)
  refine z_lv [0, 1, 2] (lv' := [(2, .int (nI (176 + (4 * k)))), (0, .ref t), (1, .int (nI k))]) rfl ?_
  exact lp_18 _ 0 _ (Nat.lt_succ_self _) (Nat.zero_le _) rfl va_ups

set_option maxHeartbeats 1000000 in
theorem m_X3_repairs {l : Launch} {G : zG} {h : zH} {n : Nat} {t : Nat} {w0 : Nat → Int32} {w1 : Nat → Int32} {w2 : Nat → Int32} {w3 : Nat → Int32} {w4 : Nat → Int32} {w5 : Nat → Int64} {w6 : Nat → Int64} {w7 : Nat → Int64} {w8 : Nat → Int64} {w9 : Nat → Int64} {w10 : Nat → Int64} {w11 : Nat → Int64} {w12 : Int32} {w13 : Int32} {w14 : Int32} {w15 : Int32} {w16 : Int32} {w17 : Int32} {w18 : Bool} {w19 : Nat → Int32} {w20 : Int32} {w21 : Nat → Int32} {w22 : Nat → Int32} {w23 : Nat → Int32} {w24 : Int32} {w25 : Int32} {w26 : Int32} {w27 : Int32} {w28 : Bool} {R S D : Nat}  (d : Nat) (ht : z_n0 G ≤ t) (hw : z_ok w0 R S D) (hd : d ≤ D) : z_C l G yX3_repairs 6 0 0 [.ref t, .int (nI d)] (z_tw G t w0 w1 w2 w3 w4 w5 w6 w7 w8 w9 w10 w11 w12 w13 w14 w15 w16 w17 w18 w19 w20 w21 w22 w23 w24 w25 w26 w27 w28 h) n (z_rv (.int (nI (tw_rpc w0 d S))) (z_tw G t (tw_rep w0 S d) w1 w2 w3 w4 (tw_rp5 w0 R d w5 S) w6 w7 w8 w9 w10 w11 w12 w13 w14 w15 w16 w17 w18 w19 w20 w21 w22 w23 w24 w25 w26 w27 w28 h) n) := by
  refine z_start zk_X3_repairs zpl_RX3 (Nat.le_of_ble_eq_true rfl) ?_
  intro hn0 M hl hG ho hb hN hr hm hH hrm hQ
  subst hl hG
  have ho : zm_o M = RX3 := ho
  obtain ⟨hR, hR4, hS, hS8, hD, hD6, hF⟩ := id hw
  show z_V M (z_tw (zm_G M) t w0 w1 w2 w3 w4 w5 w6 w7 w8 w9 w10 w11 w12 w13 w14 w15 w16 w17 w18 w19 w20 w21 w22 w23 w24 w25 w26 w27 w28 h) n 0 0 0 [(0, .ref t), (1, .int (nI d))] []
  refine z_iconst (x := nI 0) hb dX3_repairs_0 (by decide) ?_
  refine z_istore_n (lv' := [(2, .int (nI 0)), (0, .ref t), (1, .int (nI d))]) hb dX3_repairs_1 (by rw [hN]; decide) rfl ?_
  refine z_iconst (x := nI 0) hb dX3_repairs_2 (by decide) ?_
  refine z_istore_n (lv' := [(3, .int (nI 0)), (2, .int (nI 0)), (0, .ref t), (1, .int (nI d))]) hb dX3_repairs_3 (by rw [hN]; decide) rfl ?_
  have lp_4 : ∀ (k9_4 : Nat) (k : Nat) (c : Nat) (w : Nat → Int32) (f : Nat → Int64), S - k < k9_4 → (k ≤ S) → (c = tw_rpc w0 d k) → (w = tw_rp0 w0 d k) → (f = tw_rp5 w0 R d w5 k) → (z_ok w R S D) → z_V M (z_tw (zm_G M) t w w1 w2 w3 w4 f w6 w7 w8 w9 w10 w11 w12 w13 w14 w15 w16 w17 w18 w19 w20 w21 w22 w23 w24 w25 w26 w27 w28 h) n 0 0 4 [(3, .int (nI k)), (2, .int (nI c)), (0, .ref t), (1, .int (nI d))] [] := by
    intro k9_4
    induction k9_4 with
    | zero => intro k c w f hk9_4; exact absurd hk9_4 (Nat.not_lt_zero _)
    | succ k9_4 ih_4 =>
      intro k c w f hk9_4 hk hc hw2 hf hok
      refine z_iload_n hb dX3_repairs_4 rfl ?_
      refine z_aload_n hb dX3_repairs_5 rfl ?_
      refine z_get (k := 0) (C := RX3) (T := TX3) (N := 29) hb ho zc2 in_X3 (zf_RX3_7 _) dX3_repairs_6 z_tw_o (by decide) rfl ?_
      refine z_iconst (x := nI 3) hb dX3_repairs_9 (by decide) ?_
      refine z_iald (j := 3) hb dX3_repairs_10 z_tw_r0 rfl (by omega) (by omega) ?_
      refine z_toI (y := nI S) hok.2.2.1 ?_
      refine z_icmp_geN (tgt := 50) hb dX3_repairs_11 (by decide) (by omega) (by omega) (fun c_11 => ?_) (fun c_11 => ?_)
      · refine z_aload_n hb dX3_repairs_50 rfl ?_
        refine z_get (k := 0) (C := RX3) (T := TX3) (N := 29) hb ho zc2 in_X3 (zf_RX3_7 _) dX3_repairs_51 z_tw_o (by decide) rfl ?_
        refine z_bipush (x := nI 6) hb dX3_repairs_54 (by decide) ?_
        refine z_dup2_11 hb dX3_repairs_56 rfl rfl ?_
        refine z_iald (j := 6) hb dX3_repairs_57 z_tw_r0 rfl (by omega) (by omega) ?_
        refine z_iload_n hb dX3_repairs_58 rfl ?_
        refine z_iadd hb dX3_repairs_59 ?_
        refine z_iast (j := 6) hb dX3_repairs_60 z_tw_r0 (by omega) rfl (by omega) (by omega) ?_
        refine z_hh z_tw_u0 ?_
        refine z_iload_n hb dX3_repairs_61 rfl ?_
        refine z_iret hb hr dX3_repairs_62 ?_
        rw [hQ]
        rw [hc, hw2, hf, show k = S by omega]; exact ⟨rfl, rfl, rfl⟩
      · refine z_iload_n hb dX3_repairs_14 rfl ?_
        refine z_aload_n hb dX3_repairs_15 rfl ?_
        refine z_iload_n hb dX3_repairs_16 rfl ?_
        refine z_iload_n hb dX3_repairs_17 rfl ?_
        refine z_call1 (b' := 0) (f' := 0) (rest := [.int (nI c)]) (av := [.ref t, .int (nI k), .int (nI d)]) (z_siteV hb ho zc2 z_tw_o q2828 q2830 qs36 ⟨_, _, _, _, zk_X3_isStaleNow⟩ zy_X3_isStaleNow zl_X3_isStaleNow dX3_repairs_18 : z_Site M _ _ _ _ _ ([.int (nI k), .int (nI d)].reverse ++ .ref t :: [.int (nI c)]) [.int (nI c)] _) zk_X3_isStaleNow q104 hrm (m_X3_isStaleNow k d ht (by omega) (by omega)) (by omega) (by decide) (Nat.le_of_ble_eq_true rfl) (by omega) (by omega) ?_
        refine z_ifb_eq (tgt := 28) hb dX3_repairs_21 (by decide) (fun c_21 => ?_) (fun c_21 => ?_)
        · refine z_iconst (x := nI 0) hb dX3_repairs_28 (by decide) ?_
          refine z_iadd hb dX3_repairs_29 ?_
          refine z_toI (y := nI c) (nI_add c 0) ?_
          refine z_istore_n (lv' := [(2, .int (nI c)), (3, .int (nI k)), (0, .ref t), (1, .int (nI d))]) hb dX3_repairs_30 (by rw [hN]; decide) rfl ?_
          refine z_aload_n hb dX3_repairs_31 rfl ?_
          refine z_iload_n hb dX3_repairs_32 rfl ?_
          refine z_iload_n hb dX3_repairs_33 rfl ?_
          refine z_call0 (b' := 0) (f' := 0) (rest := []) (av := [.ref t, .int (nI k), .int (nI d)]) (z_siteV hb ho zc2 z_tw_o q2832 q2834 qs37 ⟨_, _, _, _, zk_X3_compute⟩ zy_X3_compute zl_X3_compute dX3_repairs_34 : z_Site M _ _ _ _ _ ([.int (nI k), .int (nI d)].reverse ++ .ref t :: []) [] _) zk_X3_compute q104 hrm (m_X3_compute k d ht hok (by omega) (by omega)) (by omega) (by decide) (Nat.le_of_ble_eq_true rfl) (by omega) (by omega) ?_
          refine z_aload_n hb dX3_repairs_37 rfl ?_
          refine z_iload_n hb dX3_repairs_38 rfl ?_
          refine z_iload_n hb dX3_repairs_39 rfl ?_
          refine z_iconst (x := nI 0) hb dX3_repairs_40 (by decide) ?_
          refine z_call0 (b' := 0) (f' := 0) (rest := []) (av := [.ref t, .int (nI k), .int (nI d), .int (nI 0)]) (z_siteV hb ho zc2 z_tw_o q2863 q2865 qs44 ⟨_, _, _, _, zk_X3_mark⟩ zy_X3_mark zl_X3_mark dX3_repairs_41 : z_Site M _ _ _ _ _ ([.int (nI k), .int (nI d), .int (nI 0)].reverse ++ .ref t :: []) [] _) zk_X3_mark q104 hrm (m_X3_mark k d false ht (by omega) (by omega)) (by omega) (by decide) (Nat.le_of_ble_eq_true rfl) (by omega) (by omega) ?_
          refine z_iinc (k0 := 1) (lv' := [(3, .int (nI (k + 1))), (2, .int (nI c)), (0, .ref t), (1, .int (nI d))]) hb dX3_repairs_44 rfl (nI_1 k) (by rw [hN]; decide) rfl ?_
          refine z_goto (tgt := 4) hb dX3_repairs_47 (by decide) ?_
          refine z_lv [0, 1, 2, 3] (lv' := [(3, .int (nI (k + 1))), (2, .int (nI c)), (0, .ref t), (1, .int (nI d))]) rfl ?_
          exact ih_4 (k + 1) _ _ _ (by omega) (by omega) (by rw [hw2] at *; rw [hc, tw_rpc, c_21]; rfl) (by rw [hw2]; rfl) (by rw [hf, hw2]; rfl) (hok.up (by omega))
        · refine z_iconst (x := nI 1) hb dX3_repairs_24 (by decide) ?_
          refine z_goto (tgt := 29) hb dX3_repairs_25 (by decide) ?_
          refine z_iadd hb dX3_repairs_29 ?_
          refine z_toI (y := nI (c + 1)) (nI_add c 1) ?_
          refine z_istore_n (lv' := [(2, .int (nI (c + 1))), (3, .int (nI k)), (0, .ref t), (1, .int (nI d))]) hb dX3_repairs_30 (by rw [hN]; decide) rfl ?_
          refine z_aload_n hb dX3_repairs_31 rfl ?_
          refine z_iload_n hb dX3_repairs_32 rfl ?_
          refine z_iload_n hb dX3_repairs_33 rfl ?_
          refine z_call0 (b' := 0) (f' := 0) (rest := []) (av := [.ref t, .int (nI k), .int (nI d)]) (z_siteV hb ho zc2 z_tw_o q2832 q2834 qs37 ⟨_, _, _, _, zk_X3_compute⟩ zy_X3_compute zl_X3_compute dX3_repairs_34 : z_Site M _ _ _ _ _ ([.int (nI k), .int (nI d)].reverse ++ .ref t :: []) [] _) zk_X3_compute q104 hrm (m_X3_compute k d ht hok (by omega) (by omega)) (by omega) (by decide) (Nat.le_of_ble_eq_true rfl) (by omega) (by omega) ?_
          refine z_aload_n hb dX3_repairs_37 rfl ?_
          refine z_iload_n hb dX3_repairs_38 rfl ?_
          refine z_iload_n hb dX3_repairs_39 rfl ?_
          refine z_iconst (x := nI 0) hb dX3_repairs_40 (by decide) ?_
          refine z_call0 (b' := 0) (f' := 0) (rest := []) (av := [.ref t, .int (nI k), .int (nI d), .int (nI 0)]) (z_siteV hb ho zc2 z_tw_o q2863 q2865 qs44 ⟨_, _, _, _, zk_X3_mark⟩ zy_X3_mark zl_X3_mark dX3_repairs_41 : z_Site M _ _ _ _ _ ([.int (nI k), .int (nI d), .int (nI 0)].reverse ++ .ref t :: []) [] _) zk_X3_mark q104 hrm (m_X3_mark k d false ht (by omega) (by omega)) (by omega) (by decide) (Nat.le_of_ble_eq_true rfl) (by omega) (by omega) ?_
          refine z_iinc (k0 := 1) (lv' := [(3, .int (nI (k + 1))), (2, .int (nI (c + 1))), (0, .ref t), (1, .int (nI d))]) hb dX3_repairs_44 rfl (nI_1 k) (by rw [hN]; decide) rfl ?_
          refine z_goto (tgt := 4) hb dX3_repairs_47 (by decide) ?_
          refine z_lv [0, 1, 2, 3] (lv' := [(3, .int (nI (k + 1))), (2, .int (nI (c + 1))), (0, .ref t), (1, .int (nI d))]) rfl ?_
          exact ih_4 (k + 1) _ _ _ (by omega) (by omega) (by rw [hw2] at *; rw [hc, tw_rpc, c_21]; rfl) (by rw [hw2]; rfl) (by rw [hf, hw2]; rfl) (hok.up (by omega))
  refine z_lv [0, 1, 2, 3] (lv' := [(3, .int (nI 0)), (2, .int (nI 0)), (0, .ref t), (1, .int (nI d))]) rfl ?_
  exact lp_4 _ 0 0 _ _ (Nat.lt_succ_self _) (Nat.zero_le _) rfl rfl rfl hw

