def tw_bb1 (u : Nat → Int32) (T : Nat) (q : Nat × Bool) : (Nat × Bool) × Int32 := tw_dg1 u T (tw_sg u T (nI 32) q)
def tw_bb2 (u : Nat → Int32) (T : Nat) (q : Nat × Bool) : (Nat × Bool) × Int32 := tw_dg2 u T (tw_sg u T (nI 32) q)
def tw_oo (u : Nat → Int32) (T : Nat) (a b c : Int32) (q : Nat × Bool) : Nat × Bool := if decide (tw_mk u T q = a) || (decide (tw_mk u T q = b) || decide (tw_mk u T q = c)) then (q.1 + 1, false) else (q.1, true)
def tw_gr (u : Nat → Int32) (T : Nat) (q : Nat × Bool) : Nat × Bool := if decide (nI 97 ≤ tw_mk u T q ∧ tw_mk u T q ≤ nI 101) then (q.1 + 1, false) else (q.1, true)
theorem tw_sg_le {u : Nat → Int32} {T : Nat} {c : Int32} {q : Nat × Bool} (hc : c ≠ -1) (hq : q.1 ≤ T) : (tw_sg u T c q).1 ≤ T := by
  unfold tw_sg
  split
  · rename_i h; have := tw_mk_lt (by rw [h]; exact hc); simp only []; omega
  · exact hq
theorem tw_dg1_le {u : Nat → Int32} {T : Nat} {q : Nat × Bool} (hq : q.1 ≤ T) : (tw_dg1 u T q).1.1 ≤ T := by
  unfold tw_dg1
  split
  · rename_i h; have := tw_isd_lt h; simp only []; omega
  · exact hq
theorem tw_dg2_le {u : Nat → Int32} {T : Nat} {q : Nat × Bool} (hq : q.1 ≤ T) : (tw_dg2 u T q).1.1 ≤ T := by
  unfold tw_dg2
  split
  · rename_i h
    have := tw_isd_lt h
    split
    · rename_i h2; have := tw_isd_lt h2; simp only [] at this ⊢; omega
    · simp only []; omega
  · exact hq
theorem tw_bb1_le {u : Nat → Int32} {T : Nat} {q : Nat × Bool} (hq : q.1 ≤ T) : (tw_bb1 u T q).1.1 ≤ T := tw_dg1_le (tw_sg_le (by decide) hq)
theorem tw_bb2_le {u : Nat → Int32} {T : Nat} {q : Nat × Bool} (hq : q.1 ≤ T) : (tw_bb2 u T q).1.1 ≤ T := tw_dg2_le (tw_sg_le (by decide) hq)
theorem tw_gr_lt {u : Nat → Int32} {T : Nat} {q : Nat × Bool} (h : decide (nI 97 ≤ tw_mk u T q ∧ tw_mk u T q ≤ nI 101) = true) : q.2 = false ∧ q.1 < T ∧ tw_mk u T q = u q.1 := tw_mk_lt (by
  intro e
  rw [e] at h
  exact absurd h (by decide))
theorem tw_gr_le {u : Nat → Int32} {T : Nat} {q : Nat × Bool} (hq : q.1 ≤ T) : (tw_gr u T q).1 ≤ T := by
  unfold tw_gr
  split
  · rename_i h; have := tw_gr_lt h; simp only []; omega
  · exact hq
theorem tw_oo_lt {u : Nat → Int32} {T : Nat} {a b c : Int32} {q : Nat × Bool} (ha : a ≠ -1) (hb : b ≠ -1) (hc : c ≠ -1) (h : (decide (tw_mk u T q = a) || (decide (tw_mk u T q = b) || decide (tw_mk u T q = c))) = true) : q.2 = false ∧ q.1 < T ∧ tw_mk u T q = u q.1 := tw_mk_lt (by
  intro e
  rw [e] at h
  simp only [Bool.or_eq_true, decide_eq_true_eq] at h
  rcases h with h | h | h
  · exact ha h.symm
  · exact hb h.symm
  · exact hc h.symm)
theorem tw_oo_le {u : Nat → Int32} {T : Nat} {a b c : Int32} {q : Nat × Bool} (ha : a ≠ -1) (hb : b ≠ -1) (hc : c ≠ -1) (hq : q.1 ≤ T) : (tw_oo u T a b c q).1 ≤ T := by
  unfold tw_oo
  split
  · rename_i h; have := tw_oo_lt ha hb hc h; simp only []; omega
  · exact hq
/-- how far the text is a word's beginning -/
def tw_ml (u : Nat → Int32) (T p kd : Nat) : Nat → Nat → Nat
  | 0, k => k
  | f + 1, k => if 0 < tw_sp_ kd k ∧ p + k < T ∧ u (p + k) = nI (tw_sp_ kd k) then tw_ml u T p kd f (k + 1) else k
def tw_wd (u : Nat → Int32) (T p : Nat) : Nat → Nat → Nat → (Nat × Bool) × Nat
  | 0, _, l => ((p + l, true), 0)
  | f + 1, kd, l => if tw_sp_ kd (tw_ml u T p kd 7 0) = 0 then ((p + tw_ml u T p kd 7 0, false), kd) else tw_wd u T p f (kd + 1) (if l < tw_ml u T p kd 7 0 then tw_ml u T p kd 7 0 else l)

set_option maxHeartbeats 1000000 in
theorem m_X3_digits_1 {l : Launch} {G : zG} {h : zH} {n : Nat} {t : Nat} {w0 : Nat → Int32} {w1 : Nat → Int32} {w2 : Nat → Int32} {w3 : Nat → Int32} {w4 : Nat → Int32} {w5 : Nat → Int64} {w6 : Nat → Int64} {w7 : Nat → Int64} {w8 : Nat → Int64} {w9 : Nat → Int64} {w10 : Nat → Int64} {w11 : Nat → Int64} {w12 : Int32} {w13 : Int32} {w14 : Int32} {w15 : Int32} {w16 : Int32} {w17 : Int32} {w18 : Bool} {w19 : Nat → Int32} {w20 : Int32} {w21 : Nat → Int32} {w22 : Nat → Int32} {w23 : Nat → Int32} {w24 : Int32} {w25 : Int32} {w26 : Int32} {w27 : Int32} {w28 : Bool} {T p : Nat} {wr : Bool}  (ht : z_n0 G ≤ t) (hT : T ≤ 60) (hq : p ≤ T) : z_C l G yX3_digits 2 0 0 [.ref t, .int (nI 1)] (z_tw G t w0 w1 w2 w3 w4 w5 w6 w7 w8 w9 w10 w11 w12 w13 w14 w15 w16 w17 w18 w19 w20 w21 w22 w23 w24 (nI T) (nI p) w27 wr h) n (z_rv (.int ((tw_dg1 w21 T (p, wr)).2)) (z_tw G t w0 w1 w2 w3 w4 w5 w6 w7 w8 w9 w10 w11 w12 w13 w14 w15 w16 w17 w18 w19 w20 w21 w22 w23 w24 (nI T) (nI (tw_dg1 w21 T (p, wr)).1.1) w27 ((tw_dg1 w21 T (p, wr)).1.2) h) n) := by
  refine z_start zk_X3_digits zpl_RX3 (Nat.le_of_ble_eq_true rfl) ?_
  intro hn0 M hl hG ho hb hN hr hm hH hrm hQ
  subst hl hG
  have ho : zm_o M = RX3 := ho
  show z_V M (z_tw (zm_G M) t w0 w1 w2 w3 w4 w5 w6 w7 w8 w9 w10 w11 w12 w13 w14 w15 w16 w17 w18 w19 w20 w21 w22 w23 w24 (nI T) (nI p) w27 wr h) n 0 0 0 [(0, .ref t), (1, .int (nI 1))] []
  refine z_aload_n hb dX3_digits_0 rfl ?_
  refine z_dup hb dX3_digits_1 rfl ?_
  refine z_get (k := 28) (C := RX3) (T := TX3) (N := 29) hb ho zc2 in_X3 (zf_RX3_97 _) dX3_digits_2 z_tw_o (by decide) rfl ?_
  refine z_aload_n hb dX3_digits_5 rfl ?_
  refine z_call1 (b' := 0) (f' := 0) (rest := [.int (z_b wr), .ref t]) (av := [.ref t]) (z_siteV hb ho zc2 z_tw_o q3219 q3221 qs85 ⟨_, _, _, _, zk_X3_mark_2⟩ zy_X3_mark_2 zl_X3_mark_2 dX3_digits_6 : z_Site M _ _ _ _ _ ([].reverse ++ .ref t :: [.int (z_b wr), .ref t]) [.int (z_b wr), .ref t] _) zk_X3_mark_2 q104 hrm (m_X3_mark_2 (w25 := 0) (w26 := 0) (w28 := false) (q := (p, wr))  ht hT hq) (by omega) (by decide) (Nat.le_of_ble_eq_true rfl) (by omega) (by omega) ?_
  refine z_bipush (x := nI 48) hb dX3_digits_9 (by decide) ?_
  refine z_bipush (x := nI 57) hb dX3_digits_11 (by decide) ?_
  refine z_call1 (b' := 0) (f' := 0) (rest := [.int (z_b wr), .ref t]) (av := [.int (tw_mk w21 T (p, wr)), .int (nI 48), .int (nI 57)]) (z_siteS hb ho q2809 q2810 q104 ⟨_, _, _, _, zk_X3_in⟩ zy_X3_in zl_X3_in dX3_digits_13 : z_Site M _ _ _ _ _ ([.int (tw_mk w21 T (p, wr)), .int (nI 48), .int (nI 57)].reverse ++ [.int (z_b wr), .ref t]) [.int (z_b wr), .ref t] _) zk_X3_in q104 hrm (m_X3_in (tw_mk w21 T (p, wr)) (nI 48) (nI 57) ht) (by omega) (by decide) (Nat.le_of_ble_eq_true rfl) (by omega) (by omega) ?_
  refine z_ifb_ne (tgt := 23) hb dX3_digits_16 (by decide) (fun c_16 => ?_) (fun c_16 => ?_)
  · refine z_iconst (x := nI 0) hb dX3_digits_23 (by decide) ?_
    refine z_ior hb dX3_digits_24 ?_
    refine z_toI (y := z_b (wr || false)) (z_b_or wr false) ?_
    refine z_put (k := 28) (C := RX3) (T := TX3) (N := 29) hb ho zc2 in_X3 tyX3_ok nmX3 (zf_RX3_97 _) dX3_digits_25 z_tw_o ht (by decide) (Or.inl rfl) rfl (z_bnar _) (z_bfit _) (Nat.le_of_ble_eq_true rfl) ?_
    refine z_hh z_tw_u28 ?_
    obtain rfl : wr = false := (tw_isd_lt c_16).1
    refine z_hh (h2 := z_tw (zm_G M) t w0 w1 w2 w3 w4 w5 w6 w7 w8 w9 w10 w11 w12 w13 w14 w15 w16 w17 w18 w19 w20 w21 w22 w23 w24 (nI T) (nI p) w27 false h) (rfl) ?_
    refine z_iconst (x := nI 0) hb dX3_digits_28 (by decide) ?_
    refine z_istore_n (lv' := [(2, .int (nI 0)), (0, .ref t), (1, .int (nI 1))]) hb dX3_digits_29 (by rw [hN]; decide) rfl ?_
    refine z_iconst (x := nI 0) hb dX3_digits_30 (by decide) ?_
    refine z_istore_n (lv' := [(3, .int (nI 0)), (2, .int (nI 0)), (0, .ref t), (1, .int (nI 1))]) hb dX3_digits_31 (by rw [hN]; decide) rfl ?_
    refine z_iload_n hb dX3_digits_32 rfl ?_
    refine z_iload_n hb dX3_digits_33 rfl ?_
    refine z_icmp_geN (tgt := 85) hb dX3_digits_34 (by decide) (by omega) (by omega) (fun c_34 => ?_) (fun c_34 => ?_)
    · exact absurd c_34 (by omega)
    · refine z_aload_n hb dX3_digits_37 rfl ?_
      refine z_call1 (b' := 0) (f' := 0) (rest := []) (av := [.ref t]) (z_siteV hb ho zc2 z_tw_o q3219 q3221 qs85 ⟨_, _, _, _, zk_X3_mark_2⟩ zy_X3_mark_2 zl_X3_mark_2 dX3_digits_38 : z_Site M _ _ _ _ _ ([].reverse ++ .ref t :: []) [] _) zk_X3_mark_2 q104 hrm (m_X3_mark_2 (w25 := 0) (w26 := 0) (w28 := false) (q := (p, false))  ht hT (by simp only []; first | exact hq | (have := tw_isd_lt c_16; simp only [] at this; omega))) (by omega) (by decide) (Nat.le_of_ble_eq_true rfl) (by omega) (by omega) ?_
      refine z_bipush (x := nI 48) hb dX3_digits_41 (by decide) ?_
      refine z_bipush (x := nI 57) hb dX3_digits_43 (by decide) ?_
      refine z_call1 (b' := 0) (f' := 0) (rest := []) (av := [.int (tw_mk w21 T (p, false)), .int (nI 48), .int (nI 57)]) (z_siteS hb ho q2809 q2810 q104 ⟨_, _, _, _, zk_X3_in⟩ zy_X3_in zl_X3_in dX3_digits_45 : z_Site M _ _ _ _ _ ([.int (tw_mk w21 T (p, false)), .int (nI 48), .int (nI 57)].reverse ++ []) [] _) zk_X3_in q104 hrm (m_X3_in (tw_mk w21 T (p, false)) (nI 48) (nI 57) ht) (by omega) (by decide) (Nat.le_of_ble_eq_true rfl) (by omega) (by omega) ?_
      refine z_ifb_eq (tgt := 85) hb dX3_digits_48 (by decide) (fun c_48 => ?_) (fun c_48 => ?_)
      · exact absurd (c_16.symm.trans c_48) (by decide)
      · have e8 := (tw_isd_lt c_48).2.1
        simp only [] at e8
        refine z_bipush (x := nI 10) hb dX3_digits_51 (by decide) ?_
        refine z_iload_n hb dX3_digits_53 rfl ?_
        refine z_imul hb dX3_digits_54 ?_
        refine z_aload_n hb dX3_digits_55 rfl ?_
        refine z_get (k := 21) (C := RX3) (T := TX3) (N := 29) hb ho zc2 in_X3 (zf_RX3_76 _) dX3_digits_56 z_tw_o (by decide) rfl ?_
        refine z_aload_n hb dX3_digits_59 rfl ?_
        refine z_get (k := 26) (C := RX3) (T := TX3) (N := 29) hb ho zc2 in_X3 (zf_RX3_91 _) dX3_digits_60 z_tw_o (by decide) rfl ?_
        refine z_iald (j := p) hb dX3_digits_63 z_tw_r21 rfl (by omega) (by omega) ?_
        refine z_toI (y := w21 p) rfl ?_
        refine z_iadd hb dX3_digits_64 ?_
        refine z_bipush (x := nI 48) hb dX3_digits_65 (by decide) ?_
        refine z_isub hb dX3_digits_67 ?_
        refine z_istore_n (lv' := [(2, .int ((((nI 10) * (nI 0)) + (w21 p)) - (nI 48))), (3, .int (nI 0)), (0, .ref t), (1, .int (nI 1))]) hb dX3_digits_68 (by rw [hN]; decide) rfl ?_
        refine z_aload_n hb dX3_digits_69 rfl ?_
        refine z_dup hb dX3_digits_70 rfl ?_
        refine z_get (k := 26) (C := RX3) (T := TX3) (N := 29) hb ho zc2 in_X3 (zf_RX3_91 _) dX3_digits_71 z_tw_o (by decide) rfl ?_
        refine z_iconst (x := nI 1) hb dX3_digits_74 (by decide) ?_
        refine z_iadd hb dX3_digits_75 ?_
        refine z_toI (y := nI (p + 1)) (nI_add p 1) ?_
        refine z_put (k := 26) (C := RX3) (T := TX3) (N := 29) hb ho zc2 in_X3 tyX3_ok nmX3 (zf_RX3_91 _) dX3_digits_76 z_tw_o ht (by decide) (Or.inl rfl) rfl rfl rfl (Nat.le_of_ble_eq_true rfl) ?_
        refine z_hh z_tw_u26 ?_
        refine z_iinc (k0 := 1) (lv' := [(3, .int (nI 1)), (2, .int ((((nI 10) * (nI 0)) + (w21 p)) - (nI 48))), (0, .ref t), (1, .int (nI 1))]) hb dX3_digits_79 rfl (nI_1 0) (by rw [hN]; decide) rfl ?_
        refine z_goto (tgt := 32) hb dX3_digits_82 (by decide) ?_
        refine z_iload_n hb dX3_digits_32 rfl ?_
        refine z_iload_n hb dX3_digits_33 rfl ?_
        refine z_icmp_geN (tgt := 85) hb dX3_digits_34 (by decide) (by omega) (by omega) (fun c_34 => ?_) (fun c_34 => ?_)
        · refine z_iload_n hb dX3_digits_85 rfl ?_
          refine z_iret hb hr dX3_digits_86 ?_
          rw [hQ]
          rw [show tw_dg1 w21 T (p, false) = ((p + 1, false), tw_dv (nI 0) (w21 p)) from by rw [tw_dg1, if_pos (show tw_isd w21 T (p, false) = true from c_16)]]; exact ⟨rfl, rfl, rfl⟩
        · exact absurd c_34 (by omega)
  · refine z_iconst (x := nI 1) hb dX3_digits_19 (by decide) ?_
    refine z_goto (tgt := 24) hb dX3_digits_20 (by decide) ?_
    refine z_ior hb dX3_digits_24 ?_
    refine z_toI (y := z_b (wr || true)) (z_b_or wr true) ?_
    refine z_put (k := 28) (C := RX3) (T := TX3) (N := 29) hb ho zc2 in_X3 tyX3_ok nmX3 (zf_RX3_97 _) dX3_digits_25 z_tw_o ht (by decide) (Or.inl rfl) rfl (z_bnar _) (z_bfit _) (Nat.le_of_ble_eq_true rfl) ?_
    refine z_hh z_tw_u28 ?_
    refine z_hh (h2 := z_tw (zm_G M) t w0 w1 w2 w3 w4 w5 w6 w7 w8 w9 w10 w11 w12 w13 w14 w15 w16 w17 w18 w19 w20 w21 w22 w23 w24 (nI T) (nI p) w27 true h) (by rw [Bool.or_true]) ?_
    refine z_iconst (x := nI 0) hb dX3_digits_28 (by decide) ?_
    refine z_istore_n (lv' := [(2, .int (nI 0)), (0, .ref t), (1, .int (nI 1))]) hb dX3_digits_29 (by rw [hN]; decide) rfl ?_
    refine z_iconst (x := nI 0) hb dX3_digits_30 (by decide) ?_
    refine z_istore_n (lv' := [(3, .int (nI 0)), (2, .int (nI 0)), (0, .ref t), (1, .int (nI 1))]) hb dX3_digits_31 (by rw [hN]; decide) rfl ?_
    refine z_iload_n hb dX3_digits_32 rfl ?_
    refine z_iload_n hb dX3_digits_33 rfl ?_
    refine z_icmp_geN (tgt := 85) hb dX3_digits_34 (by decide) (by omega) (by omega) (fun c_34 => ?_) (fun c_34 => ?_)
    · exact absurd c_34 (by omega)
    · refine z_aload_n hb dX3_digits_37 rfl ?_
      refine z_call1 (b' := 0) (f' := 0) (rest := []) (av := [.ref t]) (z_siteV hb ho zc2 z_tw_o q3219 q3221 qs85 ⟨_, _, _, _, zk_X3_mark_2⟩ zy_X3_mark_2 zl_X3_mark_2 dX3_digits_38 : z_Site M _ _ _ _ _ ([].reverse ++ .ref t :: []) [] _) zk_X3_mark_2 q104 hrm (m_X3_mark_2 (w25 := 0) (w26 := 0) (w28 := false) (q := (p, true))  ht hT (by simp only []; first | exact hq | (have := tw_isd_lt c_16; simp only [] at this; omega))) (by omega) (by decide) (Nat.le_of_ble_eq_true rfl) (by omega) (by omega) ?_
      refine z_bipush (x := nI 48) hb dX3_digits_41 (by decide) ?_
      refine z_bipush (x := nI 57) hb dX3_digits_43 (by decide) ?_
      refine z_call1 (b' := 0) (f' := 0) (rest := []) (av := [.int (tw_mk w21 T (p, true)), .int (nI 48), .int (nI 57)]) (z_siteS hb ho q2809 q2810 q104 ⟨_, _, _, _, zk_X3_in⟩ zy_X3_in zl_X3_in dX3_digits_45 : z_Site M _ _ _ _ _ ([.int (tw_mk w21 T (p, true)), .int (nI 48), .int (nI 57)].reverse ++ []) [] _) zk_X3_in q104 hrm (m_X3_in (tw_mk w21 T (p, true)) (nI 48) (nI 57) ht) (by omega) (by decide) (Nat.le_of_ble_eq_true rfl) (by omega) (by omega) ?_
      refine z_ifb_eq (tgt := 85) hb dX3_digits_48 (by decide) (fun c_48 => ?_) (fun c_48 => ?_)
      · refine z_iload_n hb dX3_digits_85 rfl ?_
        refine z_iret hb hr dX3_digits_86 ?_
        rw [hQ]
        rw [show tw_dg1 w21 T (p, wr) = ((p, true), nI 0) from by rw [tw_dg1, if_neg (show ¬tw_isd w21 T (p, wr) = true by rw [tw_isd, c_16]; decide)]]; exact ⟨rfl, rfl, rfl⟩
      · exact absurd c_48 (by simp only [tw_mk, if_true]; decide)

set_option maxHeartbeats 1000000 in
theorem m_X3_digits_2 {l : Launch} {G : zG} {h : zH} {n : Nat} {t : Nat} {w0 : Nat → Int32} {w1 : Nat → Int32} {w2 : Nat → Int32} {w3 : Nat → Int32} {w4 : Nat → Int32} {w5 : Nat → Int64} {w6 : Nat → Int64} {w7 : Nat → Int64} {w8 : Nat → Int64} {w9 : Nat → Int64} {w10 : Nat → Int64} {w11 : Nat → Int64} {w12 : Int32} {w13 : Int32} {w14 : Int32} {w15 : Int32} {w16 : Int32} {w17 : Int32} {w18 : Bool} {w19 : Nat → Int32} {w20 : Int32} {w21 : Nat → Int32} {w22 : Nat → Int32} {w23 : Nat → Int32} {w24 : Int32} {w25 : Int32} {w26 : Int32} {w27 : Int32} {w28 : Bool} {T p : Nat} {wr : Bool}  (ht : z_n0 G ≤ t) (hT : T ≤ 60) (hq : p ≤ T) : z_C l G yX3_digits 2 0 0 [.ref t, .int (nI 2)] (z_tw G t w0 w1 w2 w3 w4 w5 w6 w7 w8 w9 w10 w11 w12 w13 w14 w15 w16 w17 w18 w19 w20 w21 w22 w23 w24 (nI T) (nI p) w27 wr h) n (z_rv (.int ((tw_dg2 w21 T (p, wr)).2)) (z_tw G t w0 w1 w2 w3 w4 w5 w6 w7 w8 w9 w10 w11 w12 w13 w14 w15 w16 w17 w18 w19 w20 w21 w22 w23 w24 (nI T) (nI (tw_dg2 w21 T (p, wr)).1.1) w27 ((tw_dg2 w21 T (p, wr)).1.2) h) n) := by
  refine z_start zk_X3_digits zpl_RX3 (Nat.le_of_ble_eq_true rfl) ?_
  intro hn0 M hl hG ho hb hN hr hm hH hrm hQ
  subst hl hG
  have ho : zm_o M = RX3 := ho
  show z_V M (z_tw (zm_G M) t w0 w1 w2 w3 w4 w5 w6 w7 w8 w9 w10 w11 w12 w13 w14 w15 w16 w17 w18 w19 w20 w21 w22 w23 w24 (nI T) (nI p) w27 wr h) n 0 0 0 [(0, .ref t), (1, .int (nI 2))] []
  refine z_aload_n hb dX3_digits_0 rfl ?_
  refine z_dup hb dX3_digits_1 rfl ?_
  refine z_get (k := 28) (C := RX3) (T := TX3) (N := 29) hb ho zc2 in_X3 (zf_RX3_97 _) dX3_digits_2 z_tw_o (by decide) rfl ?_
  refine z_aload_n hb dX3_digits_5 rfl ?_
  refine z_call1 (b' := 0) (f' := 0) (rest := [.int (z_b wr), .ref t]) (av := [.ref t]) (z_siteV hb ho zc2 z_tw_o q3219 q3221 qs85 ⟨_, _, _, _, zk_X3_mark_2⟩ zy_X3_mark_2 zl_X3_mark_2 dX3_digits_6 : z_Site M _ _ _ _ _ ([].reverse ++ .ref t :: [.int (z_b wr), .ref t]) [.int (z_b wr), .ref t] _) zk_X3_mark_2 q104 hrm (m_X3_mark_2 (w25 := 0) (w26 := 0) (w28 := false) (q := (p, wr))  ht hT hq) (by omega) (by decide) (Nat.le_of_ble_eq_true rfl) (by omega) (by omega) ?_
  refine z_bipush (x := nI 48) hb dX3_digits_9 (by decide) ?_
  refine z_bipush (x := nI 57) hb dX3_digits_11 (by decide) ?_
  refine z_call1 (b' := 0) (f' := 0) (rest := [.int (z_b wr), .ref t]) (av := [.int (tw_mk w21 T (p, wr)), .int (nI 48), .int (nI 57)]) (z_siteS hb ho q2809 q2810 q104 ⟨_, _, _, _, zk_X3_in⟩ zy_X3_in zl_X3_in dX3_digits_13 : z_Site M _ _ _ _ _ ([.int (tw_mk w21 T (p, wr)), .int (nI 48), .int (nI 57)].reverse ++ [.int (z_b wr), .ref t]) [.int (z_b wr), .ref t] _) zk_X3_in q104 hrm (m_X3_in (tw_mk w21 T (p, wr)) (nI 48) (nI 57) ht) (by omega) (by decide) (Nat.le_of_ble_eq_true rfl) (by omega) (by omega) ?_
  refine z_ifb_ne (tgt := 23) hb dX3_digits_16 (by decide) (fun c_16 => ?_) (fun c_16 => ?_)
  · refine z_iconst (x := nI 0) hb dX3_digits_23 (by decide) ?_
    refine z_ior hb dX3_digits_24 ?_
    refine z_toI (y := z_b (wr || false)) (z_b_or wr false) ?_
    refine z_put (k := 28) (C := RX3) (T := TX3) (N := 29) hb ho zc2 in_X3 tyX3_ok nmX3 (zf_RX3_97 _) dX3_digits_25 z_tw_o ht (by decide) (Or.inl rfl) rfl (z_bnar _) (z_bfit _) (Nat.le_of_ble_eq_true rfl) ?_
    refine z_hh z_tw_u28 ?_
    obtain rfl : wr = false := (tw_isd_lt c_16).1
    refine z_hh (h2 := z_tw (zm_G M) t w0 w1 w2 w3 w4 w5 w6 w7 w8 w9 w10 w11 w12 w13 w14 w15 w16 w17 w18 w19 w20 w21 w22 w23 w24 (nI T) (nI p) w27 false h) (rfl) ?_
    refine z_iconst (x := nI 0) hb dX3_digits_28 (by decide) ?_
    refine z_istore_n (lv' := [(2, .int (nI 0)), (0, .ref t), (1, .int (nI 2))]) hb dX3_digits_29 (by rw [hN]; decide) rfl ?_
    refine z_iconst (x := nI 0) hb dX3_digits_30 (by decide) ?_
    refine z_istore_n (lv' := [(3, .int (nI 0)), (2, .int (nI 0)), (0, .ref t), (1, .int (nI 2))]) hb dX3_digits_31 (by rw [hN]; decide) rfl ?_
    refine z_iload_n hb dX3_digits_32 rfl ?_
    refine z_iload_n hb dX3_digits_33 rfl ?_
    refine z_icmp_geN (tgt := 85) hb dX3_digits_34 (by decide) (by omega) (by omega) (fun c_34 => ?_) (fun c_34 => ?_)
    · exact absurd c_34 (by omega)
    · refine z_aload_n hb dX3_digits_37 rfl ?_
      refine z_call1 (b' := 0) (f' := 0) (rest := []) (av := [.ref t]) (z_siteV hb ho zc2 z_tw_o q3219 q3221 qs85 ⟨_, _, _, _, zk_X3_mark_2⟩ zy_X3_mark_2 zl_X3_mark_2 dX3_digits_38 : z_Site M _ _ _ _ _ ([].reverse ++ .ref t :: []) [] _) zk_X3_mark_2 q104 hrm (m_X3_mark_2 (w25 := 0) (w26 := 0) (w28 := false) (q := (p, false))  ht hT (by simp only []; first | exact hq | (have := tw_isd_lt c_16; simp only [] at this; omega))) (by omega) (by decide) (Nat.le_of_ble_eq_true rfl) (by omega) (by omega) ?_
      refine z_bipush (x := nI 48) hb dX3_digits_41 (by decide) ?_
      refine z_bipush (x := nI 57) hb dX3_digits_43 (by decide) ?_
      refine z_call1 (b' := 0) (f' := 0) (rest := []) (av := [.int (tw_mk w21 T (p, false)), .int (nI 48), .int (nI 57)]) (z_siteS hb ho q2809 q2810 q104 ⟨_, _, _, _, zk_X3_in⟩ zy_X3_in zl_X3_in dX3_digits_45 : z_Site M _ _ _ _ _ ([.int (tw_mk w21 T (p, false)), .int (nI 48), .int (nI 57)].reverse ++ []) [] _) zk_X3_in q104 hrm (m_X3_in (tw_mk w21 T (p, false)) (nI 48) (nI 57) ht) (by omega) (by decide) (Nat.le_of_ble_eq_true rfl) (by omega) (by omega) ?_
      refine z_ifb_eq (tgt := 85) hb dX3_digits_48 (by decide) (fun c_48 => ?_) (fun c_48 => ?_)
      · exact absurd (c_16.symm.trans c_48) (by decide)
      · have e8 := (tw_isd_lt c_48).2.1
        simp only [] at e8
        refine z_bipush (x := nI 10) hb dX3_digits_51 (by decide) ?_
        refine z_iload_n hb dX3_digits_53 rfl ?_
        refine z_imul hb dX3_digits_54 ?_
        refine z_aload_n hb dX3_digits_55 rfl ?_
        refine z_get (k := 21) (C := RX3) (T := TX3) (N := 29) hb ho zc2 in_X3 (zf_RX3_76 _) dX3_digits_56 z_tw_o (by decide) rfl ?_
        refine z_aload_n hb dX3_digits_59 rfl ?_
        refine z_get (k := 26) (C := RX3) (T := TX3) (N := 29) hb ho zc2 in_X3 (zf_RX3_91 _) dX3_digits_60 z_tw_o (by decide) rfl ?_
        refine z_iald (j := p) hb dX3_digits_63 z_tw_r21 rfl (by omega) (by omega) ?_
        refine z_toI (y := w21 p) rfl ?_
        refine z_iadd hb dX3_digits_64 ?_
        refine z_bipush (x := nI 48) hb dX3_digits_65 (by decide) ?_
        refine z_isub hb dX3_digits_67 ?_
        refine z_istore_n (lv' := [(2, .int ((((nI 10) * (nI 0)) + (w21 p)) - (nI 48))), (3, .int (nI 0)), (0, .ref t), (1, .int (nI 2))]) hb dX3_digits_68 (by rw [hN]; decide) rfl ?_
        refine z_aload_n hb dX3_digits_69 rfl ?_
        refine z_dup hb dX3_digits_70 rfl ?_
        refine z_get (k := 26) (C := RX3) (T := TX3) (N := 29) hb ho zc2 in_X3 (zf_RX3_91 _) dX3_digits_71 z_tw_o (by decide) rfl ?_
        refine z_iconst (x := nI 1) hb dX3_digits_74 (by decide) ?_
        refine z_iadd hb dX3_digits_75 ?_
        refine z_toI (y := nI (p + 1)) (nI_add p 1) ?_
        refine z_put (k := 26) (C := RX3) (T := TX3) (N := 29) hb ho zc2 in_X3 tyX3_ok nmX3 (zf_RX3_91 _) dX3_digits_76 z_tw_o ht (by decide) (Or.inl rfl) rfl rfl rfl (Nat.le_of_ble_eq_true rfl) ?_
        refine z_hh z_tw_u26 ?_
        refine z_iinc (k0 := 1) (lv' := [(3, .int (nI 1)), (2, .int ((((nI 10) * (nI 0)) + (w21 p)) - (nI 48))), (0, .ref t), (1, .int (nI 2))]) hb dX3_digits_79 rfl (nI_1 0) (by rw [hN]; decide) rfl ?_
        refine z_goto (tgt := 32) hb dX3_digits_82 (by decide) ?_
        refine z_iload_n hb dX3_digits_32 rfl ?_
        refine z_iload_n hb dX3_digits_33 rfl ?_
        refine z_icmp_geN (tgt := 85) hb dX3_digits_34 (by decide) (by omega) (by omega) (fun c_34 => ?_) (fun c_34 => ?_)
        · exact absurd c_34 (by omega)
        · refine z_aload_n hb dX3_digits_37 rfl ?_
          refine z_call1 (b' := 0) (f' := 0) (rest := []) (av := [.ref t]) (z_siteV hb ho zc2 z_tw_o q3219 q3221 qs85 ⟨_, _, _, _, zk_X3_mark_2⟩ zy_X3_mark_2 zl_X3_mark_2 dX3_digits_38 : z_Site M _ _ _ _ _ ([].reverse ++ .ref t :: []) [] _) zk_X3_mark_2 q104 hrm (m_X3_mark_2 (w25 := 0) (w26 := 0) (w28 := false) (q := (p + 1, false))  ht hT (by simp only []; first | exact hq | (have := tw_isd_lt c_16; simp only [] at this; omega))) (by omega) (by decide) (Nat.le_of_ble_eq_true rfl) (by omega) (by omega) ?_
          refine z_bipush (x := nI 48) hb dX3_digits_41 (by decide) ?_
          refine z_bipush (x := nI 57) hb dX3_digits_43 (by decide) ?_
          refine z_call1 (b' := 0) (f' := 0) (rest := []) (av := [.int (tw_mk w21 T (p + 1, false)), .int (nI 48), .int (nI 57)]) (z_siteS hb ho q2809 q2810 q104 ⟨_, _, _, _, zk_X3_in⟩ zy_X3_in zl_X3_in dX3_digits_45 : z_Site M _ _ _ _ _ ([.int (tw_mk w21 T (p + 1, false)), .int (nI 48), .int (nI 57)].reverse ++ []) [] _) zk_X3_in q104 hrm (m_X3_in (tw_mk w21 T (p + 1, false)) (nI 48) (nI 57) ht) (by omega) (by decide) (Nat.le_of_ble_eq_true rfl) (by omega) (by omega) ?_
          refine z_ifb_eq (tgt := 85) hb dX3_digits_48 (by decide) (fun c_48 => ?_) (fun c_48 => ?_)
          · refine z_iload_n hb dX3_digits_85 rfl ?_
            refine z_iret hb hr dX3_digits_86 ?_
            rw [hQ]
            rw [show tw_dg2 w21 T (p, false) = ((p + 1, false), tw_dv (nI 0) (w21 p)) from by rw [tw_dg2, if_pos (show tw_isd w21 T (p, false) = true from c_16), if_neg (show ¬tw_isd w21 T (p + 1, false) = true by rw [tw_isd, c_48]; decide)]]; exact ⟨rfl, rfl, rfl⟩
          · have e8 := (tw_isd_lt c_48).2.1
            simp only [] at e8
            refine z_bipush (x := nI 10) hb dX3_digits_51 (by decide) ?_
            refine z_iload_n hb dX3_digits_53 rfl ?_
            refine z_imul hb dX3_digits_54 ?_
            refine z_aload_n hb dX3_digits_55 rfl ?_
            refine z_get (k := 21) (C := RX3) (T := TX3) (N := 29) hb ho zc2 in_X3 (zf_RX3_76 _) dX3_digits_56 z_tw_o (by decide) rfl ?_
            refine z_aload_n hb dX3_digits_59 rfl ?_
            refine z_get (k := 26) (C := RX3) (T := TX3) (N := 29) hb ho zc2 in_X3 (zf_RX3_91 _) dX3_digits_60 z_tw_o (by decide) rfl ?_
            refine z_iald (j := (p + 1)) hb dX3_digits_63 z_tw_r21 rfl (by omega) (by omega) ?_
            refine z_toI (y := w21 (p + 1)) rfl ?_
            refine z_iadd hb dX3_digits_64 ?_
            refine z_bipush (x := nI 48) hb dX3_digits_65 (by decide) ?_
            refine z_isub hb dX3_digits_67 ?_
            refine z_istore_n (lv' := [(2, .int ((((nI 10) * ((((nI 10) * (nI 0)) + (w21 p)) - (nI 48))) + (w21 (p + 1))) - (nI 48))), (3, .int (nI 1)), (0, .ref t), (1, .int (nI 2))]) hb dX3_digits_68 (by rw [hN]; decide) rfl ?_
            refine z_aload_n hb dX3_digits_69 rfl ?_
            refine z_dup hb dX3_digits_70 rfl ?_
            refine z_get (k := 26) (C := RX3) (T := TX3) (N := 29) hb ho zc2 in_X3 (zf_RX3_91 _) dX3_digits_71 z_tw_o (by decide) rfl ?_
            refine z_iconst (x := nI 1) hb dX3_digits_74 (by decide) ?_
            refine z_iadd hb dX3_digits_75 ?_
            refine z_toI (y := nI ((p + 1) + 1)) (nI_add (p + 1) 1) ?_
            refine z_put (k := 26) (C := RX3) (T := TX3) (N := 29) hb ho zc2 in_X3 tyX3_ok nmX3 (zf_RX3_91 _) dX3_digits_76 z_tw_o ht (by decide) (Or.inl rfl) rfl rfl rfl (Nat.le_of_ble_eq_true rfl) ?_
            refine z_hh z_tw_u26 ?_
            refine z_iinc (k0 := 1) (lv' := [(3, .int (nI 2)), (2, .int ((((nI 10) * ((((nI 10) * (nI 0)) + (w21 p)) - (nI 48))) + (w21 (p + 1))) - (nI 48))), (0, .ref t), (1, .int (nI 2))]) hb dX3_digits_79 rfl (nI_1 1) (by rw [hN]; decide) rfl ?_
            refine z_goto (tgt := 32) hb dX3_digits_82 (by decide) ?_
            refine z_iload_n hb dX3_digits_32 rfl ?_
            refine z_iload_n hb dX3_digits_33 rfl ?_
            refine z_icmp_geN (tgt := 85) hb dX3_digits_34 (by decide) (by omega) (by omega) (fun c_34 => ?_) (fun c_34 => ?_)
            · refine z_iload_n hb dX3_digits_85 rfl ?_
              refine z_iret hb hr dX3_digits_86 ?_
              rw [hQ]
              rw [show tw_dg2 w21 T (p, false) = ((p + 2, false), tw_dv (tw_dv (nI 0) (w21 p)) (w21 (p + 1))) from by rw [tw_dg2, if_pos (show tw_isd w21 T (p, false) = true from c_16), if_pos (show tw_isd w21 T (p + 1, false) = true from c_48)]]; exact ⟨rfl, rfl, rfl⟩
            · exact absurd c_34 (by omega)
  · refine z_iconst (x := nI 1) hb dX3_digits_19 (by decide) ?_
    refine z_goto (tgt := 24) hb dX3_digits_20 (by decide) ?_
    refine z_ior hb dX3_digits_24 ?_
    refine z_toI (y := z_b (wr || true)) (z_b_or wr true) ?_
    refine z_put (k := 28) (C := RX3) (T := TX3) (N := 29) hb ho zc2 in_X3 tyX3_ok nmX3 (zf_RX3_97 _) dX3_digits_25 z_tw_o ht (by decide) (Or.inl rfl) rfl (z_bnar _) (z_bfit _) (Nat.le_of_ble_eq_true rfl) ?_
    refine z_hh z_tw_u28 ?_
    refine z_hh (h2 := z_tw (zm_G M) t w0 w1 w2 w3 w4 w5 w6 w7 w8 w9 w10 w11 w12 w13 w14 w15 w16 w17 w18 w19 w20 w21 w22 w23 w24 (nI T) (nI p) w27 true h) (by rw [Bool.or_true]) ?_
    refine z_iconst (x := nI 0) hb dX3_digits_28 (by decide) ?_
    refine z_istore_n (lv' := [(2, .int (nI 0)), (0, .ref t), (1, .int (nI 2))]) hb dX3_digits_29 (by rw [hN]; decide) rfl ?_
    refine z_iconst (x := nI 0) hb dX3_digits_30 (by decide) ?_
    refine z_istore_n (lv' := [(3, .int (nI 0)), (2, .int (nI 0)), (0, .ref t), (1, .int (nI 2))]) hb dX3_digits_31 (by rw [hN]; decide) rfl ?_
    refine z_iload_n hb dX3_digits_32 rfl ?_
    refine z_iload_n hb dX3_digits_33 rfl ?_
    refine z_icmp_geN (tgt := 85) hb dX3_digits_34 (by decide) (by omega) (by omega) (fun c_34 => ?_) (fun c_34 => ?_)
    · exact absurd c_34 (by omega)
    · refine z_aload_n hb dX3_digits_37 rfl ?_
      refine z_call1 (b' := 0) (f' := 0) (rest := []) (av := [.ref t]) (z_siteV hb ho zc2 z_tw_o q3219 q3221 qs85 ⟨_, _, _, _, zk_X3_mark_2⟩ zy_X3_mark_2 zl_X3_mark_2 dX3_digits_38 : z_Site M _ _ _ _ _ ([].reverse ++ .ref t :: []) [] _) zk_X3_mark_2 q104 hrm (m_X3_mark_2 (w25 := 0) (w26 := 0) (w28 := false) (q := (p, true))  ht hT (by simp only []; first | exact hq | (have := tw_isd_lt c_16; simp only [] at this; omega))) (by omega) (by decide) (Nat.le_of_ble_eq_true rfl) (by omega) (by omega) ?_
      refine z_bipush (x := nI 48) hb dX3_digits_41 (by decide) ?_
      refine z_bipush (x := nI 57) hb dX3_digits_43 (by decide) ?_
      refine z_call1 (b' := 0) (f' := 0) (rest := []) (av := [.int (tw_mk w21 T (p, true)), .int (nI 48), .int (nI 57)]) (z_siteS hb ho q2809 q2810 q104 ⟨_, _, _, _, zk_X3_in⟩ zy_X3_in zl_X3_in dX3_digits_45 : z_Site M _ _ _ _ _ ([.int (tw_mk w21 T (p, true)), .int (nI 48), .int (nI 57)].reverse ++ []) [] _) zk_X3_in q104 hrm (m_X3_in (tw_mk w21 T (p, true)) (nI 48) (nI 57) ht) (by omega) (by decide) (Nat.le_of_ble_eq_true rfl) (by omega) (by omega) ?_
      refine z_ifb_eq (tgt := 85) hb dX3_digits_48 (by decide) (fun c_48 => ?_) (fun c_48 => ?_)
      · refine z_iload_n hb dX3_digits_85 rfl ?_
        refine z_iret hb hr dX3_digits_86 ?_
        rw [hQ]
        rw [show tw_dg2 w21 T (p, wr) = ((p, true), nI 0) from by rw [tw_dg2, if_neg (show ¬tw_isd w21 T (p, wr) = true by rw [tw_isd, c_16]; decide)]]; exact ⟨rfl, rfl, rfl⟩
      · exact absurd c_48 (by simp only [tw_mk, if_true]; decide)

set_option maxHeartbeats 1000000 in
theorem m_X3_behindBlank_1 {l : Launch} {G : zG} {h : zH} {n : Nat} {t : Nat} {w0 : Nat → Int32} {w1 : Nat → Int32} {w2 : Nat → Int32} {w3 : Nat → Int32} {w4 : Nat → Int32} {w5 : Nat → Int64} {w6 : Nat → Int64} {w7 : Nat → Int64} {w8 : Nat → Int64} {w9 : Nat → Int64} {w10 : Nat → Int64} {w11 : Nat → Int64} {w12 : Int32} {w13 : Int32} {w14 : Int32} {w15 : Int32} {w16 : Int32} {w17 : Int32} {w18 : Bool} {w19 : Nat → Int32} {w20 : Int32} {w21 : Nat → Int32} {w22 : Nat → Int32} {w23 : Nat → Int32} {w24 : Int32} {w25 : Int32} {w26 : Int32} {w27 : Int32} {w28 : Bool} {T : Nat} {q : Nat × Bool}  (ht : z_n0 G ≤ t) (hT : T ≤ 60) (hq : q.1 ≤ T) : z_C l G yX3_behindBlank 3 0 0 [.ref t, .int (nI 1)] (z_tw G t w0 w1 w2 w3 w4 w5 w6 w7 w8 w9 w10 w11 w12 w13 w14 w15 w16 w17 w18 w19 w20 w21 w22 w23 w24 (nI T) (nI q.1) w27 q.2 h) n (z_rv (.int ((tw_bb1 w21 T q).2)) (z_tw G t w0 w1 w2 w3 w4 w5 w6 w7 w8 w9 w10 w11 w12 w13 w14 w15 w16 w17 w18 w19 w20 w21 w22 w23 w24 (nI T) (nI (tw_bb1 w21 T q).1.1) w27 ((tw_bb1 w21 T q).1.2) h) n) := by
  refine z_start zk_X3_behindBlank zpl_RX3 (Nat.le_of_ble_eq_true rfl) ?_
  intro hn0 M hl hG ho hb hN hr hm hH hrm hQ
  subst hl hG
  have ho : zm_o M = RX3 := ho
  show z_V M (z_tw (zm_G M) t w0 w1 w2 w3 w4 w5 w6 w7 w8 w9 w10 w11 w12 w13 w14 w15 w16 w17 w18 w19 w20 w21 w22 w23 w24 (nI T) (nI q.1) w27 q.2 h) n 0 0 0 [(0, .ref t), (1, .int (nI 1))] []
  refine z_aload_n hb dX3_behindBlank_0 rfl ?_
  refine z_bipush (x := nI 32) hb dX3_behindBlank_1 (by decide) ?_
  refine z_call0 (b' := 0) (f' := 0) (rest := []) (av := [.ref t, .int (nI 32)]) (z_siteV hb ho zc2 z_tw_o q3215 q3217 qs84 ⟨_, _, _, _, zk_X3_sign⟩ zy_X3_sign zl_X3_sign dX3_behindBlank_3 : z_Site M _ _ _ _ _ ([.int (nI 32)].reverse ++ .ref t :: []) [] _) zk_X3_sign q104 hrm (m_X3_sign (w25 := 0) (w26 := 0) (w28 := false) (T := T) (q := q) (nI 32) ht hT hq (by decide)) (by omega) (by decide) (Nat.le_of_ble_eq_true rfl) (by omega) (by omega) ?_
  refine z_aload_n hb dX3_behindBlank_6 rfl ?_
  refine z_iload_n hb dX3_behindBlank_7 rfl ?_
  refine z_call1 (b' := 0) (f' := 0) (rest := []) (av := [.ref t, .int (nI 1)]) (z_siteV hb ho zc2 z_tw_o q3231 q3233 qs88 ⟨_, _, _, _, zk_X3_digits⟩ zy_X3_digits zl_X3_digits dX3_behindBlank_8 : z_Site M _ _ _ _ _ ([.int (nI 1)].reverse ++ .ref t :: []) [] _) zk_X3_digits q104 hrm (m_X3_digits_1 (w25 := 0) (w26 := 0) (w28 := false) (T := T) (p := (tw_sg w21 T (nI 32) q).1) (wr := (tw_sg w21 T (nI 32) q).2)  ht hT (tw_sg_le (by decide) hq) ) (by omega) (by decide) (Nat.le_of_ble_eq_true rfl) (by omega) (by omega) ?_
  refine z_iret hb hr dX3_behindBlank_11 ?_
  rw [hQ]
  exact ⟨rfl, rfl, rfl⟩

set_option maxHeartbeats 1000000 in
theorem m_X3_behindBlank_2 {l : Launch} {G : zG} {h : zH} {n : Nat} {t : Nat} {w0 : Nat → Int32} {w1 : Nat → Int32} {w2 : Nat → Int32} {w3 : Nat → Int32} {w4 : Nat → Int32} {w5 : Nat → Int64} {w6 : Nat → Int64} {w7 : Nat → Int64} {w8 : Nat → Int64} {w9 : Nat → Int64} {w10 : Nat → Int64} {w11 : Nat → Int64} {w12 : Int32} {w13 : Int32} {w14 : Int32} {w15 : Int32} {w16 : Int32} {w17 : Int32} {w18 : Bool} {w19 : Nat → Int32} {w20 : Int32} {w21 : Nat → Int32} {w22 : Nat → Int32} {w23 : Nat → Int32} {w24 : Int32} {w25 : Int32} {w26 : Int32} {w27 : Int32} {w28 : Bool} {T : Nat} {q : Nat × Bool}  (ht : z_n0 G ≤ t) (hT : T ≤ 60) (hq : q.1 ≤ T) : z_C l G yX3_behindBlank 3 0 0 [.ref t, .int (nI 2)] (z_tw G t w0 w1 w2 w3 w4 w5 w6 w7 w8 w9 w10 w11 w12 w13 w14 w15 w16 w17 w18 w19 w20 w21 w22 w23 w24 (nI T) (nI q.1) w27 q.2 h) n (z_rv (.int ((tw_bb2 w21 T q).2)) (z_tw G t w0 w1 w2 w3 w4 w5 w6 w7 w8 w9 w10 w11 w12 w13 w14 w15 w16 w17 w18 w19 w20 w21 w22 w23 w24 (nI T) (nI (tw_bb2 w21 T q).1.1) w27 ((tw_bb2 w21 T q).1.2) h) n) := by
  refine z_start zk_X3_behindBlank zpl_RX3 (Nat.le_of_ble_eq_true rfl) ?_
  intro hn0 M hl hG ho hb hN hr hm hH hrm hQ
  subst hl hG
  have ho : zm_o M = RX3 := ho
  show z_V M (z_tw (zm_G M) t w0 w1 w2 w3 w4 w5 w6 w7 w8 w9 w10 w11 w12 w13 w14 w15 w16 w17 w18 w19 w20 w21 w22 w23 w24 (nI T) (nI q.1) w27 q.2 h) n 0 0 0 [(0, .ref t), (1, .int (nI 2))] []
  refine z_aload_n hb dX3_behindBlank_0 rfl ?_
  refine z_bipush (x := nI 32) hb dX3_behindBlank_1 (by decide) ?_
  refine z_call0 (b' := 0) (f' := 0) (rest := []) (av := [.ref t, .int (nI 32)]) (z_siteV hb ho zc2 z_tw_o q3215 q3217 qs84 ⟨_, _, _, _, zk_X3_sign⟩ zy_X3_sign zl_X3_sign dX3_behindBlank_3 : z_Site M _ _ _ _ _ ([.int (nI 32)].reverse ++ .ref t :: []) [] _) zk_X3_sign q104 hrm (m_X3_sign (w25 := 0) (w26 := 0) (w28 := false) (T := T) (q := q) (nI 32) ht hT hq (by decide)) (by omega) (by decide) (Nat.le_of_ble_eq_true rfl) (by omega) (by omega) ?_
  refine z_aload_n hb dX3_behindBlank_6 rfl ?_
  refine z_iload_n hb dX3_behindBlank_7 rfl ?_
  refine z_call1 (b' := 0) (f' := 0) (rest := []) (av := [.ref t, .int (nI 2)]) (z_siteV hb ho zc2 z_tw_o q3231 q3233 qs88 ⟨_, _, _, _, zk_X3_digits⟩ zy_X3_digits zl_X3_digits dX3_behindBlank_8 : z_Site M _ _ _ _ _ ([.int (nI 2)].reverse ++ .ref t :: []) [] _) zk_X3_digits q104 hrm (m_X3_digits_2 (w25 := 0) (w26 := 0) (w28 := false) (T := T) (p := (tw_sg w21 T (nI 32) q).1) (wr := (tw_sg w21 T (nI 32) q).2)  ht hT (tw_sg_le (by decide) hq) ) (by omega) (by decide) (Nat.le_of_ble_eq_true rfl) (by omega) (by omega) ?_
  refine z_iret hb hr dX3_behindBlank_11 ?_
  rw [hQ]
  exact ⟨rfl, rfl, rfl⟩

set_option maxHeartbeats 1000000 in
theorem m_X3_put {l : Launch} {G : zG} {h : zH} {n : Nat} {t : Nat} {w0 : Nat → Int32} {w1 : Nat → Int32} {w2 : Nat → Int32} {w3 : Nat → Int32} {w4 : Nat → Int32} {w5 : Nat → Int64} {w6 : Nat → Int64} {w7 : Nat → Int64} {w8 : Nat → Int64} {w9 : Nat → Int64} {w10 : Nat → Int64} {w11 : Nat → Int64} {w12 : Int32} {w13 : Int32} {w14 : Int32} {w15 : Int32} {w16 : Int32} {w17 : Int32} {w18 : Bool} {w19 : Nat → Int32} {w20 : Int32} {w21 : Nat → Int32} {w22 : Nat → Int32} {w23 : Nat → Int32} {w24 : Int32} {w25 : Int32} {w26 : Int32} {w27 : Int32} {w28 : Bool} {c : Nat} (o : Nat) (v : Int32)  (ht : z_n0 G ≤ t) (hc : c < 32) (ho2 : o < 4) : z_C l G yX3_put 1 0 0 [.ref t, .int (nI o), .int v] (z_tw G t w0 w1 w2 w3 w4 w5 w6 w7 w8 w9 w10 w11 w12 w13 w14 w15 w16 w17 w18 w19 w20 w21 w22 w23 w24 w25 w26 (nI c) w28 h) n (z_r0 (z_tw G t w0 w1 w2 w3 w4 w5 w6 w7 w8 w9 w10 w11 w12 w13 w14 w15 w16 w17 w18 w19 w20 w21 w22 (va_up w23 (4 * c + o) v) w24 w25 w26 (nI c) w28 h) n) := by
  refine z_start zk_X3_put zpl_RX3 (Nat.le_of_ble_eq_true rfl) ?_
  intro hn0 M hl hG ho hb hN hr hm hH hrm hQ
  subst hl hG
  have ho : zm_o M = RX3 := ho
  show z_V M (z_tw (zm_G M) t w0 w1 w2 w3 w4 w5 w6 w7 w8 w9 w10 w11 w12 w13 w14 w15 w16 w17 w18 w19 w20 w21 w22 w23 w24 w25 w26 (nI c) w28 h) n 0 0 0 [(0, .ref t), (1, .int (nI o)), (2, .int v)] []
  refine z_aload_n hb dX3_put_0 rfl ?_
  refine z_get (k := 23) (C := RX3) (T := TX3) (N := 29) hb ho zc2 in_X3 (zf_RX3_82 _) dX3_put_1 z_tw_o (by decide) rfl ?_
  refine z_iconst (x := nI 4) hb dX3_put_4 (by decide) ?_
  refine z_aload_n hb dX3_put_5 rfl ?_
  refine z_get (k := 27) (C := RX3) (T := TX3) (N := 29) hb ho zc2 in_X3 (zf_RX3_94 _) dX3_put_6 z_tw_o (by decide) rfl ?_
  refine z_imul hb dX3_put_9 ?_
  refine z_toI (y := nI (4 * c)) (pk_mul 4 c) ?_
  refine z_iload_n hb dX3_put_10 rfl ?_
  refine z_iadd hb dX3_put_11 ?_
  refine z_toI (y := nI (4 * c + o)) (nI_add (4 * c) o) ?_
  refine z_iload_n hb dX3_put_12 rfl ?_
  refine z_iast (j := 4 * c + o) hb dX3_put_13 z_tw_r23 (by omega) rfl (by omega) (by omega) ?_
  refine z_hh z_tw_u23 ?_
  refine z_vret hb hr dX3_put_14 ?_
  rw [hQ]
  exact ⟨rfl, rfl, rfl⟩

set_option maxHeartbeats 1000000 in
theorem m_X3_oneOf {l : Launch} {G : zG} {h : zH} {n : Nat} {t : Nat} {w0 : Nat → Int32} {w1 : Nat → Int32} {w2 : Nat → Int32} {w3 : Nat → Int32} {w4 : Nat → Int32} {w5 : Nat → Int64} {w6 : Nat → Int64} {w7 : Nat → Int64} {w8 : Nat → Int64} {w9 : Nat → Int64} {w10 : Nat → Int64} {w11 : Nat → Int64} {w12 : Int32} {w13 : Int32} {w14 : Int32} {w15 : Int32} {w16 : Int32} {w17 : Int32} {w18 : Bool} {w19 : Nat → Int32} {w20 : Int32} {w21 : Nat → Int32} {w22 : Nat → Int32} {w23 : Nat → Int32} {w24 : Int32} {w25 : Int32} {w26 : Int32} {w27 : Int32} {w28 : Bool} {T : Nat} {q : Nat × Bool} (a b c : Int32)  (ht : z_n0 G ≤ t) (hT : T ≤ 60) (hq : q.1 ≤ T) (ha : a ≠ -1) (hb2 : b ≠ -1) (hc : c ≠ -1) : z_C l G yX3_oneOf 2 0 0 [.ref t, .int a, .int b, .int c] (z_tw G t w0 w1 w2 w3 w4 w5 w6 w7 w8 w9 w10 w11 w12 w13 w14 w15 w16 w17 w18 w19 w20 w21 w22 w23 w24 (nI T) (nI q.1) w27 q.2 h) n (z_rv (.int (tw_mk w21 T q)) (z_tw G t w0 w1 w2 w3 w4 w5 w6 w7 w8 w9 w10 w11 w12 w13 w14 w15 w16 w17 w18 w19 w20 w21 w22 w23 w24 (nI T) (nI (tw_oo w21 T a b c q).1) w27 ((tw_oo w21 T a b c q).2) h) n) := by
  refine z_start zk_X3_oneOf zpl_RX3 (Nat.le_of_ble_eq_true rfl) ?_
  intro hn0 M hl hG ho hb hN hr hm hH hrm hQ
  subst hl hG
  have ho : zm_o M = RX3 := ho
  show z_V M (z_tw (zm_G M) t w0 w1 w2 w3 w4 w5 w6 w7 w8 w9 w10 w11 w12 w13 w14 w15 w16 w17 w18 w19 w20 w21 w22 w23 w24 (nI T) (nI q.1) w27 q.2 h) n 0 0 0 [(0, .ref t), (1, .int a), (2, .int b), (3, .int c)] []
  refine z_aload_n hb dX3_oneOf_0 rfl ?_
  refine z_call1 (b' := 0) (f' := 0) (rest := []) (av := [.ref t]) (z_siteV hb ho zc2 z_tw_o q3219 q3221 qs85 ⟨_, _, _, _, zk_X3_mark_2⟩ zy_X3_mark_2 zl_X3_mark_2 dX3_oneOf_1 : z_Site M _ _ _ _ _ ([].reverse ++ .ref t :: []) [] _) zk_X3_mark_2 q104 hrm (m_X3_mark_2 (w25 := 0) (w26 := 0) (w28 := false) (T := T) (q := q) ht hT hq) (by omega) (by decide) (Nat.le_of_ble_eq_true rfl) (by omega) (by omega) ?_
  refine z_istore (lv' := [(4, .int (tw_mk w21 T q)), (0, .ref t), (1, .int a), (2, .int b), (3, .int c)]) hb dX3_oneOf_4 (by rw [hN]; decide) rfl ?_
  refine z_aload_n hb dX3_oneOf_6 rfl ?_
  refine z_dup hb dX3_oneOf_7 rfl ?_
  refine z_get (k := 28) (C := RX3) (T := TX3) (N := 29) hb ho zc2 in_X3 (zf_RX3_97 _) dX3_oneOf_8 z_tw_o (by decide) rfl ?_
  refine z_iload hb dX3_oneOf_11 rfl ?_
  refine z_iload_n hb dX3_oneOf_13 rfl ?_
  refine z_icmp_eq (tgt := 33) hb dX3_oneOf_14 (by decide) (fun c_14 => ?_) (fun c_14 => ?_)
  · refine z_iconst (x := nI 0) hb dX3_oneOf_33 (by decide) ?_
    refine z_ior hb dX3_oneOf_34 ?_
    refine z_toI (y := z_b (q.2 || false)) (z_b_or q.2 false) ?_
    refine z_put (k := 28) (C := RX3) (T := TX3) (N := 29) hb ho zc2 in_X3 tyX3_ok nmX3 (zf_RX3_97 _) dX3_oneOf_35 z_tw_o ht (by decide) (Or.inl rfl) rfl (z_bnar _) (z_bfit _) (Nat.le_of_ble_eq_true rfl) ?_
    refine z_hh z_tw_u28 ?_
    refine z_aload_n hb dX3_oneOf_38 rfl ?_
    refine z_dup hb dX3_oneOf_39 rfl ?_
    refine z_get (k := 26) (C := RX3) (T := TX3) (N := 29) hb ho zc2 in_X3 (zf_RX3_91 _) dX3_oneOf_40 z_tw_o (by decide) rfl ?_
    refine z_aload_n hb dX3_oneOf_43 rfl ?_
    refine z_get (k := 28) (C := RX3) (T := TX3) (N := 29) hb ho zc2 in_X3 (zf_RX3_97 _) dX3_oneOf_44 z_tw_o (by decide) rfl ?_
    refine z_ifb_eq (tgt := 54) hb dX3_oneOf_47 (by decide) (fun c_47 => ?_) (fun c_47 => ?_)
    · refine z_iconst (x := nI 1) hb dX3_oneOf_54 (by decide) ?_
      refine z_iadd hb dX3_oneOf_55 ?_
      refine z_toI (y := nI (q.1 + 1)) (nI_add q.1 1) ?_
      refine z_put (k := 26) (C := RX3) (T := TX3) (N := 29) hb ho zc2 in_X3 tyX3_ok nmX3 (zf_RX3_91 _) dX3_oneOf_56 z_tw_o ht (by decide) (Or.inl rfl) rfl rfl rfl (Nat.le_of_ble_eq_true rfl) ?_
      refine z_hh z_tw_u26 ?_
      refine z_iload hb dX3_oneOf_59 rfl ?_
      refine z_iret hb hr dX3_oneOf_61 ?_
      rw [hQ]
      have e9 : (decide (tw_mk w21 T q = a) || (decide (tw_mk w21 T q = b) || decide (tw_mk w21 T q = c))) = true := by simp [c_14]
      have e := tw_oo_lt ha hb2 hc e9
      rw [show tw_oo w21 T a b c q = (q.1 + 1, q.2 || false) by rw [tw_oo, if_pos e9, e.1]; rfl]; exact ⟨rfl, rfl, rfl⟩
    · refine z_iconst (x := nI 0) hb dX3_oneOf_50 (by decide) ?_
      refine z_goto (tgt := 55) hb dX3_oneOf_51 (by decide) ?_
      refine z_iadd hb dX3_oneOf_55 ?_
      refine z_toI (y := nI q.1) (nI_add q.1 0) ?_
      refine z_put (k := 26) (C := RX3) (T := TX3) (N := 29) hb ho zc2 in_X3 tyX3_ok nmX3 (zf_RX3_91 _) dX3_oneOf_56 z_tw_o ht (by decide) (Or.inl rfl) rfl rfl rfl (Nat.le_of_ble_eq_true rfl) ?_
      refine z_hh z_tw_u26 ?_
      refine z_iload hb dX3_oneOf_59 rfl ?_
      refine z_iret hb hr dX3_oneOf_61 ?_
      rw [hQ]
      have e9 : (decide (tw_mk w21 T q = a) || (decide (tw_mk w21 T q = b) || decide (tw_mk w21 T q = c))) = true := by simp [c_14]
      have e := tw_oo_lt ha hb2 hc e9
      exact absurd c_47 (by rw [e.1]; decide)
  · refine z_iload hb dX3_oneOf_17 rfl ?_
    refine z_iload_n hb dX3_oneOf_19 rfl ?_
    refine z_icmp_eq (tgt := 33) hb dX3_oneOf_20 (by decide) (fun c_20 => ?_) (fun c_20 => ?_)
    · refine z_iconst (x := nI 0) hb dX3_oneOf_33 (by decide) ?_
      refine z_ior hb dX3_oneOf_34 ?_
      refine z_toI (y := z_b (q.2 || false)) (z_b_or q.2 false) ?_
      refine z_put (k := 28) (C := RX3) (T := TX3) (N := 29) hb ho zc2 in_X3 tyX3_ok nmX3 (zf_RX3_97 _) dX3_oneOf_35 z_tw_o ht (by decide) (Or.inl rfl) rfl (z_bnar _) (z_bfit _) (Nat.le_of_ble_eq_true rfl) ?_
      refine z_hh z_tw_u28 ?_
      refine z_aload_n hb dX3_oneOf_38 rfl ?_
      refine z_dup hb dX3_oneOf_39 rfl ?_
      refine z_get (k := 26) (C := RX3) (T := TX3) (N := 29) hb ho zc2 in_X3 (zf_RX3_91 _) dX3_oneOf_40 z_tw_o (by decide) rfl ?_
      refine z_aload_n hb dX3_oneOf_43 rfl ?_
      refine z_get (k := 28) (C := RX3) (T := TX3) (N := 29) hb ho zc2 in_X3 (zf_RX3_97 _) dX3_oneOf_44 z_tw_o (by decide) rfl ?_
      refine z_ifb_eq (tgt := 54) hb dX3_oneOf_47 (by decide) (fun c_47 => ?_) (fun c_47 => ?_)
      · refine z_iconst (x := nI 1) hb dX3_oneOf_54 (by decide) ?_
        refine z_iadd hb dX3_oneOf_55 ?_
        refine z_toI (y := nI (q.1 + 1)) (nI_add q.1 1) ?_
        refine z_put (k := 26) (C := RX3) (T := TX3) (N := 29) hb ho zc2 in_X3 tyX3_ok nmX3 (zf_RX3_91 _) dX3_oneOf_56 z_tw_o ht (by decide) (Or.inl rfl) rfl rfl rfl (Nat.le_of_ble_eq_true rfl) ?_
        refine z_hh z_tw_u26 ?_
        refine z_iload hb dX3_oneOf_59 rfl ?_
        refine z_iret hb hr dX3_oneOf_61 ?_
        rw [hQ]
        have e9 : (decide (tw_mk w21 T q = a) || (decide (tw_mk w21 T q = b) || decide (tw_mk w21 T q = c))) = true := by simp [c_14, c_20]
        have e := tw_oo_lt ha hb2 hc e9
        rw [show tw_oo w21 T a b c q = (q.1 + 1, q.2 || false) by rw [tw_oo, if_pos e9, e.1]; rfl]; exact ⟨rfl, rfl, rfl⟩
      · refine z_iconst (x := nI 0) hb dX3_oneOf_50 (by decide) ?_
        refine z_goto (tgt := 55) hb dX3_oneOf_51 (by decide) ?_
        refine z_iadd hb dX3_oneOf_55 ?_
        refine z_toI (y := nI q.1) (nI_add q.1 0) ?_
        refine z_put (k := 26) (C := RX3) (T := TX3) (N := 29) hb ho zc2 in_X3 tyX3_ok nmX3 (zf_RX3_91 _) dX3_oneOf_56 z_tw_o ht (by decide) (Or.inl rfl) rfl rfl rfl (Nat.le_of_ble_eq_true rfl) ?_
        refine z_hh z_tw_u26 ?_
        refine z_iload hb dX3_oneOf_59 rfl ?_
        refine z_iret hb hr dX3_oneOf_61 ?_
        rw [hQ]
        have e9 : (decide (tw_mk w21 T q = a) || (decide (tw_mk w21 T q = b) || decide (tw_mk w21 T q = c))) = true := by simp [c_14, c_20]
        have e := tw_oo_lt ha hb2 hc e9
        exact absurd c_47 (by rw [e.1]; decide)
    · refine z_iload hb dX3_oneOf_23 rfl ?_
      refine z_iload_n hb dX3_oneOf_25 rfl ?_
      refine z_icmp_eq (tgt := 33) hb dX3_oneOf_26 (by decide) (fun c_26 => ?_) (fun c_26 => ?_)
      · refine z_iconst (x := nI 0) hb dX3_oneOf_33 (by decide) ?_
        refine z_ior hb dX3_oneOf_34 ?_
        refine z_toI (y := z_b (q.2 || false)) (z_b_or q.2 false) ?_
        refine z_put (k := 28) (C := RX3) (T := TX3) (N := 29) hb ho zc2 in_X3 tyX3_ok nmX3 (zf_RX3_97 _) dX3_oneOf_35 z_tw_o ht (by decide) (Or.inl rfl) rfl (z_bnar _) (z_bfit _) (Nat.le_of_ble_eq_true rfl) ?_
        refine z_hh z_tw_u28 ?_
        refine z_aload_n hb dX3_oneOf_38 rfl ?_
        refine z_dup hb dX3_oneOf_39 rfl ?_
        refine z_get (k := 26) (C := RX3) (T := TX3) (N := 29) hb ho zc2 in_X3 (zf_RX3_91 _) dX3_oneOf_40 z_tw_o (by decide) rfl ?_
        refine z_aload_n hb dX3_oneOf_43 rfl ?_
        refine z_get (k := 28) (C := RX3) (T := TX3) (N := 29) hb ho zc2 in_X3 (zf_RX3_97 _) dX3_oneOf_44 z_tw_o (by decide) rfl ?_
        refine z_ifb_eq (tgt := 54) hb dX3_oneOf_47 (by decide) (fun c_47 => ?_) (fun c_47 => ?_)
        · refine z_iconst (x := nI 1) hb dX3_oneOf_54 (by decide) ?_
          refine z_iadd hb dX3_oneOf_55 ?_
          refine z_toI (y := nI (q.1 + 1)) (nI_add q.1 1) ?_
          refine z_put (k := 26) (C := RX3) (T := TX3) (N := 29) hb ho zc2 in_X3 tyX3_ok nmX3 (zf_RX3_91 _) dX3_oneOf_56 z_tw_o ht (by decide) (Or.inl rfl) rfl rfl rfl (Nat.le_of_ble_eq_true rfl) ?_
          refine z_hh z_tw_u26 ?_
          refine z_iload hb dX3_oneOf_59 rfl ?_
          refine z_iret hb hr dX3_oneOf_61 ?_
          rw [hQ]
          have e9 : (decide (tw_mk w21 T q = a) || (decide (tw_mk w21 T q = b) || decide (tw_mk w21 T q = c))) = true := by simp [c_14, c_20, c_26]
          have e := tw_oo_lt ha hb2 hc e9
          rw [show tw_oo w21 T a b c q = (q.1 + 1, q.2 || false) by rw [tw_oo, if_pos e9, e.1]; rfl]; exact ⟨rfl, rfl, rfl⟩
        · refine z_iconst (x := nI 0) hb dX3_oneOf_50 (by decide) ?_
          refine z_goto (tgt := 55) hb dX3_oneOf_51 (by decide) ?_
          refine z_iadd hb dX3_oneOf_55 ?_
          refine z_toI (y := nI q.1) (nI_add q.1 0) ?_
          refine z_put (k := 26) (C := RX3) (T := TX3) (N := 29) hb ho zc2 in_X3 tyX3_ok nmX3 (zf_RX3_91 _) dX3_oneOf_56 z_tw_o ht (by decide) (Or.inl rfl) rfl rfl rfl (Nat.le_of_ble_eq_true rfl) ?_
          refine z_hh z_tw_u26 ?_
          refine z_iload hb dX3_oneOf_59 rfl ?_
          refine z_iret hb hr dX3_oneOf_61 ?_
          rw [hQ]
          have e9 : (decide (tw_mk w21 T q = a) || (decide (tw_mk w21 T q = b) || decide (tw_mk w21 T q = c))) = true := by simp [c_14, c_20, c_26]
          have e := tw_oo_lt ha hb2 hc e9
          exact absurd c_47 (by rw [e.1]; decide)
      · refine z_iconst (x := nI 1) hb dX3_oneOf_29 (by decide) ?_
        refine z_goto (tgt := 34) hb dX3_oneOf_30 (by decide) ?_
        refine z_ior hb dX3_oneOf_34 ?_
        refine z_toI (y := z_b (q.2 || true)) (z_b_or q.2 true) ?_
        refine z_put (k := 28) (C := RX3) (T := TX3) (N := 29) hb ho zc2 in_X3 tyX3_ok nmX3 (zf_RX3_97 _) dX3_oneOf_35 z_tw_o ht (by decide) (Or.inl rfl) rfl (z_bnar _) (z_bfit _) (Nat.le_of_ble_eq_true rfl) ?_
        refine z_hh z_tw_u28 ?_
        refine z_aload_n hb dX3_oneOf_38 rfl ?_
        refine z_dup hb dX3_oneOf_39 rfl ?_
        refine z_get (k := 26) (C := RX3) (T := TX3) (N := 29) hb ho zc2 in_X3 (zf_RX3_91 _) dX3_oneOf_40 z_tw_o (by decide) rfl ?_
        refine z_aload_n hb dX3_oneOf_43 rfl ?_
        refine z_get (k := 28) (C := RX3) (T := TX3) (N := 29) hb ho zc2 in_X3 (zf_RX3_97 _) dX3_oneOf_44 z_tw_o (by decide) rfl ?_
        refine z_ifb_eq (tgt := 54) hb dX3_oneOf_47 (by decide) (fun c_47 => ?_) (fun c_47 => ?_)
        · refine z_iconst (x := nI 1) hb dX3_oneOf_54 (by decide) ?_
          refine z_iadd hb dX3_oneOf_55 ?_
          refine z_toI (y := nI (q.1 + 1)) (nI_add q.1 1) ?_
          refine z_put (k := 26) (C := RX3) (T := TX3) (N := 29) hb ho zc2 in_X3 tyX3_ok nmX3 (zf_RX3_91 _) dX3_oneOf_56 z_tw_o ht (by decide) (Or.inl rfl) rfl rfl rfl (Nat.le_of_ble_eq_true rfl) ?_
          refine z_hh z_tw_u26 ?_
          refine z_iload hb dX3_oneOf_59 rfl ?_
          refine z_iret hb hr dX3_oneOf_61 ?_
          rw [hQ]
          exact absurd c_47 (by simp)
        · refine z_iconst (x := nI 0) hb dX3_oneOf_50 (by decide) ?_
          refine z_goto (tgt := 55) hb dX3_oneOf_51 (by decide) ?_
          refine z_iadd hb dX3_oneOf_55 ?_
          refine z_toI (y := nI q.1) (nI_add q.1 0) ?_
          refine z_put (k := 26) (C := RX3) (T := TX3) (N := 29) hb ho zc2 in_X3 tyX3_ok nmX3 (zf_RX3_91 _) dX3_oneOf_56 z_tw_o ht (by decide) (Or.inl rfl) rfl rfl rfl (Nat.le_of_ble_eq_true rfl) ?_
          refine z_hh z_tw_u26 ?_
          refine z_iload hb dX3_oneOf_59 rfl ?_
          refine z_iret hb hr dX3_oneOf_61 ?_
          rw [hQ]
          rw [show tw_oo w21 T a b c q = (q.1, q.2 || true) by rw [tw_oo, if_neg (by simp [c_14, c_20, c_26])]; simp]; exact ⟨rfl, rfl, rfl⟩

set_option maxHeartbeats 1000000 in
theorem m_X3_group {l : Launch} {G : zG} {h : zH} {n : Nat} {t : Nat} {w0 : Nat → Int32} {w1 : Nat → Int32} {w2 : Nat → Int32} {w3 : Nat → Int32} {w4 : Nat → Int32} {w5 : Nat → Int64} {w6 : Nat → Int64} {w7 : Nat → Int64} {w8 : Nat → Int64} {w9 : Nat → Int64} {w10 : Nat → Int64} {w11 : Nat → Int64} {w12 : Int32} {w13 : Int32} {w14 : Int32} {w15 : Int32} {w16 : Int32} {w17 : Int32} {w18 : Bool} {w19 : Nat → Int32} {w20 : Int32} {w21 : Nat → Int32} {w22 : Nat → Int32} {w23 : Nat → Int32} {w24 : Int32} {w25 : Int32} {w26 : Int32} {w27 : Int32} {w28 : Bool} {T : Nat} {q : Nat × Bool}  (ht : z_n0 G ≤ t) (hT : T ≤ 60) (hq : q.1 ≤ T) : z_C l G yX3_group 3 0 0 [.ref t] (z_tw G t w0 w1 w2 w3 w4 w5 w6 w7 w8 w9 w10 w11 w12 w13 w14 w15 w16 w17 w18 w19 w20 w21 w22 w23 w24 (nI T) (nI q.1) w27 q.2 h) n (z_rv (.int (tw_mk w21 T q)) (z_tw G t w0 w1 w2 w3 w4 w5 w6 w7 w8 w9 w10 w11 w12 w13 w14 w15 w16 w17 w18 w19 w20 w21 w22 w23 w24 (nI T) (nI (tw_gr w21 T q).1) w27 ((tw_gr w21 T q).2) h) n) := by
  refine z_start zk_X3_group zpl_RX3 (Nat.le_of_ble_eq_true rfl) ?_
  intro hn0 M hl hG ho hb hN hr hm hH hrm hQ
  subst hl hG
  have ho : zm_o M = RX3 := ho
  show z_V M (z_tw (zm_G M) t w0 w1 w2 w3 w4 w5 w6 w7 w8 w9 w10 w11 w12 w13 w14 w15 w16 w17 w18 w19 w20 w21 w22 w23 w24 (nI T) (nI q.1) w27 q.2 h) n 0 0 0 [(0, .ref t)] []
  refine z_aload_n hb dX3_group_0 rfl ?_
  refine z_call1 (b' := 0) (f' := 0) (rest := []) (av := [.ref t]) (z_siteV hb ho zc2 z_tw_o q3219 q3221 qs85 ⟨_, _, _, _, zk_X3_mark_2⟩ zy_X3_mark_2 zl_X3_mark_2 dX3_group_1 : z_Site M _ _ _ _ _ ([].reverse ++ .ref t :: []) [] _) zk_X3_mark_2 q104 hrm (m_X3_mark_2 (w25 := 0) (w26 := 0) (w28 := false) (T := T) (q := q) ht hT hq) (by omega) (by decide) (Nat.le_of_ble_eq_true rfl) (by omega) (by omega) ?_
  refine z_istore_n (lv' := [(1, .int (tw_mk w21 T q)), (0, .ref t)]) hb dX3_group_4 (by rw [hN]; decide) rfl ?_
  refine z_aload_n hb dX3_group_5 rfl ?_
  refine z_dup hb dX3_group_6 rfl ?_
  refine z_get (k := 28) (C := RX3) (T := TX3) (N := 29) hb ho zc2 in_X3 (zf_RX3_97 _) dX3_group_7 z_tw_o (by decide) rfl ?_
  refine z_iload_n hb dX3_group_10 rfl ?_
  refine z_call1 (b' := 0) (f' := 0) (rest := [.int (z_b q.2), .ref t]) (av := [.int (tw_mk w21 T q)]) (z_siteS hb ho q2806 q2807 q104 ⟨_, _, _, _, zk_X3_isGroup⟩ zy_X3_isGroup zl_X3_isGroup dX3_group_11 : z_Site M _ _ _ _ _ ([.int (tw_mk w21 T q)].reverse ++ [.int (z_b q.2), .ref t]) [.int (z_b q.2), .ref t] _) zk_X3_isGroup q104 hrm (m_X3_isGroup (tw_mk w21 T q) ht) (by omega) (by decide) (Nat.le_of_ble_eq_true rfl) (by omega) (by omega) ?_
  refine z_ifb_ne (tgt := 21) hb dX3_group_14 (by decide) (fun c_14 => ?_) (fun c_14 => ?_)
  · refine z_iconst (x := nI 0) hb dX3_group_21 (by decide) ?_
    refine z_ior hb dX3_group_22 ?_
    refine z_toI (y := z_b (q.2 || false)) (z_b_or q.2 false) ?_
    refine z_put (k := 28) (C := RX3) (T := TX3) (N := 29) hb ho zc2 in_X3 tyX3_ok nmX3 (zf_RX3_97 _) dX3_group_23 z_tw_o ht (by decide) (Or.inl rfl) rfl (z_bnar _) (z_bfit _) (Nat.le_of_ble_eq_true rfl) ?_
    refine z_hh z_tw_u28 ?_
    refine z_aload_n hb dX3_group_26 rfl ?_
    refine z_dup hb dX3_group_27 rfl ?_
    refine z_get (k := 26) (C := RX3) (T := TX3) (N := 29) hb ho zc2 in_X3 (zf_RX3_91 _) dX3_group_28 z_tw_o (by decide) rfl ?_
    refine z_aload_n hb dX3_group_31 rfl ?_
    refine z_get (k := 28) (C := RX3) (T := TX3) (N := 29) hb ho zc2 in_X3 (zf_RX3_97 _) dX3_group_32 z_tw_o (by decide) rfl ?_
    refine z_ifb_eq (tgt := 42) hb dX3_group_35 (by decide) (fun c_35 => ?_) (fun c_35 => ?_)
    · refine z_iconst (x := nI 1) hb dX3_group_42 (by decide) ?_
      refine z_iadd hb dX3_group_43 ?_
      refine z_toI (y := nI (q.1 + 1)) (nI_add q.1 1) ?_
      refine z_put (k := 26) (C := RX3) (T := TX3) (N := 29) hb ho zc2 in_X3 tyX3_ok nmX3 (zf_RX3_91 _) dX3_group_44 z_tw_o ht (by decide) (Or.inl rfl) rfl rfl rfl (Nat.le_of_ble_eq_true rfl) ?_
      refine z_hh z_tw_u26 ?_
      refine z_iload_n hb dX3_group_47 rfl ?_
      refine z_iret hb hr dX3_group_48 ?_
      rw [hQ]
      have e := tw_gr_lt c_14
      rw [show tw_gr w21 T q = (q.1 + 1, q.2 || false) by rw [tw_gr, if_pos c_14, e.1]; rfl]; exact ⟨rfl, rfl, rfl⟩
    · refine z_iconst (x := nI 0) hb dX3_group_38 (by decide) ?_
      refine z_goto (tgt := 43) hb dX3_group_39 (by decide) ?_
      refine z_iadd hb dX3_group_43 ?_
      refine z_toI (y := nI q.1) (nI_add q.1 0) ?_
      refine z_put (k := 26) (C := RX3) (T := TX3) (N := 29) hb ho zc2 in_X3 tyX3_ok nmX3 (zf_RX3_91 _) dX3_group_44 z_tw_o ht (by decide) (Or.inl rfl) rfl rfl rfl (Nat.le_of_ble_eq_true rfl) ?_
      refine z_hh z_tw_u26 ?_
      refine z_iload_n hb dX3_group_47 rfl ?_
      refine z_iret hb hr dX3_group_48 ?_
      rw [hQ]
      have e := tw_gr_lt c_14
      exact absurd c_35 (by rw [e.1]; decide)
  · refine z_iconst (x := nI 1) hb dX3_group_17 (by decide) ?_
    refine z_goto (tgt := 22) hb dX3_group_18 (by decide) ?_
    refine z_ior hb dX3_group_22 ?_
    refine z_toI (y := z_b (q.2 || true)) (z_b_or q.2 true) ?_
    refine z_put (k := 28) (C := RX3) (T := TX3) (N := 29) hb ho zc2 in_X3 tyX3_ok nmX3 (zf_RX3_97 _) dX3_group_23 z_tw_o ht (by decide) (Or.inl rfl) rfl (z_bnar _) (z_bfit _) (Nat.le_of_ble_eq_true rfl) ?_
    refine z_hh z_tw_u28 ?_
    refine z_aload_n hb dX3_group_26 rfl ?_
    refine z_dup hb dX3_group_27 rfl ?_
    refine z_get (k := 26) (C := RX3) (T := TX3) (N := 29) hb ho zc2 in_X3 (zf_RX3_91 _) dX3_group_28 z_tw_o (by decide) rfl ?_
    refine z_aload_n hb dX3_group_31 rfl ?_
    refine z_get (k := 28) (C := RX3) (T := TX3) (N := 29) hb ho zc2 in_X3 (zf_RX3_97 _) dX3_group_32 z_tw_o (by decide) rfl ?_
    refine z_ifb_eq (tgt := 42) hb dX3_group_35 (by decide) (fun c_35 => ?_) (fun c_35 => ?_)
    · refine z_iconst (x := nI 1) hb dX3_group_42 (by decide) ?_
      refine z_iadd hb dX3_group_43 ?_
      refine z_toI (y := nI (q.1 + 1)) (nI_add q.1 1) ?_
      refine z_put (k := 26) (C := RX3) (T := TX3) (N := 29) hb ho zc2 in_X3 tyX3_ok nmX3 (zf_RX3_91 _) dX3_group_44 z_tw_o ht (by decide) (Or.inl rfl) rfl rfl rfl (Nat.le_of_ble_eq_true rfl) ?_
      refine z_hh z_tw_u26 ?_
      refine z_iload_n hb dX3_group_47 rfl ?_
      refine z_iret hb hr dX3_group_48 ?_
      rw [hQ]
      exact absurd c_35 (by simp)
    · refine z_iconst (x := nI 0) hb dX3_group_38 (by decide) ?_
      refine z_goto (tgt := 43) hb dX3_group_39 (by decide) ?_
      refine z_iadd hb dX3_group_43 ?_
      refine z_toI (y := nI q.1) (nI_add q.1 0) ?_
      refine z_put (k := 26) (C := RX3) (T := TX3) (N := 29) hb ho zc2 in_X3 tyX3_ok nmX3 (zf_RX3_91 _) dX3_group_44 z_tw_o ht (by decide) (Or.inl rfl) rfl rfl rfl (Nat.le_of_ble_eq_true rfl) ?_
      refine z_hh z_tw_u26 ?_
      refine z_iload_n hb dX3_group_47 rfl ?_
      refine z_iret hb hr dX3_group_48 ?_
      rw [hQ]
      rw [show tw_gr w21 T q = (q.1, q.2 || true) by rw [tw_gr, if_neg (by rw [c_14]; decide)]; simp]; exact ⟨rfl, rfl, rfl⟩

