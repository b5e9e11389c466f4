theorem tw_sg_ge {u : Nat → Int32} {T : Nat} {c : Int32} {q : Nat × Bool} : q.1 ≤ (tw_sg u T c q).1 := by unfold tw_sg; split <;> simp
theorem tw_dg1_ge {u : Nat → Int32} {T : Nat} {q : Nat × Bool} : q.1 ≤ (tw_dg1 u T q).1.1 := by unfold tw_dg1; split <;> simp
theorem tw_dg2_ge {u : Nat → Int32} {T : Nat} {q : Nat × Bool} : q.1 ≤ (tw_dg2 u T q).1.1 := by
  unfold tw_dg2
  split
  · split <;> simp
  · simp
theorem tw_bb1_ge {u : Nat → Int32} {T : Nat} {q : Nat × Bool} : q.1 ≤ (tw_bb1 u T q).1.1 := Nat.le_trans tw_sg_ge tw_dg1_ge
theorem tw_bb2_ge {u : Nat → Int32} {T : Nat} {q : Nat × Bool} : q.1 ≤ (tw_bb2 u T q).1.1 := Nat.le_trans tw_sg_ge tw_dg2_ge
theorem tw_gr_ge {u : Nat → Int32} {T : Nat} {q : Nat × Bool} : q.1 ≤ (tw_gr u T q).1 := by unfold tw_gr; split <;> simp
theorem tw_oo_ge {u : Nat → Int32} {T : Nat} {a b c : Int32} {q : Nat × Bool} : q.1 ≤ (tw_oo u T a b c q).1 := by unfold tw_oo; split <;> simp
theorem tw_rr_ok {u : Nat → Int32} {T kd c : Nat} {q : Nat × Bool} {nm : Nat → Int32} (hq : q.1 ≤ T) : q.1 ≤ (tw_rr u T kd c q nm).1.1 ∧ (tw_rr u T kd c q nm).1.1 ≤ T := by
  unfold tw_rr
  split
  · have a0 := tw_sg_ge (u := u) (T := T) (c := nI 32) (q := q)
    have a1 := tw_gr_ge (u := u) (T := T) (q := tw_sg u T (nI 32) q)
    have a2 := tw_dg1_ge (u := u) (T := T) (q := tw_gr u T (tw_sg u T (nI 32) q))
    have a3 := tw_bb2_ge (u := u) (T := T) (q := (tw_dg1 u T (tw_gr u T (tw_sg u T (nI 32) q))).1)
    have b := tw_bb2_le (u := u) (tw_dg1_le (u := u) (tw_gr_le (u := u) (tw_sg_le (u := u) (T := T) (c := nI 32) (q := q) (by decide) hq)))
    dsimp only
    exact ⟨by omega, b⟩
  · have a0 := tw_bb2_ge (u := u) (T := T) (q := q)
    have b := tw_bb2_le (u := u) (T := T) (q := q) hq
    dsimp only
    exact ⟨by omega, b⟩
  · dsimp only; exact ⟨Nat.le_refl _, hq⟩
  · have a0 := tw_sg_ge (u := u) (T := T) (c := nI 32) (q := q)
    have a1 := tw_oo_ge (u := u) (T := T) (a := nI 115) (b := nI 110) (c := nI 120) (q := tw_sg u T (nI 32) q)
    have a2 := tw_dg2_ge (u := u) (T := T) (q := tw_oo u T (nI 115) (nI 110) (nI 120) (tw_sg u T (nI 32) q))
    have b := tw_dg2_le (u := u) (tw_oo_le (u := u) (a := nI 115) (b := nI 110) (c := nI 120) (by decide) (by decide) (by decide) (tw_sg_le (u := u) (T := T) (c := nI 32) (q := q) (by decide) hq))
    dsimp only
    exact ⟨by omega, b⟩
  · have a0 := tw_bb1_ge (u := u) (T := T) (q := q)
    have a1 := tw_oo_ge (u := u) (T := T) (a := nI 43) (b := nI 45) (c := nI 43) (q := (tw_bb1 u T q).1)
    have a2 := tw_dg1_ge (u := u) (T := T) (q := tw_oo u T (nI 43) (nI 45) (nI 43) (tw_bb1 u T q).1)
    have b := tw_dg1_le (u := u) (tw_oo_le (u := u) (a := nI 43) (b := nI 45) (c := nI 43) (by decide) (by decide) (by decide) (tw_bb1_le (u := u) (T := T) (q := q) hq))
    dsimp only
    exact ⟨by omega, b⟩
  · have a0 := tw_bb1_ge (u := u) (T := T) (q := q)
    have a1 := tw_bb2_ge (u := u) (T := T) (q := (tw_bb1 u T q).1)
    have b := tw_bb2_le (u := u) (tw_bb1_le (u := u) (T := T) (q := q) hq)
    dsimp only
    exact ⟨by omega, b⟩
  · have a0 := tw_bb1_ge (u := u) (T := T) (q := q)
    have b := tw_bb1_le (u := u) (T := T) (q := q) hq
    dsimp only
    exact ⟨by omega, b⟩
def tw_cmd (u : Nat → Int32) (T p c : Nat) (ks nm : Nat → Int32) : tQ :=
  if (tw_wd u T p 9 0 0).1.2 = true then ((tw_wd u T p 9 0 0).1, c, ks, nm) else
  if (tw_rr u T (tw_wd u T p 9 0 0).2 c (tw_wd u T p 9 0 0).1 nm).1.2 = true then ((tw_rr u T (tw_wd u T p 9 0 0).2 c (tw_wd u T p 9 0 0).1 nm).1, c, ks, (tw_rr u T (tw_wd u T p 9 0 0).2 c (tw_wd u T p 9 0 0).1 nm).2) else
  ((tw_rr u T (tw_wd u T p 9 0 0).2 c (tw_wd u T p 9 0 0).1 nm).1, c + 1, va_up ks c (nI (tw_wd u T p 9 0 0).2), (tw_rr u T (tw_wd u T p 9 0 0).2 c (tw_wd u T p 9 0 0).1 nm).2)
def tw_prs (u : Nat → Int32) (T : Nat) : Nat → tQ → tQ
  | 0, s => s
  | f + 1, s => if tw_mk u T s.1 = nI 59 then tw_prs u T f (tw_cmd u T (s.1.1 + 1) s.2.1 s.2.2.1 s.2.2.2) else s
theorem tw_wd_ge {u : Nat → Int32} {T p : Nat} : ∀ {f kd l : Nat}, p ≤ (tw_wd u T p f kd l).1.1
  | 0, _, l => Nat.le_add_right _ _
  | f + 1, kd, l => by
    rw [tw_wd]
    split
    · exact Nat.le_add_right _ _
    · exact tw_wd_ge
theorem tw_cmd_ok {u : Nat → Int32} {T p c : Nat} {ks nm : Nat → Int32} (hq : p ≤ T) (hc : 3 * c ≤ p) : p ≤ (tw_cmd u T p c ks nm).1.1 ∧ (tw_cmd u T p c ks nm).1.1 ≤ T ∧ 3 * (tw_cmd u T p c ks nm).2.1 ≤ (tw_cmd u T p c ks nm).1.1 := by
  have h1 := tw_wd_ok (u := u) (T := T) (p := p) (f := 9) (kd := 0) (l := 0) rfl hq
  have h0 := tw_wd_ge (u := u) (T := T) (p := p) (f := 9) (kd := 0) (l := 0)
  unfold tw_cmd
  by_cases q : (tw_wd u T p 9 0 0).1.2 = true
  · rw [if_pos q]; exact ⟨h0, h1.1, by simp only []; omega⟩
  · rw [if_neg q]
    have h3 := h1.2.2 (by simpa using q)
    have h2 := tw_rr_ok (u := u) (kd := (tw_wd u T p 9 0 0).2) (c := c) (nm := nm) h1.1
    by_cases q2 : (tw_rr u T (tw_wd u T p 9 0 0).2 c (tw_wd u T p 9 0 0).1 nm).1.2 = true
    · rw [if_pos q2]; exact ⟨Nat.le_trans h0 h2.1, h2.2, by simp only []; omega⟩
    · rw [if_neg q2]; exact ⟨Nat.le_trans h0 h2.1, h2.2, by simp only []; omega⟩

set_option maxHeartbeats 1000000 in
theorem m_X3_command {l : Launch} {G : zG} {h : zH} {n : Nat} {t : Nat} {w0 : Nat → Int32} {w1 : Nat → Int32} {w2 : Nat → Int32} {w3 : Nat → Int32} {w4 : Nat → Int32} {w5 : Nat → Int64} {w6 : Nat → Int64} {w7 : Nat → Int64} {w8 : Nat → Int64} {w9 : Nat → Int64} {w10 : Nat → Int64} {w11 : Nat → Int64} {w12 : Int32} {w13 : Int32} {w14 : Int32} {w15 : Int32} {w16 : Int32} {w17 : Int32} {w18 : Bool} {w19 : Nat → Int32} {w20 : Int32} {w21 : Nat → Int32} {w22 : Nat → Int32} {w23 : Nat → Int32} {w24 : Int32} {w25 : Int32} {w26 : Int32} {w27 : Int32} {w28 : Bool} {T p c : Nat}  (ht : z_n0 G ≤ t) (hT : T ≤ 60) (hq : p ≤ T) (hc3 : 3 * c ≤ p) : z_C l G yX3_command 5 0 0 [.ref t] (z_tw G t w0 w1 w2 w3 w4 w5 w6 w7 w8 w9 w10 w11 w12 w13 w14 w15 w16 w17 w18 w19 w20 w21 w22 w23 w24 (nI T) (nI p) (nI c) false h) n (z_r0 (z_tw G t w0 w1 w2 w3 w4 w5 w6 w7 w8 w9 w10 w11 w12 w13 w14 w15 w16 w17 w18 w19 w20 w21 ((tw_cmd w21 T p c w22 w23).2.2.1) ((tw_cmd w21 T p c w22 w23).2.2.2) w24 (nI T) (nI (tw_cmd w21 T p c w22 w23).1.1) (nI (tw_cmd w21 T p c w22 w23).2.1) ((tw_cmd w21 T p c w22 w23).1.2) h) n) := by
  refine z_start zk_X3_command zpl_RX3 (Nat.le_of_ble_eq_true rfl) ?_
  intro hn0 M hl hG ho hb hN hr hm hH hrm hQ
  subst hl hG
  have ho : zm_o M = RX3 := ho
  have hwd := tw_wd_ok (u := w21) (T := T) (p := p) (f := 9) (kd := 0) (l := 0) rfl hq
  show z_V M (z_tw (zm_G M) t w0 w1 w2 w3 w4 w5 w6 w7 w8 w9 w10 w11 w12 w13 w14 w15 w16 w17 w18 w19 w20 w21 w22 w23 w24 (nI T) (nI p) (nI c) false h) n 0 0 0 [(0, .ref t)] []
  refine z_aload_n hb dX3_command_0 rfl ?_
  refine z_call1 (b' := 0) (f' := 0) (rest := []) (av := [.ref t]) (z_siteV hb ho zc2 z_tw_o q3201 q3203 qs82 ⟨_, _, _, _, zk_X3_word⟩ zy_X3_word zl_X3_word dX3_command_1 : z_Site M _ _ _ _ _ ([].reverse ++ .ref t :: []) [] _) zk_X3_word q104 hrm (m_X3_word (w25 := 0) (w26 := 0) (w28 := false) (T := T) (p := p) ht hT hq) (by omega) (by decide) (Nat.le_of_ble_eq_true rfl) (by omega) (by omega) ?_
  refine z_istore_n (lv' := [(1, .int (nI ((tw_wd w21 T p 9 0 0).2))), (0, .ref t)]) hb dX3_command_4 (by rw [hN]; decide) rfl ?_
  refine z_aload_n hb dX3_command_5 rfl ?_
  refine z_get (k := 28) (C := RX3) (T := TX3) (N := 29) hb ho zc2 in_X3 (zf_RX3_97 _) dX3_command_6 z_tw_o (by decide) rfl ?_
  refine z_ifb_eq (tgt := 13) hb dX3_command_9 (by decide) (fun c_9 => ?_) (fun c_9 => ?_)
  · refine z_aload_n hb dX3_command_13 rfl ?_
    refine z_iload_n hb dX3_command_14 rfl ?_
    refine z_call0 (b' := 0) (f' := 0) (rest := []) (av := [.ref t, .int (nI ((tw_wd w21 T p 9 0 0).2))]) (z_siteV hb ho zc2 z_tw_o q3211 q3213 qs83 ⟨_, _, _, _, zk_X3_readsRest⟩ zy_X3_readsRest zl_X3_readsRest dX3_command_15 : z_Site M _ _ _ _ _ ([.int (nI ((tw_wd w21 T p 9 0 0).2))].reverse ++ .ref t :: []) [] _) zk_X3_readsRest q104 hrm (m_X3_readsRest (w25 := 0) (w26 := 0) (w27 := 0) (w28 := false) (T := T) (c := c) (q := (tw_wd w21 T p 9 0 0).1) (tw_wd w21 T p 9 0 0).2 hwd.2.1 ht hT hwd.1 (by omega)) (by omega) (by decide) (Nat.le_of_ble_eq_true rfl) (by omega) (by omega) ?_
    refine z_aload_n hb dX3_command_18 rfl ?_
    refine z_get (k := 28) (C := RX3) (T := TX3) (N := 29) hb ho zc2 in_X3 (zf_RX3_97 _) dX3_command_19 z_tw_o (by decide) rfl ?_
    refine z_ifb_eq (tgt := 26) hb dX3_command_22 (by decide) (fun c_22 => ?_) (fun c_22 => ?_)
    · refine z_aload_n hb dX3_command_26 rfl ?_
      refine z_get (k := 22) (C := RX3) (T := TX3) (N := 29) hb ho zc2 in_X3 (zf_RX3_79 _) dX3_command_27 z_tw_o (by decide) rfl ?_
      refine z_aload_n hb dX3_command_30 rfl ?_
      refine z_get (k := 27) (C := RX3) (T := TX3) (N := 29) hb ho zc2 in_X3 (zf_RX3_94 _) dX3_command_31 z_tw_o (by decide) rfl ?_
      refine z_iload_n hb dX3_command_34 rfl ?_
      refine z_iast (j := c) hb dX3_command_35 z_tw_r22 (by omega) rfl (by omega) (by omega) ?_
      refine z_hh z_tw_u22 ?_
      refine z_aload_n hb dX3_command_36 rfl ?_
      refine z_dup hb dX3_command_37 rfl ?_
      refine z_get (k := 27) (C := RX3) (T := TX3) (N := 29) hb ho zc2 in_X3 (zf_RX3_94 _) dX3_command_38 z_tw_o (by decide) rfl ?_
      refine z_iconst (x := nI 1) hb dX3_command_41 (by decide) ?_
      refine z_iadd hb dX3_command_42 ?_
      refine z_toI (y := nI (c + 1)) (nI_add c 1) ?_
      refine z_put (k := 27) (C := RX3) (T := TX3) (N := 29) hb ho zc2 in_X3 tyX3_ok nmX3 (zf_RX3_94 _) dX3_command_43 z_tw_o ht (by decide) (Or.inl rfl) rfl rfl rfl (Nat.le_of_ble_eq_true rfl) ?_
      refine z_hh z_tw_u27 ?_
      refine z_vret hb hr dX3_command_46 ?_
      rw [hQ]
      rw [tw_cmd, if_neg (by rw [c_9]; decide), if_neg (by rw [c_22]; decide)]
      dsimp only
      exact ⟨rfl, rfl, rfl⟩
    · refine z_vret hb hr dX3_command_25 ?_
      rw [hQ]
      rw [tw_cmd, if_neg (by rw [c_9]; decide), if_pos c_22]
      dsimp only
      exact ⟨rfl, rfl, rfl⟩
  · refine z_vret hb hr dX3_command_12 ?_
    rw [hQ]
    rw [tw_cmd, if_pos c_9]
    dsimp only
    exact ⟨rfl, rfl, rfl⟩

set_option maxHeartbeats 1000000 in
theorem m_X3_parse {l : Launch} {G : zG} {h : zH} {n : Nat} {t : Nat} {w0 : Nat → Int32} {w1 : Nat → Int32} {w2 : Nat → Int32} {w3 : Nat → Int32} {w4 : Nat → Int32} {w5 : Nat → Int64} {w6 : Nat → Int64} {w7 : Nat → Int64} {w8 : Nat → Int64} {w9 : Nat → Int64} {w10 : Nat → Int64} {w11 : Nat → Int64} {w12 : Int32} {w13 : Int32} {w14 : Int32} {w15 : Int32} {w16 : Int32} {w17 : Int32} {w18 : Bool} {w19 : Nat → Int32} {w20 : Int32} {w21 : Nat → Int32} {w22 : Nat → Int32} {w23 : Nat → Int32} {w24 : Int32} {w25 : Int32} {w26 : Int32} {w27 : Int32} {w28 : Bool} {T : Nat}  (ht : z_n0 G ≤ t) (hT : T ≤ 60) : z_C l G yX3_parse 6 0 0 [.ref t] (z_tw G t w0 w1 w2 w3 w4 w5 w6 w7 w8 w9 w10 w11 w12 w13 w14 w15 w16 w17 w18 w19 w20 w21 w22 w23 (nI T) w25 w26 w27 w28 h) n (z_r0 (z_tw G t w0 w1 w2 w3 w4 w5 w6 w7 w8 w9 w10 w11 w12 w13 w14 w15 w16 w17 w18 w19 w20 w21 ((tw_prs w21 T (T + 1) (tw_cmd w21 T 0 0 w22 w23)).2.2.1) ((tw_prs w21 T (T + 1) (tw_cmd w21 T 0 0 w22 w23)).2.2.2) (nI 0) (nI T) (nI (tw_prs w21 T (T + 1) (tw_cmd w21 T 0 0 w22 w23)).1.1) (nI (tw_prs w21 T (T + 1) (tw_cmd w21 T 0 0 w22 w23)).2.1) ((tw_prs w21 T (T + 1) (tw_cmd w21 T 0 0 w22 w23)).1.2 || decide ((tw_prs w21 T (T + 1) (tw_cmd w21 T 0 0 w22 w23)).1.1 < T)) h) n) := by
  refine z_start zk_X3_parse zpl_RX3 (Nat.le_of_ble_eq_true rfl) ?_
  intro hn0 M hl hG ho hb hN hr hm hH hrm hQ
  subst hl hG
  have ho : zm_o M = RX3 := ho
  show z_V M (z_tw (zm_G M) t w0 w1 w2 w3 w4 w5 w6 w7 w8 w9 w10 w11 w12 w13 w14 w15 w16 w17 w18 w19 w20 w21 w22 w23 (nI T) w25 w26 w27 w28 h) n 0 0 0 [(0, .ref t)] []
  refine z_aload_n hb dX3_parse_0 rfl ?_
  refine z_aload_n hb dX3_parse_1 rfl ?_
  refine z_get (k := 24) (C := RX3) (T := TX3) (N := 29) hb ho zc2 in_X3 (zf_RX3_85 _) dX3_parse_2 z_tw_o (by decide) rfl ?_
  refine z_put (k := 25) (C := RX3) (T := TX3) (N := 29) hb ho zc2 in_X3 tyX3_ok nmX3 (zf_RX3_88 _) dX3_parse_5 z_tw_o ht (by decide) (Or.inl rfl) rfl rfl rfl (Nat.le_of_ble_eq_true rfl) ?_
  refine z_hh z_tw_u25 ?_
  refine z_aload_n hb dX3_parse_8 rfl ?_
  refine z_iconst (x := nI 0) hb dX3_parse_9 (by decide) ?_
  refine z_put (k := 24) (C := RX3) (T := TX3) (N := 29) hb ho zc2 in_X3 tyX3_ok nmX3 (zf_RX3_85 _) dX3_parse_10 z_tw_o ht (by decide) (Or.inl rfl) rfl rfl rfl (Nat.le_of_ble_eq_true rfl) ?_
  refine z_hh z_tw_u24 ?_
  refine z_aload_n hb dX3_parse_13 rfl ?_
  refine z_iconst (x := nI 0) hb dX3_parse_14 (by decide) ?_
  refine z_put (k := 26) (C := RX3) (T := TX3) (N := 29) hb ho zc2 in_X3 tyX3_ok nmX3 (zf_RX3_91 _) dX3_parse_15 z_tw_o ht (by decide) (Or.inl rfl) rfl rfl rfl (Nat.le_of_ble_eq_true rfl) ?_
  refine z_hh z_tw_u26 ?_
  refine z_aload_n hb dX3_parse_18 rfl ?_
  refine z_iconst (x := nI 0) hb dX3_parse_19 (by decide) ?_
  refine z_put (k := 27) (C := RX3) (T := TX3) (N := 29) hb ho zc2 in_X3 tyX3_ok nmX3 (zf_RX3_94 _) dX3_parse_20 z_tw_o ht (by decide) (Or.inl rfl) rfl rfl rfl (Nat.le_of_ble_eq_true rfl) ?_
  refine z_hh z_tw_u27 ?_
  refine z_aload_n hb dX3_parse_23 rfl ?_
  refine z_iconst (x := nI 0) hb dX3_parse_24 (by decide) ?_
  refine z_toI (y := z_b false) rfl ?_
  refine z_put (k := 28) (C := RX3) (T := TX3) (N := 29) hb ho zc2 in_X3 tyX3_ok nmX3 (zf_RX3_97 _) dX3_parse_25 z_tw_o ht (by decide) (Or.inl rfl) rfl (z_bnar _) rfl (Nat.le_of_ble_eq_true rfl) ?_
  refine z_hh z_tw_u28 ?_
  refine z_aload_n hb dX3_parse_28 rfl ?_
  refine z_call0 (b' := 0) (f' := 0) (rest := []) (av := [.ref t]) (z_siteV hb ho zc2 z_tw_o q3197 q3199 qs81 ⟨_, _, _, _, zk_X3_command⟩ zy_X3_command zl_X3_command dX3_parse_29 : z_Site M _ _ _ _ _ ([].reverse ++ .ref t :: []) [] _) zk_X3_command q104 hrm (m_X3_command (w25 := 0) (w26 := 0) (w27 := 0) (w28 := false) (T := T) (p := 0) (c := 0) ht hT (Nat.zero_le _) (Nat.zero_le _)) (by omega) (by decide) (Nat.le_of_ble_eq_true rfl) (by omega) (by omega) ?_
  have lp_32 : ∀ (k9_32 : Nat) (s : tQ) (f : Nat), f < k9_32 → (s.1.1 ≤ T) → (3 * s.2.1 ≤ s.1.1) → (T < s.1.1 + f) → (tw_prs w21 T f s = tw_prs w21 T (T + 1) (tw_cmd w21 T 0 0 w22 w23)) → z_V M (z_tw (zm_G M) t w0 w1 w2 w3 w4 w5 w6 w7 w8 w9 w10 w11 w12 w13 w14 w15 w16 w17 w18 w19 w20 w21 s.2.2.1 s.2.2.2 (nI 0) (nI T) (nI s.1.1) (nI s.2.1) s.1.2 h) n 0 0 32 [(0, .ref t)] [] := by
    intro k9_32
    induction k9_32 with
    | zero => intro s f hk9_32; exact absurd hk9_32 (Nat.not_lt_zero _)
    | succ k9_32 ih_32 =>
      intro s f hk9_32 hs1 hs2 hs3 hs4
      refine z_aload_n hb dX3_parse_32 rfl ?_
      refine z_call1 (b' := 0) (f' := 0) (rest := []) (av := [.ref t]) (z_siteV hb ho zc2 z_tw_o q3219 q3221 qs85 ⟨_, _, _, _, zk_X3_mark_2⟩ zy_X3_mark_2 zl_X3_mark_2 dX3_parse_33 : z_Site M _ _ _ _ _ ([].reverse ++ .ref t :: []) [] _) zk_X3_mark_2 q104 hrm (m_X3_mark_2 (w25 := 0) (w26 := 0) (w28 := false) (T := T) (q := s.1) ht hT hs1) (by omega) (by decide) (Nat.le_of_ble_eq_true rfl) (by omega) (by omega) ?_
      refine z_bipush (x := nI 59) hb dX3_parse_36 (by decide) ?_
      refine z_icmp_ne (tgt := 58) hb dX3_parse_38 (by decide) (fun c_38 => ?_) (fun c_38 => ?_)
      · refine z_aload_n hb dX3_parse_58 rfl ?_
        refine z_dup hb dX3_parse_59 rfl ?_
        refine z_get (k := 28) (C := RX3) (T := TX3) (N := 29) hb ho zc2 in_X3 (zf_RX3_97 _) dX3_parse_60 z_tw_o (by decide) rfl ?_
        refine z_aload_n hb dX3_parse_63 rfl ?_
        refine z_get (k := 26) (C := RX3) (T := TX3) (N := 29) hb ho zc2 in_X3 (zf_RX3_91 _) dX3_parse_64 z_tw_o (by decide) rfl ?_
        refine z_aload_n hb dX3_parse_67 rfl ?_
        refine z_get (k := 25) (C := RX3) (T := TX3) (N := 29) hb ho zc2 in_X3 (zf_RX3_88 _) dX3_parse_68 z_tw_o (by decide) rfl ?_
        refine z_icmp_geN (tgt := 78) hb dX3_parse_71 (by decide) (by omega) (by omega) (fun c_71 => ?_) (fun c_71 => ?_)
        · refine z_iconst (x := nI 0) hb dX3_parse_78 (by decide) ?_
          refine z_ior hb dX3_parse_79 ?_
          refine z_toI (y := z_b (s.1.2 || false)) (z_b_or s.1.2 false) ?_
          refine z_put (k := 28) (C := RX3) (T := TX3) (N := 29) hb ho zc2 in_X3 tyX3_ok nmX3 (zf_RX3_97 _) dX3_parse_80 z_tw_o ht (by decide) (Or.inl rfl) rfl (z_bnar _) (z_bfit _) (Nat.le_of_ble_eq_true rfl) ?_
          refine z_hh z_tw_u28 ?_
          refine z_vret hb hr dX3_parse_83 ?_
          rw [hQ]
          rw [show tw_prs w21 T (T + 1) (tw_cmd w21 T 0 0 w22 w23) = s by rw [← hs4]; cases f with
            | zero => rfl
            | succ f => rw [tw_prs, if_neg c_38]]
          rw [decide_eq_false (by omega)]
          exact ⟨rfl, rfl, rfl⟩
        · refine z_iconst (x := nI 1) hb dX3_parse_74 (by decide) ?_
          refine z_goto (tgt := 79) hb dX3_parse_75 (by decide) ?_
          refine z_ior hb dX3_parse_79 ?_
          refine z_toI (y := z_b (s.1.2 || true)) (z_b_or s.1.2 true) ?_
          refine z_put (k := 28) (C := RX3) (T := TX3) (N := 29) hb ho zc2 in_X3 tyX3_ok nmX3 (zf_RX3_97 _) dX3_parse_80 z_tw_o ht (by decide) (Or.inl rfl) rfl (z_bnar _) (z_bfit _) (Nat.le_of_ble_eq_true rfl) ?_
          refine z_hh z_tw_u28 ?_
          refine z_vret hb hr dX3_parse_83 ?_
          rw [hQ]
          rw [show tw_prs w21 T (T + 1) (tw_cmd w21 T 0 0 w22 w23) = s by rw [← hs4]; cases f with
            | zero => rfl
            | succ f => rw [tw_prs, if_neg c_38]]
          rw [decide_eq_true (by omega)]
          exact ⟨rfl, rfl, rfl⟩
      · have e9 := tw_mk_lt (show tw_mk w21 T s.1 ≠ -1 by rw [c_38]; decide)
        obtain ⟨f2, rfl⟩ : ∃ f2, f = f2 + 1 := ⟨f - 1, by omega⟩
        refine z_hh (h2 := z_tw (zm_G M) t w0 w1 w2 w3 w4 w5 w6 w7 w8 w9 w10 w11 w12 w13 w14 w15 w16 w17 w18 w19 w20 w21 s.2.2.1 s.2.2.2 (nI 0) (nI T) (nI s.1.1) (nI s.2.1) false h) (by rw [e9.1]) ?_
        refine z_aload_n hb dX3_parse_41 rfl ?_
        refine z_dup hb dX3_parse_42 rfl ?_
        refine z_get (k := 26) (C := RX3) (T := TX3) (N := 29) hb ho zc2 in_X3 (zf_RX3_91 _) dX3_parse_43 z_tw_o (by decide) rfl ?_
        refine z_iconst (x := nI 1) hb dX3_parse_46 (by decide) ?_
        refine z_iadd hb dX3_parse_47 ?_
        refine z_toI (y := nI (s.1.1 + 1)) (nI_add s.1.1 1) ?_
        refine z_put (k := 26) (C := RX3) (T := TX3) (N := 29) hb ho zc2 in_X3 tyX3_ok nmX3 (zf_RX3_91 _) dX3_parse_48 z_tw_o ht (by decide) (Or.inl rfl) rfl rfl rfl (Nat.le_of_ble_eq_true rfl) ?_
        refine z_hh z_tw_u26 ?_
        refine z_aload_n hb dX3_parse_51 rfl ?_
        refine z_call0 (b' := 0) (f' := 0) (rest := []) (av := [.ref t]) (z_siteV hb ho zc2 z_tw_o q3197 q3199 qs81 ⟨_, _, _, _, zk_X3_command⟩ zy_X3_command zl_X3_command dX3_parse_52 : z_Site M _ _ _ _ _ ([].reverse ++ .ref t :: []) [] _) zk_X3_command q104 hrm (m_X3_command (w25 := 0) (w26 := 0) (w27 := 0) (w28 := false) (T := T) (p := (s.1.1 + 1)) (c := s.2.1) ht hT e9.2.1 (by omega)) (by omega) (by decide) (Nat.le_of_ble_eq_true rfl) (by omega) (by omega) ?_
        refine z_goto (tgt := 32) hb dX3_parse_55 (by decide) ?_
        have hcm := tw_cmd_ok (u := w21) (T := T) (p := s.1.1 + 1) (c := s.2.1) (ks := s.2.2.1) (nm := s.2.2.2) e9.2.1 (by omega)
        refine z_lv [0] (lv' := [(0, .ref t)]) rfl ?_
        exact ih_32 (tw_cmd w21 T (s.1.1 + 1) s.2.1 s.2.2.1 s.2.2.2) f2 (by omega) hcm.2.1 hcm.2.2 (by omega) (by rw [← hs4, tw_prs, if_pos c_38])
  refine z_lv [0] (lv' := [(0, .ref t)]) rfl ?_
  exact lp_32 _ (tw_cmd w21 T 0 0 w22 w23) (T + 1) (Nat.lt_succ_self _) (tw_cmd_ok (Nat.zero_le _) (Nat.zero_le _)).2.1 (tw_cmd_ok (Nat.zero_le _) (Nat.zero_le _)).2.2 (by omega) rfl

