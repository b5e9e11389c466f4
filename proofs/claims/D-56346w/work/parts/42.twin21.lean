def tw_ps (u : Nat → Int32) (T : Nat) (ks nm : Nat → Int32) : tQ := tw_prs u T (T + 1) (tw_cmd u T 0 0 ks nm)
theorem tw_prs_ok {u : Nat → Int32} {T : Nat} : ∀ {f : Nat} {s : tQ}, s.1.1 ≤ T → 3 * s.2.1 ≤ s.1.1 → (∀ i, i < s.2.1 → s.2.2.1 i = nI (tN (s.2.2.1 i)) ∧ tN (s.2.2.1 i) < 9) → (tw_prs u T f s).1.1 ≤ T ∧ 3 * (tw_prs u T f s).2.1 ≤ (tw_prs u T f s).1.1 ∧ ∀ i, i < (tw_prs u T f s).2.1 → (tw_prs u T f s).2.2.1 i = nI (tN ((tw_prs u T f s).2.2.1 i)) ∧ tN ((tw_prs u T f s).2.2.1 i) < 9
  | 0, s, h1, h2, h3 => ⟨h1, h2, h3⟩
  | f + 1, s, h1, h2, h3 => by
    rw [tw_prs]
    by_cases q : tw_mk u T s.1 = nI 59
    · rw [if_pos q]
      have e9 := tw_mk_lt (show tw_mk u T s.1 ≠ -1 by rw [q]; decide)
      have hc := tw_cmd_ok (u := u) (T := T) (p := s.1.1 + 1) (c := s.2.1) (ks := s.2.2.1) (nm := s.2.2.2) e9.2.1 (by omega)
      refine tw_prs_ok hc.2.1 hc.2.2 ?_
      have hwd := (tw_wd_ok (u := u) (T := T) (p := s.1.1 + 1) (f := 9) (kd := 0) (l := 0) rfl e9.2.1).2.1
      unfold tw_cmd
      split
      · exact h3
      · split
        · exact h3
        · intro i hi
          dsimp only at hi ⊢
          by_cases q : i = s.2.1
          · subst q; rw [va_ups, tN, z_nIc (by omega)]; exact ⟨rfl, hwd⟩
          · rw [va_upn q]; exact h3 i (by omega)
    · rw [if_neg q]; exact ⟨h1, h2, h3⟩
theorem tw_ps_ok {u : Nat → Int32} {T : Nat} {ks nm : Nat → Int32} : (tw_ps u T ks nm).1.1 ≤ T ∧ 3 * (tw_ps u T ks nm).2.1 ≤ (tw_ps u T ks nm).1.1 ∧ ∀ i, i < (tw_ps u T ks nm).2.1 → (tw_ps u T ks nm).2.2.1 i = nI (tN ((tw_ps u T ks nm).2.2.1 i)) ∧ tN ((tw_ps u T ks nm).2.2.1 i) < 9 := by
  have hc := tw_cmd_ok (u := u) (T := T) (p := 0) (c := 0) (ks := ks) (nm := nm) (Nat.zero_le _) (Nat.zero_le _)
  refine tw_prs_ok hc.2.1 hc.2.2 ?_
  have hwd := (tw_wd_ok (u := u) (T := T) (p := 0) (f := 9) (kd := 0) (l := 0) rfl (Nat.zero_le _)).2.1
  unfold tw_cmd
  split
  · intro i hi; exact absurd hi (Nat.not_lt_zero _)
  · split
    · intro i hi; exact absurd hi (Nat.not_lt_zero _)
    · intro i hi
      dsimp only at hi ⊢
      obtain rfl : i = 0 := by omega
      rw [va_ups, tN, z_nIc (by omega)]; exact ⟨rfl, hwd⟩
def tw_run (w0 : Nat → Int32) (f : Nat → Int64) (R S D : Nat) (ks nm : Nat → Int32) : Nat → tG
  | 0 => (w0, f, 0, R, S, D)
  | k + 1 => tC_go (tw_run w0 f R S D ks nm k).1 (tw_run w0 f R S D ks nm k).2.1 (tw_run w0 f R S D ks nm k).2.2.2.1 (tw_run w0 f R S D ks nm k).2.2.2.2.1 (tw_run w0 f R S D ks nm k).2.2.2.2.2 (tN (ks k)) (nm (4 * k)) (nm (4 * k + 1)) (nm (4 * k + 2))
def tw_ry (w0 : Nat → Int32) (f : Nat → Int64) (R S D : Nat) (ks nm : Nat → Int32) (k : Nat) : Nat × Option (Nat × Nat) := tC_why (tw_run w0 f R S D ks nm k).1 (tw_run w0 f R S D ks nm k).2.2.2.1 (tw_run w0 f R S D ks nm k).2.2.2.2.1 (tw_run w0 f R S D ks nm k).2.2.2.2.2 (tN (ks k)) (nm (4 * k)) (nm (4 * k + 1)) (nm (4 * k + 2))
theorem tw_dnd_le {kd : Nat} (h : kd < 9) : tw_dnd kd ≤ 3 := by
  have : ∀ kd : Nat, kd < 9 → tw_dnd kd ≤ 3 := by decide
  exact this kd h

theorem m_X3_parse_s {l : Launch} {G : zG} {h : zH} {n : Nat} {t : Nat} {w0 : Nat → Int32} {w1 : Nat → Int32} {w2 : Nat → Int32} {w3 : Nat → Int32} {w4 : Nat → Int32} {w5 : Nat → Int64} {w6 : Nat → Int64} {w7 : Nat → Int64} {w8 : Nat → Int64} {w9 : Nat → Int64} {w10 : Nat → Int64} {w11 : Nat → Int64} {w12 : Int32} {w13 : Int32} {w14 : Int32} {w15 : Int32} {w16 : Int32} {w17 : Int32} {w18 : Bool} {w19 : Nat → Int32} {w20 : Int32} {w21 : Nat → Int32} {w22 : Nat → Int32} {w23 : Nat → Int32} {w24 : Int32} {w25 : Int32} {w26 : Int32} {w27 : Int32} {w28 : Bool} {T : Nat} {s : tQ} (ht : z_n0 G ≤ t) (hT : T ≤ 60) (hs : tw_ps w21 T w22 w23 = s) : z_C l G yX3_parse 6 0 0 [.ref t] (z_tw G t w0 w1 w2 w3 w4 w5 w6 w7 w8 w9 w10 w11 w12 w13 w14 w15 w16 w17 w18 w19 w20 w21 w22 w23 (nI T) w25 w26 w27 w28 h) n (z_r0 (z_tw G t w0 w1 w2 w3 w4 w5 w6 w7 w8 w9 w10 w11 w12 w13 w14 w15 w16 w17 w18 w19 w20 w21 s.2.2.1 s.2.2.2 (nI 0) (nI T) (nI s.1.1) (nI s.2.1) (s.1.2 || decide (s.1.1 < T)) h) n) := by
  subst hs
  exact m_X3_parse (w24 := 0) ht hT

set_option maxHeartbeats 1000000 in
theorem m_X3_execute_wrong {l : Launch} {G : zG} {h : zH} {n : Nat} {t : Nat} {w0 : Nat → Int32} {w1 : Nat → Int32} {w2 : Nat → Int32} {w3 : Nat → Int32} {w4 : Nat → Int32} {w5 : Nat → Int64} {w6 : Nat → Int64} {w7 : Nat → Int64} {w8 : Nat → Int64} {w9 : Nat → Int64} {w10 : Nat → Int64} {w11 : Nat → Int64} {w12 : Int32} {w13 : Int32} {w14 : Int32} {w15 : Int32} {w16 : Int32} {w17 : Int32} {w18 : Bool} {w19 : Nat → Int32} {w20 : Int32} {w21 : Nat → Int32} {w22 : Nat → Int32} {w23 : Nat → Int32} {w24 : Int32} {w25 : Int32} {w26 : Int32} {w27 : Int32} {w28 : Bool} {R S D : Nat} {dep T : Nat} {s : tQ}  (ht : z_n0 G ≤ t) (hw : z_ok w0 R S D) (hrw : z_rows w0 R D) (hd8 : dep ≤ 8) (hT : T ≤ 60) (hs : tw_ps w21 T w22 w23 = s) (hwr : (s.1.2 || decide (s.1.1 < T)) = true) : z_C l G yX3_execute 9 0 0 [.ref t] (z_tw G t w0 w1 w2 w3 w4 w5 w6 w7 w8 w9 w10 w11 w12 (nI dep) w14 w15 w16 w17 w18 w19 w20 w21 w22 w23 (nI T) w25 w26 w27 w28 h) n (z_rv (.int (nI 0)) (z_tw G t w0 (va_cpy w0 w1 0 0 272) w2 w3 w4 w5 (va_cpy w5 w6 0 0 280) w7 w8 w9 w10 w11 (nI 1) (nI dep) (nI s.1.1) w15 w16 w17 w18 w19 w20 w21 s.2.2.1 s.2.2.2 (nI 0) (nI T) (nI s.1.1) (nI s.2.1) (s.1.2 || decide (s.1.1 < T)) h) n) := by
  refine z_start zk_X3_execute zpl_RX3 (Nat.le_of_ble_eq_true rfl) ?_
  intro hn0 M hl hG ho hb hN hr hm hH hrm hQ
  subst hl hG
  have ho : zm_o M = RX3 := ho
  obtain ⟨hR, hR4, hS, hS8, hD, hD6, hF⟩ := id hw
  have hps : s.1.1 ≤ T ∧ 3 * s.2.1 ≤ s.1.1 ∧ ∀ i, i < s.2.1 → s.2.2.1 i = nI (tN (s.2.2.1 i)) ∧ tN (s.2.2.1 i) < 9 := by rw [← hs]; exact tw_ps_ok
  obtain ⟨hp1, hp2, hkk⟩ := hps
  show z_V M (z_tw (zm_G M) t w0 w1 w2 w3 w4 w5 w6 w7 w8 w9 w10 w11 w12 (nI dep) w14 w15 w16 w17 w18 w19 w20 w21 w22 w23 (nI T) w25 w26 w27 w28 h) n 0 0 0 [(0, .ref t)] []
  refine z_aload_n hb dX3_execute_0 rfl ?_
  refine z_call0 (b' := 0) (f' := 0) (rest := []) (av := [.ref t]) (z_siteV hb ho zc2 z_tw_o q2792 q2794 qs30 ⟨_, _, _, _, zk_X3_begin⟩ zy_X3_begin zl_X3_begin dX3_execute_1 : z_Site M _ _ _ _ _ ([].reverse ++ .ref t :: []) [] _) zk_X3_begin q104 hrm (m_X3_begin ht) (by omega) (by decide) (Nat.le_of_ble_eq_true rfl) (by omega) (by omega) ?_
  refine z_aload_n hb dX3_execute_4 rfl ?_
  refine z_call0 (b' := 0) (f' := 0) (rest := []) (av := [.ref t]) (z_siteV hb ho zc2 z_tw_o q3193 q3195 qs80 ⟨_, _, _, _, zk_X3_parse⟩ zy_X3_parse zl_X3_parse dX3_execute_5 : z_Site M _ _ _ _ _ ([].reverse ++ .ref t :: []) [] _) zk_X3_parse q104 hrm (m_X3_parse_s (w24 := 0) (T := T) (s := s) ht hT hs) (by omega) (by decide) (Nat.le_of_ble_eq_true rfl) (by omega) (by omega) ?_
  refine z_aload_n hb dX3_execute_8 rfl ?_
  refine z_get (k := 28) (C := RX3) (T := TX3) (N := 29) hb ho zc2 in_X3 (zf_RX3_97 _) dX3_execute_9 z_tw_o (by decide) rfl ?_
  refine z_ifb_eq (tgt := 29) hb dX3_execute_12 (by decide) (fun c_12 => ?_) (fun c_12 => ?_)
  · exact absurd (c_12.symm.trans hwr) (by decide)
  · refine z_aload_n hb dX3_execute_15 rfl ?_
    refine z_aload_n hb dX3_execute_16 rfl ?_
    refine z_get (k := 26) (C := RX3) (T := TX3) (N := 29) hb ho zc2 in_X3 (zf_RX3_91 _) dX3_execute_17 z_tw_o (by decide) rfl ?_
    refine z_put (k := 14) (C := RX3) (T := TX3) (N := 29) hb ho zc2 in_X3 tyX3_ok nmX3 (zf_RX3_54 _) dX3_execute_20 z_tw_o ht (by decide) (Or.inl rfl) rfl rfl rfl (Nat.le_of_ble_eq_true rfl) ?_
    refine z_hh z_tw_u14 ?_
    refine z_aload_n hb dX3_execute_23 rfl ?_
    refine z_iconst (x := nI 1) hb dX3_execute_24 (by decide) ?_
    refine z_call1 (b' := 0) (f' := 0) (rest := []) (av := [.ref t, .int (nI 1)]) (z_siteV hb ho zc2 z_tw_o q2816 q2818 qs33 ⟨_, _, _, _, zk_X3_fail⟩ zy_X3_fail zl_X3_fail dX3_execute_25 : z_Site M _ _ _ _ _ ([.int (nI 1)].reverse ++ .ref t :: []) [] _) zk_X3_fail q104 hrm (m_X3_fail (nI 1) ht) (by omega) (by decide) (Nat.le_of_ble_eq_true rfl) (by omega) (by omega) ?_
    refine z_iret hb hr dX3_execute_28 ?_
    rw [hQ]
    exact ⟨rfl, rfl, rfl⟩

set_option maxHeartbeats 1000000 in
theorem m_X3_execute_ok {l : Launch} {G : zG} {h : zH} {n : Nat} {t : Nat} {w0 : Nat → Int32} {w1 : Nat → Int32} {w2 : Nat → Int32} {w3 : Nat → Int32} {w4 : Nat → Int32} {w5 : Nat → Int64} {w6 : Nat → Int64} {w7 : Nat → Int64} {w8 : Nat → Int64} {w9 : Nat → Int64} {w10 : Nat → Int64} {w11 : Nat → Int64} {w12 : Int32} {w13 : Int32} {w14 : Int32} {w15 : Int32} {w16 : Int32} {w17 : Int32} {w18 : Bool} {w19 : Nat → Int32} {w20 : Int32} {w21 : Nat → Int32} {w22 : Nat → Int32} {w23 : Nat → Int32} {w24 : Int32} {w25 : Int32} {w26 : Int32} {w27 : Int32} {w28 : Bool} {R S D : Nat} {dep T : Nat} {s : tQ}  (ht : z_n0 G ≤ t) (hw : z_ok w0 R S D) (hrw : z_rows w0 R D) (hd8 : dep ≤ 8) (hT : T ≤ 60) (hs : tw_ps w21 T w22 w23 = s) (hwr : (s.1.2 || decide (s.1.1 < T)) = false) (hall : ∀ k, k < s.2.1 → (tw_ry w0 w5 R S D s.2.2.1 s.2.2.2 k).1 = 0) : z_C l G yX3_execute 9 0 0 [.ref t] (z_tw G t w0 w1 w2 w3 w4 w5 w6 w7 w8 w9 w10 w11 w12 (nI dep) w14 w15 w16 w17 w18 w19 w20 w21 w22 w23 (nI T) w25 w26 w27 w28 h) n (z_rv (.int (nI s.2.1)) (z_tw G t ((tw_run w0 w5 R S D s.2.2.1 s.2.2.2 s.2.1).1) (va_cpy w0 w1 0 0 272) w2 (tw_c3 (va_cpy w0 w1 0 0 272) w3 dep) w4 ((tw_run w0 w5 R S D s.2.2.1 s.2.2.2 s.2.1).2.1) (va_cpy w5 w6 0 0 280) w7 (tw_c8 (va_cpy w5 w6 0 0 280) w8 dep) w9 w10 w11 (nI 0) (nI (tw_dep dep)) w14 w15 w16 w17 w18 w19 w20 w21 s.2.2.1 s.2.2.2 (nI 0) (nI T) (nI s.1.1) (nI s.2.1) (s.1.2 || decide (s.1.1 < T)) h) n) := by
  refine z_start zk_X3_execute zpl_RX3 (Nat.le_of_ble_eq_true rfl) ?_
  intro hn0 M hl hG ho hb hN hr hm hH hrm hQ
  subst hl hG
  have ho : zm_o M = RX3 := ho
  obtain ⟨hR, hR4, hS, hS8, hD, hD6, hF⟩ := id hw
  have hps : s.1.1 ≤ T ∧ 3 * s.2.1 ≤ s.1.1 ∧ ∀ i, i < s.2.1 → s.2.2.1 i = nI (tN (s.2.2.1 i)) ∧ tN (s.2.2.1 i) < 9 := by rw [← hs]; exact tw_ps_ok
  obtain ⟨hp1, hp2, hkk⟩ := hps
  show z_V M (z_tw (zm_G M) t w0 w1 w2 w3 w4 w5 w6 w7 w8 w9 w10 w11 w12 (nI dep) w14 w15 w16 w17 w18 w19 w20 w21 w22 w23 (nI T) w25 w26 w27 w28 h) n 0 0 0 [(0, .ref t)] []
  refine z_aload_n hb dX3_execute_0 rfl ?_
  refine z_call0 (b' := 0) (f' := 0) (rest := []) (av := [.ref t]) (z_siteV hb ho zc2 z_tw_o q2792 q2794 qs30 ⟨_, _, _, _, zk_X3_begin⟩ zy_X3_begin zl_X3_begin dX3_execute_1 : z_Site M _ _ _ _ _ ([].reverse ++ .ref t :: []) [] _) zk_X3_begin q104 hrm (m_X3_begin ht) (by omega) (by decide) (Nat.le_of_ble_eq_true rfl) (by omega) (by omega) ?_
  refine z_aload_n hb dX3_execute_4 rfl ?_
  refine z_call0 (b' := 0) (f' := 0) (rest := []) (av := [.ref t]) (z_siteV hb ho zc2 z_tw_o q3193 q3195 qs80 ⟨_, _, _, _, zk_X3_parse⟩ zy_X3_parse zl_X3_parse dX3_execute_5 : z_Site M _ _ _ _ _ ([].reverse ++ .ref t :: []) [] _) zk_X3_parse q104 hrm (m_X3_parse_s (w24 := 0) (T := T) (s := s) ht hT hs) (by omega) (by decide) (Nat.le_of_ble_eq_true rfl) (by omega) (by omega) ?_
  refine z_aload_n hb dX3_execute_8 rfl ?_
  refine z_get (k := 28) (C := RX3) (T := TX3) (N := 29) hb ho zc2 in_X3 (zf_RX3_97 _) dX3_execute_9 z_tw_o (by decide) rfl ?_
  refine z_ifb_eq (tgt := 29) hb dX3_execute_12 (by decide) (fun c_12 => ?_) (fun c_12 => ?_)
  · refine z_iconst (x := nI 0) hb dX3_execute_29 (by decide) ?_
    refine z_istore_n (lv' := [(1, .int (nI 0)), (0, .ref t)]) hb dX3_execute_30 (by rw [hN]; decide) rfl ?_
    refine z_iconst (x := nI 0) hb dX3_execute_31 (by decide) ?_
    refine z_istore_n (lv' := [(2, .int (nI 0)), (1, .int (nI 0)), (0, .ref t)]) hb dX3_execute_32 (by rw [hN]; decide) rfl ?_
    have lp_33 : ∀ (k9_33 : Nat) (k : Nat) (x : Int32) (g : tG), s.2.1 - k < k9_33 → (k ≤ s.2.1) → (g = tw_run w0 w5 R S D s.2.2.1 s.2.2.2 k) → (tG_ok g) → z_V M (z_tw (zm_G M) t g.1 (va_cpy w0 w1 0 0 272) w2 w3 w4 g.2.1 (va_cpy w5 w6 0 0 280) w7 w8 w9 w10 w11 (nI 0) (nI dep) w14 w15 w16 w17 w18 w19 w20 w21 s.2.2.1 s.2.2.2 (nI 0) (nI T) (nI s.1.1) (nI s.2.1) (s.1.2 || decide (s.1.1 < T)) h) n 0 0 33 [(2, .int (nI k)), (1, .int x), (0, .ref t)] [] := by
      intro k9_33
      induction k9_33 with
      | zero => intro k x g hk9_33; exact absurd hk9_33 (Nat.not_lt_zero _)
      | succ k9_33 ih_33 =>
        intro k x g hk9_33 hk hg hok
        have hk9 : k < s.2.1 → tN (s.2.2.1 k) < 9 := fun q => (hkk k q).2
        refine z_iload_n hb dX3_execute_33 rfl ?_
        refine z_aload_n hb dX3_execute_34 rfl ?_
        refine z_get (k := 27) (C := RX3) (T := TX3) (N := 29) hb ho zc2 in_X3 (zf_RX3_94 _) dX3_execute_35 z_tw_o (by decide) rfl ?_
        refine z_icmp_geN (tgt := 195) hb dX3_execute_38 (by decide) (by omega) (by omega) (fun c_38 => ?_) (fun c_38 => ?_)
        · refine z_aload_n hb dX3_execute_195 rfl ?_
          refine z_aload_n hb dX3_execute_196 rfl ?_
          refine z_get (k := 27) (C := RX3) (T := TX3) (N := 29) hb ho zc2 in_X3 (zf_RX3_94 _) dX3_execute_197 z_tw_o (by decide) rfl ?_
          refine z_call1 (b' := 0) (f' := 0) (rest := []) (av := [.ref t, .int (nI s.2.1)]) (z_siteV hb ho zc2 z_tw_o q2871 q2873 qs46 ⟨_, _, _, _, zk_X3_commit⟩ zy_X3_commit zl_X3_commit dX3_execute_200 : z_Site M _ _ _ _ _ ([.int (nI s.2.1)].reverse ++ .ref t :: []) [] _) zk_X3_commit q104 hrm (m_X3_commit (w13 := 0) (nI s.2.1) ht hd8) (by omega) (by decide) (Nat.le_of_ble_eq_true rfl) (by omega) (by omega) ?_
          refine z_iret hb hr dX3_execute_203 ?_
          rw [hQ]
          obtain rfl : k = s.2.1 := by omega
          rw [← hg]
          exact ⟨rfl, rfl, rfl⟩
        · refine z_iconst (x := nI 4) hb dX3_execute_41 (by decide) ?_
          refine z_iload_n hb dX3_execute_42 rfl ?_
          refine z_imul hb dX3_execute_43 ?_
          refine z_toI (y := nI (4 * k)) (pk_mul 4 k) ?_
          refine z_istore_n (lv' := [(3, .int (nI (4 * k))), (2, .int (nI k)), (1, .int x), (0, .ref t)]) hb dX3_execute_44 (by rw [hN]; decide) rfl ?_
          refine z_aload_n hb dX3_execute_45 rfl ?_
          refine z_aload_n hb dX3_execute_46 rfl ?_
          refine z_get (k := 22) (C := RX3) (T := TX3) (N := 29) hb ho zc2 in_X3 (zf_RX3_79 _) dX3_execute_47 z_tw_o (by decide) rfl ?_
          refine z_iload_n hb dX3_execute_50 rfl ?_
          refine z_iald (j := k) hb dX3_execute_51 z_tw_r22 rfl (by omega) (by omega) ?_
          refine z_toI (y := nI (tN (s.2.2.1 k))) (hkk k (by omega)).1 ?_
          refine z_aload_n hb dX3_execute_52 rfl ?_
          refine z_get (k := 23) (C := RX3) (T := TX3) (N := 29) hb ho zc2 in_X3 (zf_RX3_82 _) dX3_execute_53 z_tw_o (by decide) rfl ?_
          refine z_iload_n hb dX3_execute_56 rfl ?_
          refine z_iald (j := 4 * k) hb dX3_execute_57 z_tw_r23 rfl (by omega) (by omega) ?_
          refine z_aload_n hb dX3_execute_58 rfl ?_
          refine z_get (k := 23) (C := RX3) (T := TX3) (N := 29) hb ho zc2 in_X3 (zf_RX3_82 _) dX3_execute_59 z_tw_o (by decide) rfl ?_
          refine z_iload_n hb dX3_execute_62 rfl ?_
          refine z_iconst (x := nI 1) hb dX3_execute_63 (by decide) ?_
          refine z_iadd hb dX3_execute_64 ?_
          refine z_toI (y := nI (4 * k + 1)) (nI_add (4 * k) 1) ?_
          refine z_iald (j := 4 * k + 1) hb dX3_execute_65 z_tw_r23 rfl (by omega) (by omega) ?_
          refine z_aload_n hb dX3_execute_66 rfl ?_
          refine z_get (k := 23) (C := RX3) (T := TX3) (N := 29) hb ho zc2 in_X3 (zf_RX3_82 _) dX3_execute_67 z_tw_o (by decide) rfl ?_
          refine z_iload_n hb dX3_execute_70 rfl ?_
          refine z_iconst (x := nI 2) hb dX3_execute_71 (by decide) ?_
          refine z_iadd hb dX3_execute_72 ?_
          refine z_toI (y := nI (4 * k + 2)) (nI_add (4 * k) 2) ?_
          refine z_iald (j := 4 * k + 2) hb dX3_execute_73 z_tw_r23 rfl (by omega) (by omega) ?_
          refine z_call1 (b' := 0) (f' := 0) (rest := []) (av := [.ref t, .int (nI (tN (s.2.2.1 k))), .int (s.2.2.2 (4 * k)), .int (s.2.2.2 (4 * k + 1)), .int (s.2.2.2 (4 * k + 2))]) (z_siteV hb ho zc2 z_tw_o q3243 q3245 qs91 ⟨_, _, _, _, zk_X3_why⟩ zy_X3_why zl_X3_why dX3_execute_74 : z_Site M _ _ _ _ _ ([.int (nI (tN (s.2.2.1 k))), .int (s.2.2.2 (4 * k)), .int (s.2.2.2 (4 * k + 1)), .int (s.2.2.2 (4 * k + 2))].reverse ++ .ref t :: []) [] _) zk_X3_why q104 hrm (m_X3_why (tN (s.2.2.1 k)) (s.2.2.2 (4 * k)) (s.2.2.2 (4 * k + 1)) (s.2.2.2 (4 * k + 2)) (hkk k (by omega)).2 ht hok.1) (by omega) (by decide) (Nat.le_of_ble_eq_true rfl) (by omega) (by omega) ?_
          refine z_istore (lv' := [(4, .int (nI ((tC_why g.1 g.2.2.2.1 g.2.2.2.2.1 g.2.2.2.2.2 (tN (s.2.2.1 k)) (s.2.2.2 (4 * k)) (s.2.2.2 (4 * k + 1)) (s.2.2.2 (4 * k + 2))).1))), (3, .int (nI (4 * k))), (2, .int (nI k)), (1, .int x), (0, .ref t)]) hb dX3_execute_77 (by rw [hN]; decide) rfl ?_
          have hle : (tC_why g.1 g.2.2.2.1 g.2.2.2.2.1 g.2.2.2.2.2 (tN (s.2.2.1 k)) (s.2.2.2 (4 * k)) (s.2.2.2 (4 * k + 1)) (s.2.2.2 (4 * k + 2))).1 ≤ 3 := tC_why_le
          refine z_iload hb dX3_execute_79 rfl ?_
          refine z_if_neN (tgt := 120) hb dX3_execute_81 (by decide) (by omega) (fun c_81 => ?_) (fun c_81 => ?_)
          · exact absurd (by have e8 := hall k (by omega); rw [tw_ry, ← hg] at e8; exact e8) (by omega)
          · have e0 : tC_why g.1 g.2.2.2.1 g.2.2.2.2.1 g.2.2.2.2.2 (tN (s.2.2.1 k)) (s.2.2.2 (4 * k)) (s.2.2.2 (4 * k + 1)) (s.2.2.2 (4 * k + 2)) = (0, none) := tC_why0 hok.1 c_81
            refine z_hh (h2 := z_tw (zm_G M) t g.1 (va_cpy w0 w1 0 0 272) w2 w3 w4 g.2.1 (va_cpy w5 w6 0 0 280) w7 w8 w9 w10 w11 (nI 0) (nI dep) w14 w15 w16 w17 w18 w19 w20 w21 s.2.2.1 s.2.2.2 (nI 0) (nI T) (nI s.1.1) (nI s.2.1) (s.1.2 || decide (s.1.1 < T)) h) (by rw [e0]; rfl) ?_
            refine z_aload_n hb dX3_execute_84 rfl ?_
            refine z_aload_n hb dX3_execute_85 rfl ?_
            refine z_get (k := 22) (C := RX3) (T := TX3) (N := 29) hb ho zc2 in_X3 (zf_RX3_79 _) dX3_execute_86 z_tw_o (by decide) rfl ?_
            refine z_iload_n hb dX3_execute_89 rfl ?_
            refine z_iald (j := k) hb dX3_execute_90 z_tw_r22 rfl (by omega) (by omega) ?_
            refine z_toI (y := nI (tN (s.2.2.1 k))) (hkk k (by omega)).1 ?_
            refine z_aload_n hb dX3_execute_91 rfl ?_
            refine z_get (k := 23) (C := RX3) (T := TX3) (N := 29) hb ho zc2 in_X3 (zf_RX3_82 _) dX3_execute_92 z_tw_o (by decide) rfl ?_
            refine z_iload_n hb dX3_execute_95 rfl ?_
            refine z_iald (j := 4 * k) hb dX3_execute_96 z_tw_r23 rfl (by omega) (by omega) ?_
            refine z_aload_n hb dX3_execute_97 rfl ?_
            refine z_get (k := 23) (C := RX3) (T := TX3) (N := 29) hb ho zc2 in_X3 (zf_RX3_82 _) dX3_execute_98 z_tw_o (by decide) rfl ?_
            refine z_iload_n hb dX3_execute_101 rfl ?_
            refine z_iconst (x := nI 1) hb dX3_execute_102 (by decide) ?_
            refine z_iadd hb dX3_execute_103 ?_
            refine z_toI (y := nI (4 * k + 1)) (nI_add (4 * k) 1) ?_
            refine z_iald (j := 4 * k + 1) hb dX3_execute_104 z_tw_r23 rfl (by omega) (by omega) ?_
            refine z_aload_n hb dX3_execute_105 rfl ?_
            refine z_get (k := 23) (C := RX3) (T := TX3) (N := 29) hb ho zc2 in_X3 (zf_RX3_82 _) dX3_execute_106 z_tw_o (by decide) rfl ?_
            refine z_iload_n hb dX3_execute_109 rfl ?_
            refine z_iconst (x := nI 2) hb dX3_execute_110 (by decide) ?_
            refine z_iadd hb dX3_execute_111 ?_
            refine z_toI (y := nI (4 * k + 2)) (nI_add (4 * k) 2) ?_
            refine z_iald (j := 4 * k + 2) hb dX3_execute_112 z_tw_r23 rfl (by omega) (by omega) ?_
            refine z_call1 (b' := 0) (f' := 0) (rest := []) (av := [.ref t, .int (nI (tN (s.2.2.1 k))), .int (s.2.2.2 (4 * k)), .int (s.2.2.2 (4 * k + 1)), .int (s.2.2.2 (4 * k + 2))]) (z_siteV hb ho zc2 z_tw_o q3247 q3249 qs92 ⟨_, _, _, _, zk_X3_does⟩ zy_X3_does zl_X3_does dX3_execute_113 : z_Site M _ _ _ _ _ ([.int (nI (tN (s.2.2.1 k))), .int (s.2.2.2 (4 * k)), .int (s.2.2.2 (4 * k + 1)), .int (s.2.2.2 (4 * k + 2))].reverse ++ .ref t :: []) [] _) zk_X3_does q104 hrm (m_X3_does (tN (s.2.2.1 k)) (s.2.2.2 (4 * k)) (s.2.2.2 (4 * k + 1)) (s.2.2.2 (4 * k + 2)) (hkk k (by omega)).2 ht hok.1 hok.2 c_81) (by omega) (by decide) (Nat.le_of_ble_eq_true rfl) (by omega) (by omega) ?_
            refine z_istore_n (lv' := [(1, .int ((tC_go g.1 g.2.1 g.2.2.2.1 g.2.2.2.2.1 g.2.2.2.2.2 (tN (s.2.2.1 k)) (s.2.2.2 (4 * k)) (s.2.2.2 (4 * k + 1)) (s.2.2.2 (4 * k + 2))).2.2.1)), (4, .int (nI ((tC_why g.1 g.2.2.2.1 g.2.2.2.2.1 g.2.2.2.2.2 (tN (s.2.2.1 k)) (s.2.2.2 (4 * k)) (s.2.2.2 (4 * k + 1)) (s.2.2.2 (4 * k + 2))).1))), (3, .int (nI (4 * k))), (2, .int (nI k)), (0, .ref t)]) hb dX3_execute_116 (by rw [hN]; decide) rfl ?_
            refine z_goto (tgt := 189) hb dX3_execute_117 (by decide) ?_
            refine z_iinc (k0 := 3) (lv' := [(2, .int (nI (k + 1))), (1, .int ((tC_go g.1 g.2.1 g.2.2.2.1 g.2.2.2.2.1 g.2.2.2.2.2 (tN (s.2.2.1 k)) (s.2.2.2 (4 * k)) (s.2.2.2 (4 * k + 1)) (s.2.2.2 (4 * k + 2))).2.2.1)), (4, .int (nI ((tC_why g.1 g.2.2.2.1 g.2.2.2.2.1 g.2.2.2.2.2 (tN (s.2.2.1 k)) (s.2.2.2 (4 * k)) (s.2.2.2 (4 * k + 1)) (s.2.2.2 (4 * k + 2))).1))), (3, .int (nI (4 * k))), (0, .ref t)]) hb dX3_execute_189 rfl (nI_1 k) (by rw [hN]; decide) rfl ?_
            refine z_goto (tgt := 33) hb dX3_execute_192 (by decide) ?_
            refine z_lv [0, 1, 4] (lv' := [(2, .int (nI (k + 1))), (1, .int ((tC_go g.1 g.2.1 g.2.2.2.1 g.2.2.2.2.1 g.2.2.2.2.2 (tN (s.2.2.1 k)) (s.2.2.2 (4 * k)) (s.2.2.2 (4 * k + 1)) (s.2.2.2 (4 * k + 2))).2.2.1)), (0, .ref t)]) rfl ?_
            exact ih_33 (k + 1) _ (tC_go g.1 g.2.1 g.2.2.2.1 g.2.2.2.2.1 g.2.2.2.2.2 (tN (s.2.2.1 k)) (s.2.2.2 (4 * k)) (s.2.2.2 (4 * k + 1)) (s.2.2.2 (4 * k + 2))) (by omega) (by omega) (by rw [hg]; rfl) (tC_go_ok hok.1 hok.2 c_81)
    refine z_lv [0, 1, 2] (lv' := [(2, .int (nI 0)), (1, .int (nI 0)), (0, .ref t)]) rfl ?_
    exact lp_33 _ 0 _ (w0, w5, 0, R, S, D) (Nat.lt_succ_self _) (Nat.zero_le _) rfl ⟨hw, hrw⟩
  · exact absurd (c_12.symm.trans hwr) (by decide)

set_option maxHeartbeats 1000000 in
theorem m_X3_execute_fail {l : Launch} {G : zG} {h : zH} {n : Nat} {t : Nat} {w0 : Nat → Int32} {w1 : Nat → Int32} {w2 : Nat → Int32} {w3 : Nat → Int32} {w4 : Nat → Int32} {w5 : Nat → Int64} {w6 : Nat → Int64} {w7 : Nat → Int64} {w8 : Nat → Int64} {w9 : Nat → Int64} {w10 : Nat → Int64} {w11 : Nat → Int64} {w12 : Int32} {w13 : Int32} {w14 : Int32} {w15 : Int32} {w16 : Int32} {w17 : Int32} {w18 : Bool} {w19 : Nat → Int32} {w20 : Int32} {w21 : Nat → Int32} {w22 : Nat → Int32} {w23 : Nat → Int32} {w24 : Int32} {w25 : Int32} {w26 : Int32} {w27 : Int32} {w28 : Bool} {R S D : Nat} {dep T : Nat} {s : tQ} {K : Nat}  (ht : z_n0 G ≤ t) (hw : z_ok w0 R S D) (hrw : z_rows w0 R D) (hd8 : dep ≤ 8) (hT : T ≤ 60) (hs : tw_ps w21 T w22 w23 = s) (hwr : (s.1.2 || decide (s.1.1 < T)) = false) (hK : K < s.2.1) (hpre : ∀ k, k < K → (tw_ry w0 w5 R S D s.2.2.1 s.2.2.2 k).1 = 0) (hbad : ¬(tw_ry w0 w5 R S D s.2.2.1 s.2.2.2 K).1 = 0) : z_C l G yX3_execute 9 0 0 [.ref t] (z_tw G t w0 w1 w2 w3 w4 w5 w6 w7 w8 w9 w10 w11 w12 (nI dep) w14 w15 w16 w17 w18 w19 w20 w21 w22 w23 (nI T) w25 w26 w27 w28 h) n (z_rv (.int (nI 0)) (z_tw G t (va_cpy (va_cpy w0 w1 0 0 272) (tw_run w0 w5 R S D s.2.2.1 s.2.2.2 K).1 0 0 272) (va_cpy w0 w1 0 0 272) w2 w3 w4 (va_cpy (va_cpy w5 w6 0 0 280) (tw_run w0 w5 R S D s.2.2.1 s.2.2.2 K).2.1 0 0 280) (va_cpy w5 w6 0 0 280) w7 w8 w9 w10 w11 (nI 2) (nI dep) w14 (nI 5) (nI K) (if (tw_ry w0 w5 R S D s.2.2.1 s.2.2.2 K).1 = tw_dnd (tN (s.2.2.1 K)) then tw_d15 (tw_ry w0 w5 R S D s.2.2.1 s.2.2.2 K).2 w15 else nI 6) w18 w19 w20 w21 s.2.2.1 s.2.2.2 (nI 0) (nI T) (nI s.1.1) (nI s.2.1) (s.1.2 || decide (s.1.1 < T)) h) n) := by
  refine z_start zk_X3_execute zpl_RX3 (Nat.le_of_ble_eq_true rfl) ?_
  intro hn0 M hl hG ho hb hN hr hm hH hrm hQ
  subst hl hG
  have ho : zm_o M = RX3 := ho
  obtain ⟨hR, hR4, hS, hS8, hD, hD6, hF⟩ := id hw
  have hps : s.1.1 ≤ T ∧ 3 * s.2.1 ≤ s.1.1 ∧ ∀ i, i < s.2.1 → s.2.2.1 i = nI (tN (s.2.2.1 i)) ∧ tN (s.2.2.1 i) < 9 := by rw [← hs]; exact tw_ps_ok
  obtain ⟨hp1, hp2, hkk⟩ := hps
  show z_V M (z_tw (zm_G M) t w0 w1 w2 w3 w4 w5 w6 w7 w8 w9 w10 w11 w12 (nI dep) w14 w15 w16 w17 w18 w19 w20 w21 w22 w23 (nI T) w25 w26 w27 w28 h) n 0 0 0 [(0, .ref t)] []
  refine z_aload_n hb dX3_execute_0 rfl ?_
  refine z_call0 (b' := 0) (f' := 0) (rest := []) (av := [.ref t]) (z_siteV hb ho zc2 z_tw_o q2792 q2794 qs30 ⟨_, _, _, _, zk_X3_begin⟩ zy_X3_begin zl_X3_begin dX3_execute_1 : z_Site M _ _ _ _ _ ([].reverse ++ .ref t :: []) [] _) zk_X3_begin q104 hrm (m_X3_begin ht) (by omega) (by decide) (Nat.le_of_ble_eq_true rfl) (by omega) (by omega) ?_
  refine z_aload_n hb dX3_execute_4 rfl ?_
  refine z_call0 (b' := 0) (f' := 0) (rest := []) (av := [.ref t]) (z_siteV hb ho zc2 z_tw_o q3193 q3195 qs80 ⟨_, _, _, _, zk_X3_parse⟩ zy_X3_parse zl_X3_parse dX3_execute_5 : z_Site M _ _ _ _ _ ([].reverse ++ .ref t :: []) [] _) zk_X3_parse q104 hrm (m_X3_parse_s (w24 := 0) (T := T) (s := s) ht hT hs) (by omega) (by decide) (Nat.le_of_ble_eq_true rfl) (by omega) (by omega) ?_
  refine z_aload_n hb dX3_execute_8 rfl ?_
  refine z_get (k := 28) (C := RX3) (T := TX3) (N := 29) hb ho zc2 in_X3 (zf_RX3_97 _) dX3_execute_9 z_tw_o (by decide) rfl ?_
  refine z_ifb_eq (tgt := 29) hb dX3_execute_12 (by decide) (fun c_12 => ?_) (fun c_12 => ?_)
  · refine z_iconst (x := nI 0) hb dX3_execute_29 (by decide) ?_
    refine z_istore_n (lv' := [(1, .int (nI 0)), (0, .ref t)]) hb dX3_execute_30 (by rw [hN]; decide) rfl ?_
    refine z_iconst (x := nI 0) hb dX3_execute_31 (by decide) ?_
    refine z_istore_n (lv' := [(2, .int (nI 0)), (1, .int (nI 0)), (0, .ref t)]) hb dX3_execute_32 (by rw [hN]; decide) rfl ?_
    have lp_33 : ∀ (k9_33 : Nat) (k : Nat) (x : Int32) (g : tG), K - k < k9_33 → (k ≤ K) → (g = tw_run w0 w5 R S D s.2.2.1 s.2.2.2 k) → (tG_ok g) → z_V M (z_tw (zm_G M) t g.1 (va_cpy w0 w1 0 0 272) w2 w3 w4 g.2.1 (va_cpy w5 w6 0 0 280) w7 w8 w9 w10 w11 (nI 0) (nI dep) w14 w15 w16 w17 w18 w19 w20 w21 s.2.2.1 s.2.2.2 (nI 0) (nI T) (nI s.1.1) (nI s.2.1) (s.1.2 || decide (s.1.1 < T)) h) n 0 0 33 [(2, .int (nI k)), (1, .int x), (0, .ref t)] [] := by
      intro k9_33
      induction k9_33 with
      | zero => intro k x g hk9_33; exact absurd hk9_33 (Nat.not_lt_zero _)
      | succ k9_33 ih_33 =>
        intro k x g hk9_33 hk hg hok
        have hk9 : k < s.2.1 → tN (s.2.2.1 k) < 9 := fun q => (hkk k q).2
        refine z_iload_n hb dX3_execute_33 rfl ?_
        refine z_aload_n hb dX3_execute_34 rfl ?_
        refine z_get (k := 27) (C := RX3) (T := TX3) (N := 29) hb ho zc2 in_X3 (zf_RX3_94 _) dX3_execute_35 z_tw_o (by decide) rfl ?_
        refine z_icmp_geN (tgt := 195) hb dX3_execute_38 (by decide) (by omega) (by omega) (fun c_38 => ?_) (fun c_38 => ?_)
        · exact absurd c_38 (by omega)
        · refine z_iconst (x := nI 4) hb dX3_execute_41 (by decide) ?_
          refine z_iload_n hb dX3_execute_42 rfl ?_
          refine z_imul hb dX3_execute_43 ?_
          refine z_toI (y := nI (4 * k)) (pk_mul 4 k) ?_
          refine z_istore_n (lv' := [(3, .int (nI (4 * k))), (2, .int (nI k)), (1, .int x), (0, .ref t)]) hb dX3_execute_44 (by rw [hN]; decide) rfl ?_
          refine z_aload_n hb dX3_execute_45 rfl ?_
          refine z_aload_n hb dX3_execute_46 rfl ?_
          refine z_get (k := 22) (C := RX3) (T := TX3) (N := 29) hb ho zc2 in_X3 (zf_RX3_79 _) dX3_execute_47 z_tw_o (by decide) rfl ?_
          refine z_iload_n hb dX3_execute_50 rfl ?_
          refine z_iald (j := k) hb dX3_execute_51 z_tw_r22 rfl (by omega) (by omega) ?_
          refine z_toI (y := nI (tN (s.2.2.1 k))) (hkk k (by omega)).1 ?_
          refine z_aload_n hb dX3_execute_52 rfl ?_
          refine z_get (k := 23) (C := RX3) (T := TX3) (N := 29) hb ho zc2 in_X3 (zf_RX3_82 _) dX3_execute_53 z_tw_o (by decide) rfl ?_
          refine z_iload_n hb dX3_execute_56 rfl ?_
          refine z_iald (j := 4 * k) hb dX3_execute_57 z_tw_r23 rfl (by omega) (by omega) ?_
          refine z_aload_n hb dX3_execute_58 rfl ?_
          refine z_get (k := 23) (C := RX3) (T := TX3) (N := 29) hb ho zc2 in_X3 (zf_RX3_82 _) dX3_execute_59 z_tw_o (by decide) rfl ?_
          refine z_iload_n hb dX3_execute_62 rfl ?_
          refine z_iconst (x := nI 1) hb dX3_execute_63 (by decide) ?_
          refine z_iadd hb dX3_execute_64 ?_
          refine z_toI (y := nI (4 * k + 1)) (nI_add (4 * k) 1) ?_
          refine z_iald (j := 4 * k + 1) hb dX3_execute_65 z_tw_r23 rfl (by omega) (by omega) ?_
          refine z_aload_n hb dX3_execute_66 rfl ?_
          refine z_get (k := 23) (C := RX3) (T := TX3) (N := 29) hb ho zc2 in_X3 (zf_RX3_82 _) dX3_execute_67 z_tw_o (by decide) rfl ?_
          refine z_iload_n hb dX3_execute_70 rfl ?_
          refine z_iconst (x := nI 2) hb dX3_execute_71 (by decide) ?_
          refine z_iadd hb dX3_execute_72 ?_
          refine z_toI (y := nI (4 * k + 2)) (nI_add (4 * k) 2) ?_
          refine z_iald (j := 4 * k + 2) hb dX3_execute_73 z_tw_r23 rfl (by omega) (by omega) ?_
          refine z_call1 (b' := 0) (f' := 0) (rest := []) (av := [.ref t, .int (nI (tN (s.2.2.1 k))), .int (s.2.2.2 (4 * k)), .int (s.2.2.2 (4 * k + 1)), .int (s.2.2.2 (4 * k + 2))]) (z_siteV hb ho zc2 z_tw_o q3243 q3245 qs91 ⟨_, _, _, _, zk_X3_why⟩ zy_X3_why zl_X3_why dX3_execute_74 : z_Site M _ _ _ _ _ ([.int (nI (tN (s.2.2.1 k))), .int (s.2.2.2 (4 * k)), .int (s.2.2.2 (4 * k + 1)), .int (s.2.2.2 (4 * k + 2))].reverse ++ .ref t :: []) [] _) zk_X3_why q104 hrm (m_X3_why (tN (s.2.2.1 k)) (s.2.2.2 (4 * k)) (s.2.2.2 (4 * k + 1)) (s.2.2.2 (4 * k + 2)) (hkk k (by omega)).2 ht hok.1) (by omega) (by decide) (Nat.le_of_ble_eq_true rfl) (by omega) (by omega) ?_
          refine z_istore (lv' := [(4, .int (nI ((tC_why g.1 g.2.2.2.1 g.2.2.2.2.1 g.2.2.2.2.2 (tN (s.2.2.1 k)) (s.2.2.2 (4 * k)) (s.2.2.2 (4 * k + 1)) (s.2.2.2 (4 * k + 2))).1))), (3, .int (nI (4 * k))), (2, .int (nI k)), (1, .int x), (0, .ref t)]) hb dX3_execute_77 (by rw [hN]; decide) rfl ?_
          have hle : (tC_why g.1 g.2.2.2.1 g.2.2.2.2.1 g.2.2.2.2.2 (tN (s.2.2.1 k)) (s.2.2.2 (4 * k)) (s.2.2.2 (4 * k + 1)) (s.2.2.2 (4 * k + 2))).1 ≤ 3 := tC_why_le
          refine z_iload hb dX3_execute_79 rfl ?_
          refine z_if_neN (tgt := 120) hb dX3_execute_81 (by decide) (by omega) (fun c_81 => ?_) (fun c_81 => ?_)
          · have hkK : k = K := by
              rcases Nat.lt_or_ge k K with z | z
              · have e8 := hpre k z; rw [tw_ry, ← hg] at e8; omega
              · omega
            subst hkK
            have hdl := tw_dnd_le (hk9 (by omega))
            refine z_aload_n hb dX3_execute_120 rfl ?_
            refine z_get (k := 1) (C := RX3) (T := TX3) (N := 29) hb ho zc2 in_X3 (zf_RX3_13 _) dX3_execute_121 z_tw_o (by decide) rfl ?_
            refine z_iconst (x := nI 0) hb dX3_execute_124 (by decide) ?_
            refine z_aload_n hb dX3_execute_125 rfl ?_
            refine z_get (k := 0) (C := RX3) (T := TX3) (N := 29) hb ho zc2 in_X3 (zf_RX3_7 _) dX3_execute_126 z_tw_o (by decide) rfl ?_
            refine z_iconst (x := nI 0) hb dX3_execute_129 (by decide) ?_
            refine z_call0 (b' := 0) (f' := 0) (rest := []) (av := [.ref (t + 2), .int (nI 0), .ref (t + 1), .int (nI 0)]) (z_siteS hb ho q2796 q2797 q104 ⟨_, _, _, _, zk_X3_copy⟩ zy_X3_copy zl_X3_copy dX3_execute_130 : z_Site M _ _ _ _ _ ([.ref (t + 2), .int (nI 0), .ref (t + 1), .int (nI 0)].reverse ++ []) [] _) zk_X3_copy q104 hrm (m_X3_copy (t + 2) (t + 1) 272 272 0 0 (va_cpy w0 w1 0 0 272) g.1 z_tw_r1 z_tw_r0 (by omega) (by omega) (by omega) (by omega) (by omega) (by omega)) (by omega) (by decide) (Nat.le_of_ble_eq_true rfl) (by omega) (by omega) ?_
            refine z_hh z_tw_u0 ?_
            refine z_aload_n hb dX3_execute_133 rfl ?_
            refine z_get (k := 6) (C := RX3) (T := TX3) (N := 29) hb ho zc2 in_X3 (zf_RX3_29 _) dX3_execute_134 z_tw_o (by decide) rfl ?_
            refine z_iconst (x := nI 0) hb dX3_execute_137 (by decide) ?_
            refine z_aload_n hb dX3_execute_138 rfl ?_
            refine z_get (k := 5) (C := RX3) (T := TX3) (N := 29) hb ho zc2 in_X3 (zf_RX3_25 _) dX3_execute_139 z_tw_o (by decide) rfl ?_
            refine z_iconst (x := nI 0) hb dX3_execute_142 (by decide) ?_
            refine z_call0 (b' := 0) (f' := 0) (rest := []) (av := [.ref (t + 7), .int (nI 0), .ref (t + 6), .int (nI 0)]) (z_siteS hb ho q2799 q2800 q104 ⟨_, _, _, _, zk_X3_copyKept⟩ zy_X3_copyKept zl_X3_copyKept dX3_execute_143 : z_Site M _ _ _ _ _ ([.ref (t + 7), .int (nI 0), .ref (t + 6), .int (nI 0)].reverse ++ []) [] _) zk_X3_copyKept q104 hrm (m_X3_copyKept (t + 7) (t + 6) 280 280 0 0 (va_cpy w5 w6 0 0 280) g.2.1 z_tw_r6 z_tw_r5 (by omega) (by omega) (by omega) (by omega) (by omega) (by omega)) (by omega) (by decide) (Nat.le_of_ble_eq_true rfl) (by omega) (by omega) ?_
            refine z_hh z_tw_u5 ?_
            refine z_aload_n hb dX3_execute_146 rfl ?_
            refine z_iload hb dX3_execute_147 rfl ?_
            refine z_aload_n hb dX3_execute_149 rfl ?_
            refine z_get (k := 22) (C := RX3) (T := TX3) (N := 29) hb ho zc2 in_X3 (zf_RX3_79 _) dX3_execute_150 z_tw_o (by decide) rfl ?_
            refine z_iload_n hb dX3_execute_153 rfl ?_
            refine z_iald (j := k) hb dX3_execute_154 z_tw_r22 rfl (by omega) (by omega) ?_
            refine z_toI (y := nI (tN (s.2.2.1 k))) (hkk k (by omega)).1 ?_
            refine z_call1 (b' := 0) (f' := 0) (rest := [.int (nI ((tC_why g.1 g.2.2.2.1 g.2.2.2.2.1 g.2.2.2.2.2 (tN (s.2.2.1 k)) (s.2.2.2 (4 * k)) (s.2.2.2 (4 * k + 1)) (s.2.2.2 (4 * k + 2))).1)), .ref t]) (av := [.int (nI (tN (s.2.2.1 k)))]) (z_siteS hb ho q3251 q3252 q104 ⟨_, _, _, _, zk_X3_denied⟩ zy_X3_denied zl_X3_denied dX3_execute_155 : z_Site M _ _ _ _ _ ([.int (nI (tN (s.2.2.1 k)))].reverse ++ [.int (nI ((tC_why g.1 g.2.2.2.1 g.2.2.2.2.1 g.2.2.2.2.2 (tN (s.2.2.1 k)) (s.2.2.2 (4 * k)) (s.2.2.2 (4 * k + 1)) (s.2.2.2 (4 * k + 2))).1)), .ref t]) [.int (nI ((tC_why g.1 g.2.2.2.1 g.2.2.2.2.1 g.2.2.2.2.2 (tN (s.2.2.1 k)) (s.2.2.2 (4 * k)) (s.2.2.2 (4 * k + 1)) (s.2.2.2 (4 * k + 2))).1)), .ref t] _) zk_X3_denied q104 hrm (m_X3_denied (tN (s.2.2.1 k)) (hkk k (by omega)).2) (by omega) (by decide) (Nat.le_of_ble_eq_true rfl) (by omega) (by omega) ?_
            refine z_icmp_neN (tgt := 168) hb dX3_execute_158 (by decide) (by omega) (by omega) (fun c_158 => ?_) (fun c_158 => ?_)
            · refine z_bipush (x := nI 6) hb dX3_execute_168 (by decide) ?_
              refine z_put (k := 17) (C := RX3) (T := TX3) (N := 29) hb ho zc2 in_X3 tyX3_ok nmX3 (zf_RX3_63 _) dX3_execute_170 z_tw_o ht (by decide) (Or.inl rfl) rfl rfl rfl (Nat.le_of_ble_eq_true rfl) ?_
              refine z_hh z_tw_u17 ?_
              refine z_aload_n hb dX3_execute_173 rfl ?_
              refine z_iconst (x := nI 5) hb dX3_execute_174 (by decide) ?_
              refine z_put (k := 15) (C := RX3) (T := TX3) (N := 29) hb ho zc2 in_X3 tyX3_ok nmX3 (zf_RX3_57 _) dX3_execute_175 z_tw_o ht (by decide) (Or.inl rfl) rfl rfl rfl (Nat.le_of_ble_eq_true rfl) ?_
              refine z_hh z_tw_u15 ?_
              refine z_aload_n hb dX3_execute_178 rfl ?_
              refine z_iload_n hb dX3_execute_179 rfl ?_
              refine z_put (k := 16) (C := RX3) (T := TX3) (N := 29) hb ho zc2 in_X3 tyX3_ok nmX3 (zf_RX3_60 _) dX3_execute_180 z_tw_o ht (by decide) (Or.inl rfl) rfl rfl rfl (Nat.le_of_ble_eq_true rfl) ?_
              refine z_hh z_tw_u16 ?_
              refine z_aload_n hb dX3_execute_183 rfl ?_
              refine z_iconst (x := nI 2) hb dX3_execute_184 (by decide) ?_
              refine z_call1 (b' := 0) (f' := 0) (rest := []) (av := [.ref t, .int (nI 2)]) (z_siteV hb ho zc2 z_tw_o q2816 q2818 qs33 ⟨_, _, _, _, zk_X3_fail⟩ zy_X3_fail zl_X3_fail dX3_execute_185 : z_Site M _ _ _ _ _ ([.int (nI 2)].reverse ++ .ref t :: []) [] _) zk_X3_fail q104 hrm (m_X3_fail (nI 2) ht) (by omega) (by decide) (Nat.le_of_ble_eq_true rfl) (by omega) (by omega) ?_
              refine z_iret hb hr dX3_execute_188 ?_
              rw [hQ]
              rw [show tw_ry w0 w5 R S D s.2.2.1 s.2.2.2 k = tC_why g.1 g.2.2.2.1 g.2.2.2.2.1 g.2.2.2.2.2 (tN (s.2.2.1 k)) (s.2.2.2 (4 * k)) (s.2.2.2 (4 * k + 1)) (s.2.2.2 (4 * k + 2)) by rw [tw_ry, ← hg], ← hg, if_neg c_158]
              exact ⟨rfl, rfl, rfl⟩
            · refine z_aload_n hb dX3_execute_161 rfl ?_
              refine z_get (k := 15) (C := RX3) (T := TX3) (N := 29) hb ho zc2 in_X3 (zf_RX3_57 _) dX3_execute_162 z_tw_o (by decide) rfl ?_
              refine z_goto (tgt := 170) hb dX3_execute_165 (by decide) ?_
              refine z_put (k := 17) (C := RX3) (T := TX3) (N := 29) hb ho zc2 in_X3 tyX3_ok nmX3 (zf_RX3_63 _) dX3_execute_170 z_tw_o ht (by decide) (Or.inl rfl) rfl rfl rfl (Nat.le_of_ble_eq_true rfl) ?_
              refine z_hh z_tw_u17 ?_
              refine z_aload_n hb dX3_execute_173 rfl ?_
              refine z_iconst (x := nI 5) hb dX3_execute_174 (by decide) ?_
              refine z_put (k := 15) (C := RX3) (T := TX3) (N := 29) hb ho zc2 in_X3 tyX3_ok nmX3 (zf_RX3_57 _) dX3_execute_175 z_tw_o ht (by decide) (Or.inl rfl) rfl rfl rfl (Nat.le_of_ble_eq_true rfl) ?_
              refine z_hh z_tw_u15 ?_
              refine z_aload_n hb dX3_execute_178 rfl ?_
              refine z_iload_n hb dX3_execute_179 rfl ?_
              refine z_put (k := 16) (C := RX3) (T := TX3) (N := 29) hb ho zc2 in_X3 tyX3_ok nmX3 (zf_RX3_60 _) dX3_execute_180 z_tw_o ht (by decide) (Or.inl rfl) rfl rfl rfl (Nat.le_of_ble_eq_true rfl) ?_
              refine z_hh z_tw_u16 ?_
              refine z_aload_n hb dX3_execute_183 rfl ?_
              refine z_iconst (x := nI 2) hb dX3_execute_184 (by decide) ?_
              refine z_call1 (b' := 0) (f' := 0) (rest := []) (av := [.ref t, .int (nI 2)]) (z_siteV hb ho zc2 z_tw_o q2816 q2818 qs33 ⟨_, _, _, _, zk_X3_fail⟩ zy_X3_fail zl_X3_fail dX3_execute_185 : z_Site M _ _ _ _ _ ([.int (nI 2)].reverse ++ .ref t :: []) [] _) zk_X3_fail q104 hrm (m_X3_fail (nI 2) ht) (by omega) (by decide) (Nat.le_of_ble_eq_true rfl) (by omega) (by omega) ?_
              refine z_iret hb hr dX3_execute_188 ?_
              rw [hQ]
              rw [show tw_ry w0 w5 R S D s.2.2.1 s.2.2.2 k = tC_why g.1 g.2.2.2.1 g.2.2.2.2.1 g.2.2.2.2.2 (tN (s.2.2.1 k)) (s.2.2.2 (4 * k)) (s.2.2.2 (4 * k + 1)) (s.2.2.2 (4 * k + 2)) by rw [tw_ry, ← hg], ← hg, if_pos c_158]
              exact ⟨rfl, rfl, rfl⟩
          · have e0 : tC_why g.1 g.2.2.2.1 g.2.2.2.2.1 g.2.2.2.2.2 (tN (s.2.2.1 k)) (s.2.2.2 (4 * k)) (s.2.2.2 (4 * k + 1)) (s.2.2.2 (4 * k + 2)) = (0, none) := tC_why0 hok.1 c_81
            have hkK : k < K := by
              rcases Nat.lt_or_ge k K with z | z
              · exact z
              · exfalso; obtain rfl : k = K := by omega
                exact hbad (by rw [tw_ry, ← hg]; exact c_81)
            refine z_hh (h2 := z_tw (zm_G M) t g.1 (va_cpy w0 w1 0 0 272) w2 w3 w4 g.2.1 (va_cpy w5 w6 0 0 280) w7 w8 w9 w10 w11 (nI 0) (nI dep) w14 w15 w16 w17 w18 w19 w20 w21 s.2.2.1 s.2.2.2 (nI 0) (nI T) (nI s.1.1) (nI s.2.1) (s.1.2 || decide (s.1.1 < T)) h) (by rw [e0]; rfl) ?_
            refine z_aload_n hb dX3_execute_84 rfl ?_
            refine z_aload_n hb dX3_execute_85 rfl ?_
            refine z_get (k := 22) (C := RX3) (T := TX3) (N := 29) hb ho zc2 in_X3 (zf_RX3_79 _) dX3_execute_86 z_tw_o (by decide) rfl ?_
            refine z_iload_n hb dX3_execute_89 rfl ?_
            refine z_iald (j := k) hb dX3_execute_90 z_tw_r22 rfl (by omega) (by omega) ?_
            refine z_toI (y := nI (tN (s.2.2.1 k))) (hkk k (by omega)).1 ?_
            refine z_aload_n hb dX3_execute_91 rfl ?_
            refine z_get (k := 23) (C := RX3) (T := TX3) (N := 29) hb ho zc2 in_X3 (zf_RX3_82 _) dX3_execute_92 z_tw_o (by decide) rfl ?_
            refine z_iload_n hb dX3_execute_95 rfl ?_
            refine z_iald (j := 4 * k) hb dX3_execute_96 z_tw_r23 rfl (by omega) (by omega) ?_
            refine z_aload_n hb dX3_execute_97 rfl ?_
            refine z_get (k := 23) (C := RX3) (T := TX3) (N := 29) hb ho zc2 in_X3 (zf_RX3_82 _) dX3_execute_98 z_tw_o (by decide) rfl ?_
            refine z_iload_n hb dX3_execute_101 rfl ?_
            refine z_iconst (x := nI 1) hb dX3_execute_102 (by decide) ?_
            refine z_iadd hb dX3_execute_103 ?_
            refine z_toI (y := nI (4 * k + 1)) (nI_add (4 * k) 1) ?_
            refine z_iald (j := 4 * k + 1) hb dX3_execute_104 z_tw_r23 rfl (by omega) (by omega) ?_
            refine z_aload_n hb dX3_execute_105 rfl ?_
            refine z_get (k := 23) (C := RX3) (T := TX3) (N := 29) hb ho zc2 in_X3 (zf_RX3_82 _) dX3_execute_106 z_tw_o (by decide) rfl ?_
            refine z_iload_n hb dX3_execute_109 rfl ?_
            refine z_iconst (x := nI 2) hb dX3_execute_110 (by decide) ?_
            refine z_iadd hb dX3_execute_111 ?_
            refine z_toI (y := nI (4 * k + 2)) (nI_add (4 * k) 2) ?_
            refine z_iald (j := 4 * k + 2) hb dX3_execute_112 z_tw_r23 rfl (by omega) (by omega) ?_
            refine z_call1 (b' := 0) (f' := 0) (rest := []) (av := [.ref t, .int (nI (tN (s.2.2.1 k))), .int (s.2.2.2 (4 * k)), .int (s.2.2.2 (4 * k + 1)), .int (s.2.2.2 (4 * k + 2))]) (z_siteV hb ho zc2 z_tw_o q3247 q3249 qs92 ⟨_, _, _, _, zk_X3_does⟩ zy_X3_does zl_X3_does dX3_execute_113 : z_Site M _ _ _ _ _ ([.int (nI (tN (s.2.2.1 k))), .int (s.2.2.2 (4 * k)), .int (s.2.2.2 (4 * k + 1)), .int (s.2.2.2 (4 * k + 2))].reverse ++ .ref t :: []) [] _) zk_X3_does q104 hrm (m_X3_does (tN (s.2.2.1 k)) (s.2.2.2 (4 * k)) (s.2.2.2 (4 * k + 1)) (s.2.2.2 (4 * k + 2)) (hkk k (by omega)).2 ht hok.1 hok.2 c_81) (by omega) (by decide) (Nat.le_of_ble_eq_true rfl) (by omega) (by omega) ?_
            refine z_istore_n (lv' := [(1, .int ((tC_go g.1 g.2.1 g.2.2.2.1 g.2.2.2.2.1 g.2.2.2.2.2 (tN (s.2.2.1 k)) (s.2.2.2 (4 * k)) (s.2.2.2 (4 * k + 1)) (s.2.2.2 (4 * k + 2))).2.2.1)), (4, .int (nI ((tC_why g.1 g.2.2.2.1 g.2.2.2.2.1 g.2.2.2.2.2 (tN (s.2.2.1 k)) (s.2.2.2 (4 * k)) (s.2.2.2 (4 * k + 1)) (s.2.2.2 (4 * k + 2))).1))), (3, .int (nI (4 * k))), (2, .int (nI k)), (0, .ref t)]) hb dX3_execute_116 (by rw [hN]; decide) rfl ?_
            refine z_goto (tgt := 189) hb dX3_execute_117 (by decide) ?_
            refine z_iinc (k0 := 3) (lv' := [(2, .int (nI (k + 1))), (1, .int ((tC_go g.1 g.2.1 g.2.2.2.1 g.2.2.2.2.1 g.2.2.2.2.2 (tN (s.2.2.1 k)) (s.2.2.2 (4 * k)) (s.2.2.2 (4 * k + 1)) (s.2.2.2 (4 * k + 2))).2.2.1)), (4, .int (nI ((tC_why g.1 g.2.2.2.1 g.2.2.2.2.1 g.2.2.2.2.2 (tN (s.2.2.1 k)) (s.2.2.2 (4 * k)) (s.2.2.2 (4 * k + 1)) (s.2.2.2 (4 * k + 2))).1))), (3, .int (nI (4 * k))), (0, .ref t)]) hb dX3_execute_189 rfl (nI_1 k) (by rw [hN]; decide) rfl ?_
            refine z_goto (tgt := 33) hb dX3_execute_192 (by decide) ?_
            refine z_lv [0, 1, 4] (lv' := [(2, .int (nI (k + 1))), (1, .int ((tC_go g.1 g.2.1 g.2.2.2.1 g.2.2.2.2.1 g.2.2.2.2.2 (tN (s.2.2.1 k)) (s.2.2.2 (4 * k)) (s.2.2.2 (4 * k + 1)) (s.2.2.2 (4 * k + 2))).2.2.1)), (0, .ref t)]) rfl ?_
            exact ih_33 (k + 1) _ (tC_go g.1 g.2.1 g.2.2.2.1 g.2.2.2.2.1 g.2.2.2.2.2 (tN (s.2.2.1 k)) (s.2.2.2 (4 * k)) (s.2.2.2 (4 * k + 1)) (s.2.2.2 (4 * k + 2))) (by omega) (by omega) (by rw [hg]; rfl) (tC_go_ok hok.1 hok.2 c_81)
    refine z_lv [0, 1, 2] (lv' := [(2, .int (nI 0)), (1, .int (nI 0)), (0, .ref t)]) rfl ?_
    exact lp_33 _ 0 _ (w0, w5, 0, R, S, D) (Nat.lt_succ_self _) (Nat.zero_le _) rfl ⟨hw, hrw⟩
  · exact absurd (c_12.symm.trans hwr) (by decide)

