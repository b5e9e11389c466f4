set_option maxHeartbeats 1000000 in
theorem m_X1_requireElement {l : Launch} {G : zG} {h : zH} {n : Nat} (c : Bool)  : z_C l G yX1_requireElement 6 1 6 [.int (z_b c)] h n (z_qc (c) 26 h n) := by
  refine z_start zk_X1_requireElement zpl_RX1 (Nat.le_of_ble_eq_true rfl) ?_
  intro hn0 M hl hG ho hb hN hr hm hH hrm hQ
  subst hl hG
  have ho : zm_o M = RX1 := ho
  show z_V M h n 1 6 0 [(0, .int (z_b c))] []
  refine z_iload_n hb dX1_requireElement_0 rfl ?_
  refine z_ifb_ne (tgt := 12) hb dX1_requireElement_1 (by decide) (fun c_1 => ?_) (fun c_1 => ?_)
  · refine z_vret hb hr dX1_requireElement_12 ?_
    rw [hQ]
    exact z_qc_t c_1 ⟨rfl, rfl, rfl⟩
  · refine z_throw0 (b' := 0) (f' := 0) (names := ["java/lang/RuntimeException", "java/lang/Exception"]) hb ho hH hrm zc26 (by decide +kernel) (by decide +kernel) q1370 q109 (fun args hW => zat_X1_requireElement args hW) dX1_requireElement_4 dX1_requireElement_7 dX1_requireElement_8 dX1_requireElement_11 (by decide) (by decide) (by decide) (by omega) (by omega) ?_
    rw [hQ]
    exact z_qc_f c_1 ⟨rfl, rfl, rfl⟩

set_option maxHeartbeats 1000000 in
theorem m_X1_requireState {l : Launch} {G : zG} {h : zH} {n : Nat} (c : Bool)  : z_C l G yX1_requireState 6 1 6 [.int (z_b c)] h n (z_qc (c) 29 h n) := by
  refine z_start zk_X1_requireState zpl_RX1 (Nat.le_of_ble_eq_true rfl) ?_
  intro hn0 M hl hG ho hb hN hr hm hH hrm hQ
  subst hl hG
  have ho : zm_o M = RX1 := ho
  show z_V M h n 1 6 0 [(0, .int (z_b c))] []
  refine z_iload_n hb dX1_requireState_0 rfl ?_
  refine z_ifb_ne (tgt := 12) hb dX1_requireState_1 (by decide) (fun c_1 => ?_) (fun c_1 => ?_)
  · refine z_vret hb hr dX1_requireState_12 ?_
    rw [hQ]
    exact z_qc_t c_1 ⟨rfl, rfl, rfl⟩
  · refine z_throw0 (b' := 0) (f' := 0) (names := ["java/lang/RuntimeException", "java/lang/Exception"]) hb ho hH hrm zc29 (by decide +kernel) (by decide +kernel) q2220 q137 (fun args hW => zat_X1_requireState args hW) dX1_requireState_4 dX1_requireState_7 dX1_requireState_8 dX1_requireState_11 (by decide) (by decide) (by decide) (by omega) (by omega) ?_
    rw [hQ]
    exact z_qc_f c_1 ⟨rfl, rfl, rfl⟩

set_option maxHeartbeats 1000000 in
theorem m_X1_requireIndex {l : Launch} {G : zG} {h : zH} {n : Nat} (x : Int32) (k : Nat)  : z_C l G yX1_requireIndex 6 1 6 [.int x, .int (nI k)] h n (z_qc (decide (nI 0 ≤ x ∧ x ≤ nI k - nI 1)) 28 h n) := by
  refine z_start zk_X1_requireIndex zpl_RX1 (Nat.le_of_ble_eq_true rfl) ?_
  intro hn0 M hl hG ho hb hN hr hm hH hrm hQ
  subst hl hG
  have ho : zm_o M = RX1 := ho
  show z_V M h n 1 6 0 [(0, .int x), (1, .int (nI k))] []
  refine z_iload_n hb dX1_requireIndex_0 rfl ?_
  refine z_iconst (x := nI 0) hb dX1_requireIndex_1 (by decide) ?_
  refine z_iload_n hb dX1_requireIndex_2 rfl ?_
  refine z_iconst (x := nI 1) hb dX1_requireIndex_3 (by decide) ?_
  refine z_isub hb dX1_requireIndex_4 ?_
  refine z_call1 (b' := 1) (f' := 6) (rest := []) (av := [.int x, .int (nI 0), .int ((nI k) - (nI 1))]) (z_siteS hb ho q1137 q1138 q94 ⟨_, _, _, _, zk_X1_inRange⟩ zy_X1_inRange zl_X1_inRange dX1_requireIndex_5 : z_Site M _ _ _ _ _ ([.int x, .int (nI 0), .int ((nI k) - (nI 1))].reverse ++ []) [] _) zk_X1_inRange q94 hrm (m_X1_inRange x (nI 0) ((nI k) - (nI 1))) (by omega) (by decide) (Nat.le_of_ble_eq_true rfl) (by omega) (by omega) ?_
  refine z_ifb_ne (tgt := 19) hb dX1_requireIndex_8 (by decide) (fun c_8 => ?_) (fun c_8 => ?_)
  · refine z_vret hb hr dX1_requireIndex_19 ?_
    rw [hQ]
    exact z_qc_t c_8 ⟨rfl, rfl, rfl⟩
  · refine z_throw0 (b' := 0) (f' := 0) (names := ["java/lang/RuntimeException", "java/lang/Exception"]) hb ho hH hrm zc28 (by decide +kernel) (by decide +kernel) q1512 q132 (fun args hW => zat_X1_requireIndex args hW) dX1_requireIndex_11 dX1_requireIndex_14 dX1_requireIndex_15 dX1_requireIndex_18 (by decide) (by decide) (by decide) (by omega) (by omega) ?_
    rw [hQ]
    exact z_qc_f c_8 ⟨rfl, rfl, rfl⟩

set_option maxHeartbeats 1000000 in
theorem m_X1_place {l : Launch} {G : zG} {h : zH} {n : Nat} (d g : Nat)  : z_C l G yX1_place 1 0 0 [.int (nI d), .int (nI g)] h n (z_rv (.int (nI (5 * d + g))) h n) := by
  refine z_start zk_X1_place zpl_RX1 (Nat.le_of_ble_eq_true rfl) ?_
  intro hn0 M hl hG ho hb hN hr hm hH hrm hQ
  subst hl hG
  have ho : zm_o M = RX1 := ho
  show z_V M h n 0 0 0 [(0, .int (nI d)), (1, .int (nI g))] []
  refine z_iconst (x := nI 5) hb dX1_place_0 (by decide) ?_
  refine z_iload_n hb dX1_place_1 rfl ?_
  refine z_imul hb dX1_place_2 ?_
  refine z_toI (y := nI (5 * d)) (pk_mul 5 d) ?_
  refine z_iload_n hb dX1_place_3 rfl ?_
  refine z_iadd hb dX1_place_4 ?_
  refine z_toI (y := nI (5 * d + g)) (nI_add (5 * d) g) ?_
  refine z_iret hb hr dX1_place_5 ?_
  rw [hQ]
  exact ⟨rfl, rfl, rfl⟩

set_option maxHeartbeats 1000000 in
theorem m_X10_takes_8 {l : Launch} {G : zG} {h : zH} {n : Nat} {t q : Nat} {nu d g am b kd : Int32} (ht9 : h t = some (.inr (8, [.int b, .int kd]))) (hr9 : h q = some (.inr (6, [.int nu, .int d, .int g, .int am]))) : z_C l G yX10_takes 1 0 0 [.ref t, .ref q] h n (z_rv (.int (z_b (decide (b ≤ am)))) h n) := by
  refine z_start zk_X10_takes zpl_RX10 (Nat.le_of_ble_eq_true rfl) ?_
  intro hn0 M hl hG ho hb hN hr hm hH hrm hQ
  subst hl hG
  have ho : zm_o M = RX10 := ho
  show z_V M h n 0 0 0 [(0, .ref t), (1, .ref q)] []
  refine z_aload_n hb dX10_takes_0 rfl ?_
  refine z_get (k := 3) (C := RX7) (T := TX7) (N := 4) hb ho zc6 in_X7 (zf_RX10_13 _) dX10_takes_1 hr9 (by decide) rfl ?_
  refine z_aload_n hb dX10_takes_4 rfl ?_
  refine z_get (k := 0) (C := RX11) (T := TX11) (N := 2) hb ho zc8 in_X11 (zf_RX10_7 _) dX10_takes_5 ht9 (by decide) rfl ?_
  refine z_icmp_lt (tgt := 15) hb dX10_takes_8 (by decide) (fun c_8 => ?_) (fun c_8 => ?_)
  · refine z_iconst (x := nI 0) hb dX10_takes_15 (by decide) ?_
    refine z_zret hb hr rfl dX10_takes_16 ?_
    rw [hQ]
    exact z_rvb0 (decide_eq_false (Int32.not_le.mpr c_8))
  · refine z_iconst (x := nI 1) hb dX10_takes_11 (by decide) ?_
    refine z_goto (tgt := 16) hb dX10_takes_12 (by decide) ?_
    refine z_zret hb hr rfl dX10_takes_16 ?_
    rw [hQ]
    exact z_rvb1 (decide_eq_true (Int32.not_lt.mp c_8))

set_option maxHeartbeats 1000000 in
theorem m_X11_with {l : Launch} {G : zG} {h : zH} {n : Nat} {t q : Nat} {nu d g am b kd : Int32} {v : Int64} (ht9 : h t = some (.inr (8, [.int b, .int kd]))) (hr9 : h q = some (.inr (6, [.int nu, .int d, .int g, .int am]))) : z_C l G yX11_with 2 0 0 [.ref t, .long v, .ref q] h n (z_rv (.long (v + am.toInt64)) h n) := by
  refine z_start zk_X11_with zpl_RX11 (Nat.le_of_ble_eq_true rfl) ?_
  intro hn0 M hl hG ho hb hN hr hm hH hrm hQ
  subst hl hG
  have ho : zm_o M = RX11 := ho
  show z_V M h n 0 0 0 [(0, .ref t), (1, .long v), (3, .ref q)] []
  refine z_lload_n hb dX11_with_0 rfl ?_
  refine z_aload_n hb dX11_with_1 rfl ?_
  refine z_get (k := 3) (C := RX7) (T := TX7) (N := 4) hb ho zc6 in_X7 (zf_RX11_7 _) dX11_with_2 hr9 (by decide) rfl ?_
  refine z_i2l (v := am.toInt64) hb dX11_with_5 rfl ?_
  refine z_ladd hb dX11_with_6 ?_
  refine z_lret hb hr dX11_with_7 ?_
  rw [hQ]
  exact ⟨rfl, rfl, rfl⟩

set_option maxHeartbeats 1000000 in
theorem m_X10_level_8 {l : Launch} {G : zG} {h : zH} {n : Nat} {t : Nat}  : z_C l G yX10_level 1 0 0 [.ref t] h n (z_rv (.int (nI 0)) h n) := by
  refine z_start zk_X10_level zpl_RX10 (Nat.le_of_ble_eq_true rfl) ?_
  intro hn0 M hl hG ho hb hN hr hm hH hrm hQ
  subst hl hG
  have ho : zm_o M = RX10 := ho
  show z_V M h n 0 0 0 [(0, .ref t)] []
  refine z_iconst (x := nI 0) hb dX10_level_0 (by decide) ?_
  refine z_iret hb hr dX10_level_1 ?_
  rw [hQ]
  exact ⟨rfl, rfl, rfl⟩

set_option maxHeartbeats 1000000 in
theorem m_X10_hasInput {l : Launch} {G : zG} {h : zH} {n : Nat} {t q : Nat}  : z_C l G yX10_hasInput 1 0 0 [.ref t, .ref q] h n (z_rv (.int (z_b false)) h n) := by
  refine z_start zk_X10_hasInput zpl_RX10 (Nat.le_of_ble_eq_true rfl) ?_
  intro hn0 M hl hG ho hb hN hr hm hH hrm hQ
  subst hl hG
  have ho : zm_o M = RX10 := ho
  show z_V M h n 0 0 0 [(0, .ref t), (1, .ref q)] []
  refine z_iconst (x := nI 0) hb dX10_hasInput_0 (by decide) ?_
  refine z_zret hb hr rfl dX10_hasInput_1 ?_
  rw [hQ]
  exact ⟨rfl, rfl, rfl⟩

set_option maxHeartbeats 1000000 in
theorem m_X10_takes_9 {l : Launch} {G : zG} {h : zH} {n : Nat} {t q : Nat} {nu d g am b kd : Int32} (ht9 : h t = some (.inr (9, [.int b, .int kd]))) (hr9 : h q = some (.inr (6, [.int nu, .int d, .int g, .int am]))) : z_C l G yX10_takes 1 0 0 [.ref t, .ref q] h n (z_rv (.int (z_b (decide (b ≤ am)))) h n) := by
  refine z_start zk_X10_takes zpl_RX10 (Nat.le_of_ble_eq_true rfl) ?_
  intro hn0 M hl hG ho hb hN hr hm hH hrm hQ
  subst hl hG
  have ho : zm_o M = RX10 := ho
  show z_V M h n 0 0 0 [(0, .ref t), (1, .ref q)] []
  refine z_aload_n hb dX10_takes_0 rfl ?_
  refine z_get (k := 3) (C := RX7) (T := TX7) (N := 4) hb ho zc6 in_X7 (zf_RX10_13 _) dX10_takes_1 hr9 (by decide) rfl ?_
  refine z_aload_n hb dX10_takes_4 rfl ?_
  refine z_get (k := 0) (C := RX12) (T := TX12) (N := 2) hb ho zc9 in_X12 (zf_RX10_7 _) dX10_takes_5 ht9 (by decide) rfl ?_
  refine z_icmp_lt (tgt := 15) hb dX10_takes_8 (by decide) (fun c_8 => ?_) (fun c_8 => ?_)
  · refine z_iconst (x := nI 0) hb dX10_takes_15 (by decide) ?_
    refine z_zret hb hr rfl dX10_takes_16 ?_
    rw [hQ]
    exact z_rvb0 (decide_eq_false (Int32.not_le.mpr c_8))
  · refine z_iconst (x := nI 1) hb dX10_takes_11 (by decide) ?_
    refine z_goto (tgt := 16) hb dX10_takes_12 (by decide) ?_
    refine z_zret hb hr rfl dX10_takes_16 ?_
    rw [hQ]
    exact z_rvb1 (decide_eq_true (Int32.not_lt.mp c_8))

set_option maxHeartbeats 1000000 in
theorem m_X12_with {l : Launch} {G : zG} {h : zH} {n : Nat} {t q : Nat} {nu d g am b kd : Int32} {v : Int64} (ht9 : h t = some (.inr (9, [.int b, .int kd]))) (hr9 : h q = some (.inr (6, [.int nu, .int d, .int g, .int am]))) : z_C l G yX12_with 2 0 0 [.ref t, .long v, .ref q] h n (z_rv (.long (v + 1)) h n) := by
  refine z_start zk_X12_with zpl_RX12 (Nat.le_of_ble_eq_true rfl) ?_
  intro hn0 M hl hG ho hb hN hr hm hH hrm hQ
  subst hl hG
  have ho : zm_o M = RX12 := ho
  show z_V M h n 0 0 0 [(0, .ref t), (1, .long v), (3, .ref q)] []
  refine z_lload_n hb dX12_with_0 rfl ?_
  refine z_lconst (x := 1) hb dX12_with_1 rfl ?_
  refine z_ladd hb dX12_with_2 ?_
  refine z_lret hb hr dX12_with_3 ?_
  rw [hQ]
  exact ⟨rfl, rfl, rfl⟩

set_option maxHeartbeats 1000000 in
theorem m_X10_takes_10 {l : Launch} {G : zG} {h : zH} {n : Nat} {t q : Nat} {nu d g am b kd : Int32} (ht9 : h t = some (.inr (10, [.int b, .int kd]))) (hr9 : h q = some (.inr (6, [.int nu, .int d, .int g, .int am]))) : z_C l G yX10_takes 1 0 0 [.ref t, .ref q] h n (z_rv (.int (z_b (decide (b ≤ am)))) h n) := by
  refine z_start zk_X10_takes zpl_RX10 (Nat.le_of_ble_eq_true rfl) ?_
  intro hn0 M hl hG ho hb hN hr hm hH hrm hQ
  subst hl hG
  have ho : zm_o M = RX10 := ho
  show z_V M h n 0 0 0 [(0, .ref t), (1, .ref q)] []
  refine z_aload_n hb dX10_takes_0 rfl ?_
  refine z_get (k := 3) (C := RX7) (T := TX7) (N := 4) hb ho zc6 in_X7 (zf_RX10_13 _) dX10_takes_1 hr9 (by decide) rfl ?_
  refine z_aload_n hb dX10_takes_4 rfl ?_
  refine z_get (k := 0) (C := RX13) (T := TX13) (N := 2) hb ho zc10 in_X13 (zf_RX10_7 _) dX10_takes_5 ht9 (by decide) rfl ?_
  refine z_icmp_lt (tgt := 15) hb dX10_takes_8 (by decide) (fun c_8 => ?_) (fun c_8 => ?_)
  · refine z_iconst (x := nI 0) hb dX10_takes_15 (by decide) ?_
    refine z_zret hb hr rfl dX10_takes_16 ?_
    rw [hQ]
    exact z_rvb0 (decide_eq_false (Int32.not_le.mpr c_8))
  · refine z_iconst (x := nI 1) hb dX10_takes_11 (by decide) ?_
    refine z_goto (tgt := 16) hb dX10_takes_12 (by decide) ?_
    refine z_zret hb hr rfl dX10_takes_16 ?_
    rw [hQ]
    exact z_rvb1 (decide_eq_true (Int32.not_lt.mp c_8))

set_option maxHeartbeats 1000000 in
theorem m_X13_with {l : Launch} {G : zG} {h : zH} {n : Nat} {t q : Nat} {nu d g am b kd : Int32} {v : Int64} (ht9 : h t = some (.inr (10, [.int b, .int kd]))) (hr9 : h q = some (.inr (6, [.int nu, .int d, .int g, .int am]))) : z_C l G yX13_with 2 0 0 [.ref t, .long v, .ref q] h n (z_rv (.long (if am.toInt64 < v then v else am.toInt64)) h n) := by
  refine z_start zk_X13_with zpl_RX13 (Nat.le_of_ble_eq_true rfl) ?_
  intro hn0 M hl hG ho hb hN hr hm hH hrm hQ
  subst hl hG
  have ho : zm_o M = RX13 := ho
  show z_V M h n 0 0 0 [(0, .ref t), (1, .long v), (3, .ref q)] []
  refine z_lload_n hb dX13_with_0 rfl ?_
  refine z_aload_n hb dX13_with_1 rfl ?_
  refine z_get (k := 3) (C := RX7) (T := TX7) (N := 4) hb ho zc6 in_X7 (zf_RX13_7 _) dX13_with_2 hr9 (by decide) rfl ?_
  refine z_i2l (v := am.toInt64) hb dX13_with_5 rfl ?_
  refine z_lmax hb ho hrm (by omega) q733 q734 q111 q735 dX13_with_6 (Nat.le_of_ble_eq_true rfl) ?_
  refine z_lret hb hr dX13_with_9 ?_
  rw [hQ]
  exact ⟨rfl, rfl, rfl⟩

set_option maxHeartbeats 1000000 in
theorem m_X14_hasInput {l : Launch} {G : zG} {h : zH} {n : Nat} {t q x y : Nat} {kd sg : Int32} (ht9 : h t = some (.inr (11, [.int kd, .ref x, .ref y, .int sg]))) : z_C l G yX14_hasInput 1 0 0 [.ref t, .ref q] h n (z_rv (.int (z_b (decide (x = q) || decide (y = q)))) h n) := by
  refine z_start zk_X14_hasInput zpl_RX14 (Nat.le_of_ble_eq_true rfl) ?_
  intro hn0 M hl hG ho hb hN hr hm hH hrm hQ
  subst hl hG
  have ho : zm_o M = RX14 := ho
  show z_V M h n 0 0 0 [(0, .ref t), (1, .ref q)] []
  refine z_aload_n hb dX14_hasInput_0 rfl ?_
  refine z_get (k := 1) (C := RX14) (T := TX14) (N := 4) hb ho zc11 in_X14 (zf_RX14_7 _) dX14_hasInput_1 ht9 (by decide) rfl ?_
  refine z_aload_n hb dX14_hasInput_4 rfl ?_
  refine z_acmp_eq (rx := some x) (ry := some q) (tgt := 16) hb dX14_hasInput_5 (by decide) (fun c_5 => ?_) (fun c_5 => ?_)
  · refine z_iconst (x := nI 1) hb dX14_hasInput_16 (by decide) ?_
    refine z_goto (tgt := 21) hb dX14_hasInput_17 (by decide) ?_
    refine z_zret hb hr rfl dX14_hasInput_21 ?_
    rw [hQ]
    exact z_rvb1 (by simp only [Option.some.injEq] at *; simp [c_5])
  · refine z_aload_n hb dX14_hasInput_8 rfl ?_
    refine z_get (k := 2) (C := RX14) (T := TX14) (N := 4) hb ho zc11 in_X14 (zf_RX14_13 _) dX14_hasInput_9 ht9 (by decide) rfl ?_
    refine z_aload_n hb dX14_hasInput_12 rfl ?_
    refine z_acmp_ne (rx := some y) (ry := some q) (tgt := 20) hb dX14_hasInput_13 (by decide) (fun c_13 => ?_) (fun c_13 => ?_)
    · refine z_iconst (x := nI 0) hb dX14_hasInput_20 (by decide) ?_
      refine z_zret hb hr rfl dX14_hasInput_21 ?_
      rw [hQ]
      exact z_rvb0 (by simp only [Option.some.injEq] at *; simp [c_5, c_13])
    · refine z_iconst (x := nI 1) hb dX14_hasInput_16 (by decide) ?_
      refine z_goto (tgt := 21) hb dX14_hasInput_17 (by decide) ?_
      refine z_zret hb hr rfl dX14_hasInput_21 ?_
      rw [hQ]
      exact z_rvb1 (by simp only [Option.some.injEq] at *; simp [c_5, c_13])

set_option maxHeartbeats 1000000 in
theorem m_X15_input_12 {l : Launch} {G : zG} {h : zH} {n : Nat} {t x : Nat} {kd : Int32} (ht9 : h t = some (.inr (12, [.ref x, .int kd]))) : z_C l G yX15_input 1 0 0 [.ref t] h n (z_rv (.ref x) h n) := by
  refine z_start zk_X15_input zpl_RX15 (Nat.le_of_ble_eq_true rfl) ?_
  intro hn0 M hl hG ho hb hN hr hm hH hrm hQ
  subst hl hG
  have ho : zm_o M = RX15 := ho
  show z_V M h n 0 0 0 [(0, .ref t)] []
  refine z_aload_n hb dX15_input_0 rfl ?_
  refine z_get (k := 0) (C := RX16) (T := TX16) (N := 2) hb ho zc12 in_X16 (zf_RX15_7 _) dX15_input_1 ht9 (by decide) rfl ?_
  refine z_aret hb hr (Or.inl ⟨_, rfl⟩) (Or.inr ⟨_, rfl⟩) dX15_input_4 ?_
  rw [hQ]
  exact ⟨rfl, rfl, rfl⟩

set_option maxHeartbeats 1000000 in
theorem m_X15_hasInput_12 {l : Launch} {G : zG} {h : zH} {n : Nat} {t x : Nat} {kd : Int32} {q : Nat} (ht9 : h t = some (.inr (12, [.ref x, .int kd]))) : z_C l G yX15_hasInput 1 0 0 [.ref t, .ref q] h n (z_rv (.int (z_b (decide (x = q)))) h n) := by
  refine z_start zk_X15_hasInput zpl_RX15 (Nat.le_of_ble_eq_true rfl) ?_
  intro hn0 M hl hG ho hb hN hr hm hH hrm hQ
  subst hl hG
  have ho : zm_o M = RX15 := ho
  show z_V M h n 0 0 0 [(0, .ref t), (1, .ref q)] []
  refine z_aload_n hb dX15_hasInput_0 rfl ?_
  refine z_get (k := 0) (C := RX16) (T := TX16) (N := 2) hb ho zc12 in_X16 (zf_RX15_7 _) dX15_hasInput_1 ht9 (by decide) rfl ?_
  refine z_aload_n hb dX15_hasInput_4 rfl ?_
  refine z_acmp_ne (rx := some x) (ry := some q) (tgt := 12) hb dX15_hasInput_5 (by decide) (fun c_5 => ?_) (fun c_5 => ?_)
  · refine z_iconst (x := nI 0) hb dX15_hasInput_12 (by decide) ?_
    refine z_zret hb hr rfl dX15_hasInput_13 ?_
    rw [hQ]
    exact z_rvb0 (by simp only [Option.some.injEq] at *; simp [c_5])
  · refine z_iconst (x := nI 1) hb dX15_hasInput_8 (by decide) ?_
    refine z_goto (tgt := 13) hb dX15_hasInput_9 (by decide) ?_
    refine z_zret hb hr rfl dX15_hasInput_13 ?_
    rw [hQ]
    exact z_rvb1 (by simp only [Option.some.injEq] at *; simp [c_5])

set_option maxHeartbeats 1000000 in
theorem m_X15_input_13 {l : Launch} {G : zG} {h : zH} {n : Nat} {t x : Nat} {kd b : Int32} (ht9 : h t = some (.inr (13, [.ref x, .int kd, .int b]))) : z_C l G yX15_input 1 0 0 [.ref t] h n (z_rv (.ref x) h n) := by
  refine z_start zk_X15_input zpl_RX15 (Nat.le_of_ble_eq_true rfl) ?_
  intro hn0 M hl hG ho hb hN hr hm hH hrm hQ
  subst hl hG
  have ho : zm_o M = RX15 := ho
  show z_V M h n 0 0 0 [(0, .ref t)] []
  refine z_aload_n hb dX15_input_0 rfl ?_
  refine z_get (k := 0) (C := RX17) (T := TX17) (N := 3) hb ho zc13 in_X17 (zf_RX15_7 _) dX15_input_1 ht9 (by decide) rfl ?_
  refine z_aret hb hr (Or.inl ⟨_, rfl⟩) (Or.inr ⟨_, rfl⟩) dX15_input_4 ?_
  rw [hQ]
  exact ⟨rfl, rfl, rfl⟩

set_option maxHeartbeats 1000000 in
theorem m_X15_hasInput_13 {l : Launch} {G : zG} {h : zH} {n : Nat} {t x : Nat} {kd b : Int32} {q : Nat} (ht9 : h t = some (.inr (13, [.ref x, .int kd, .int b]))) : z_C l G yX15_hasInput 1 0 0 [.ref t, .ref q] h n (z_rv (.int (z_b (decide (x = q)))) h n) := by
  refine z_start zk_X15_hasInput zpl_RX15 (Nat.le_of_ble_eq_true rfl) ?_
  intro hn0 M hl hG ho hb hN hr hm hH hrm hQ
  subst hl hG
  have ho : zm_o M = RX15 := ho
  show z_V M h n 0 0 0 [(0, .ref t), (1, .ref q)] []
  refine z_aload_n hb dX15_hasInput_0 rfl ?_
  refine z_get (k := 0) (C := RX17) (T := TX17) (N := 3) hb ho zc13 in_X17 (zf_RX15_7 _) dX15_hasInput_1 ht9 (by decide) rfl ?_
  refine z_aload_n hb dX15_hasInput_4 rfl ?_
  refine z_acmp_ne (rx := some x) (ry := some q) (tgt := 12) hb dX15_hasInput_5 (by decide) (fun c_5 => ?_) (fun c_5 => ?_)
  · refine z_iconst (x := nI 0) hb dX15_hasInput_12 (by decide) ?_
    refine z_zret hb hr rfl dX15_hasInput_13 ?_
    rw [hQ]
    exact z_rvb0 (by simp only [Option.some.injEq] at *; simp [c_5])
  · refine z_iconst (x := nI 1) hb dX15_hasInput_8 (by decide) ?_
    refine z_goto (tgt := 13) hb dX15_hasInput_9 (by decide) ?_
    refine z_zret hb hr rfl dX15_hasInput_13 ?_
    rw [hQ]
    exact z_rvb1 (by simp only [Option.some.injEq] at *; simp [c_5])

set_option maxHeartbeats 1000000 in
theorem m_X9_kind_8 {l : Launch} {G : zG} {h : zH} {n : Nat} {t : Nat} {kd : Int32} {v0 : Value} (ht9 : h t = some (.inr (8, [v0, .int kd]))) (hkd : narrow .char (.int kd) = .int kd) : z_C l G yX9_kind 1 0 0 [.ref t] h n (z_rv (.int kd) h n) := by
  refine z_start zk_X9_kind zpl_RX9 (Nat.le_of_ble_eq_true rfl) ?_
  intro hn0 M hl hG ho hb hN hr hm hH hrm hQ
  subst hl hG
  have ho : zm_o M = RX9 := ho
  show z_V M h n 0 0 0 [(0, .ref t)] []
  refine z_aload_n hb dX9_kind_0 rfl ?_
  refine z_get (k := 1) (C := RX11) (T := TX11) (N := 2) hb ho zc8 in_X11 (zf_RX9_7 _) dX9_kind_1 ht9 (by decide) rfl ?_
  refine z_zret hb hr hkd dX9_kind_4 ?_
  rw [hQ]
  exact ⟨rfl, rfl, rfl⟩

set_option maxHeartbeats 1000000 in
theorem m_X9_kind_9 {l : Launch} {G : zG} {h : zH} {n : Nat} {t : Nat} {kd : Int32} {v0 : Value} (ht9 : h t = some (.inr (9, [v0, .int kd]))) (hkd : narrow .char (.int kd) = .int kd) : z_C l G yX9_kind 1 0 0 [.ref t] h n (z_rv (.int kd) h n) := by
  refine z_start zk_X9_kind zpl_RX9 (Nat.le_of_ble_eq_true rfl) ?_
  intro hn0 M hl hG ho hb hN hr hm hH hrm hQ
  subst hl hG
  have ho : zm_o M = RX9 := ho
  show z_V M h n 0 0 0 [(0, .ref t)] []
  refine z_aload_n hb dX9_kind_0 rfl ?_
  refine z_get (k := 1) (C := RX12) (T := TX12) (N := 2) hb ho zc9 in_X12 (zf_RX9_7 _) dX9_kind_1 ht9 (by decide) rfl ?_
  refine z_zret hb hr hkd dX9_kind_4 ?_
  rw [hQ]
  exact ⟨rfl, rfl, rfl⟩

set_option maxHeartbeats 1000000 in
theorem m_X9_kind_10 {l : Launch} {G : zG} {h : zH} {n : Nat} {t : Nat} {kd : Int32} {v0 : Value} (ht9 : h t = some (.inr (10, [v0, .int kd]))) (hkd : narrow .char (.int kd) = .int kd) : z_C l G yX9_kind 1 0 0 [.ref t] h n (z_rv (.int kd) h n) := by
  refine z_start zk_X9_kind zpl_RX9 (Nat.le_of_ble_eq_true rfl) ?_
  intro hn0 M hl hG ho hb hN hr hm hH hrm hQ
  subst hl hG
  have ho : zm_o M = RX9 := ho
  show z_V M h n 0 0 0 [(0, .ref t)] []
  refine z_aload_n hb dX9_kind_0 rfl ?_
  refine z_get (k := 1) (C := RX13) (T := TX13) (N := 2) hb ho zc10 in_X13 (zf_RX9_7 _) dX9_kind_1 ht9 (by decide) rfl ?_
  refine z_zret hb hr hkd dX9_kind_4 ?_
  rw [hQ]
  exact ⟨rfl, rfl, rfl⟩

set_option maxHeartbeats 1000000 in
theorem m_X9_kind_11 {l : Launch} {G : zG} {h : zH} {n : Nat} {t : Nat} {kd : Int32} {v1 v2 v3 : Value} (ht9 : h t = some (.inr (11, [.int kd, v1, v2, v3]))) (hkd : narrow .char (.int kd) = .int kd) : z_C l G yX9_kind 1 0 0 [.ref t] h n (z_rv (.int kd) h n) := by
  refine z_start zk_X9_kind zpl_RX9 (Nat.le_of_ble_eq_true rfl) ?_
  intro hn0 M hl hG ho hb hN hr hm hH hrm hQ
  subst hl hG
  have ho : zm_o M = RX9 := ho
  show z_V M h n 0 0 0 [(0, .ref t)] []
  refine z_aload_n hb dX9_kind_0 rfl ?_
  refine z_get (k := 0) (C := RX14) (T := TX14) (N := 4) hb ho zc11 in_X14 (zf_RX9_7 _) dX9_kind_1 ht9 (by decide) rfl ?_
  refine z_zret hb hr hkd dX9_kind_4 ?_
  rw [hQ]
  exact ⟨rfl, rfl, rfl⟩

set_option maxHeartbeats 1000000 in
theorem m_X9_kind_12 {l : Launch} {G : zG} {h : zH} {n : Nat} {t : Nat} {kd : Int32} {v0 : Value} (ht9 : h t = some (.inr (12, [v0, .int kd]))) (hkd : narrow .char (.int kd) = .int kd) : z_C l G yX9_kind 1 0 0 [.ref t] h n (z_rv (.int kd) h n) := by
  refine z_start zk_X9_kind zpl_RX9 (Nat.le_of_ble_eq_true rfl) ?_
  intro hn0 M hl hG ho hb hN hr hm hH hrm hQ
  subst hl hG
  have ho : zm_o M = RX9 := ho
  show z_V M h n 0 0 0 [(0, .ref t)] []
  refine z_aload_n hb dX9_kind_0 rfl ?_
  refine z_get (k := 1) (C := RX16) (T := TX16) (N := 2) hb ho zc12 in_X16 (zf_RX9_7 _) dX9_kind_1 ht9 (by decide) rfl ?_
  refine z_zret hb hr hkd dX9_kind_4 ?_
  rw [hQ]
  exact ⟨rfl, rfl, rfl⟩

set_option maxHeartbeats 1000000 in
theorem m_X9_kind_13 {l : Launch} {G : zG} {h : zH} {n : Nat} {t : Nat} {kd : Int32} {v0 v2 : Value} (ht9 : h t = some (.inr (13, [v0, .int kd, v2]))) (hkd : narrow .char (.int kd) = .int kd) : z_C l G yX9_kind 1 0 0 [.ref t] h n (z_rv (.int kd) h n) := by
  refine z_start zk_X9_kind zpl_RX9 (Nat.le_of_ble_eq_true rfl) ?_
  intro hn0 M hl hG ho hb hN hr hm hH hrm hQ
  subst hl hG
  have ho : zm_o M = RX9 := ho
  show z_V M h n 0 0 0 [(0, .ref t)] []
  refine z_aload_n hb dX9_kind_0 rfl ?_
  refine z_get (k := 1) (C := RX17) (T := TX17) (N := 3) hb ho zc13 in_X17 (zf_RX9_7 _) dX9_kind_1 ht9 (by decide) rfl ?_
  refine z_zret hb hr hkd dX9_kind_4 ?_
  rw [hQ]
  exact ⟨rfl, rfl, rfl⟩

