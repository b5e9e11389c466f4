set_option maxHeartbeats 1000000 in
theorem m_X1_inRange {l : Launch} {G : zG} {h : zH} {n : Nat} (x lo hi : Int32)  : z_C l G yX1_inRange 1 0 0 [.int x, .int lo, .int hi] h n (z_rv (.int (z_b (decide (lo ≤ x ∧ x ≤ hi)))) h n) := by
  refine z_start zk_X1_inRange zpl_RX1 (Nat.le_of_ble_eq_true rfl) ?_
  intro hn0 M hl hG ho hb hN hr hm hH hrm hQ
  subst hl hG
  have ho : zm_o M = RX1 := ho
  show z_V M h n 0 0 0 [(0, .int x), (1, .int lo), (2, .int hi)] []
  refine z_iload_n hb dX1_inRange_0 rfl ?_
  refine z_iload_n hb dX1_inRange_1 rfl ?_
  refine z_icmp_lt (tgt := 14) hb dX1_inRange_2 (by decide) (fun c_2 => ?_) (fun c_2 => ?_)
  · refine z_iconst (x := nI 0) hb dX1_inRange_14 (by decide) ?_
    refine z_zret hb hr rfl dX1_inRange_15 ?_
    rw [hQ]
    exact z_rvb0 (decide_eq_false (by simp only [Int32.lt_iff_toInt_lt, Int32.le_iff_toInt_le] at *; omega))
  · refine z_iload_n hb dX1_inRange_5 rfl ?_
    refine z_iload_n hb dX1_inRange_6 rfl ?_
    refine z_icmp_gt (tgt := 14) hb dX1_inRange_7 (by decide) (fun c_7 => ?_) (fun c_7 => ?_)
    · refine z_iconst (x := nI 0) hb dX1_inRange_14 (by decide) ?_
      refine z_zret hb hr rfl dX1_inRange_15 ?_
      rw [hQ]
      exact z_rvb0 (decide_eq_false (by simp only [Int32.lt_iff_toInt_lt, Int32.le_iff_toInt_le] at *; omega))
    · refine z_iconst (x := nI 1) hb dX1_inRange_10 (by decide) ?_
      refine z_goto (tgt := 15) hb dX1_inRange_11 (by decide) ?_
      refine z_zret hb hr rfl dX1_inRange_15 ?_
      rw [hQ]
      exact z_rvb1 (decide_eq_true (by simp only [Int32.lt_iff_toInt_lt, Int32.le_iff_toInt_le] at *; omega))

set_option maxHeartbeats 1000000 in
theorem m_X1_requireArgument {l : Launch} {G : zG} {h : zH} {n : Nat} (c : Bool)  : z_C l G yX1_requireArgument 6 1 6 [.int (z_b c)] h n (z_qc c 27 h n) := by
  refine z_start zk_X1_requireArgument zpl_RX1 (Nat.le_of_ble_eq_true rfl) ?_
  intro hn0 M hl hG ho hb hN hr hm hH hrm hQ
  subst hl hG
  have ho : zm_o M = RX1 := ho
  show z_V M h n 1 6 0 [(0, .int (z_b c))] []
  refine z_iload_n hb dX1_requireArgument_0 rfl ?_
  refine z_ifb_ne (tgt := 12) hb dX1_requireArgument_1 (by decide) (fun c_1 => ?_) (fun c_1 => ?_)
  · refine z_vret hb hr dX1_requireArgument_12 ?_
    rw [hQ]
    exact z_qc_t c_1 ⟨rfl, rfl, rfl⟩
  · refine z_throw0 (b' := 0) (f' := 0) (names := ["java/lang/RuntimeException", "java/lang/Exception"]) hb ho hH hrm zc27 (by decide +kernel) (by decide +kernel) q1143 q117 (fun args hW => zat_X1_requireArgument args hW) dX1_requireArgument_4 dX1_requireArgument_7 dX1_requireArgument_8 dX1_requireArgument_11 (by decide) (by decide) (by decide) (by omega) (by omega) ?_
    rw [hQ]
    exact z_qc_f c_1 ⟨rfl, rfl, rfl⟩

set_option maxHeartbeats 1000000 in
theorem m_X1_requireRange {l : Launch} {G : zG} {h : zH} {n : Nat} (x lo hi : Int32)  : z_C l G yX1_requireRange 7 1 6 [.int x, .int lo, .int hi] h n (z_qc (decide (lo ≤ x ∧ x ≤ hi)) 27 h n) := by
  refine z_start zk_X1_requireRange zpl_RX1 (Nat.le_of_ble_eq_true rfl) ?_
  intro hn0 M hl hG ho hb hN hr hm hH hrm hQ
  subst hl hG
  have ho : zm_o M = RX1 := ho
  show z_V M h n 1 6 0 [(0, .int x), (1, .int lo), (2, .int hi)] []
  refine z_iload_n hb dX1_requireRange_0 rfl ?_
  refine z_iload_n hb dX1_requireRange_1 rfl ?_
  refine z_iload_n hb dX1_requireRange_2 rfl ?_
  refine z_call1 (b' := 1) (f' := 6) (rest := []) (av := [.int x, .int lo, .int hi]) (z_siteS hb ho q1137 q1138 q94 ⟨_, _, _, _, zk_X1_inRange⟩ zy_X1_inRange zl_X1_inRange dX1_requireRange_3 : z_Site M _ _ _ _ _ ([.int x, .int lo, .int hi].reverse ++ []) [] _) zk_X1_inRange q94 hrm (m_X1_inRange x lo hi) (by omega) (by decide) (by decide) (by omega) (by omega) ?_
  refine z_callC0 (b' := 0) (f' := 0) (rest := []) (av := [.int (z_b (decide (lo ≤ x ∧ x ≤ hi)))]) (z_siteS hb ho q1140 q1141 q94 ⟨_, _, _, _, zk_X1_requireArgument⟩ zy_X1_requireArgument zl_X1_requireArgument dX1_requireRange_6 : z_Site M _ _ _ _ _ ([.int (z_b (decide (lo ≤ x ∧ x ≤ hi)))].reverse ++ []) [] _) zk_X1_requireArgument q94 hrm (m_X1_requireArgument (decide (lo ≤ x ∧ x ≤ hi))) (by omega) (by decide) (by decide) (by omega) (by omega) (fun c_6 => ?_) (fun c_6 => ?_)
  · refine z_vret hb hr dX1_requireRange_9 ?_
    rw [hQ]
    exact z_qc_t c_6 ⟨rfl, rfl, rfl⟩
  · exact z_out ho hH zc27 z_up_s (by omega) (fun _ h => nomatch h) (by rw [hQ]; exact z_qc_f c_6 ⟨rfl, rfl, rfl⟩)

