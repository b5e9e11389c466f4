theorem zq_UNA {G : zG} {U : State} (h : z_Wd G U) : va_Zq "java/lang/Throwable" "UNASSIGNED_STACK" "[Ljava/lang/StackTraceElement;" (fun _ => False) U G.2.2.2.2 := h.2.2.2.2.2.2.2.2.2.1.1
theorem zq_SUP {G : zG} {U : State} (h : z_Wd G U) : va_Zq "java/lang/Throwable" "SUPPRESSED_SENTINEL" "Ljava/util/List;" (fun _ => False) U G.2.2.2.2 := h.2.2.2.2.2.2.2.2.2.2.1

set_option maxHeartbeats 1000000 in
theorem m_J9_init_3_5n {l : Launch} {G : zG} {h : zH} {n : Nat} {t : Nat} (ht9 : h t = some (.inr (5, [.null, .null, .null, .null, .null, .int (nI 0), .int (nI 0), .int (nI 0)]))) (hnt : z_n0 G ≤ t) : z_C l G yJ9_init_3 2 0 0 [.ref t, .null, .null, .int (nI 0), .int (nI 0)] h n (z_r0 (z_up h t (.inr (5, [.null, .null, .null, .null, .null, .int (nI 0), .int (nI 0), .int (nI 0)]))) n) := by
  refine z_start zk_J9_init_3 zpl_RJ9 (Nat.le_of_ble_eq_true rfl) ?_
  intro hn0 M hl hG ho hb hN hr hm hH hrm hQ
  subst hl hG
  have ho : zm_o M = RJ9 := ho
  show z_V M h n 0 0 0 [(0, .ref t), (1, .null), (2, .null), (3, .int (nI 0)), (4, .int (nI 0))] []
  refine z_aload_n hb dJ9_init_3_0 rfl ?_
  refine z_oinit hb ho hrm (by omega) q415 q155 q156 (by decide) dJ9_init_3_1 ?_
  refine z_aload_n hb dJ9_init_3_4 rfl ?_
  refine z_aload_n hb dJ9_init_3_5 rfl ?_
  refine z_put (k := 0) (C := RX6) (T := TX6) (N := 8) hb ho zc5 in_X6 tyX6_ok nmX6 (zf_RJ9_7 _) dJ9_init_3_6 ht9 hnt (by decide) (Or.inl rfl) rfl rfl rfl (Nat.le_of_ble_eq_true rfl) ?_
  refine z_hn (fun h_1 eh_1 => ?_)
  have eh_1 : h_1 = z_up h t (.inr (5, [.ref t, .null, .null, .null, .null, .int (nI 0), .int (nI 0), .int (nI 0)])) := eh_1
  refine z_aload_n hb dJ9_init_3_9 rfl ?_
  refine z_getsQ hb ho (fun _ hW9 => zq_UNA hW9) q416 dJ9_init_3_10 (fun v_2 hv_2 => ?_)
  rcases hv_2 with rfl | ⟨tv_2, rfl⟩
  · refine z_put (k := 1) (C := RX6) (T := TX6) (N := 8) hb ho zc5 in_X6 tyX6_ok nmX6 (zf_RJ9_17 _) dJ9_init_3_13 (z_nxs eh_1) hnt (by decide) (Or.inl rfl) rfl rfl rfl (Nat.le_of_ble_eq_true rfl) ?_
    refine z_hn (fun h_3 eh_3 => ?_)
    have eh_3 : h_3 = z_up h_1 t (.inr (5, [.ref t, .null, .null, .null, .null, .int (nI 0), .int (nI 0), .int (nI 0)])) := eh_3
    refine z_aload_n hb dJ9_init_3_16 rfl ?_
    refine z_getsQ hb ho (fun _ hW9 => zq_SUP hW9) q418 dJ9_init_3_17 (fun v_4 hv_4 => ?_)
    rcases hv_4 with rfl | ⟨tv_4, rfl⟩
    · refine z_put (k := 2) (C := RX6) (T := TX6) (N := 8) hb ho zc5 in_X6 tyX6_ok nmX6 (zf_RJ9_24 _) dJ9_init_3_20 (z_nxs eh_3) hnt (by decide) (Or.inl rfl) rfl rfl rfl (Nat.le_of_ble_eq_true rfl) ?_
      refine z_hn (fun h_5 eh_5 => ?_)
      have eh_5 : h_5 = z_up h_3 t (.inr (5, [.ref t, .null, .null, .null, .null, .int (nI 0), .int (nI 0), .int (nI 0)])) := eh_5
      refine z_iload hb dJ9_init_3_23 rfl ?_
      refine z_if_eqN (tgt := 36) hb dJ9_init_3_25 (by decide) (by omega) (fun c_25 => ?_) (fun c_25 => ?_)
      · refine z_aload_n hb dJ9_init_3_36 rfl ?_
        refine z_null hb dJ9_init_3_37 ?_
        refine z_put (k := 1) (C := RX6) (T := TX6) (N := 8) hb ho zc5 in_X6 tyX6_ok nmX6 (zf_RJ9_17 _) dJ9_init_3_38 (z_nxs eh_5) hnt (by decide) (Or.inl rfl) rfl rfl rfl (Nat.le_of_ble_eq_true rfl) ?_
        refine z_hn (fun h_6 eh_6 => ?_)
        have eh_6 : h_6 = z_up h_5 t (.inr (5, [.ref t, .null, .null, .null, .null, .int (nI 0), .int (nI 0), .int (nI 0)])) := eh_6
        refine z_aload_n hb dJ9_init_3_41 rfl ?_
        refine z_aload_nN hb dJ9_init_3_42 rfl ?_
        refine z_put (k := 3) (C := RX6) (T := TX6) (N := 8) hb ho zc5 in_X6 tyX6_ok nmX6 (zf_RJ9_31 _) dJ9_init_3_43 (z_nxs eh_6) hnt (by decide) (Or.inl rfl) rfl rfl rfl (Nat.le_of_ble_eq_true rfl) ?_
        refine z_hn (fun h_7 eh_7 => ?_)
        have eh_7 : h_7 = z_up h_6 t (.inr (5, [.ref t, .null, .null, .null, .null, .int (nI 0), .int (nI 0), .int (nI 0)])) := eh_7
        refine z_aload_n hb dJ9_init_3_46 rfl ?_
        refine z_aload_nN hb dJ9_init_3_47 rfl ?_
        refine z_put (k := 0) (C := RX6) (T := TX6) (N := 8) hb ho zc5 in_X6 tyX6_ok nmX6 (zf_RJ9_7 _) dJ9_init_3_48 (z_nxs eh_7) hnt (by decide) (Or.inl rfl) rfl rfl rfl (Nat.le_of_ble_eq_true rfl) ?_
        refine z_hn (fun h_8 eh_8 => ?_)
        have eh_8 : h_8 = z_up h_7 t (.inr (5, [.null, .null, .null, .null, .null, .int (nI 0), .int (nI 0), .int (nI 0)])) := eh_8
        refine z_iload_n hb dJ9_init_3_51 rfl ?_
        refine z_if_neN (tgt := 60) hb dJ9_init_3_52 (by decide) (by omega) (fun c_52 => ?_) (fun c_52 => ?_)
        · exact absurd c_52 (by omega)
        · refine z_aload_n hb dJ9_init_3_55 rfl ?_
          refine z_null hb dJ9_init_3_56 ?_
          refine z_put (k := 2) (C := RX6) (T := TX6) (N := 8) hb ho zc5 in_X6 tyX6_ok nmX6 (zf_RJ9_24 _) dJ9_init_3_57 (z_nxs eh_8) hnt (by decide) (Or.inl rfl) rfl rfl rfl (Nat.le_of_ble_eq_true rfl) ?_
          refine z_hn (fun h_9 eh_9 => ?_)
          have eh_9 : h_9 = z_up h_8 t (.inr (5, [.null, .null, .null, .null, .null, .int (nI 0), .int (nI 0), .int (nI 0)])) := eh_9
          refine z_vret hb hr dJ9_init_3_60 ?_
          rw [hQ]
          exact ⟨rfl, (by rw [eh_9, eh_8, eh_7, eh_6, eh_5, eh_3, eh_1] <;> simp only [z_up_up]), rfl⟩
      · exact absurd c_25 (by omega)
    · refine z_put (k := 2) (C := RX6) (T := TX6) (N := 8) hb ho zc5 in_X6 tyX6_ok nmX6 (zf_RJ9_24 _) dJ9_init_3_20 (z_nxs eh_3) hnt (by decide) (Or.inl rfl) rfl rfl rfl (Nat.le_of_ble_eq_true rfl) ?_
      refine z_hn (fun h_10 eh_10 => ?_)
      have eh_10 : h_10 = z_up h_3 t (.inr (5, [.ref t, .null, .ref tv_4, .null, .null, .int (nI 0), .int (nI 0), .int (nI 0)])) := eh_10
      refine z_iload hb dJ9_init_3_23 rfl ?_
      refine z_if_eqN (tgt := 36) hb dJ9_init_3_25 (by decide) (by omega) (fun c_25 => ?_) (fun c_25 => ?_)
      · refine z_aload_n hb dJ9_init_3_36 rfl ?_
        refine z_null hb dJ9_init_3_37 ?_
        refine z_put (k := 1) (C := RX6) (T := TX6) (N := 8) hb ho zc5 in_X6 tyX6_ok nmX6 (zf_RJ9_17 _) dJ9_init_3_38 (z_nxs eh_10) hnt (by decide) (Or.inl rfl) rfl rfl rfl (Nat.le_of_ble_eq_true rfl) ?_
        refine z_hn (fun h_11 eh_11 => ?_)
        have eh_11 : h_11 = z_up h_10 t (.inr (5, [.ref t, .null, .ref tv_4, .null, .null, .int (nI 0), .int (nI 0), .int (nI 0)])) := eh_11
        refine z_aload_n hb dJ9_init_3_41 rfl ?_
        refine z_aload_nN hb dJ9_init_3_42 rfl ?_
        refine z_put (k := 3) (C := RX6) (T := TX6) (N := 8) hb ho zc5 in_X6 tyX6_ok nmX6 (zf_RJ9_31 _) dJ9_init_3_43 (z_nxs eh_11) hnt (by decide) (Or.inl rfl) rfl rfl rfl (Nat.le_of_ble_eq_true rfl) ?_
        refine z_hn (fun h_12 eh_12 => ?_)
        have eh_12 : h_12 = z_up h_11 t (.inr (5, [.ref t, .null, .ref tv_4, .null, .null, .int (nI 0), .int (nI 0), .int (nI 0)])) := eh_12
        refine z_aload_n hb dJ9_init_3_46 rfl ?_
        refine z_aload_nN hb dJ9_init_3_47 rfl ?_
        refine z_put (k := 0) (C := RX6) (T := TX6) (N := 8) hb ho zc5 in_X6 tyX6_ok nmX6 (zf_RJ9_7 _) dJ9_init_3_48 (z_nxs eh_12) hnt (by decide) (Or.inl rfl) rfl rfl rfl (Nat.le_of_ble_eq_true rfl) ?_
        refine z_hn (fun h_13 eh_13 => ?_)
        have eh_13 : h_13 = z_up h_12 t (.inr (5, [.null, .null, .ref tv_4, .null, .null, .int (nI 0), .int (nI 0), .int (nI 0)])) := eh_13
        refine z_iload_n hb dJ9_init_3_51 rfl ?_
        refine z_if_neN (tgt := 60) hb dJ9_init_3_52 (by decide) (by omega) (fun c_52 => ?_) (fun c_52 => ?_)
        · exact absurd c_52 (by omega)
        · refine z_aload_n hb dJ9_init_3_55 rfl ?_
          refine z_null hb dJ9_init_3_56 ?_
          refine z_put (k := 2) (C := RX6) (T := TX6) (N := 8) hb ho zc5 in_X6 tyX6_ok nmX6 (zf_RJ9_24 _) dJ9_init_3_57 (z_nxs eh_13) hnt (by decide) (Or.inl rfl) rfl rfl rfl (Nat.le_of_ble_eq_true rfl) ?_
          refine z_hn (fun h_14 eh_14 => ?_)
          have eh_14 : h_14 = z_up h_13 t (.inr (5, [.null, .null, .null, .null, .null, .int (nI 0), .int (nI 0), .int (nI 0)])) := eh_14
          refine z_vret hb hr dJ9_init_3_60 ?_
          rw [hQ]
          exact ⟨rfl, (by rw [eh_14, eh_13, eh_12, eh_11, eh_10, eh_3, eh_1] <;> simp only [z_up_up]), rfl⟩
      · exact absurd c_25 (by omega)
  · refine z_put (k := 1) (C := RX6) (T := TX6) (N := 8) hb ho zc5 in_X6 tyX6_ok nmX6 (zf_RJ9_17 _) dJ9_init_3_13 (z_nxs eh_1) hnt (by decide) (Or.inl rfl) rfl rfl rfl (Nat.le_of_ble_eq_true rfl) ?_
    refine z_hn (fun h_15 eh_15 => ?_)
    have eh_15 : h_15 = z_up h_1 t (.inr (5, [.ref t, .ref tv_2, .null, .null, .null, .int (nI 0), .int (nI 0), .int (nI 0)])) := eh_15
    refine z_aload_n hb dJ9_init_3_16 rfl ?_
    refine z_getsQ hb ho (fun _ hW9 => zq_SUP hW9) q418 dJ9_init_3_17 (fun v_16 hv_16 => ?_)
    rcases hv_16 with rfl | ⟨tv_16, rfl⟩
    · refine z_put (k := 2) (C := RX6) (T := TX6) (N := 8) hb ho zc5 in_X6 tyX6_ok nmX6 (zf_RJ9_24 _) dJ9_init_3_20 (z_nxs eh_15) hnt (by decide) (Or.inl rfl) rfl rfl rfl (Nat.le_of_ble_eq_true rfl) ?_
      refine z_hn (fun h_17 eh_17 => ?_)
      have eh_17 : h_17 = z_up h_15 t (.inr (5, [.ref t, .ref tv_2, .null, .null, .null, .int (nI 0), .int (nI 0), .int (nI 0)])) := eh_17
      refine z_iload hb dJ9_init_3_23 rfl ?_
      refine z_if_eqN (tgt := 36) hb dJ9_init_3_25 (by decide) (by omega) (fun c_25 => ?_) (fun c_25 => ?_)
      · refine z_aload_n hb dJ9_init_3_36 rfl ?_
        refine z_null hb dJ9_init_3_37 ?_
        refine z_put (k := 1) (C := RX6) (T := TX6) (N := 8) hb ho zc5 in_X6 tyX6_ok nmX6 (zf_RJ9_17 _) dJ9_init_3_38 (z_nxs eh_17) hnt (by decide) (Or.inl rfl) rfl rfl rfl (Nat.le_of_ble_eq_true rfl) ?_
        refine z_hn (fun h_18 eh_18 => ?_)
        have eh_18 : h_18 = z_up h_17 t (.inr (5, [.ref t, .null, .null, .null, .null, .int (nI 0), .int (nI 0), .int (nI 0)])) := eh_18
        refine z_aload_n hb dJ9_init_3_41 rfl ?_
        refine z_aload_nN hb dJ9_init_3_42 rfl ?_
        refine z_put (k := 3) (C := RX6) (T := TX6) (N := 8) hb ho zc5 in_X6 tyX6_ok nmX6 (zf_RJ9_31 _) dJ9_init_3_43 (z_nxs eh_18) hnt (by decide) (Or.inl rfl) rfl rfl rfl (Nat.le_of_ble_eq_true rfl) ?_
        refine z_hn (fun h_19 eh_19 => ?_)
        have eh_19 : h_19 = z_up h_18 t (.inr (5, [.ref t, .null, .null, .null, .null, .int (nI 0), .int (nI 0), .int (nI 0)])) := eh_19
        refine z_aload_n hb dJ9_init_3_46 rfl ?_
        refine z_aload_nN hb dJ9_init_3_47 rfl ?_
        refine z_put (k := 0) (C := RX6) (T := TX6) (N := 8) hb ho zc5 in_X6 tyX6_ok nmX6 (zf_RJ9_7 _) dJ9_init_3_48 (z_nxs eh_19) hnt (by decide) (Or.inl rfl) rfl rfl rfl (Nat.le_of_ble_eq_true rfl) ?_
        refine z_hn (fun h_20 eh_20 => ?_)
        have eh_20 : h_20 = z_up h_19 t (.inr (5, [.null, .null, .null, .null, .null, .int (nI 0), .int (nI 0), .int (nI 0)])) := eh_20
        refine z_iload_n hb dJ9_init_3_51 rfl ?_
        refine z_if_neN (tgt := 60) hb dJ9_init_3_52 (by decide) (by omega) (fun c_52 => ?_) (fun c_52 => ?_)
        · exact absurd c_52 (by omega)
        · refine z_aload_n hb dJ9_init_3_55 rfl ?_
          refine z_null hb dJ9_init_3_56 ?_
          refine z_put (k := 2) (C := RX6) (T := TX6) (N := 8) hb ho zc5 in_X6 tyX6_ok nmX6 (zf_RJ9_24 _) dJ9_init_3_57 (z_nxs eh_20) hnt (by decide) (Or.inl rfl) rfl rfl rfl (Nat.le_of_ble_eq_true rfl) ?_
          refine z_hn (fun h_21 eh_21 => ?_)
          have eh_21 : h_21 = z_up h_20 t (.inr (5, [.null, .null, .null, .null, .null, .int (nI 0), .int (nI 0), .int (nI 0)])) := eh_21
          refine z_vret hb hr dJ9_init_3_60 ?_
          rw [hQ]
          exact ⟨rfl, (by rw [eh_21, eh_20, eh_19, eh_18, eh_17, eh_15, eh_1] <;> simp only [z_up_up]), rfl⟩
      · exact absurd c_25 (by omega)
    · refine z_put (k := 2) (C := RX6) (T := TX6) (N := 8) hb ho zc5 in_X6 tyX6_ok nmX6 (zf_RJ9_24 _) dJ9_init_3_20 (z_nxs eh_15) hnt (by decide) (Or.inl rfl) rfl rfl rfl (Nat.le_of_ble_eq_true rfl) ?_
      refine z_hn (fun h_22 eh_22 => ?_)
      have eh_22 : h_22 = z_up h_15 t (.inr (5, [.ref t, .ref tv_2, .ref tv_16, .null, .null, .int (nI 0), .int (nI 0), .int (nI 0)])) := eh_22
      refine z_iload hb dJ9_init_3_23 rfl ?_
      refine z_if_eqN (tgt := 36) hb dJ9_init_3_25 (by decide) (by omega) (fun c_25 => ?_) (fun c_25 => ?_)
      · refine z_aload_n hb dJ9_init_3_36 rfl ?_
        refine z_null hb dJ9_init_3_37 ?_
        refine z_put (k := 1) (C := RX6) (T := TX6) (N := 8) hb ho zc5 in_X6 tyX6_ok nmX6 (zf_RJ9_17 _) dJ9_init_3_38 (z_nxs eh_22) hnt (by decide) (Or.inl rfl) rfl rfl rfl (Nat.le_of_ble_eq_true rfl) ?_
        refine z_hn (fun h_23 eh_23 => ?_)
        have eh_23 : h_23 = z_up h_22 t (.inr (5, [.ref t, .null, .ref tv_16, .null, .null, .int (nI 0), .int (nI 0), .int (nI 0)])) := eh_23
        refine z_aload_n hb dJ9_init_3_41 rfl ?_
        refine z_aload_nN hb dJ9_init_3_42 rfl ?_
        refine z_put (k := 3) (C := RX6) (T := TX6) (N := 8) hb ho zc5 in_X6 tyX6_ok nmX6 (zf_RJ9_31 _) dJ9_init_3_43 (z_nxs eh_23) hnt (by decide) (Or.inl rfl) rfl rfl rfl (Nat.le_of_ble_eq_true rfl) ?_
        refine z_hn (fun h_24 eh_24 => ?_)
        have eh_24 : h_24 = z_up h_23 t (.inr (5, [.ref t, .null, .ref tv_16, .null, .null, .int (nI 0), .int (nI 0), .int (nI 0)])) := eh_24
        refine z_aload_n hb dJ9_init_3_46 rfl ?_
        refine z_aload_nN hb dJ9_init_3_47 rfl ?_
        refine z_put (k := 0) (C := RX6) (T := TX6) (N := 8) hb ho zc5 in_X6 tyX6_ok nmX6 (zf_RJ9_7 _) dJ9_init_3_48 (z_nxs eh_24) hnt (by decide) (Or.inl rfl) rfl rfl rfl (Nat.le_of_ble_eq_true rfl) ?_
        refine z_hn (fun h_25 eh_25 => ?_)
        have eh_25 : h_25 = z_up h_24 t (.inr (5, [.null, .null, .ref tv_16, .null, .null, .int (nI 0), .int (nI 0), .int (nI 0)])) := eh_25
        refine z_iload_n hb dJ9_init_3_51 rfl ?_
        refine z_if_neN (tgt := 60) hb dJ9_init_3_52 (by decide) (by omega) (fun c_52 => ?_) (fun c_52 => ?_)
        · exact absurd c_52 (by omega)
        · refine z_aload_n hb dJ9_init_3_55 rfl ?_
          refine z_null hb dJ9_init_3_56 ?_
          refine z_put (k := 2) (C := RX6) (T := TX6) (N := 8) hb ho zc5 in_X6 tyX6_ok nmX6 (zf_RJ9_24 _) dJ9_init_3_57 (z_nxs eh_25) hnt (by decide) (Or.inl rfl) rfl rfl rfl (Nat.le_of_ble_eq_true rfl) ?_
          refine z_hn (fun h_26 eh_26 => ?_)
          have eh_26 : h_26 = z_up h_25 t (.inr (5, [.null, .null, .null, .null, .null, .int (nI 0), .int (nI 0), .int (nI 0)])) := eh_26
          refine z_vret hb hr dJ9_init_3_60 ?_
          rw [hQ]
          exact ⟨rfl, (by rw [eh_26, eh_25, eh_24, eh_23, eh_22, eh_15, eh_1] <;> simp only [z_up_up]), rfl⟩
      · exact absurd c_25 (by omega)

set_option maxHeartbeats 1000000 in
theorem m_J10_init_3_5n {l : Launch} {G : zG} {h : zH} {n : Nat} {t : Nat} (ht9 : h t = some (.inr (5, [.null, .null, .null, .null, .null, .int (nI 0), .int (nI 0), .int (nI 0)]))) (hnt : z_n0 G ≤ t) : z_C l G yJ10_init_3 3 0 0 [.ref t, .null, .null, .int (nI 0), .int (nI 0)] h n (z_r0 (z_up h t (.inr (5, [.null, .null, .null, .null, .null, .int (nI 0), .int (nI 0), .int (nI 0)]))) n) := by
  refine z_start zk_J10_init_3 zpl_RJ10 (Nat.le_of_ble_eq_true rfl) ?_
  intro hn0 M hl hG ho hb hN hr hm hH hrm hQ
  subst hl hG
  have ho : zm_o M = RJ10 := ho
  show z_V M h n 0 0 0 [(0, .ref t), (1, .null), (2, .null), (3, .int (nI 0)), (4, .int (nI 0))] []
  refine z_aload_n hb dJ10_init_3_0 rfl ?_
  refine z_aload_nN hb dJ10_init_3_1 rfl ?_
  refine z_aload_nN hb dJ10_init_3_2 rfl ?_
  refine z_iload_n hb dJ10_init_3_3 rfl ?_
  refine z_iload hb dJ10_init_3_4 rfl ?_
  refine z_call0 (b' := 0) (f' := 0) (rest := []) (av := [.ref t, .null, .null, .int (nI 0), .int (nI 0)]) (z_siteI hb ho q1169 q1170 q1171 rfl zy_J9_init_3 zl_J9_init_3 dJ10_init_3_6 : z_Site M _ _ _ _ _ ([.null, .null, .int (nI 0), .int (nI 0)].reverse ++ .ref t :: []) [] _) zk_J9_init_3 q106 hrm (m_J9_init_3_5n ht9 hnt) (by omega) (by decide) (Nat.le_of_ble_eq_true rfl) (by omega) (by omega) ?_
  refine z_hn (fun h_1 eh_1 => ?_)
  have eh_1 : h_1 = z_up h t (.inr (5, [.null, .null, .null, .null, .null, .int (nI 0), .int (nI 0), .int (nI 0)])) := eh_1
  refine z_vret hb hr dJ10_init_3_9 ?_
  rw [hQ]
  exact ⟨rfl, (by rw [eh_1] <;> simp only [z_up_up]), rfl⟩

set_option maxHeartbeats 1000000 in
theorem m_J9_init_3_5c {l : Launch} {G : zG} {h : zH} {n : Nat} {t : Nat} {c : Nat} (ht9 : h t = some (.inr (5, [.null, .null, .null, .null, .null, .int (nI 0), .int (nI 0), .int (nI 0)]))) (hnt : z_n0 G ≤ t) : z_C l G yJ9_init_3 2 0 0 [.ref t, .null, .ref c, .int (nI 0), .int (nI 0)] h n (z_r0 (z_up h t (.inr (5, [.ref c, .null, .null, .null, .null, .int (nI 0), .int (nI 0), .int (nI 0)]))) n) := by
  refine z_start zk_J9_init_3 zpl_RJ9 (Nat.le_of_ble_eq_true rfl) ?_
  intro hn0 M hl hG ho hb hN hr hm hH hrm hQ
  subst hl hG
  have ho : zm_o M = RJ9 := ho
  show z_V M h n 0 0 0 [(0, .ref t), (1, .null), (2, .ref c), (3, .int (nI 0)), (4, .int (nI 0))] []
  refine z_aload_n hb dJ9_init_3_0 rfl ?_
  refine z_oinit hb ho hrm (by omega) q415 q155 q156 (by decide) dJ9_init_3_1 ?_
  refine z_aload_n hb dJ9_init_3_4 rfl ?_
  refine z_aload_n hb dJ9_init_3_5 rfl ?_
  refine z_put (k := 0) (C := RX6) (T := TX6) (N := 8) hb ho zc5 in_X6 tyX6_ok nmX6 (zf_RJ9_7 _) dJ9_init_3_6 ht9 hnt (by decide) (Or.inl rfl) rfl rfl rfl (Nat.le_of_ble_eq_true rfl) ?_
  refine z_hn (fun h_1 eh_1 => ?_)
  have eh_1 : h_1 = z_up h t (.inr (5, [.ref t, .null, .null, .null, .null, .int (nI 0), .int (nI 0), .int (nI 0)])) := eh_1
  refine z_aload_n hb dJ9_init_3_9 rfl ?_
  refine z_getsQ hb ho (fun _ hW9 => zq_UNA hW9) q416 dJ9_init_3_10 (fun v_2 hv_2 => ?_)
  rcases hv_2 with rfl | ⟨tv_2, rfl⟩
  · refine z_put (k := 1) (C := RX6) (T := TX6) (N := 8) hb ho zc5 in_X6 tyX6_ok nmX6 (zf_RJ9_17 _) dJ9_init_3_13 (z_nxs eh_1) hnt (by decide) (Or.inl rfl) rfl rfl rfl (Nat.le_of_ble_eq_true rfl) ?_
    refine z_hn (fun h_3 eh_3 => ?_)
    have eh_3 : h_3 = z_up h_1 t (.inr (5, [.ref t, .null, .null, .null, .null, .int (nI 0), .int (nI 0), .int (nI 0)])) := eh_3
    refine z_aload_n hb dJ9_init_3_16 rfl ?_
    refine z_getsQ hb ho (fun _ hW9 => zq_SUP hW9) q418 dJ9_init_3_17 (fun v_4 hv_4 => ?_)
    rcases hv_4 with rfl | ⟨tv_4, rfl⟩
    · refine z_put (k := 2) (C := RX6) (T := TX6) (N := 8) hb ho zc5 in_X6 tyX6_ok nmX6 (zf_RJ9_24 _) dJ9_init_3_20 (z_nxs eh_3) hnt (by decide) (Or.inl rfl) rfl rfl rfl (Nat.le_of_ble_eq_true rfl) ?_
      refine z_hn (fun h_5 eh_5 => ?_)
      have eh_5 : h_5 = z_up h_3 t (.inr (5, [.ref t, .null, .null, .null, .null, .int (nI 0), .int (nI 0), .int (nI 0)])) := eh_5
      refine z_iload hb dJ9_init_3_23 rfl ?_
      refine z_if_eqN (tgt := 36) hb dJ9_init_3_25 (by decide) (by omega) (fun c_25 => ?_) (fun c_25 => ?_)
      · refine z_aload_n hb dJ9_init_3_36 rfl ?_
        refine z_null hb dJ9_init_3_37 ?_
        refine z_put (k := 1) (C := RX6) (T := TX6) (N := 8) hb ho zc5 in_X6 tyX6_ok nmX6 (zf_RJ9_17 _) dJ9_init_3_38 (z_nxs eh_5) hnt (by decide) (Or.inl rfl) rfl rfl rfl (Nat.le_of_ble_eq_true rfl) ?_
        refine z_hn (fun h_6 eh_6 => ?_)
        have eh_6 : h_6 = z_up h_5 t (.inr (5, [.ref t, .null, .null, .null, .null, .int (nI 0), .int (nI 0), .int (nI 0)])) := eh_6
        refine z_aload_n hb dJ9_init_3_41 rfl ?_
        refine z_aload_nN hb dJ9_init_3_42 rfl ?_
        refine z_put (k := 3) (C := RX6) (T := TX6) (N := 8) hb ho zc5 in_X6 tyX6_ok nmX6 (zf_RJ9_31 _) dJ9_init_3_43 (z_nxs eh_6) hnt (by decide) (Or.inl rfl) rfl rfl rfl (Nat.le_of_ble_eq_true rfl) ?_
        refine z_hn (fun h_7 eh_7 => ?_)
        have eh_7 : h_7 = z_up h_6 t (.inr (5, [.ref t, .null, .null, .null, .null, .int (nI 0), .int (nI 0), .int (nI 0)])) := eh_7
        refine z_aload_n hb dJ9_init_3_46 rfl ?_
        refine z_aload_n hb dJ9_init_3_47 rfl ?_
        refine z_put (k := 0) (C := RX6) (T := TX6) (N := 8) hb ho zc5 in_X6 tyX6_ok nmX6 (zf_RJ9_7 _) dJ9_init_3_48 (z_nxs eh_7) hnt (by decide) (Or.inl rfl) rfl rfl rfl (Nat.le_of_ble_eq_true rfl) ?_
        refine z_hn (fun h_8 eh_8 => ?_)
        have eh_8 : h_8 = z_up h_7 t (.inr (5, [.ref c, .null, .null, .null, .null, .int (nI 0), .int (nI 0), .int (nI 0)])) := eh_8
        refine z_iload_n hb dJ9_init_3_51 rfl ?_
        refine z_if_neN (tgt := 60) hb dJ9_init_3_52 (by decide) (by omega) (fun c_52 => ?_) (fun c_52 => ?_)
        · exact absurd c_52 (by omega)
        · refine z_aload_n hb dJ9_init_3_55 rfl ?_
          refine z_null hb dJ9_init_3_56 ?_
          refine z_put (k := 2) (C := RX6) (T := TX6) (N := 8) hb ho zc5 in_X6 tyX6_ok nmX6 (zf_RJ9_24 _) dJ9_init_3_57 (z_nxs eh_8) hnt (by decide) (Or.inl rfl) rfl rfl rfl (Nat.le_of_ble_eq_true rfl) ?_
          refine z_hn (fun h_9 eh_9 => ?_)
          have eh_9 : h_9 = z_up h_8 t (.inr (5, [.ref c, .null, .null, .null, .null, .int (nI 0), .int (nI 0), .int (nI 0)])) := eh_9
          refine z_vret hb hr dJ9_init_3_60 ?_
          rw [hQ]
          exact ⟨rfl, (by rw [eh_9, eh_8, eh_7, eh_6, eh_5, eh_3, eh_1] <;> simp only [z_up_up]), rfl⟩
      · exact absurd c_25 (by omega)
    · refine z_put (k := 2) (C := RX6) (T := TX6) (N := 8) hb ho zc5 in_X6 tyX6_ok nmX6 (zf_RJ9_24 _) dJ9_init_3_20 (z_nxs eh_3) hnt (by decide) (Or.inl rfl) rfl rfl rfl (Nat.le_of_ble_eq_true rfl) ?_
      refine z_hn (fun h_10 eh_10 => ?_)
      have eh_10 : h_10 = z_up h_3 t (.inr (5, [.ref t, .null, .ref tv_4, .null, .null, .int (nI 0), .int (nI 0), .int (nI 0)])) := eh_10
      refine z_iload hb dJ9_init_3_23 rfl ?_
      refine z_if_eqN (tgt := 36) hb dJ9_init_3_25 (by decide) (by omega) (fun c_25 => ?_) (fun c_25 => ?_)
      · refine z_aload_n hb dJ9_init_3_36 rfl ?_
        refine z_null hb dJ9_init_3_37 ?_
        refine z_put (k := 1) (C := RX6) (T := TX6) (N := 8) hb ho zc5 in_X6 tyX6_ok nmX6 (zf_RJ9_17 _) dJ9_init_3_38 (z_nxs eh_10) hnt (by decide) (Or.inl rfl) rfl rfl rfl (Nat.le_of_ble_eq_true rfl) ?_
        refine z_hn (fun h_11 eh_11 => ?_)
        have eh_11 : h_11 = z_up h_10 t (.inr (5, [.ref t, .null, .ref tv_4, .null, .null, .int (nI 0), .int (nI 0), .int (nI 0)])) := eh_11
        refine z_aload_n hb dJ9_init_3_41 rfl ?_
        refine z_aload_nN hb dJ9_init_3_42 rfl ?_
        refine z_put (k := 3) (C := RX6) (T := TX6) (N := 8) hb ho zc5 in_X6 tyX6_ok nmX6 (zf_RJ9_31 _) dJ9_init_3_43 (z_nxs eh_11) hnt (by decide) (Or.inl rfl) rfl rfl rfl (Nat.le_of_ble_eq_true rfl) ?_
        refine z_hn (fun h_12 eh_12 => ?_)
        have eh_12 : h_12 = z_up h_11 t (.inr (5, [.ref t, .null, .ref tv_4, .null, .null, .int (nI 0), .int (nI 0), .int (nI 0)])) := eh_12
        refine z_aload_n hb dJ9_init_3_46 rfl ?_
        refine z_aload_n hb dJ9_init_3_47 rfl ?_
        refine z_put (k := 0) (C := RX6) (T := TX6) (N := 8) hb ho zc5 in_X6 tyX6_ok nmX6 (zf_RJ9_7 _) dJ9_init_3_48 (z_nxs eh_12) hnt (by decide) (Or.inl rfl) rfl rfl rfl (Nat.le_of_ble_eq_true rfl) ?_
        refine z_hn (fun h_13 eh_13 => ?_)
        have eh_13 : h_13 = z_up h_12 t (.inr (5, [.ref c, .null, .ref tv_4, .null, .null, .int (nI 0), .int (nI 0), .int (nI 0)])) := eh_13
        refine z_iload_n hb dJ9_init_3_51 rfl ?_
        refine z_if_neN (tgt := 60) hb dJ9_init_3_52 (by decide) (by omega) (fun c_52 => ?_) (fun c_52 => ?_)
        · exact absurd c_52 (by omega)
        · refine z_aload_n hb dJ9_init_3_55 rfl ?_
          refine z_null hb dJ9_init_3_56 ?_
          refine z_put (k := 2) (C := RX6) (T := TX6) (N := 8) hb ho zc5 in_X6 tyX6_ok nmX6 (zf_RJ9_24 _) dJ9_init_3_57 (z_nxs eh_13) hnt (by decide) (Or.inl rfl) rfl rfl rfl (Nat.le_of_ble_eq_true rfl) ?_
          refine z_hn (fun h_14 eh_14 => ?_)
          have eh_14 : h_14 = z_up h_13 t (.inr (5, [.ref c, .null, .null, .null, .null, .int (nI 0), .int (nI 0), .int (nI 0)])) := eh_14
          refine z_vret hb hr dJ9_init_3_60 ?_
          rw [hQ]
          exact ⟨rfl, (by rw [eh_14, eh_13, eh_12, eh_11, eh_10, eh_3, eh_1] <;> simp only [z_up_up]), rfl⟩
      · exact absurd c_25 (by omega)
  · refine z_put (k := 1) (C := RX6) (T := TX6) (N := 8) hb ho zc5 in_X6 tyX6_ok nmX6 (zf_RJ9_17 _) dJ9_init_3_13 (z_nxs eh_1) hnt (by decide) (Or.inl rfl) rfl rfl rfl (Nat.le_of_ble_eq_true rfl) ?_
    refine z_hn (fun h_15 eh_15 => ?_)
    have eh_15 : h_15 = z_up h_1 t (.inr (5, [.ref t, .ref tv_2, .null, .null, .null, .int (nI 0), .int (nI 0), .int (nI 0)])) := eh_15
    refine z_aload_n hb dJ9_init_3_16 rfl ?_
    refine z_getsQ hb ho (fun _ hW9 => zq_SUP hW9) q418 dJ9_init_3_17 (fun v_16 hv_16 => ?_)
    rcases hv_16 with rfl | ⟨tv_16, rfl⟩
    · refine z_put (k := 2) (C := RX6) (T := TX6) (N := 8) hb ho zc5 in_X6 tyX6_ok nmX6 (zf_RJ9_24 _) dJ9_init_3_20 (z_nxs eh_15) hnt (by decide) (Or.inl rfl) rfl rfl rfl (Nat.le_of_ble_eq_true rfl) ?_
      refine z_hn (fun h_17 eh_17 => ?_)
      have eh_17 : h_17 = z_up h_15 t (.inr (5, [.ref t, .ref tv_2, .null, .null, .null, .int (nI 0), .int (nI 0), .int (nI 0)])) := eh_17
      refine z_iload hb dJ9_init_3_23 rfl ?_
      refine z_if_eqN (tgt := 36) hb dJ9_init_3_25 (by decide) (by omega) (fun c_25 => ?_) (fun c_25 => ?_)
      · refine z_aload_n hb dJ9_init_3_36 rfl ?_
        refine z_null hb dJ9_init_3_37 ?_
        refine z_put (k := 1) (C := RX6) (T := TX6) (N := 8) hb ho zc5 in_X6 tyX6_ok nmX6 (zf_RJ9_17 _) dJ9_init_3_38 (z_nxs eh_17) hnt (by decide) (Or.inl rfl) rfl rfl rfl (Nat.le_of_ble_eq_true rfl) ?_
        refine z_hn (fun h_18 eh_18 => ?_)
        have eh_18 : h_18 = z_up h_17 t (.inr (5, [.ref t, .null, .null, .null, .null, .int (nI 0), .int (nI 0), .int (nI 0)])) := eh_18
        refine z_aload_n hb dJ9_init_3_41 rfl ?_
        refine z_aload_nN hb dJ9_init_3_42 rfl ?_
        refine z_put (k := 3) (C := RX6) (T := TX6) (N := 8) hb ho zc5 in_X6 tyX6_ok nmX6 (zf_RJ9_31 _) dJ9_init_3_43 (z_nxs eh_18) hnt (by decide) (Or.inl rfl) rfl rfl rfl (Nat.le_of_ble_eq_true rfl) ?_
        refine z_hn (fun h_19 eh_19 => ?_)
        have eh_19 : h_19 = z_up h_18 t (.inr (5, [.ref t, .null, .null, .null, .null, .int (nI 0), .int (nI 0), .int (nI 0)])) := eh_19
        refine z_aload_n hb dJ9_init_3_46 rfl ?_
        refine z_aload_n hb dJ9_init_3_47 rfl ?_
        refine z_put (k := 0) (C := RX6) (T := TX6) (N := 8) hb ho zc5 in_X6 tyX6_ok nmX6 (zf_RJ9_7 _) dJ9_init_3_48 (z_nxs eh_19) hnt (by decide) (Or.inl rfl) rfl rfl rfl (Nat.le_of_ble_eq_true rfl) ?_
        refine z_hn (fun h_20 eh_20 => ?_)
        have eh_20 : h_20 = z_up h_19 t (.inr (5, [.ref c, .null, .null, .null, .null, .int (nI 0), .int (nI 0), .int (nI 0)])) := eh_20
        refine z_iload_n hb dJ9_init_3_51 rfl ?_
        refine z_if_neN (tgt := 60) hb dJ9_init_3_52 (by decide) (by omega) (fun c_52 => ?_) (fun c_52 => ?_)
        · exact absurd c_52 (by omega)
        · refine z_aload_n hb dJ9_init_3_55 rfl ?_
          refine z_null hb dJ9_init_3_56 ?_
          refine z_put (k := 2) (C := RX6) (T := TX6) (N := 8) hb ho zc5 in_X6 tyX6_ok nmX6 (zf_RJ9_24 _) dJ9_init_3_57 (z_nxs eh_20) hnt (by decide) (Or.inl rfl) rfl rfl rfl (Nat.le_of_ble_eq_true rfl) ?_
          refine z_hn (fun h_21 eh_21 => ?_)
          have eh_21 : h_21 = z_up h_20 t (.inr (5, [.ref c, .null, .null, .null, .null, .int (nI 0), .int (nI 0), .int (nI 0)])) := eh_21
          refine z_vret hb hr dJ9_init_3_60 ?_
          rw [hQ]
          exact ⟨rfl, (by rw [eh_21, eh_20, eh_19, eh_18, eh_17, eh_15, eh_1] <;> simp only [z_up_up]), rfl⟩
      · exact absurd c_25 (by omega)
    · refine z_put (k := 2) (C := RX6) (T := TX6) (N := 8) hb ho zc5 in_X6 tyX6_ok nmX6 (zf_RJ9_24 _) dJ9_init_3_20 (z_nxs eh_15) hnt (by decide) (Or.inl rfl) rfl rfl rfl (Nat.le_of_ble_eq_true rfl) ?_
      refine z_hn (fun h_22 eh_22 => ?_)
      have eh_22 : h_22 = z_up h_15 t (.inr (5, [.ref t, .ref tv_2, .ref tv_16, .null, .null, .int (nI 0), .int (nI 0), .int (nI 0)])) := eh_22
      refine z_iload hb dJ9_init_3_23 rfl ?_
      refine z_if_eqN (tgt := 36) hb dJ9_init_3_25 (by decide) (by omega) (fun c_25 => ?_) (fun c_25 => ?_)
      · refine z_aload_n hb dJ9_init_3_36 rfl ?_
        refine z_null hb dJ9_init_3_37 ?_
        refine z_put (k := 1) (C := RX6) (T := TX6) (N := 8) hb ho zc5 in_X6 tyX6_ok nmX6 (zf_RJ9_17 _) dJ9_init_3_38 (z_nxs eh_22) hnt (by decide) (Or.inl rfl) rfl rfl rfl (Nat.le_of_ble_eq_true rfl) ?_
        refine z_hn (fun h_23 eh_23 => ?_)
        have eh_23 : h_23 = z_up h_22 t (.inr (5, [.ref t, .null, .ref tv_16, .null, .null, .int (nI 0), .int (nI 0), .int (nI 0)])) := eh_23
        refine z_aload_n hb dJ9_init_3_41 rfl ?_
        refine z_aload_nN hb dJ9_init_3_42 rfl ?_
        refine z_put (k := 3) (C := RX6) (T := TX6) (N := 8) hb ho zc5 in_X6 tyX6_ok nmX6 (zf_RJ9_31 _) dJ9_init_3_43 (z_nxs eh_23) hnt (by decide) (Or.inl rfl) rfl rfl rfl (Nat.le_of_ble_eq_true rfl) ?_
        refine z_hn (fun h_24 eh_24 => ?_)
        have eh_24 : h_24 = z_up h_23 t (.inr (5, [.ref t, .null, .ref tv_16, .null, .null, .int (nI 0), .int (nI 0), .int (nI 0)])) := eh_24
        refine z_aload_n hb dJ9_init_3_46 rfl ?_
        refine z_aload_n hb dJ9_init_3_47 rfl ?_
        refine z_put (k := 0) (C := RX6) (T := TX6) (N := 8) hb ho zc5 in_X6 tyX6_ok nmX6 (zf_RJ9_7 _) dJ9_init_3_48 (z_nxs eh_24) hnt (by decide) (Or.inl rfl) rfl rfl rfl (Nat.le_of_ble_eq_true rfl) ?_
        refine z_hn (fun h_25 eh_25 => ?_)
        have eh_25 : h_25 = z_up h_24 t (.inr (5, [.ref c, .null, .ref tv_16, .null, .null, .int (nI 0), .int (nI 0), .int (nI 0)])) := eh_25
        refine z_iload_n hb dJ9_init_3_51 rfl ?_
        refine z_if_neN (tgt := 60) hb dJ9_init_3_52 (by decide) (by omega) (fun c_52 => ?_) (fun c_52 => ?_)
        · exact absurd c_52 (by omega)
        · refine z_aload_n hb dJ9_init_3_55 rfl ?_
          refine z_null hb dJ9_init_3_56 ?_
          refine z_put (k := 2) (C := RX6) (T := TX6) (N := 8) hb ho zc5 in_X6 tyX6_ok nmX6 (zf_RJ9_24 _) dJ9_init_3_57 (z_nxs eh_25) hnt (by decide) (Or.inl rfl) rfl rfl rfl (Nat.le_of_ble_eq_true rfl) ?_
          refine z_hn (fun h_26 eh_26 => ?_)
          have eh_26 : h_26 = z_up h_25 t (.inr (5, [.ref c, .null, .null, .null, .null, .int (nI 0), .int (nI 0), .int (nI 0)])) := eh_26
          refine z_vret hb hr dJ9_init_3_60 ?_
          rw [hQ]
          exact ⟨rfl, (by rw [eh_26, eh_25, eh_24, eh_23, eh_22, eh_15, eh_1] <;> simp only [z_up_up]), rfl⟩
      · exact absurd c_25 (by omega)

set_option maxHeartbeats 1000000 in
theorem m_J10_init_3_5c {l : Launch} {G : zG} {h : zH} {n : Nat} {t : Nat} {c : Nat} (ht9 : h t = some (.inr (5, [.null, .null, .null, .null, .null, .int (nI 0), .int (nI 0), .int (nI 0)]))) (hnt : z_n0 G ≤ t) : z_C l G yJ10_init_3 3 0 0 [.ref t, .null, .ref c, .int (nI 0), .int (nI 0)] h n (z_r0 (z_up h t (.inr (5, [.ref c, .null, .null, .null, .null, .int (nI 0), .int (nI 0), .int (nI 0)]))) n) := by
  refine z_start zk_J10_init_3 zpl_RJ10 (Nat.le_of_ble_eq_true rfl) ?_
  intro hn0 M hl hG ho hb hN hr hm hH hrm hQ
  subst hl hG
  have ho : zm_o M = RJ10 := ho
  show z_V M h n 0 0 0 [(0, .ref t), (1, .null), (2, .ref c), (3, .int (nI 0)), (4, .int (nI 0))] []
  refine z_aload_n hb dJ10_init_3_0 rfl ?_
  refine z_aload_nN hb dJ10_init_3_1 rfl ?_
  refine z_aload_n hb dJ10_init_3_2 rfl ?_
  refine z_iload_n hb dJ10_init_3_3 rfl ?_
  refine z_iload hb dJ10_init_3_4 rfl ?_
  refine z_call0 (b' := 0) (f' := 0) (rest := []) (av := [.ref t, .null, .ref c, .int (nI 0), .int (nI 0)]) (z_siteI hb ho q1169 q1170 q1171 rfl zy_J9_init_3 zl_J9_init_3 dJ10_init_3_6 : z_Site M _ _ _ _ _ ([.null, .ref c, .int (nI 0), .int (nI 0)].reverse ++ .ref t :: []) [] _) zk_J9_init_3 q106 hrm (m_J9_init_3_5c ht9 hnt) (by omega) (by decide) (Nat.le_of_ble_eq_true rfl) (by omega) (by omega) ?_
  refine z_hn (fun h_1 eh_1 => ?_)
  have eh_1 : h_1 = z_up h t (.inr (5, [.ref c, .null, .null, .null, .null, .int (nI 0), .int (nI 0), .int (nI 0)])) := eh_1
  refine z_vret hb hr dJ10_init_3_9 ?_
  rw [hQ]
  exact ⟨rfl, (by rw [eh_1] <;> simp only [z_up_up]), rfl⟩

set_option maxHeartbeats 1000000 in
theorem m_J9_init_3_19n {l : Launch} {G : zG} {h : zH} {n : Nat} {t : Nat} (ht9 : h t = some (.inr (19, [.null, .null, .null, .null, .null, .int (nI 0), .int (nI 0)]))) (hnt : z_n0 G ≤ t) : z_C l G yJ9_init_3 2 0 0 [.ref t, .null, .null, .int (nI 0), .int (nI 0)] h n (z_r0 (z_up h t (.inr (19, [.null, .null, .null, .null, .null, .int (nI 0), .int (nI 0)]))) n) := by
  refine z_start zk_J9_init_3 zpl_RJ9 (Nat.le_of_ble_eq_true rfl) ?_
  intro hn0 M hl hG ho hb hN hr hm hH hrm hQ
  subst hl hG
  have ho : zm_o M = RJ9 := ho
  show z_V M h n 0 0 0 [(0, .ref t), (1, .null), (2, .null), (3, .int (nI 0)), (4, .int (nI 0))] []
  refine z_aload_n hb dJ9_init_3_0 rfl ?_
  refine z_oinit hb ho hrm (by omega) q415 q155 q156 (by decide) dJ9_init_3_1 ?_
  refine z_aload_n hb dJ9_init_3_4 rfl ?_
  refine z_aload_n hb dJ9_init_3_5 rfl ?_
  refine z_put (k := 0) (C := RX23) (T := TX23) (N := 7) hb ho zc19 in_X23 tyX23_ok nmX23 (zf_RJ9_7 _) dJ9_init_3_6 ht9 hnt (by decide) (Or.inl rfl) rfl rfl rfl (Nat.le_of_ble_eq_true rfl) ?_
  refine z_hn (fun h_1 eh_1 => ?_)
  have eh_1 : h_1 = z_up h t (.inr (19, [.ref t, .null, .null, .null, .null, .int (nI 0), .int (nI 0)])) := eh_1
  refine z_aload_n hb dJ9_init_3_9 rfl ?_
  refine z_getsQ hb ho (fun _ hW9 => zq_UNA hW9) q416 dJ9_init_3_10 (fun v_2 hv_2 => ?_)
  rcases hv_2 with rfl | ⟨tv_2, rfl⟩
  · refine z_put (k := 1) (C := RX23) (T := TX23) (N := 7) hb ho zc19 in_X23 tyX23_ok nmX23 (zf_RJ9_17 _) dJ9_init_3_13 (z_nxs eh_1) hnt (by decide) (Or.inl rfl) rfl rfl rfl (Nat.le_of_ble_eq_true rfl) ?_
    refine z_hn (fun h_3 eh_3 => ?_)
    have eh_3 : h_3 = z_up h_1 t (.inr (19, [.ref t, .null, .null, .null, .null, .int (nI 0), .int (nI 0)])) := eh_3
    refine z_aload_n hb dJ9_init_3_16 rfl ?_
    refine z_getsQ hb ho (fun _ hW9 => zq_SUP hW9) q418 dJ9_init_3_17 (fun v_4 hv_4 => ?_)
    rcases hv_4 with rfl | ⟨tv_4, rfl⟩
    · refine z_put (k := 2) (C := RX23) (T := TX23) (N := 7) hb ho zc19 in_X23 tyX23_ok nmX23 (zf_RJ9_24 _) dJ9_init_3_20 (z_nxs eh_3) hnt (by decide) (Or.inl rfl) rfl rfl rfl (Nat.le_of_ble_eq_true rfl) ?_
      refine z_hn (fun h_5 eh_5 => ?_)
      have eh_5 : h_5 = z_up h_3 t (.inr (19, [.ref t, .null, .null, .null, .null, .int (nI 0), .int (nI 0)])) := eh_5
      refine z_iload hb dJ9_init_3_23 rfl ?_
      refine z_if_eqN (tgt := 36) hb dJ9_init_3_25 (by decide) (by omega) (fun c_25 => ?_) (fun c_25 => ?_)
      · refine z_aload_n hb dJ9_init_3_36 rfl ?_
        refine z_null hb dJ9_init_3_37 ?_
        refine z_put (k := 1) (C := RX23) (T := TX23) (N := 7) hb ho zc19 in_X23 tyX23_ok nmX23 (zf_RJ9_17 _) dJ9_init_3_38 (z_nxs eh_5) hnt (by decide) (Or.inl rfl) rfl rfl rfl (Nat.le_of_ble_eq_true rfl) ?_
        refine z_hn (fun h_6 eh_6 => ?_)
        have eh_6 : h_6 = z_up h_5 t (.inr (19, [.ref t, .null, .null, .null, .null, .int (nI 0), .int (nI 0)])) := eh_6
        refine z_aload_n hb dJ9_init_3_41 rfl ?_
        refine z_aload_nN hb dJ9_init_3_42 rfl ?_
        refine z_put (k := 3) (C := RX23) (T := TX23) (N := 7) hb ho zc19 in_X23 tyX23_ok nmX23 (zf_RJ9_31 _) dJ9_init_3_43 (z_nxs eh_6) hnt (by decide) (Or.inl rfl) rfl rfl rfl (Nat.le_of_ble_eq_true rfl) ?_
        refine z_hn (fun h_7 eh_7 => ?_)
        have eh_7 : h_7 = z_up h_6 t (.inr (19, [.ref t, .null, .null, .null, .null, .int (nI 0), .int (nI 0)])) := eh_7
        refine z_aload_n hb dJ9_init_3_46 rfl ?_
        refine z_aload_nN hb dJ9_init_3_47 rfl ?_
        refine z_put (k := 0) (C := RX23) (T := TX23) (N := 7) hb ho zc19 in_X23 tyX23_ok nmX23 (zf_RJ9_7 _) dJ9_init_3_48 (z_nxs eh_7) hnt (by decide) (Or.inl rfl) rfl rfl rfl (Nat.le_of_ble_eq_true rfl) ?_
        refine z_hn (fun h_8 eh_8 => ?_)
        have eh_8 : h_8 = z_up h_7 t (.inr (19, [.null, .null, .null, .null, .null, .int (nI 0), .int (nI 0)])) := eh_8
        refine z_iload_n hb dJ9_init_3_51 rfl ?_
        refine z_if_neN (tgt := 60) hb dJ9_init_3_52 (by decide) (by omega) (fun c_52 => ?_) (fun c_52 => ?_)
        · exact absurd c_52 (by omega)
        · refine z_aload_n hb dJ9_init_3_55 rfl ?_
          refine z_null hb dJ9_init_3_56 ?_
          refine z_put (k := 2) (C := RX23) (T := TX23) (N := 7) hb ho zc19 in_X23 tyX23_ok nmX23 (zf_RJ9_24 _) dJ9_init_3_57 (z_nxs eh_8) hnt (by decide) (Or.inl rfl) rfl rfl rfl (Nat.le_of_ble_eq_true rfl) ?_
          refine z_hn (fun h_9 eh_9 => ?_)
          have eh_9 : h_9 = z_up h_8 t (.inr (19, [.null, .null, .null, .null, .null, .int (nI 0), .int (nI 0)])) := eh_9
          refine z_vret hb hr dJ9_init_3_60 ?_
          rw [hQ]
          exact ⟨rfl, (by rw [eh_9, eh_8, eh_7, eh_6, eh_5, eh_3, eh_1] <;> simp only [z_up_up]), rfl⟩
      · exact absurd c_25 (by omega)
    · refine z_put (k := 2) (C := RX23) (T := TX23) (N := 7) hb ho zc19 in_X23 tyX23_ok nmX23 (zf_RJ9_24 _) dJ9_init_3_20 (z_nxs eh_3) hnt (by decide) (Or.inl rfl) rfl rfl rfl (Nat.le_of_ble_eq_true rfl) ?_
      refine z_hn (fun h_10 eh_10 => ?_)
      have eh_10 : h_10 = z_up h_3 t (.inr (19, [.ref t, .null, .ref tv_4, .null, .null, .int (nI 0), .int (nI 0)])) := eh_10
      refine z_iload hb dJ9_init_3_23 rfl ?_
      refine z_if_eqN (tgt := 36) hb dJ9_init_3_25 (by decide) (by omega) (fun c_25 => ?_) (fun c_25 => ?_)
      · refine z_aload_n hb dJ9_init_3_36 rfl ?_
        refine z_null hb dJ9_init_3_37 ?_
        refine z_put (k := 1) (C := RX23) (T := TX23) (N := 7) hb ho zc19 in_X23 tyX23_ok nmX23 (zf_RJ9_17 _) dJ9_init_3_38 (z_nxs eh_10) hnt (by decide) (Or.inl rfl) rfl rfl rfl (Nat.le_of_ble_eq_true rfl) ?_
        refine z_hn (fun h_11 eh_11 => ?_)
        have eh_11 : h_11 = z_up h_10 t (.inr (19, [.ref t, .null, .ref tv_4, .null, .null, .int (nI 0), .int (nI 0)])) := eh_11
        refine z_aload_n hb dJ9_init_3_41 rfl ?_
        refine z_aload_nN hb dJ9_init_3_42 rfl ?_
        refine z_put (k := 3) (C := RX23) (T := TX23) (N := 7) hb ho zc19 in_X23 tyX23_ok nmX23 (zf_RJ9_31 _) dJ9_init_3_43 (z_nxs eh_11) hnt (by decide) (Or.inl rfl) rfl rfl rfl (Nat.le_of_ble_eq_true rfl) ?_
        refine z_hn (fun h_12 eh_12 => ?_)
        have eh_12 : h_12 = z_up h_11 t (.inr (19, [.ref t, .null, .ref tv_4, .null, .null, .int (nI 0), .int (nI 0)])) := eh_12
        refine z_aload_n hb dJ9_init_3_46 rfl ?_
        refine z_aload_nN hb dJ9_init_3_47 rfl ?_
        refine z_put (k := 0) (C := RX23) (T := TX23) (N := 7) hb ho zc19 in_X23 tyX23_ok nmX23 (zf_RJ9_7 _) dJ9_init_3_48 (z_nxs eh_12) hnt (by decide) (Or.inl rfl) rfl rfl rfl (Nat.le_of_ble_eq_true rfl) ?_
        refine z_hn (fun h_13 eh_13 => ?_)
        have eh_13 : h_13 = z_up h_12 t (.inr (19, [.null, .null, .ref tv_4, .null, .null, .int (nI 0), .int (nI 0)])) := eh_13
        refine z_iload_n hb dJ9_init_3_51 rfl ?_
        refine z_if_neN (tgt := 60) hb dJ9_init_3_52 (by decide) (by omega) (fun c_52 => ?_) (fun c_52 => ?_)
        · exact absurd c_52 (by omega)
        · refine z_aload_n hb dJ9_init_3_55 rfl ?_
          refine z_null hb dJ9_init_3_56 ?_
          refine z_put (k := 2) (C := RX23) (T := TX23) (N := 7) hb ho zc19 in_X23 tyX23_ok nmX23 (zf_RJ9_24 _) dJ9_init_3_57 (z_nxs eh_13) hnt (by decide) (Or.inl rfl) rfl rfl rfl (Nat.le_of_ble_eq_true rfl) ?_
          refine z_hn (fun h_14 eh_14 => ?_)
          have eh_14 : h_14 = z_up h_13 t (.inr (19, [.null, .null, .null, .null, .null, .int (nI 0), .int (nI 0)])) := eh_14
          refine z_vret hb hr dJ9_init_3_60 ?_
          rw [hQ]
          exact ⟨rfl, (by rw [eh_14, eh_13, eh_12, eh_11, eh_10, eh_3, eh_1] <;> simp only [z_up_up]), rfl⟩
      · exact absurd c_25 (by omega)
  · refine z_put (k := 1) (C := RX23) (T := TX23) (N := 7) hb ho zc19 in_X23 tyX23_ok nmX23 (zf_RJ9_17 _) dJ9_init_3_13 (z_nxs eh_1) hnt (by decide) (Or.inl rfl) rfl rfl rfl (Nat.le_of_ble_eq_true rfl) ?_
    refine z_hn (fun h_15 eh_15 => ?_)
    have eh_15 : h_15 = z_up h_1 t (.inr (19, [.ref t, .ref tv_2, .null, .null, .null, .int (nI 0), .int (nI 0)])) := eh_15
    refine z_aload_n hb dJ9_init_3_16 rfl ?_
    refine z_getsQ hb ho (fun _ hW9 => zq_SUP hW9) q418 dJ9_init_3_17 (fun v_16 hv_16 => ?_)
    rcases hv_16 with rfl | ⟨tv_16, rfl⟩
    · refine z_put (k := 2) (C := RX23) (T := TX23) (N := 7) hb ho zc19 in_X23 tyX23_ok nmX23 (zf_RJ9_24 _) dJ9_init_3_20 (z_nxs eh_15) hnt (by decide) (Or.inl rfl) rfl rfl rfl (Nat.le_of_ble_eq_true rfl) ?_
      refine z_hn (fun h_17 eh_17 => ?_)
      have eh_17 : h_17 = z_up h_15 t (.inr (19, [.ref t, .ref tv_2, .null, .null, .null, .int (nI 0), .int (nI 0)])) := eh_17
      refine z_iload hb dJ9_init_3_23 rfl ?_
      refine z_if_eqN (tgt := 36) hb dJ9_init_3_25 (by decide) (by omega) (fun c_25 => ?_) (fun c_25 => ?_)
      · refine z_aload_n hb dJ9_init_3_36 rfl ?_
        refine z_null hb dJ9_init_3_37 ?_
        refine z_put (k := 1) (C := RX23) (T := TX23) (N := 7) hb ho zc19 in_X23 tyX23_ok nmX23 (zf_RJ9_17 _) dJ9_init_3_38 (z_nxs eh_17) hnt (by decide) (Or.inl rfl) rfl rfl rfl (Nat.le_of_ble_eq_true rfl) ?_
        refine z_hn (fun h_18 eh_18 => ?_)
        have eh_18 : h_18 = z_up h_17 t (.inr (19, [.ref t, .null, .null, .null, .null, .int (nI 0), .int (nI 0)])) := eh_18
        refine z_aload_n hb dJ9_init_3_41 rfl ?_
        refine z_aload_nN hb dJ9_init_3_42 rfl ?_
        refine z_put (k := 3) (C := RX23) (T := TX23) (N := 7) hb ho zc19 in_X23 tyX23_ok nmX23 (zf_RJ9_31 _) dJ9_init_3_43 (z_nxs eh_18) hnt (by decide) (Or.inl rfl) rfl rfl rfl (Nat.le_of_ble_eq_true rfl) ?_
        refine z_hn (fun h_19 eh_19 => ?_)
        have eh_19 : h_19 = z_up h_18 t (.inr (19, [.ref t, .null, .null, .null, .null, .int (nI 0), .int (nI 0)])) := eh_19
        refine z_aload_n hb dJ9_init_3_46 rfl ?_
        refine z_aload_nN hb dJ9_init_3_47 rfl ?_
        refine z_put (k := 0) (C := RX23) (T := TX23) (N := 7) hb ho zc19 in_X23 tyX23_ok nmX23 (zf_RJ9_7 _) dJ9_init_3_48 (z_nxs eh_19) hnt (by decide) (Or.inl rfl) rfl rfl rfl (Nat.le_of_ble_eq_true rfl) ?_
        refine z_hn (fun h_20 eh_20 => ?_)
        have eh_20 : h_20 = z_up h_19 t (.inr (19, [.null, .null, .null, .null, .null, .int (nI 0), .int (nI 0)])) := eh_20
        refine z_iload_n hb dJ9_init_3_51 rfl ?_
        refine z_if_neN (tgt := 60) hb dJ9_init_3_52 (by decide) (by omega) (fun c_52 => ?_) (fun c_52 => ?_)
        · exact absurd c_52 (by omega)
        · refine z_aload_n hb dJ9_init_3_55 rfl ?_
          refine z_null hb dJ9_init_3_56 ?_
          refine z_put (k := 2) (C := RX23) (T := TX23) (N := 7) hb ho zc19 in_X23 tyX23_ok nmX23 (zf_RJ9_24 _) dJ9_init_3_57 (z_nxs eh_20) hnt (by decide) (Or.inl rfl) rfl rfl rfl (Nat.le_of_ble_eq_true rfl) ?_
          refine z_hn (fun h_21 eh_21 => ?_)
          have eh_21 : h_21 = z_up h_20 t (.inr (19, [.null, .null, .null, .null, .null, .int (nI 0), .int (nI 0)])) := eh_21
          refine z_vret hb hr dJ9_init_3_60 ?_
          rw [hQ]
          exact ⟨rfl, (by rw [eh_21, eh_20, eh_19, eh_18, eh_17, eh_15, eh_1] <;> simp only [z_up_up]), rfl⟩
      · exact absurd c_25 (by omega)
    · refine z_put (k := 2) (C := RX23) (T := TX23) (N := 7) hb ho zc19 in_X23 tyX23_ok nmX23 (zf_RJ9_24 _) dJ9_init_3_20 (z_nxs eh_15) hnt (by decide) (Or.inl rfl) rfl rfl rfl (Nat.le_of_ble_eq_true rfl) ?_
      refine z_hn (fun h_22 eh_22 => ?_)
      have eh_22 : h_22 = z_up h_15 t (.inr (19, [.ref t, .ref tv_2, .ref tv_16, .null, .null, .int (nI 0), .int (nI 0)])) := eh_22
      refine z_iload hb dJ9_init_3_23 rfl ?_
      refine z_if_eqN (tgt := 36) hb dJ9_init_3_25 (by decide) (by omega) (fun c_25 => ?_) (fun c_25 => ?_)
      · refine z_aload_n hb dJ9_init_3_36 rfl ?_
        refine z_null hb dJ9_init_3_37 ?_
        refine z_put (k := 1) (C := RX23) (T := TX23) (N := 7) hb ho zc19 in_X23 tyX23_ok nmX23 (zf_RJ9_17 _) dJ9_init_3_38 (z_nxs eh_22) hnt (by decide) (Or.inl rfl) rfl rfl rfl (Nat.le_of_ble_eq_true rfl) ?_
        refine z_hn (fun h_23 eh_23 => ?_)
        have eh_23 : h_23 = z_up h_22 t (.inr (19, [.ref t, .null, .ref tv_16, .null, .null, .int (nI 0), .int (nI 0)])) := eh_23
        refine z_aload_n hb dJ9_init_3_41 rfl ?_
        refine z_aload_nN hb dJ9_init_3_42 rfl ?_
        refine z_put (k := 3) (C := RX23) (T := TX23) (N := 7) hb ho zc19 in_X23 tyX23_ok nmX23 (zf_RJ9_31 _) dJ9_init_3_43 (z_nxs eh_23) hnt (by decide) (Or.inl rfl) rfl rfl rfl (Nat.le_of_ble_eq_true rfl) ?_
        refine z_hn (fun h_24 eh_24 => ?_)
        have eh_24 : h_24 = z_up h_23 t (.inr (19, [.ref t, .null, .ref tv_16, .null, .null, .int (nI 0), .int (nI 0)])) := eh_24
        refine z_aload_n hb dJ9_init_3_46 rfl ?_
        refine z_aload_nN hb dJ9_init_3_47 rfl ?_
        refine z_put (k := 0) (C := RX23) (T := TX23) (N := 7) hb ho zc19 in_X23 tyX23_ok nmX23 (zf_RJ9_7 _) dJ9_init_3_48 (z_nxs eh_24) hnt (by decide) (Or.inl rfl) rfl rfl rfl (Nat.le_of_ble_eq_true rfl) ?_
        refine z_hn (fun h_25 eh_25 => ?_)
        have eh_25 : h_25 = z_up h_24 t (.inr (19, [.null, .null, .ref tv_16, .null, .null, .int (nI 0), .int (nI 0)])) := eh_25
        refine z_iload_n hb dJ9_init_3_51 rfl ?_
        refine z_if_neN (tgt := 60) hb dJ9_init_3_52 (by decide) (by omega) (fun c_52 => ?_) (fun c_52 => ?_)
        · exact absurd c_52 (by omega)
        · refine z_aload_n hb dJ9_init_3_55 rfl ?_
          refine z_null hb dJ9_init_3_56 ?_
          refine z_put (k := 2) (C := RX23) (T := TX23) (N := 7) hb ho zc19 in_X23 tyX23_ok nmX23 (zf_RJ9_24 _) dJ9_init_3_57 (z_nxs eh_25) hnt (by decide) (Or.inl rfl) rfl rfl rfl (Nat.le_of_ble_eq_true rfl) ?_
          refine z_hn (fun h_26 eh_26 => ?_)
          have eh_26 : h_26 = z_up h_25 t (.inr (19, [.null, .null, .null, .null, .null, .int (nI 0), .int (nI 0)])) := eh_26
          refine z_vret hb hr dJ9_init_3_60 ?_
          rw [hQ]
          exact ⟨rfl, (by rw [eh_26, eh_25, eh_24, eh_23, eh_22, eh_15, eh_1] <;> simp only [z_up_up]), rfl⟩
      · exact absurd c_25 (by omega)

set_option maxHeartbeats 1000000 in
theorem m_J10_init_3_19n {l : Launch} {G : zG} {h : zH} {n : Nat} {t : Nat} (ht9 : h t = some (.inr (19, [.null, .null, .null, .null, .null, .int (nI 0), .int (nI 0)]))) (hnt : z_n0 G ≤ t) : z_C l G yJ10_init_3 3 0 0 [.ref t, .null, .null, .int (nI 0), .int (nI 0)] h n (z_r0 (z_up h t (.inr (19, [.null, .null, .null, .null, .null, .int (nI 0), .int (nI 0)]))) n) := by
  refine z_start zk_J10_init_3 zpl_RJ10 (Nat.le_of_ble_eq_true rfl) ?_
  intro hn0 M hl hG ho hb hN hr hm hH hrm hQ
  subst hl hG
  have ho : zm_o M = RJ10 := ho
  show z_V M h n 0 0 0 [(0, .ref t), (1, .null), (2, .null), (3, .int (nI 0)), (4, .int (nI 0))] []
  refine z_aload_n hb dJ10_init_3_0 rfl ?_
  refine z_aload_nN hb dJ10_init_3_1 rfl ?_
  refine z_aload_nN hb dJ10_init_3_2 rfl ?_
  refine z_iload_n hb dJ10_init_3_3 rfl ?_
  refine z_iload hb dJ10_init_3_4 rfl ?_
  refine z_call0 (b' := 0) (f' := 0) (rest := []) (av := [.ref t, .null, .null, .int (nI 0), .int (nI 0)]) (z_siteI hb ho q1169 q1170 q1171 rfl zy_J9_init_3 zl_J9_init_3 dJ10_init_3_6 : z_Site M _ _ _ _ _ ([.null, .null, .int (nI 0), .int (nI 0)].reverse ++ .ref t :: []) [] _) zk_J9_init_3 q106 hrm (m_J9_init_3_19n ht9 hnt) (by omega) (by decide) (Nat.le_of_ble_eq_true rfl) (by omega) (by omega) ?_
  refine z_hn (fun h_1 eh_1 => ?_)
  have eh_1 : h_1 = z_up h t (.inr (19, [.null, .null, .null, .null, .null, .int (nI 0), .int (nI 0)])) := eh_1
  refine z_vret hb hr dJ10_init_3_9 ?_
  rw [hQ]
  exact ⟨rfl, (by rw [eh_1] <;> simp only [z_up_up]), rfl⟩

set_option maxHeartbeats 1000000 in
theorem m_X6_init_2n {l : Launch} {G : zG} {h : zH} {n : Nat} {t : Nat} (nu de : Int32) (ht9 : h t = some (.inr (5, [.null, .null, .null, .null, .null, .int (nI 0), .int (nI 0), .int (nI 0)]))) (hnt : z_n0 G ≤ t) : z_C l G yX6_init_2 4 0 0 [.ref t, .int nu, .int de, .null] h n (z_r0 (z_up h t (.inr (5, [.null, .null, .null, .null, .null, .int (nI 0), .int nu, .int de]))) n) := by
  refine z_start zk_X6_init_2 zpl_RX6 (Nat.le_of_ble_eq_true rfl) ?_
  intro hn0 M hl hG ho hb hN hr hm hH hrm hQ
  subst hl hG
  have ho : zm_o M = RX6 := ho
  show z_V M h n 0 0 0 [(0, .ref t), (1, .int nu), (2, .int de), (3, .null)] []
  refine z_aload_n hb dX6_init_2_0 rfl ?_
  refine z_null hb dX6_init_2_1 ?_
  refine z_aload_nN hb dX6_init_2_2 rfl ?_
  refine z_iconst (x := nI 0) hb dX6_init_2_3 (by decide) ?_
  refine z_iconst (x := nI 0) hb dX6_init_2_4 (by decide) ?_
  refine z_call0 (b' := 0) (f' := 0) (rest := []) (av := [.ref t, .null, .null, .int (nI 0), .int (nI 0)]) (z_siteI hb ho q1166 q1167 q1168 rfl zy_J10_init_3 zl_J10_init_3 dX6_init_2_5 : z_Site M _ _ _ _ _ ([.null, .null, .int (nI 0), .int (nI 0)].reverse ++ .ref t :: []) [] _) zk_J10_init_3 q107 hrm (m_J10_init_3_5n ht9 hnt) (by omega) (by decide) (Nat.le_of_ble_eq_true rfl) (by omega) (by omega) ?_
  refine z_hn (fun h_1 eh_1 => ?_)
  have eh_1 : h_1 = z_up h t (.inr (5, [.null, .null, .null, .null, .null, .int (nI 0), .int (nI 0), .int (nI 0)])) := eh_1
  refine z_aload_n hb dX6_init_2_8 rfl ?_
  refine z_iload_n hb dX6_init_2_9 rfl ?_
  refine z_put (k := 6) (C := RX6) (T := TX6) (N := 8) hb ho zc5 in_X6 tyX6_ok nmX6 (zf_RX6_12 _) dX6_init_2_10 (z_nxs eh_1) hnt (by decide) (Or.inr ⟨hm, rfl⟩) rfl rfl rfl (Nat.le_of_ble_eq_true rfl) ?_
  refine z_hn (fun h_2 eh_2 => ?_)
  have eh_2 : h_2 = z_up h_1 t (.inr (5, [.null, .null, .null, .null, .null, .int (nI 0), .int nu, .int (nI 0)])) := eh_2
  refine z_aload_n hb dX6_init_2_13 rfl ?_
  refine z_iload_n hb dX6_init_2_14 rfl ?_
  refine z_put (k := 7) (C := RX6) (T := TX6) (N := 8) hb ho zc5 in_X6 tyX6_ok nmX6 (zf_RX6_16 _) dX6_init_2_15 (z_nxs eh_2) hnt (by decide) (Or.inr ⟨hm, rfl⟩) rfl rfl rfl (Nat.le_of_ble_eq_true rfl) ?_
  refine z_hn (fun h_3 eh_3 => ?_)
  have eh_3 : h_3 = z_up h_2 t (.inr (5, [.null, .null, .null, .null, .null, .int (nI 0), .int nu, .int de])) := eh_3
  refine z_vret hb hr dX6_init_2_18 ?_
  rw [hQ]
  exact ⟨rfl, (by rw [eh_3, eh_2, eh_1] <;> simp only [z_up_up]), rfl⟩

set_option maxHeartbeats 1000000 in
theorem m_X6_init_2c {l : Launch} {G : zG} {h : zH} {n : Nat} {t : Nat} (nu de : Int32) {c : Nat} (ht9 : h t = some (.inr (5, [.null, .null, .null, .null, .null, .int (nI 0), .int (nI 0), .int (nI 0)]))) (hnt : z_n0 G ≤ t) : z_C l G yX6_init_2 4 0 0 [.ref t, .int nu, .int de, .ref c] h n (z_r0 (z_up h t (.inr (5, [.ref c, .null, .null, .null, .null, .int (nI 0), .int nu, .int de]))) n) := by
  refine z_start zk_X6_init_2 zpl_RX6 (Nat.le_of_ble_eq_true rfl) ?_
  intro hn0 M hl hG ho hb hN hr hm hH hrm hQ
  subst hl hG
  have ho : zm_o M = RX6 := ho
  show z_V M h n 0 0 0 [(0, .ref t), (1, .int nu), (2, .int de), (3, .ref c)] []
  refine z_aload_n hb dX6_init_2_0 rfl ?_
  refine z_null hb dX6_init_2_1 ?_
  refine z_aload_n hb dX6_init_2_2 rfl ?_
  refine z_iconst (x := nI 0) hb dX6_init_2_3 (by decide) ?_
  refine z_iconst (x := nI 0) hb dX6_init_2_4 (by decide) ?_
  refine z_call0 (b' := 0) (f' := 0) (rest := []) (av := [.ref t, .null, .ref c, .int (nI 0), .int (nI 0)]) (z_siteI hb ho q1166 q1167 q1168 rfl zy_J10_init_3 zl_J10_init_3 dX6_init_2_5 : z_Site M _ _ _ _ _ ([.null, .ref c, .int (nI 0), .int (nI 0)].reverse ++ .ref t :: []) [] _) zk_J10_init_3 q107 hrm (m_J10_init_3_5c ht9 hnt) (by omega) (by decide) (Nat.le_of_ble_eq_true rfl) (by omega) (by omega) ?_
  refine z_hn (fun h_1 eh_1 => ?_)
  have eh_1 : h_1 = z_up h t (.inr (5, [.ref c, .null, .null, .null, .null, .int (nI 0), .int (nI 0), .int (nI 0)])) := eh_1
  refine z_aload_n hb dX6_init_2_8 rfl ?_
  refine z_iload_n hb dX6_init_2_9 rfl ?_
  refine z_put (k := 6) (C := RX6) (T := TX6) (N := 8) hb ho zc5 in_X6 tyX6_ok nmX6 (zf_RX6_12 _) dX6_init_2_10 (z_nxs eh_1) hnt (by decide) (Or.inr ⟨hm, rfl⟩) rfl rfl rfl (Nat.le_of_ble_eq_true rfl) ?_
  refine z_hn (fun h_2 eh_2 => ?_)
  have eh_2 : h_2 = z_up h_1 t (.inr (5, [.ref c, .null, .null, .null, .null, .int (nI 0), .int nu, .int (nI 0)])) := eh_2
  refine z_aload_n hb dX6_init_2_13 rfl ?_
  refine z_iload_n hb dX6_init_2_14 rfl ?_
  refine z_put (k := 7) (C := RX6) (T := TX6) (N := 8) hb ho zc5 in_X6 tyX6_ok nmX6 (zf_RX6_16 _) dX6_init_2_15 (z_nxs eh_2) hnt (by decide) (Or.inr ⟨hm, rfl⟩) rfl rfl rfl (Nat.le_of_ble_eq_true rfl) ?_
  refine z_hn (fun h_3 eh_3 => ?_)
  have eh_3 : h_3 = z_up h_2 t (.inr (5, [.ref c, .null, .null, .null, .null, .int (nI 0), .int nu, .int de])) := eh_3
  refine z_vret hb hr dX6_init_2_18 ?_
  rw [hQ]
  exact ⟨rfl, (by rw [eh_3, eh_2, eh_1] <;> simp only [z_up_up]), rfl⟩

set_option maxHeartbeats 1000000 in
theorem m_X6_init {l : Launch} {G : zG} {h : zH} {n : Nat} {t : Nat} (nu de : Int32) (ht9 : h t = some (.inr (5, [.null, .null, .null, .null, .null, .int (nI 0), .int (nI 0), .int (nI 0)]))) (hnt : z_n0 G ≤ t) : z_C l G yX6_init 5 0 0 [.ref t, .int nu, .int de] h n (z_r0 (z_up h t (.inr (5, [.null, .null, .null, .null, .null, .int (nI 0), .int nu, .int de]))) n) := by
  refine z_start zk_X6_init zpl_RX6 (Nat.le_of_ble_eq_true rfl) ?_
  intro hn0 M hl hG ho hb hN hr hm hH hrm hQ
  subst hl hG
  have ho : zm_o M = RX6 := ho
  show z_V M h n 0 0 0 [(0, .ref t), (1, .int nu), (2, .int de)] []
  refine z_aload_n hb dX6_init_0 rfl ?_
  refine z_iload_n hb dX6_init_1 rfl ?_
  refine z_iload_n hb dX6_init_2 rfl ?_
  refine z_null hb dX6_init_3 ?_
  refine z_call0 (b' := 0) (f' := 0) (rest := []) (av := [.ref t, .int nu, .int de, .null]) (z_siteI hb ho q1163 q1164 q1165 rfl zy_X6_init_2 zl_X6_init_2 dX6_init_4 : z_Site M _ _ _ _ _ ([.int nu, .int de, .null].reverse ++ .ref t :: []) [] _) zk_X6_init_2 q121 hrm (m_X6_init_2n nu de ht9 hnt) (by omega) (by decide) (Nat.le_of_ble_eq_true rfl) (by omega) (by omega) ?_
  refine z_hn (fun h_1 eh_1 => ?_)
  have eh_1 : h_1 = z_up h t (.inr (5, [.null, .null, .null, .null, .null, .int (nI 0), .int nu, .int de])) := eh_1
  refine z_vret hb hr dX6_init_7 ?_
  rw [hQ]
  exact ⟨rfl, (by rw [eh_1] <;> simp only [z_up_up]), rfl⟩

set_option maxHeartbeats 1000000 in
theorem m_X23_init {l : Launch} {G : zG} {h : zH} {n : Nat} {t : Nat} (po : Int32) (ht9 : h t = some (.inr (19, [.null, .null, .null, .null, .null, .int (nI 0), .int (nI 0)]))) (hnt : z_n0 G ≤ t) : z_C l G yX23_init 4 0 0 [.ref t, .int po] h n (z_r0 (z_up h t (.inr (19, [.null, .null, .null, .null, .null, .int (nI 0), .int po]))) n) := by
  refine z_start zk_X23_init zpl_RX23 (Nat.le_of_ble_eq_true rfl) ?_
  intro hn0 M hl hG ho hb hN hr hm hH hrm hQ
  subst hl hG
  have ho : zm_o M = RX23 := ho
  show z_V M h n 0 0 0 [(0, .ref t), (1, .int po)] []
  refine z_aload_n hb dX23_init_0 rfl ?_
  refine z_null hb dX23_init_1 ?_
  refine z_null hb dX23_init_2 ?_
  refine z_iconst (x := nI 0) hb dX23_init_3 (by decide) ?_
  refine z_iconst (x := nI 0) hb dX23_init_4 (by decide) ?_
  refine z_call0 (b' := 0) (f' := 0) (rest := []) (av := [.ref t, .null, .null, .int (nI 0), .int (nI 0)]) (z_siteI hb ho q2342 q1167 q1168 rfl zy_J10_init_3 zl_J10_init_3 dX23_init_5 : z_Site M _ _ _ _ _ ([.null, .null, .int (nI 0), .int (nI 0)].reverse ++ .ref t :: []) [] _) zk_J10_init_3 q107 hrm (m_J10_init_3_19n ht9 hnt) (by omega) (by decide) (Nat.le_of_ble_eq_true rfl) (by omega) (by omega) ?_
  refine z_hn (fun h_1 eh_1 => ?_)
  have eh_1 : h_1 = z_up h t (.inr (19, [.null, .null, .null, .null, .null, .int (nI 0), .int (nI 0)])) := eh_1
  refine z_aload_n hb dX23_init_8 rfl ?_
  refine z_iload_n hb dX23_init_9 rfl ?_
  refine z_put (k := 6) (C := RX23) (T := TX23) (N := 7) hb ho zc19 in_X23 tyX23_ok nmX23 (zf_RX23_7 _) dX23_init_10 (z_nxs eh_1) hnt (by decide) (Or.inr ⟨hm, rfl⟩) rfl rfl rfl (Nat.le_of_ble_eq_true rfl) ?_
  refine z_hn (fun h_2 eh_2 => ?_)
  have eh_2 : h_2 = z_up h_1 t (.inr (19, [.null, .null, .null, .null, .null, .int (nI 0), .int po])) := eh_2
  refine z_vret hb hr dX23_init_13 ?_
  rw [hQ]
  exact ⟨rfl, (by rw [eh_2, eh_1] <;> simp only [z_up_up]), rfl⟩

