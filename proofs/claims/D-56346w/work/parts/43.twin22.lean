set_option maxHeartbeats 8000000 in
set_option maxRecDepth 4000 in
theorem m_X3_init {l : Launch} {G : zG} {h : zH} {n : Nat} {t : Nat} (h0 : h t = some (.inr (2, [.null, .null, .null, .null, .null, .null, .null, .null, .null, .null, .null, .null, .int (nI 0), .int (nI 0), .int (nI 0), .int (nI 0), .int (nI 0), .int (nI 0), .int (nI 0), .null, .int (nI 0), .null, .null, .null, .int (nI 0), .int (nI 0), .int (nI 0), .int (nI 0), .int (nI 0)]))) (ht : z_n0 G ≤ t) : z_C l G yX3_init 2 16 6804 [.ref t] h (t + 1) (z_r0 (z_tw G t (fun _ => 0) (fun _ => 0) (fun _ => 0) (fun _ => 0) (fun _ => 0) (fun _ => 0) (fun _ => 0) (fun _ => 0) (fun _ => 0) (fun _ => 0) (fun _ => 0) (fun _ => 0) (nI 0) (nI 0) (-1) (nI 0) (nI 0) (nI 0) false (fun _ => 0) (nI 0) (fun _ => 0) (fun _ => 0) (fun _ => 0) (nI 0) (nI 0) (nI 0) (nI 0) false h) (t + 17)) := by
  refine z_start zk_X3_init zpl_RX3 (Nat.le_of_ble_eq_true rfl) ?_
  intro hn0 M hl hG ho hb hN hr hm hH hrm hQ
  subst hl hG
  have ho : zm_o M = RX3 := ho
  show z_V M h (t + 1) 16 6804 0 [(0, .ref t)] []
  refine z_aload_n hb dX3_init_0 rfl ?_
  refine z_oinit hb ho hrm (by omega) q2694 q155 q156 (by decide) dX3_init_1 ?_
  refine z_aload_n hb dX3_init_4 rfl ?_
  refine z_sipush (x := nI 272) hb dX3_init_5 (by decide) ?_
  refine z_newi (N := 272) (b' := 15) (f' := 6532) hb q2783 dX3_init_8 rfl (by omega) (by omega) (by omega) ?_
  refine z_hn (fun h_1 eh_1 => ?_)
  have eh_1 : h_1 = z_up h (t + 1) (.inl ((zm_G M).2.1 0, 272, .inl (fun _ => 0))) := eh_1
  have k_2 : h_1 t = some (.inr (2, [.null, .null, .null, .null, .null, .null, .null, .null, .null, .null, .null, .null, .int (nI 0), .int (nI 0), .int (nI 0), .int (nI 0), .int (nI 0), .int (nI 0), .int (nI 0), .null, .int (nI 0), .null, .null, .null, .int (nI 0), .int (nI 0), .int (nI 0), .int (nI 0), .int (nI 0)])) := z_nx eh_1 (Nat.ne_of_lt (by omega)) h0
  refine z_put (k := 0) (C := RX3) (T := TX3) (N := 29) hb ho zc2 in_X3 tyX3_ok nmX3 (zf_RX3_7 _) dX3_init_10 k_2 ht (by decide) (Or.inr ⟨hm, rfl⟩) rfl rfl rfl (Nat.le_of_ble_eq_true rfl) ?_
  refine z_hn (fun h_3 eh_3 => ?_)
  have eh_3 : h_3 = z_up h_1 t (.inr (2, [.ref (t + 1), .null, .null, .null, .null, .null, .null, .null, .null, .null, .null, .null, .int (nI 0), .int (nI 0), .int (nI 0), .int (nI 0), .int (nI 0), .int (nI 0), .int (nI 0), .null, .int (nI 0), .null, .null, .null, .int (nI 0), .int (nI 0), .int (nI 0), .int (nI 0), .int (nI 0)])) := eh_3
  refine z_aload_n hb dX3_init_13 rfl ?_
  refine z_sipush (x := nI 272) hb dX3_init_14 (by decide) ?_
  refine z_newi (N := 272) (b' := 14) (f' := 6260) hb q2783 dX3_init_17 rfl (by omega) (by omega) (by omega) ?_
  refine z_hn (fun h_4 eh_4 => ?_)
  have eh_4 : h_4 = z_up h_3 (t + 2) (.inl ((zm_G M).2.1 0, 272, .inl (fun _ => 0))) := eh_4
  have k_5 : h_4 t = some (.inr (2, [.ref (t + 1), .null, .null, .null, .null, .null, .null, .null, .null, .null, .null, .null, .int (nI 0), .int (nI 0), .int (nI 0), .int (nI 0), .int (nI 0), .int (nI 0), .int (nI 0), .null, .int (nI 0), .null, .null, .null, .int (nI 0), .int (nI 0), .int (nI 0), .int (nI 0), .int (nI 0)])) := z_nx eh_4 (Nat.ne_of_lt (by omega)) (z_nxs eh_3)
  refine z_put (k := 1) (C := RX3) (T := TX3) (N := 29) hb ho zc2 in_X3 tyX3_ok nmX3 (zf_RX3_13 _) dX3_init_19 k_5 ht (by decide) (Or.inr ⟨hm, rfl⟩) rfl rfl rfl (Nat.le_of_ble_eq_true rfl) ?_
  refine z_hn (fun h_6 eh_6 => ?_)
  have eh_6 : h_6 = z_up h_4 t (.inr (2, [.ref (t + 1), .ref (t + 2), .null, .null, .null, .null, .null, .null, .null, .null, .null, .null, .int (nI 0), .int (nI 0), .int (nI 0), .int (nI 0), .int (nI 0), .int (nI 0), .int (nI 0), .null, .int (nI 0), .null, .null, .null, .int (nI 0), .int (nI 0), .int (nI 0), .int (nI 0), .int (nI 0)])) := eh_6
  refine z_aload_n hb dX3_init_22 rfl ?_
  refine z_sipush (x := nI 272) hb dX3_init_23 (by decide) ?_
  refine z_newi (N := 272) (b' := 13) (f' := 5988) hb q2783 dX3_init_26 rfl (by omega) (by omega) (by omega) ?_
  refine z_hn (fun h_7 eh_7 => ?_)
  have eh_7 : h_7 = z_up h_6 (t + 3) (.inl ((zm_G M).2.1 0, 272, .inl (fun _ => 0))) := eh_7
  have k_8 : h_7 t = some (.inr (2, [.ref (t + 1), .ref (t + 2), .null, .null, .null, .null, .null, .null, .null, .null, .null, .null, .int (nI 0), .int (nI 0), .int (nI 0), .int (nI 0), .int (nI 0), .int (nI 0), .int (nI 0), .null, .int (nI 0), .null, .null, .null, .int (nI 0), .int (nI 0), .int (nI 0), .int (nI 0), .int (nI 0)])) := z_nx eh_7 (Nat.ne_of_lt (by omega)) (z_nxs eh_6)
  refine z_put (k := 2) (C := RX3) (T := TX3) (N := 29) hb ho zc2 in_X3 tyX3_ok nmX3 (zf_RX3_16 _) dX3_init_28 k_8 ht (by decide) (Or.inr ⟨hm, rfl⟩) rfl rfl rfl (Nat.le_of_ble_eq_true rfl) ?_
  refine z_hn (fun h_9 eh_9 => ?_)
  have eh_9 : h_9 = z_up h_7 t (.inr (2, [.ref (t + 1), .ref (t + 2), .ref (t + 3), .null, .null, .null, .null, .null, .null, .null, .null, .null, .int (nI 0), .int (nI 0), .int (nI 0), .int (nI 0), .int (nI 0), .int (nI 0), .int (nI 0), .null, .int (nI 0), .null, .null, .null, .int (nI 0), .int (nI 0), .int (nI 0), .int (nI 0), .int (nI 0)])) := eh_9
  refine z_aload_n hb dX3_init_31 rfl ?_
  refine z_sipush (x := nI 2176) hb dX3_init_32 (by decide) ?_
  refine z_newi (N := 2176) (b' := 12) (f' := 3812) hb q2783 dX3_init_35 rfl (by omega) (by omega) (by omega) ?_
  refine z_hn (fun h_10 eh_10 => ?_)
  have eh_10 : h_10 = z_up h_9 (t + 4) (.inl ((zm_G M).2.1 0, 2176, .inl (fun _ => 0))) := eh_10
  have k_11 : h_10 t = some (.inr (2, [.ref (t + 1), .ref (t + 2), .ref (t + 3), .null, .null, .null, .null, .null, .null, .null, .null, .null, .int (nI 0), .int (nI 0), .int (nI 0), .int (nI 0), .int (nI 0), .int (nI 0), .int (nI 0), .null, .int (nI 0), .null, .null, .null, .int (nI 0), .int (nI 0), .int (nI 0), .int (nI 0), .int (nI 0)])) := z_nx eh_10 (Nat.ne_of_lt (by omega)) (z_nxs eh_9)
  refine z_put (k := 3) (C := RX3) (T := TX3) (N := 29) hb ho zc2 in_X3 tyX3_ok nmX3 (zf_RX3_19 _) dX3_init_37 k_11 ht (by decide) (Or.inr ⟨hm, rfl⟩) rfl rfl rfl (Nat.le_of_ble_eq_true rfl) ?_
  refine z_hn (fun h_12 eh_12 => ?_)
  have eh_12 : h_12 = z_up h_10 t (.inr (2, [.ref (t + 1), .ref (t + 2), .ref (t + 3), .ref (t + 4), .null, .null, .null, .null, .null, .null, .null, .null, .int (nI 0), .int (nI 0), .int (nI 0), .int (nI 0), .int (nI 0), .int (nI 0), .int (nI 0), .null, .int (nI 0), .null, .null, .null, .int (nI 0), .int (nI 0), .int (nI 0), .int (nI 0), .int (nI 0)])) := eh_12
  refine z_aload_n hb dX3_init_40 rfl ?_
  refine z_bipush (x := nI 8) hb dX3_init_41 (by decide) ?_
  refine z_newi (N := 8) (b' := 11) (f' := 3804) hb q2783 dX3_init_43 rfl (by omega) (by omega) (by omega) ?_
  refine z_hn (fun h_13 eh_13 => ?_)
  have eh_13 : h_13 = z_up h_12 (t + 5) (.inl ((zm_G M).2.1 0, 8, .inl (fun _ => 0))) := eh_13
  have k_14 : h_13 t = some (.inr (2, [.ref (t + 1), .ref (t + 2), .ref (t + 3), .ref (t + 4), .null, .null, .null, .null, .null, .null, .null, .null, .int (nI 0), .int (nI 0), .int (nI 0), .int (nI 0), .int (nI 0), .int (nI 0), .int (nI 0), .null, .int (nI 0), .null, .null, .null, .int (nI 0), .int (nI 0), .int (nI 0), .int (nI 0), .int (nI 0)])) := z_nx eh_13 (Nat.ne_of_lt (by omega)) (z_nxs eh_12)
  refine z_put (k := 4) (C := RX3) (T := TX3) (N := 29) hb ho zc2 in_X3 tyX3_ok nmX3 (zf_RX3_22 _) dX3_init_45 k_14 ht (by decide) (Or.inr ⟨hm, rfl⟩) rfl rfl rfl (Nat.le_of_ble_eq_true rfl) ?_
  refine z_hn (fun h_15 eh_15 => ?_)
  have eh_15 : h_15 = z_up h_13 t (.inr (2, [.ref (t + 1), .ref (t + 2), .ref (t + 3), .ref (t + 4), .ref (t + 5), .null, .null, .null, .null, .null, .null, .null, .int (nI 0), .int (nI 0), .int (nI 0), .int (nI 0), .int (nI 0), .int (nI 0), .int (nI 0), .null, .int (nI 0), .null, .null, .null, .int (nI 0), .int (nI 0), .int (nI 0), .int (nI 0), .int (nI 0)])) := eh_15
  refine z_aload_n hb dX3_init_48 rfl ?_
  refine z_sipush (x := nI 280) hb dX3_init_49 (by decide) ?_
  refine z_newl (N := 280) (b' := 10) (f' := 3524) hb q582 dX3_init_52 rfl (by omega) (by omega) (by omega) ?_
  refine z_hn (fun h_16 eh_16 => ?_)
  have eh_16 : h_16 = z_up h_15 (t + 6) (.inl ((zm_G M).2.1 1, 280, .inr (.inl (fun _ => 0)))) := eh_16
  have k_17 : h_16 t = some (.inr (2, [.ref (t + 1), .ref (t + 2), .ref (t + 3), .ref (t + 4), .ref (t + 5), .null, .null, .null, .null, .null, .null, .null, .int (nI 0), .int (nI 0), .int (nI 0), .int (nI 0), .int (nI 0), .int (nI 0), .int (nI 0), .null, .int (nI 0), .null, .null, .null, .int (nI 0), .int (nI 0), .int (nI 0), .int (nI 0), .int (nI 0)])) := z_nx eh_16 (Nat.ne_of_lt (by omega)) (z_nxs eh_15)
  refine z_put (k := 5) (C := RX3) (T := TX3) (N := 29) hb ho zc2 in_X3 tyX3_ok nmX3 (zf_RX3_25 _) dX3_init_54 k_17 ht (by decide) (Or.inr ⟨hm, rfl⟩) rfl rfl rfl (Nat.le_of_ble_eq_true rfl) ?_
  refine z_hn (fun h_18 eh_18 => ?_)
  have eh_18 : h_18 = z_up h_16 t (.inr (2, [.ref (t + 1), .ref (t + 2), .ref (t + 3), .ref (t + 4), .ref (t + 5), .ref (t + 6), .null, .null, .null, .null, .null, .null, .int (nI 0), .int (nI 0), .int (nI 0), .int (nI 0), .int (nI 0), .int (nI 0), .int (nI 0), .null, .int (nI 0), .null, .null, .null, .int (nI 0), .int (nI 0), .int (nI 0), .int (nI 0), .int (nI 0)])) := eh_18
  refine z_aload_n hb dX3_init_57 rfl ?_
  refine z_sipush (x := nI 280) hb dX3_init_58 (by decide) ?_
  refine z_newl (N := 280) (b' := 9) (f' := 3244) hb q582 dX3_init_61 rfl (by omega) (by omega) (by omega) ?_
  refine z_hn (fun h_19 eh_19 => ?_)
  have eh_19 : h_19 = z_up h_18 (t + 7) (.inl ((zm_G M).2.1 1, 280, .inr (.inl (fun _ => 0)))) := eh_19
  have k_20 : h_19 t = some (.inr (2, [.ref (t + 1), .ref (t + 2), .ref (t + 3), .ref (t + 4), .ref (t + 5), .ref (t + 6), .null, .null, .null, .null, .null, .null, .int (nI 0), .int (nI 0), .int (nI 0), .int (nI 0), .int (nI 0), .int (nI 0), .int (nI 0), .null, .int (nI 0), .null, .null, .null, .int (nI 0), .int (nI 0), .int (nI 0), .int (nI 0), .int (nI 0)])) := z_nx eh_19 (Nat.ne_of_lt (by omega)) (z_nxs eh_18)
  refine z_put (k := 6) (C := RX3) (T := TX3) (N := 29) hb ho zc2 in_X3 tyX3_ok nmX3 (zf_RX3_29 _) dX3_init_63 k_20 ht (by decide) (Or.inr ⟨hm, rfl⟩) rfl rfl rfl (Nat.le_of_ble_eq_true rfl) ?_
  refine z_hn (fun h_21 eh_21 => ?_)
  have eh_21 : h_21 = z_up h_19 t (.inr (2, [.ref (t + 1), .ref (t + 2), .ref (t + 3), .ref (t + 4), .ref (t + 5), .ref (t + 6), .ref (t + 7), .null, .null, .null, .null, .null, .int (nI 0), .int (nI 0), .int (nI 0), .int (nI 0), .int (nI 0), .int (nI 0), .int (nI 0), .null, .int (nI 0), .null, .null, .null, .int (nI 0), .int (nI 0), .int (nI 0), .int (nI 0), .int (nI 0)])) := eh_21
  refine z_aload_n hb dX3_init_66 rfl ?_
  refine z_sipush (x := nI 280) hb dX3_init_67 (by decide) ?_
  refine z_newl (N := 280) (b' := 8) (f' := 2964) hb q582 dX3_init_70 rfl (by omega) (by omega) (by omega) ?_
  refine z_hn (fun h_22 eh_22 => ?_)
  have eh_22 : h_22 = z_up h_21 (t + 8) (.inl ((zm_G M).2.1 1, 280, .inr (.inl (fun _ => 0)))) := eh_22
  have k_23 : h_22 t = some (.inr (2, [.ref (t + 1), .ref (t + 2), .ref (t + 3), .ref (t + 4), .ref (t + 5), .ref (t + 6), .ref (t + 7), .null, .null, .null, .null, .null, .int (nI 0), .int (nI 0), .int (nI 0), .int (nI 0), .int (nI 0), .int (nI 0), .int (nI 0), .null, .int (nI 0), .null, .null, .null, .int (nI 0), .int (nI 0), .int (nI 0), .int (nI 0), .int (nI 0)])) := z_nx eh_22 (Nat.ne_of_lt (by omega)) (z_nxs eh_21)
  refine z_put (k := 7) (C := RX3) (T := TX3) (N := 29) hb ho zc2 in_X3 tyX3_ok nmX3 (zf_RX3_32 _) dX3_init_72 k_23 ht (by decide) (Or.inr ⟨hm, rfl⟩) rfl rfl rfl (Nat.le_of_ble_eq_true rfl) ?_
  refine z_hn (fun h_24 eh_24 => ?_)
  have eh_24 : h_24 = z_up h_22 t (.inr (2, [.ref (t + 1), .ref (t + 2), .ref (t + 3), .ref (t + 4), .ref (t + 5), .ref (t + 6), .ref (t + 7), .ref (t + 8), .null, .null, .null, .null, .int (nI 0), .int (nI 0), .int (nI 0), .int (nI 0), .int (nI 0), .int (nI 0), .int (nI 0), .null, .int (nI 0), .null, .null, .null, .int (nI 0), .int (nI 0), .int (nI 0), .int (nI 0), .int (nI 0)])) := eh_24
  refine z_aload_n hb dX3_init_75 rfl ?_
  refine z_sipush (x := nI 2240) hb dX3_init_76 (by decide) ?_
  refine z_newl (N := 2240) (b' := 7) (f' := 724) hb q582 dX3_init_79 rfl (by omega) (by omega) (by omega) ?_
  refine z_hn (fun h_25 eh_25 => ?_)
  have eh_25 : h_25 = z_up h_24 (t + 9) (.inl ((zm_G M).2.1 1, 2240, .inr (.inl (fun _ => 0)))) := eh_25
  have k_26 : h_25 t = some (.inr (2, [.ref (t + 1), .ref (t + 2), .ref (t + 3), .ref (t + 4), .ref (t + 5), .ref (t + 6), .ref (t + 7), .ref (t + 8), .null, .null, .null, .null, .int (nI 0), .int (nI 0), .int (nI 0), .int (nI 0), .int (nI 0), .int (nI 0), .int (nI 0), .null, .int (nI 0), .null, .null, .null, .int (nI 0), .int (nI 0), .int (nI 0), .int (nI 0), .int (nI 0)])) := z_nx eh_25 (Nat.ne_of_lt (by omega)) (z_nxs eh_24)
  refine z_put (k := 8) (C := RX3) (T := TX3) (N := 29) hb ho zc2 in_X3 tyX3_ok nmX3 (zf_RX3_35 _) dX3_init_81 k_26 ht (by decide) (Or.inr ⟨hm, rfl⟩) rfl rfl rfl (Nat.le_of_ble_eq_true rfl) ?_
  refine z_hn (fun h_27 eh_27 => ?_)
  have eh_27 : h_27 = z_up h_25 t (.inr (2, [.ref (t + 1), .ref (t + 2), .ref (t + 3), .ref (t + 4), .ref (t + 5), .ref (t + 6), .ref (t + 7), .ref (t + 8), .ref (t + 9), .null, .null, .null, .int (nI 0), .int (nI 0), .int (nI 0), .int (nI 0), .int (nI 0), .int (nI 0), .int (nI 0), .null, .int (nI 0), .null, .null, .null, .int (nI 0), .int (nI 0), .int (nI 0), .int (nI 0), .int (nI 0)])) := eh_27
  refine z_aload_n hb dX3_init_84 rfl ?_
  refine z_sipush (x := nI 280) hb dX3_init_85 (by decide) ?_
  refine z_newl (N := 280) (b' := 6) (f' := 444) hb q582 dX3_init_88 rfl (by omega) (by omega) (by omega) ?_
  refine z_hn (fun h_28 eh_28 => ?_)
  have eh_28 : h_28 = z_up h_27 (t + 10) (.inl ((zm_G M).2.1 1, 280, .inr (.inl (fun _ => 0)))) := eh_28
  have k_29 : h_28 t = some (.inr (2, [.ref (t + 1), .ref (t + 2), .ref (t + 3), .ref (t + 4), .ref (t + 5), .ref (t + 6), .ref (t + 7), .ref (t + 8), .ref (t + 9), .null, .null, .null, .int (nI 0), .int (nI 0), .int (nI 0), .int (nI 0), .int (nI 0), .int (nI 0), .int (nI 0), .null, .int (nI 0), .null, .null, .null, .int (nI 0), .int (nI 0), .int (nI 0), .int (nI 0), .int (nI 0)])) := z_nx eh_28 (Nat.ne_of_lt (by omega)) (z_nxs eh_27)
  refine z_put (k := 9) (C := RX3) (T := TX3) (N := 29) hb ho zc2 in_X3 tyX3_ok nmX3 (zf_RX3_38 _) dX3_init_90 k_29 ht (by decide) (Or.inr ⟨hm, rfl⟩) rfl rfl rfl (Nat.le_of_ble_eq_true rfl) ?_
  refine z_hn (fun h_30 eh_30 => ?_)
  have eh_30 : h_30 = z_up h_28 t (.inr (2, [.ref (t + 1), .ref (t + 2), .ref (t + 3), .ref (t + 4), .ref (t + 5), .ref (t + 6), .ref (t + 7), .ref (t + 8), .ref (t + 9), .ref (t + 10), .null, .null, .int (nI 0), .int (nI 0), .int (nI 0), .int (nI 0), .int (nI 0), .int (nI 0), .int (nI 0), .null, .int (nI 0), .null, .null, .null, .int (nI 0), .int (nI 0), .int (nI 0), .int (nI 0), .int (nI 0)])) := eh_30
  refine z_aload_n hb dX3_init_93 rfl ?_
  refine z_bipush (x := nI 56) hb dX3_init_94 (by decide) ?_
  refine z_newl (N := 56) (b' := 5) (f' := 388) hb q582 dX3_init_96 rfl (by omega) (by omega) (by omega) ?_
  refine z_hn (fun h_31 eh_31 => ?_)
  have eh_31 : h_31 = z_up h_30 (t + 11) (.inl ((zm_G M).2.1 1, 56, .inr (.inl (fun _ => 0)))) := eh_31
  have k_32 : h_31 t = some (.inr (2, [.ref (t + 1), .ref (t + 2), .ref (t + 3), .ref (t + 4), .ref (t + 5), .ref (t + 6), .ref (t + 7), .ref (t + 8), .ref (t + 9), .ref (t + 10), .null, .null, .int (nI 0), .int (nI 0), .int (nI 0), .int (nI 0), .int (nI 0), .int (nI 0), .int (nI 0), .null, .int (nI 0), .null, .null, .null, .int (nI 0), .int (nI 0), .int (nI 0), .int (nI 0), .int (nI 0)])) := z_nx eh_31 (Nat.ne_of_lt (by omega)) (z_nxs eh_30)
  refine z_put (k := 10) (C := RX3) (T := TX3) (N := 29) hb ho zc2 in_X3 tyX3_ok nmX3 (zf_RX3_41 _) dX3_init_98 k_32 ht (by decide) (Or.inr ⟨hm, rfl⟩) rfl rfl rfl (Nat.le_of_ble_eq_true rfl) ?_
  refine z_hn (fun h_33 eh_33 => ?_)
  have eh_33 : h_33 = z_up h_31 t (.inr (2, [.ref (t + 1), .ref (t + 2), .ref (t + 3), .ref (t + 4), .ref (t + 5), .ref (t + 6), .ref (t + 7), .ref (t + 8), .ref (t + 9), .ref (t + 10), .ref (t + 11), .null, .int (nI 0), .int (nI 0), .int (nI 0), .int (nI 0), .int (nI 0), .int (nI 0), .int (nI 0), .null, .int (nI 0), .null, .null, .null, .int (nI 0), .int (nI 0), .int (nI 0), .int (nI 0), .int (nI 0)])) := eh_33
  refine z_aload_n hb dX3_init_101 rfl ?_
  refine z_bipush (x := nI 8) hb dX3_init_102 (by decide) ?_
  refine z_newl (N := 8) (b' := 4) (f' := 380) hb q582 dX3_init_104 rfl (by omega) (by omega) (by omega) ?_
  refine z_hn (fun h_34 eh_34 => ?_)
  have eh_34 : h_34 = z_up h_33 (t + 12) (.inl ((zm_G M).2.1 1, 8, .inr (.inl (fun _ => 0)))) := eh_34
  have k_35 : h_34 t = some (.inr (2, [.ref (t + 1), .ref (t + 2), .ref (t + 3), .ref (t + 4), .ref (t + 5), .ref (t + 6), .ref (t + 7), .ref (t + 8), .ref (t + 9), .ref (t + 10), .ref (t + 11), .null, .int (nI 0), .int (nI 0), .int (nI 0), .int (nI 0), .int (nI 0), .int (nI 0), .int (nI 0), .null, .int (nI 0), .null, .null, .null, .int (nI 0), .int (nI 0), .int (nI 0), .int (nI 0), .int (nI 0)])) := z_nx eh_34 (Nat.ne_of_lt (by omega)) (z_nxs eh_33)
  refine z_put (k := 11) (C := RX3) (T := TX3) (N := 29) hb ho zc2 in_X3 tyX3_ok nmX3 (zf_RX3_44 _) dX3_init_106 k_35 ht (by decide) (Or.inr ⟨hm, rfl⟩) rfl rfl rfl (Nat.le_of_ble_eq_true rfl) ?_
  refine z_hn (fun h_36 eh_36 => ?_)
  have eh_36 : h_36 = z_up h_34 t (.inr (2, [.ref (t + 1), .ref (t + 2), .ref (t + 3), .ref (t + 4), .ref (t + 5), .ref (t + 6), .ref (t + 7), .ref (t + 8), .ref (t + 9), .ref (t + 10), .ref (t + 11), .ref (t + 12), .int (nI 0), .int (nI 0), .int (nI 0), .int (nI 0), .int (nI 0), .int (nI 0), .int (nI 0), .null, .int (nI 0), .null, .null, .null, .int (nI 0), .int (nI 0), .int (nI 0), .int (nI 0), .int (nI 0)])) := eh_36
  refine z_aload_n hb dX3_init_109 rfl ?_
  refine z_iconst (x := nI 0) hb dX3_init_110 (by decide) ?_
  refine z_put (k := 12) (C := RX3) (T := TX3) (N := 29) hb ho zc2 in_X3 tyX3_ok nmX3 (zf_RX3_47 _) dX3_init_111 (z_nxs eh_36) ht (by decide) (Or.inl rfl) rfl rfl rfl (Nat.le_of_ble_eq_true rfl) ?_
  refine z_hn (fun h_37 eh_37 => ?_)
  have eh_37 : h_37 = z_up h_36 t (.inr (2, [.ref (t + 1), .ref (t + 2), .ref (t + 3), .ref (t + 4), .ref (t + 5), .ref (t + 6), .ref (t + 7), .ref (t + 8), .ref (t + 9), .ref (t + 10), .ref (t + 11), .ref (t + 12), .int (nI 0), .int (nI 0), .int (nI 0), .int (nI 0), .int (nI 0), .int (nI 0), .int (nI 0), .null, .int (nI 0), .null, .null, .null, .int (nI 0), .int (nI 0), .int (nI 0), .int (nI 0), .int (nI 0)])) := eh_37
  refine z_aload_n hb dX3_init_114 rfl ?_
  refine z_iconst (x := nI 0) hb dX3_init_115 (by decide) ?_
  refine z_put (k := 13) (C := RX3) (T := TX3) (N := 29) hb ho zc2 in_X3 tyX3_ok nmX3 (zf_RX3_51 _) dX3_init_116 (z_nxs eh_37) ht (by decide) (Or.inl rfl) rfl rfl rfl (Nat.le_of_ble_eq_true rfl) ?_
  refine z_hn (fun h_38 eh_38 => ?_)
  have eh_38 : h_38 = z_up h_37 t (.inr (2, [.ref (t + 1), .ref (t + 2), .ref (t + 3), .ref (t + 4), .ref (t + 5), .ref (t + 6), .ref (t + 7), .ref (t + 8), .ref (t + 9), .ref (t + 10), .ref (t + 11), .ref (t + 12), .int (nI 0), .int (nI 0), .int (nI 0), .int (nI 0), .int (nI 0), .int (nI 0), .int (nI 0), .null, .int (nI 0), .null, .null, .null, .int (nI 0), .int (nI 0), .int (nI 0), .int (nI 0), .int (nI 0)])) := eh_38
  refine z_aload_n hb dX3_init_119 rfl ?_
  refine z_iconst (x := (-1)) hb dX3_init_120 (by decide) ?_
  refine z_put (k := 14) (C := RX3) (T := TX3) (N := 29) hb ho zc2 in_X3 tyX3_ok nmX3 (zf_RX3_54 _) dX3_init_121 (z_nxs eh_38) ht (by decide) (Or.inl rfl) rfl rfl rfl (Nat.le_of_ble_eq_true rfl) ?_
  refine z_hn (fun h_39 eh_39 => ?_)
  have eh_39 : h_39 = z_up h_38 t (.inr (2, [.ref (t + 1), .ref (t + 2), .ref (t + 3), .ref (t + 4), .ref (t + 5), .ref (t + 6), .ref (t + 7), .ref (t + 8), .ref (t + 9), .ref (t + 10), .ref (t + 11), .ref (t + 12), .int (nI 0), .int (nI 0), .int (-1), .int (nI 0), .int (nI 0), .int (nI 0), .int (nI 0), .null, .int (nI 0), .null, .null, .null, .int (nI 0), .int (nI 0), .int (nI 0), .int (nI 0), .int (nI 0)])) := eh_39
  refine z_aload_n hb dX3_init_124 rfl ?_
  refine z_iconst (x := nI 0) hb dX3_init_125 (by decide) ?_
  refine z_put (k := 15) (C := RX3) (T := TX3) (N := 29) hb ho zc2 in_X3 tyX3_ok nmX3 (zf_RX3_57 _) dX3_init_126 (z_nxs eh_39) ht (by decide) (Or.inl rfl) rfl rfl rfl (Nat.le_of_ble_eq_true rfl) ?_
  refine z_hn (fun h_40 eh_40 => ?_)
  have eh_40 : h_40 = z_up h_39 t (.inr (2, [.ref (t + 1), .ref (t + 2), .ref (t + 3), .ref (t + 4), .ref (t + 5), .ref (t + 6), .ref (t + 7), .ref (t + 8), .ref (t + 9), .ref (t + 10), .ref (t + 11), .ref (t + 12), .int (nI 0), .int (nI 0), .int (-1), .int (nI 0), .int (nI 0), .int (nI 0), .int (nI 0), .null, .int (nI 0), .null, .null, .null, .int (nI 0), .int (nI 0), .int (nI 0), .int (nI 0), .int (nI 0)])) := eh_40
  refine z_aload_n hb dX3_init_129 rfl ?_
  refine z_iconst (x := nI 0) hb dX3_init_130 (by decide) ?_
  refine z_put (k := 16) (C := RX3) (T := TX3) (N := 29) hb ho zc2 in_X3 tyX3_ok nmX3 (zf_RX3_60 _) dX3_init_131 (z_nxs eh_40) ht (by decide) (Or.inl rfl) rfl rfl rfl (Nat.le_of_ble_eq_true rfl) ?_
  refine z_hn (fun h_41 eh_41 => ?_)
  have eh_41 : h_41 = z_up h_40 t (.inr (2, [.ref (t + 1), .ref (t + 2), .ref (t + 3), .ref (t + 4), .ref (t + 5), .ref (t + 6), .ref (t + 7), .ref (t + 8), .ref (t + 9), .ref (t + 10), .ref (t + 11), .ref (t + 12), .int (nI 0), .int (nI 0), .int (-1), .int (nI 0), .int (nI 0), .int (nI 0), .int (nI 0), .null, .int (nI 0), .null, .null, .null, .int (nI 0), .int (nI 0), .int (nI 0), .int (nI 0), .int (nI 0)])) := eh_41
  refine z_aload_n hb dX3_init_134 rfl ?_
  refine z_iconst (x := nI 0) hb dX3_init_135 (by decide) ?_
  refine z_put (k := 17) (C := RX3) (T := TX3) (N := 29) hb ho zc2 in_X3 tyX3_ok nmX3 (zf_RX3_63 _) dX3_init_136 (z_nxs eh_41) ht (by decide) (Or.inl rfl) rfl rfl rfl (Nat.le_of_ble_eq_true rfl) ?_
  refine z_hn (fun h_42 eh_42 => ?_)
  have eh_42 : h_42 = z_up h_41 t (.inr (2, [.ref (t + 1), .ref (t + 2), .ref (t + 3), .ref (t + 4), .ref (t + 5), .ref (t + 6), .ref (t + 7), .ref (t + 8), .ref (t + 9), .ref (t + 10), .ref (t + 11), .ref (t + 12), .int (nI 0), .int (nI 0), .int (-1), .int (nI 0), .int (nI 0), .int (nI 0), .int (nI 0), .null, .int (nI 0), .null, .null, .null, .int (nI 0), .int (nI 0), .int (nI 0), .int (nI 0), .int (nI 0)])) := eh_42
  refine z_aload_n hb dX3_init_139 rfl ?_
  refine z_iconst (x := nI 0) hb dX3_init_140 (by decide) ?_
  refine z_put (k := 18) (C := RX3) (T := TX3) (N := 29) hb ho zc2 in_X3 tyX3_ok nmX3 (zf_RX3_66 _) dX3_init_141 (z_nxs eh_42) ht (by decide) (Or.inl rfl) rfl rfl rfl (Nat.le_of_ble_eq_true rfl) ?_
  refine z_hn (fun h_43 eh_43 => ?_)
  have eh_43 : h_43 = z_up h_42 t (.inr (2, [.ref (t + 1), .ref (t + 2), .ref (t + 3), .ref (t + 4), .ref (t + 5), .ref (t + 6), .ref (t + 7), .ref (t + 8), .ref (t + 9), .ref (t + 10), .ref (t + 11), .ref (t + 12), .int (nI 0), .int (nI 0), .int (-1), .int (nI 0), .int (nI 0), .int (nI 0), .int (nI 0), .null, .int (nI 0), .null, .null, .null, .int (nI 0), .int (nI 0), .int (nI 0), .int (nI 0), .int (nI 0)])) := eh_43
  refine z_aload_n hb dX3_init_144 rfl ?_
  refine z_bipush (x := nI 120) hb dX3_init_145 (by decide) ?_
  refine z_newi (N := 120) (b' := 3) (f' := 260) hb q2783 dX3_init_147 rfl (by omega) (by omega) (by omega) ?_
  refine z_hn (fun h_44 eh_44 => ?_)
  have eh_44 : h_44 = z_up h_43 (t + 13) (.inl ((zm_G M).2.1 0, 120, .inl (fun _ => 0))) := eh_44
  have k_45 : h_44 t = some (.inr (2, [.ref (t + 1), .ref (t + 2), .ref (t + 3), .ref (t + 4), .ref (t + 5), .ref (t + 6), .ref (t + 7), .ref (t + 8), .ref (t + 9), .ref (t + 10), .ref (t + 11), .ref (t + 12), .int (nI 0), .int (nI 0), .int (-1), .int (nI 0), .int (nI 0), .int (nI 0), .int (nI 0), .null, .int (nI 0), .null, .null, .null, .int (nI 0), .int (nI 0), .int (nI 0), .int (nI 0), .int (nI 0)])) := z_nx eh_44 (Nat.ne_of_lt (by omega)) (z_nxs eh_43)
  refine z_put (k := 19) (C := RX3) (T := TX3) (N := 29) hb ho zc2 in_X3 tyX3_ok nmX3 (zf_RX3_70 _) dX3_init_149 k_45 ht (by decide) (Or.inr ⟨hm, rfl⟩) rfl rfl rfl (Nat.le_of_ble_eq_true rfl) ?_
  refine z_hn (fun h_46 eh_46 => ?_)
  have eh_46 : h_46 = z_up h_44 t (.inr (2, [.ref (t + 1), .ref (t + 2), .ref (t + 3), .ref (t + 4), .ref (t + 5), .ref (t + 6), .ref (t + 7), .ref (t + 8), .ref (t + 9), .ref (t + 10), .ref (t + 11), .ref (t + 12), .int (nI 0), .int (nI 0), .int (-1), .int (nI 0), .int (nI 0), .int (nI 0), .int (nI 0), .ref (t + 13), .int (nI 0), .null, .null, .null, .int (nI 0), .int (nI 0), .int (nI 0), .int (nI 0), .int (nI 0)])) := eh_46
  refine z_aload_n hb dX3_init_152 rfl ?_
  refine z_iconst (x := nI 0) hb dX3_init_153 (by decide) ?_
  refine z_put (k := 20) (C := RX3) (T := TX3) (N := 29) hb ho zc2 in_X3 tyX3_ok nmX3 (zf_RX3_73 _) dX3_init_154 (z_nxs eh_46) ht (by decide) (Or.inl rfl) rfl rfl rfl (Nat.le_of_ble_eq_true rfl) ?_
  refine z_hn (fun h_47 eh_47 => ?_)
  have eh_47 : h_47 = z_up h_46 t (.inr (2, [.ref (t + 1), .ref (t + 2), .ref (t + 3), .ref (t + 4), .ref (t + 5), .ref (t + 6), .ref (t + 7), .ref (t + 8), .ref (t + 9), .ref (t + 10), .ref (t + 11), .ref (t + 12), .int (nI 0), .int (nI 0), .int (-1), .int (nI 0), .int (nI 0), .int (nI 0), .int (nI 0), .ref (t + 13), .int (nI 0), .null, .null, .null, .int (nI 0), .int (nI 0), .int (nI 0), .int (nI 0), .int (nI 0)])) := eh_47
  refine z_aload_n hb dX3_init_157 rfl ?_
  refine z_bipush (x := nI 60) hb dX3_init_158 (by decide) ?_
  refine z_newi (N := 60) (b' := 2) (f' := 200) hb q2783 dX3_init_160 rfl (by omega) (by omega) (by omega) ?_
  refine z_hn (fun h_48 eh_48 => ?_)
  have eh_48 : h_48 = z_up h_47 (t + 14) (.inl ((zm_G M).2.1 0, 60, .inl (fun _ => 0))) := eh_48
  have k_49 : h_48 t = some (.inr (2, [.ref (t + 1), .ref (t + 2), .ref (t + 3), .ref (t + 4), .ref (t + 5), .ref (t + 6), .ref (t + 7), .ref (t + 8), .ref (t + 9), .ref (t + 10), .ref (t + 11), .ref (t + 12), .int (nI 0), .int (nI 0), .int (-1), .int (nI 0), .int (nI 0), .int (nI 0), .int (nI 0), .ref (t + 13), .int (nI 0), .null, .null, .null, .int (nI 0), .int (nI 0), .int (nI 0), .int (nI 0), .int (nI 0)])) := z_nx eh_48 (Nat.ne_of_lt (by omega)) (z_nxs eh_47)
  refine z_put (k := 21) (C := RX3) (T := TX3) (N := 29) hb ho zc2 in_X3 tyX3_ok nmX3 (zf_RX3_76 _) dX3_init_162 k_49 ht (by decide) (Or.inr ⟨hm, rfl⟩) rfl rfl rfl (Nat.le_of_ble_eq_true rfl) ?_
  refine z_hn (fun h_50 eh_50 => ?_)
  have eh_50 : h_50 = z_up h_48 t (.inr (2, [.ref (t + 1), .ref (t + 2), .ref (t + 3), .ref (t + 4), .ref (t + 5), .ref (t + 6), .ref (t + 7), .ref (t + 8), .ref (t + 9), .ref (t + 10), .ref (t + 11), .ref (t + 12), .int (nI 0), .int (nI 0), .int (-1), .int (nI 0), .int (nI 0), .int (nI 0), .int (nI 0), .ref (t + 13), .int (nI 0), .ref (t + 14), .null, .null, .int (nI 0), .int (nI 0), .int (nI 0), .int (nI 0), .int (nI 0)])) := eh_50
  refine z_aload_n hb dX3_init_165 rfl ?_
  refine z_bipush (x := nI 32) hb dX3_init_166 (by decide) ?_
  refine z_newi (N := 32) (b' := 1) (f' := 168) hb q2783 dX3_init_168 rfl (by omega) (by omega) (by omega) ?_
  refine z_hn (fun h_51 eh_51 => ?_)
  have eh_51 : h_51 = z_up h_50 (t + 15) (.inl ((zm_G M).2.1 0, 32, .inl (fun _ => 0))) := eh_51
  have k_52 : h_51 t = some (.inr (2, [.ref (t + 1), .ref (t + 2), .ref (t + 3), .ref (t + 4), .ref (t + 5), .ref (t + 6), .ref (t + 7), .ref (t + 8), .ref (t + 9), .ref (t + 10), .ref (t + 11), .ref (t + 12), .int (nI 0), .int (nI 0), .int (-1), .int (nI 0), .int (nI 0), .int (nI 0), .int (nI 0), .ref (t + 13), .int (nI 0), .ref (t + 14), .null, .null, .int (nI 0), .int (nI 0), .int (nI 0), .int (nI 0), .int (nI 0)])) := z_nx eh_51 (Nat.ne_of_lt (by omega)) (z_nxs eh_50)
  refine z_put (k := 22) (C := RX3) (T := TX3) (N := 29) hb ho zc2 in_X3 tyX3_ok nmX3 (zf_RX3_79 _) dX3_init_170 k_52 ht (by decide) (Or.inr ⟨hm, rfl⟩) rfl rfl rfl (Nat.le_of_ble_eq_true rfl) ?_
  refine z_hn (fun h_53 eh_53 => ?_)
  have eh_53 : h_53 = z_up h_51 t (.inr (2, [.ref (t + 1), .ref (t + 2), .ref (t + 3), .ref (t + 4), .ref (t + 5), .ref (t + 6), .ref (t + 7), .ref (t + 8), .ref (t + 9), .ref (t + 10), .ref (t + 11), .ref (t + 12), .int (nI 0), .int (nI 0), .int (-1), .int (nI 0), .int (nI 0), .int (nI 0), .int (nI 0), .ref (t + 13), .int (nI 0), .ref (t + 14), .ref (t + 15), .null, .int (nI 0), .int (nI 0), .int (nI 0), .int (nI 0), .int (nI 0)])) := eh_53
  refine z_aload_n hb dX3_init_173 rfl ?_
  refine z_sipush (x := nI 128) hb dX3_init_174 (by decide) ?_
  refine z_newi (N := 128) (b' := 0) (f' := 40) hb q2783 dX3_init_177 rfl (by omega) (by omega) (by omega) ?_
  refine z_hn (fun h_54 eh_54 => ?_)
  have eh_54 : h_54 = z_up h_53 (t + 16) (.inl ((zm_G M).2.1 0, 128, .inl (fun _ => 0))) := eh_54
  have k_55 : h_54 t = some (.inr (2, [.ref (t + 1), .ref (t + 2), .ref (t + 3), .ref (t + 4), .ref (t + 5), .ref (t + 6), .ref (t + 7), .ref (t + 8), .ref (t + 9), .ref (t + 10), .ref (t + 11), .ref (t + 12), .int (nI 0), .int (nI 0), .int (-1), .int (nI 0), .int (nI 0), .int (nI 0), .int (nI 0), .ref (t + 13), .int (nI 0), .ref (t + 14), .ref (t + 15), .null, .int (nI 0), .int (nI 0), .int (nI 0), .int (nI 0), .int (nI 0)])) := z_nx eh_54 (Nat.ne_of_lt (by omega)) (z_nxs eh_53)
  refine z_put (k := 23) (C := RX3) (T := TX3) (N := 29) hb ho zc2 in_X3 tyX3_ok nmX3 (zf_RX3_82 _) dX3_init_179 k_55 ht (by decide) (Or.inr ⟨hm, rfl⟩) rfl rfl rfl (Nat.le_of_ble_eq_true rfl) ?_
  refine z_hn (fun h_56 eh_56 => ?_)
  have eh_56 : h_56 = z_up h_54 t (.inr (2, [.ref (t + 1), .ref (t + 2), .ref (t + 3), .ref (t + 4), .ref (t + 5), .ref (t + 6), .ref (t + 7), .ref (t + 8), .ref (t + 9), .ref (t + 10), .ref (t + 11), .ref (t + 12), .int (nI 0), .int (nI 0), .int (-1), .int (nI 0), .int (nI 0), .int (nI 0), .int (nI 0), .ref (t + 13), .int (nI 0), .ref (t + 14), .ref (t + 15), .ref (t + 16), .int (nI 0), .int (nI 0), .int (nI 0), .int (nI 0), .int (nI 0)])) := eh_56
  refine z_aload_n hb dX3_init_182 rfl ?_
  refine z_iconst (x := nI 0) hb dX3_init_183 (by decide) ?_
  refine z_put (k := 24) (C := RX3) (T := TX3) (N := 29) hb ho zc2 in_X3 tyX3_ok nmX3 (zf_RX3_85 _) dX3_init_184 (z_nxs eh_56) ht (by decide) (Or.inl rfl) rfl rfl rfl (Nat.le_of_ble_eq_true rfl) ?_
  refine z_hn (fun h_57 eh_57 => ?_)
  have eh_57 : h_57 = z_up h_56 t (.inr (2, [.ref (t + 1), .ref (t + 2), .ref (t + 3), .ref (t + 4), .ref (t + 5), .ref (t + 6), .ref (t + 7), .ref (t + 8), .ref (t + 9), .ref (t + 10), .ref (t + 11), .ref (t + 12), .int (nI 0), .int (nI 0), .int (-1), .int (nI 0), .int (nI 0), .int (nI 0), .int (nI 0), .ref (t + 13), .int (nI 0), .ref (t + 14), .ref (t + 15), .ref (t + 16), .int (nI 0), .int (nI 0), .int (nI 0), .int (nI 0), .int (nI 0)])) := eh_57
  refine z_aload_n hb dX3_init_187 rfl ?_
  refine z_iconst (x := nI 0) hb dX3_init_188 (by decide) ?_
  refine z_put (k := 25) (C := RX3) (T := TX3) (N := 29) hb ho zc2 in_X3 tyX3_ok nmX3 (zf_RX3_88 _) dX3_init_189 (z_nxs eh_57) ht (by decide) (Or.inl rfl) rfl rfl rfl (Nat.le_of_ble_eq_true rfl) ?_
  refine z_hn (fun h_58 eh_58 => ?_)
  have eh_58 : h_58 = z_up h_57 t (.inr (2, [.ref (t + 1), .ref (t + 2), .ref (t + 3), .ref (t + 4), .ref (t + 5), .ref (t + 6), .ref (t + 7), .ref (t + 8), .ref (t + 9), .ref (t + 10), .ref (t + 11), .ref (t + 12), .int (nI 0), .int (nI 0), .int (-1), .int (nI 0), .int (nI 0), .int (nI 0), .int (nI 0), .ref (t + 13), .int (nI 0), .ref (t + 14), .ref (t + 15), .ref (t + 16), .int (nI 0), .int (nI 0), .int (nI 0), .int (nI 0), .int (nI 0)])) := eh_58
  refine z_aload_n hb dX3_init_192 rfl ?_
  refine z_iconst (x := nI 0) hb dX3_init_193 (by decide) ?_
  refine z_put (k := 26) (C := RX3) (T := TX3) (N := 29) hb ho zc2 in_X3 tyX3_ok nmX3 (zf_RX3_91 _) dX3_init_194 (z_nxs eh_58) ht (by decide) (Or.inl rfl) rfl rfl rfl (Nat.le_of_ble_eq_true rfl) ?_
  refine z_hn (fun h_59 eh_59 => ?_)
  have eh_59 : h_59 = z_up h_58 t (.inr (2, [.ref (t + 1), .ref (t + 2), .ref (t + 3), .ref (t + 4), .ref (t + 5), .ref (t + 6), .ref (t + 7), .ref (t + 8), .ref (t + 9), .ref (t + 10), .ref (t + 11), .ref (t + 12), .int (nI 0), .int (nI 0), .int (-1), .int (nI 0), .int (nI 0), .int (nI 0), .int (nI 0), .ref (t + 13), .int (nI 0), .ref (t + 14), .ref (t + 15), .ref (t + 16), .int (nI 0), .int (nI 0), .int (nI 0), .int (nI 0), .int (nI 0)])) := eh_59
  refine z_aload_n hb dX3_init_197 rfl ?_
  refine z_iconst (x := nI 0) hb dX3_init_198 (by decide) ?_
  refine z_put (k := 27) (C := RX3) (T := TX3) (N := 29) hb ho zc2 in_X3 tyX3_ok nmX3 (zf_RX3_94 _) dX3_init_199 (z_nxs eh_59) ht (by decide) (Or.inl rfl) rfl rfl rfl (Nat.le_of_ble_eq_true rfl) ?_
  refine z_hn (fun h_60 eh_60 => ?_)
  have eh_60 : h_60 = z_up h_59 t (.inr (2, [.ref (t + 1), .ref (t + 2), .ref (t + 3), .ref (t + 4), .ref (t + 5), .ref (t + 6), .ref (t + 7), .ref (t + 8), .ref (t + 9), .ref (t + 10), .ref (t + 11), .ref (t + 12), .int (nI 0), .int (nI 0), .int (-1), .int (nI 0), .int (nI 0), .int (nI 0), .int (nI 0), .ref (t + 13), .int (nI 0), .ref (t + 14), .ref (t + 15), .ref (t + 16), .int (nI 0), .int (nI 0), .int (nI 0), .int (nI 0), .int (nI 0)])) := eh_60
  refine z_aload_n hb dX3_init_202 rfl ?_
  refine z_iconst (x := nI 0) hb dX3_init_203 (by decide) ?_
  refine z_put (k := 28) (C := RX3) (T := TX3) (N := 29) hb ho zc2 in_X3 tyX3_ok nmX3 (zf_RX3_97 _) dX3_init_204 (z_nxs eh_60) ht (by decide) (Or.inl rfl) rfl rfl rfl (Nat.le_of_ble_eq_true rfl) ?_
  refine z_hn (fun h_61 eh_61 => ?_)
  have eh_61 : h_61 = z_up h_60 t (.inr (2, [.ref (t + 1), .ref (t + 2), .ref (t + 3), .ref (t + 4), .ref (t + 5), .ref (t + 6), .ref (t + 7), .ref (t + 8), .ref (t + 9), .ref (t + 10), .ref (t + 11), .ref (t + 12), .int (nI 0), .int (nI 0), .int (-1), .int (nI 0), .int (nI 0), .int (nI 0), .int (nI 0), .ref (t + 13), .int (nI 0), .ref (t + 14), .ref (t + 15), .ref (t + 16), .int (nI 0), .int (nI 0), .int (nI 0), .int (nI 0), .int (nI 0)])) := eh_61
  refine z_vret hb hr dX3_init_207 ?_
  rw [hQ]
  refine ⟨rfl, ?_, rfl⟩
  funext x
  rw [eh_61, eh_60, eh_59, eh_58, eh_57, eh_56, eh_54, eh_53, eh_51, eh_50, eh_48, eh_47, eh_46, eh_44, eh_43, eh_42, eh_41, eh_40, eh_39, eh_38, eh_37, eh_36, eh_34, eh_33, eh_31, eh_30, eh_28, eh_27, eh_25, eh_24, eh_22, eh_21, eh_19, eh_18, eh_16, eh_15, eh_13, eh_12, eh_10, eh_9, eh_7, eh_6, eh_4, eh_3, eh_1]
  by_cases q : x < t ∨ t + 16 < x
  · have hx : ∀ j, j ≤ 16 → x ≠ t + j := fun j hj e => by omega
    have hx0 : x ≠ t := by omega
    simp only [z_up, z_tw, hx0, if_false, hx 1 (by omega), hx 2 (by omega), hx 3 (by omega), hx 4 (by omega), hx 5 (by omega), hx 6 (by omega), hx 7 (by omega), hx 8 (by omega), hx 9 (by omega), hx 10 (by omega), hx 11 (by omega), hx 12 (by omega), hx 13 (by omega), hx 14 (by omega), hx 15 (by omega), hx 16 (by omega)]
  · obtain ⟨j, hj, rfl⟩ : ∃ j, j ≤ 16 ∧ x = t + j := ⟨x - t, by omega, by omega⟩
    match j, hj with
    | 0, _ => simp [z_up, z_tw, z_b]; try rfl
    | 1, _ => simp [z_up, z_tw, z_b]; try rfl
    | 2, _ => simp [z_up, z_tw, z_b]; try rfl
    | 3, _ => simp [z_up, z_tw, z_b]; try rfl
    | 4, _ => simp [z_up, z_tw, z_b]; try rfl
    | 5, _ => simp [z_up, z_tw, z_b]; try rfl
    | 6, _ => simp [z_up, z_tw, z_b]; try rfl
    | 7, _ => simp [z_up, z_tw, z_b]; try rfl
    | 8, _ => simp [z_up, z_tw, z_b]; try rfl
    | 9, _ => simp [z_up, z_tw, z_b]; try rfl
    | 10, _ => simp [z_up, z_tw, z_b]; try rfl
    | 11, _ => simp [z_up, z_tw, z_b]; try rfl
    | 12, _ => simp [z_up, z_tw, z_b]; try rfl
    | 13, _ => simp [z_up, z_tw, z_b]; try rfl
    | 14, _ => simp [z_up, z_tw, z_b]; try rfl
    | 15, _ => simp [z_up, z_tw, z_b]; try rfl
    | 16, _ => simp [z_up, z_tw, z_b]; try rfl
    | j + 17, hj => exact absurd hj (by omega)

