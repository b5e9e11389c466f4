set_option maxHeartbeats 1000000 in
theorem m_J20_requireNonNull {l : Launch} {G : zG} {h : zH} {n : Nat} {x : Nat}  : z_C l G yJ20_requireNonNull 1 0 0 [.ref x] h n (z_rv (.ref x) h n) := by
  refine z_start zk_J20_requireNonNull zpl_RJ20 (Nat.le_of_ble_eq_true rfl) ?_
  intro hn0 M hl hG ho hb hN hr hm hH hrm hQ
  subst hl hG
  have ho : zm_o M = RJ20 := ho
  show z_V M h n 0 0 0 [(0, .ref x)] []
  refine z_aload_n hb dJ20_requireNonNull_0 rfl ?_
  refine z_ifnonnull (tgt := 12) hb dJ20_requireNonNull_1 (by decide) ?_
  refine z_aload_n hb dJ20_requireNonNull_12 rfl ?_
  refine z_aret hb hr (Or.inl ⟨_, rfl⟩) (Or.inr ⟨_, rfl⟩) dJ20_requireNonNull_13 ?_
  rw [hQ]
  exact ⟨rfl, rfl, rfl⟩

set_option maxHeartbeats 1000000 in
theorem m_J21_empty {l : Launch} {G : zG} {h : zH} {n : Nat}   : z_C l G yJ21_empty 1 0 0 [] h n (z_rv (.ref (G.2.2.1 1003)) h n) := by
  refine z_start zk_J21_empty zpl_RJ21 (Nat.le_of_ble_eq_true rfl) ?_
  intro hn0 M hl hG ho hb hN hr hm hH hrm hQ
  subst hl hG
  have ho : zm_o M = RJ21 := ho
  show z_V M h n 0 0 0 [] []
  refine z_gets (i := 7) hb ho rfl (zf_RJ21_1 _) dJ21_empty_0 ?_
  refine z_astore_n (lv' := [(0, .ref ((zm_G M).2.2.1 1003))]) hb dJ21_empty_3 (by rw [hN]; decide) rfl ?_
  refine z_aload_n hb dJ21_empty_4 rfl ?_
  refine z_aret hb hr (Or.inl ⟨_, rfl⟩) (Or.inr ⟨_, rfl⟩) dJ21_empty_5 ?_
  rw [hQ]
  exact ⟨rfl, rfl, rfl⟩

set_option maxHeartbeats 1000000 in
theorem m_J21_init {l : Launch} {G : zG} {h : zH} {n : Nat} {t x : Nat} (ht9 : h t = some (.inr (25, [.null]))) (hnt : z_n0 G ≤ t) : z_C l G yJ21_init 2 0 0 [.ref t, .ref x] h n (z_r0 (z_up h t (.inr (25, [.ref x]))) n) := by
  refine z_start zk_J21_init zpl_RJ21 (Nat.le_of_ble_eq_true rfl) ?_
  intro hn0 M hl hG ho hb hN hr hm hH hrm hQ
  subst hl hG
  have ho : zm_o M = RJ21 := ho
  show z_V M h n 0 0 0 [(0, .ref t), (1, .ref x)] []
  refine z_aload_n hb dJ21_init_0 rfl ?_
  refine z_oinit hb ho hrm (by omega) q1358 q155 q156 (by decide) dJ21_init_1 ?_
  refine z_aload_n hb dJ21_init_4 rfl ?_
  refine z_aload_n hb dJ21_init_5 rfl ?_
  refine z_put (k := 0) (C := RJ21) (T := TJ21) (N := 1) hb ho zc25 in_J21 tyJ21_ok nmJ21 (zf_RJ21_13 _) dJ21_init_6 ht9 hnt (by decide) (Or.inr ⟨hm, rfl⟩) rfl rfl rfl (Nat.le_of_ble_eq_true rfl) ?_
  refine z_hn (fun h_1 eh_1 => ?_)
  have eh_1 : h_1 = z_up h t (.inr (25, [.ref x])) := eh_1
  refine z_vret hb hr dJ21_init_9 ?_
  rw [hQ]
  exact ⟨rfl, (by rw [eh_1] <;> simp only [z_up_up]), rfl⟩

set_option maxHeartbeats 1000000 in
theorem m_J21_of {l : Launch} {G : zG} {h : zH} {n : Nat} {x : Nat}  : z_C l G yJ21_of 3 1 1 [.ref x] h n (z_rv (.ref n) (z_up h n (.inr (25, [.ref x]))) (n + 1)) := by
  refine z_start zk_J21_of zpl_RJ21 (Nat.le_of_ble_eq_true rfl) ?_
  intro hn0 M hl hG ho hb hN hr hm hH hrm hQ
  subst hl hG
  have ho : zm_o M = RJ21 := ho
  show z_V M h n 1 1 0 [(0, .ref x)] []
  refine z_new (N0 := 1) (b' := 0) (f' := 0) (fs := [.null]) (C := RJ21) (T := TJ21) (N := 1) hb ho zc25 in_J21 tyJ21_ok q1350 q1351 q125 dJ21_of_0 (zdf_J21) (by omega) (by omega) ?_
  refine z_hn (fun h_1 eh_1 => ?_)
  have eh_1 : h_1 = z_up h n (.inr (25, [.null])) := eh_1
  refine z_dup hb dJ21_of_3 rfl ?_
  refine z_aload_n hb dJ21_of_4 rfl ?_
  refine z_call1 (b' := 0) (f' := 0) (rest := [.ref n, .ref n]) (av := [.ref x]) (z_siteS hb ho q1352 q1353 q124 ⟨_, _, _, _, zk_J20_requireNonNull⟩ zy_J20_requireNonNull zl_J20_requireNonNull dJ21_of_5 : z_Site M _ _ _ _ _ ([.ref x].reverse ++ [.ref n, .ref n]) [.ref n, .ref n] _) zk_J20_requireNonNull q124 hrm (m_J20_requireNonNull) (by omega) (by decide) (Nat.le_of_ble_eq_true rfl) (by omega) (by omega) ?_
  refine z_call0 (b' := 0) (f' := 0) (rest := [.ref n]) (av := [.ref n, .ref x]) (z_siteI hb ho q1355 q1356 q1357 rfl zy_J21_init zl_J21_init dJ21_of_8 : z_Site M _ _ _ _ _ ([.ref x].reverse ++ .ref n :: [.ref n]) [.ref n] _) zk_J21_init q125 hrm (m_J21_init (z_nxs eh_1) (by omega)) (by omega) (by decide) (Nat.le_of_ble_eq_true rfl) (by omega) (by omega) ?_
  refine z_hn (fun h_2 eh_2 => ?_)
  have eh_2 : h_2 = z_up h_1 n (.inr (25, [.ref x])) := eh_2
  refine z_aret hb hr (Or.inl ⟨_, rfl⟩) (Or.inr ⟨_, rfl⟩) dJ21_of_11 ?_
  rw [hQ]
  exact ⟨rfl, (by rw [eh_2, eh_1] <;> simp only [z_up_up]), rfl⟩

set_option maxHeartbeats 1000000 in
theorem m_J21_isPresent_t {l : Launch} {G : zG} {h : zH} {n : Nat} {t x : Nat} (ht9 : h t = some (.inr (25, [.ref x]))) : z_C l G yJ21_isPresent 1 0 0 [.ref t] h n (z_rv (.int (z_b true)) h n) := by
  refine z_start zk_J21_isPresent zpl_RJ21 (Nat.le_of_ble_eq_true rfl) ?_
  intro hn0 M hl hG ho hb hN hr hm hH hrm hQ
  subst hl hG
  have ho : zm_o M = RJ21 := ho
  show z_V M h n 0 0 0 [(0, .ref t)] []
  refine z_aload_n hb dJ21_isPresent_0 rfl ?_
  refine z_get (k := 0) (C := RJ21) (T := TJ21) (N := 1) hb ho zc25 in_J21 (zf_RJ21_13 _) dJ21_isPresent_1 ht9 (by decide) rfl ?_
  refine z_ifnull hb dJ21_isPresent_4 ?_
  refine z_iconst (x := nI 1) hb dJ21_isPresent_7 (by decide) ?_
  refine z_goto (tgt := 12) hb dJ21_isPresent_8 (by decide) ?_
  refine z_zret hb hr rfl dJ21_isPresent_12 ?_
  rw [hQ]
  exact ⟨rfl, rfl, rfl⟩

set_option maxHeartbeats 1000000 in
theorem m_J21_isPresent_f {l : Launch} {G : zG} {h : zH} {n : Nat} {t x : Nat} (ht9 : h t = some (.inr (25, [.null]))) : z_C l G yJ21_isPresent 1 0 0 [.ref t] h n (z_rv (.int (z_b false)) h n) := by
  refine z_start zk_J21_isPresent zpl_RJ21 (Nat.le_of_ble_eq_true rfl) ?_
  intro hn0 M hl hG ho hb hN hr hm hH hrm hQ
  subst hl hG
  have ho : zm_o M = RJ21 := ho
  show z_V M h n 0 0 0 [(0, .ref t)] []
  refine z_aload_n hb dJ21_isPresent_0 rfl ?_
  refine z_get (k := 0) (C := RJ21) (T := TJ21) (N := 1) hb ho zc25 in_J21 (zf_RJ21_13 _) dJ21_isPresent_1 ht9 (by decide) rfl ?_
  refine z_ifnullN (tgt := 11) hb dJ21_isPresent_4 (by decide) ?_
  refine z_iconst (x := nI 0) hb dJ21_isPresent_11 (by decide) ?_
  refine z_zret hb hr rfl dJ21_isPresent_12 ?_
  rw [hQ]
  exact ⟨rfl, rfl, rfl⟩

set_option maxHeartbeats 1000000 in
theorem m_J21_get {l : Launch} {G : zG} {h : zH} {n : Nat} {t x : Nat} (ht9 : h t = some (.inr (25, [.ref x]))) : z_C l G yJ21_get 1 0 0 [.ref t] h n (z_rv (.ref x) h n) := by
  refine z_start zk_J21_get zpl_RJ21 (Nat.le_of_ble_eq_true rfl) ?_
  intro hn0 M hl hG ho hb hN hr hm hH hrm hQ
  subst hl hG
  have ho : zm_o M = RJ21 := ho
  show z_V M h n 0 0 0 [(0, .ref t)] []
  refine z_aload_n hb dJ21_get_0 rfl ?_
  refine z_get (k := 0) (C := RJ21) (T := TJ21) (N := 1) hb ho zc25 in_J21 (zf_RJ21_13 _) dJ21_get_1 ht9 (by decide) rfl ?_
  refine z_ifnonnull (tgt := 17) hb dJ21_get_4 (by decide) ?_
  refine z_aload_n hb dJ21_get_17 rfl ?_
  refine z_get (k := 0) (C := RJ21) (T := TJ21) (N := 1) hb ho zc25 in_J21 (zf_RJ21_13 _) dJ21_get_18 ht9 (by decide) rfl ?_
  refine z_aret hb hr (Or.inl ⟨_, rfl⟩) (Or.inr ⟨_, rfl⟩) dJ21_get_21 ?_
  rw [hQ]
  exact ⟨rfl, rfl, rfl⟩

set_option maxHeartbeats 1000000 in
theorem m_X7_init {l : Launch} {G : zG} {h : zH} {n : Nat} {t : Nat}  (nu d g am : Int32) (ht9 : h t = some (.inr (6, [.int (nI 0), .int (nI 0), .int (nI 0), .int (nI 0)]))) (hnt : z_n0 G ≤ t) : z_C l G yX7_init 1 0 0 [.ref t, .int nu, .int d, .int g, .int am] h n (z_r0 (z_up h t (.inr (6, [.int nu, .int d, .int g, .int am]))) n) := by
  refine z_start zk_X7_init zpl_RX7 (Nat.le_of_ble_eq_true rfl) ?_
  intro hn0 M hl hG ho hb hN hr hm hH hrm hQ
  subst hl hG
  have ho : zm_o M = RX7 := ho
  show z_V M h n 0 0 0 [(0, .ref t), (1, .int nu), (2, .int d), (3, .int g), (4, .int am)] []
  refine z_aload_n hb dX7_init_0 rfl ?_
  refine z_oinit hb ho hrm (by omega) q1188 q155 q156 (by decide) dX7_init_1 ?_
  refine z_aload_n hb dX7_init_4 rfl ?_
  refine z_iload_n hb dX7_init_5 rfl ?_
  refine z_put (k := 0) (C := RX7) (T := TX7) (N := 4) hb ho zc6 in_X7 tyX7_ok nmX7 (zf_RX7_7 _) dX7_init_6 ht9 hnt (by decide) (Or.inr ⟨hm, rfl⟩) rfl rfl rfl (Nat.le_of_ble_eq_true rfl) ?_
  refine z_hn (fun h_1 eh_1 => ?_)
  have eh_1 : h_1 = z_up h t (.inr (6, [.int nu, .int (nI 0), .int (nI 0), .int (nI 0)])) := eh_1
  refine z_aload_n hb dX7_init_9 rfl ?_
  refine z_iload_n hb dX7_init_10 rfl ?_
  refine z_put (k := 1) (C := RX7) (T := TX7) (N := 4) hb ho zc6 in_X7 tyX7_ok nmX7 (zf_RX7_13 _) dX7_init_11 (z_nxs eh_1) hnt (by decide) (Or.inr ⟨hm, rfl⟩) rfl rfl rfl (Nat.le_of_ble_eq_true rfl) ?_
  refine z_hn (fun h_2 eh_2 => ?_)
  have eh_2 : h_2 = z_up h_1 t (.inr (6, [.int nu, .int d, .int (nI 0), .int (nI 0)])) := eh_2
  refine z_aload_n hb dX7_init_14 rfl ?_
  refine z_iload_n hb dX7_init_15 rfl ?_
  refine z_put (k := 2) (C := RX7) (T := TX7) (N := 4) hb ho zc6 in_X7 tyX7_ok nmX7 (zf_RX7_16 _) dX7_init_16 (z_nxs eh_2) hnt (by decide) (Or.inr ⟨hm, rfl⟩) rfl rfl rfl (Nat.le_of_ble_eq_true rfl) ?_
  refine z_hn (fun h_3 eh_3 => ?_)
  have eh_3 : h_3 = z_up h_2 t (.inr (6, [.int nu, .int d, .int g, .int (nI 0)])) := eh_3
  refine z_aload_n hb dX7_init_19 rfl ?_
  refine z_iload hb dX7_init_20 rfl ?_
  refine z_put (k := 3) (C := RX7) (T := TX7) (N := 4) hb ho zc6 in_X7 tyX7_ok nmX7 (zf_RX7_19 _) dX7_init_22 (z_nxs eh_3) hnt (by decide) (Or.inr ⟨hm, rfl⟩) rfl rfl rfl (Nat.le_of_ble_eq_true rfl) ?_
  refine z_hn (fun h_4 eh_4 => ?_)
  have eh_4 : h_4 = z_up h_3 t (.inr (6, [.int nu, .int d, .int g, .int am])) := eh_4
  refine z_vret hb hr dX7_init_25 ?_
  rw [hQ]
  exact ⟨rfl, (by rw [eh_4, eh_3, eh_2, eh_1] <;> simp only [z_up_up]), rfl⟩

set_option maxHeartbeats 1000000 in
theorem m_X7_isOf {l : Launch} {G : zG} {h : zH} {n : Nat} {t : Nat} {nu d g am : Int32} (wd wg : Int32) (ht9 : h t = some (.inr (6, [.int nu, .int d, .int g, .int am]))) : z_C l G yX7_isOf 1 0 0 [.ref t, .int wd, .int wg] h n (z_rv (.int (z_b (decide (d = wd) && decide (g = wg)))) h n) := by
  refine z_start zk_X7_isOf zpl_RX7 (Nat.le_of_ble_eq_true rfl) ?_
  intro hn0 M hl hG ho hb hN hr hm hH hrm hQ
  subst hl hG
  have ho : zm_o M = RX7 := ho
  show z_V M h n 0 0 0 [(0, .ref t), (1, .int wd), (2, .int wg)] []
  refine z_aload_n hb dX7_isOf_0 rfl ?_
  refine z_get (k := 1) (C := RX7) (T := TX7) (N := 4) hb ho zc6 in_X7 (zf_RX7_13 _) dX7_isOf_1 ht9 (by decide) rfl ?_
  refine z_iload_n hb dX7_isOf_4 rfl ?_
  refine z_icmp_ne (tgt := 20) hb dX7_isOf_5 (by decide) (fun c_5 => ?_) (fun c_5 => ?_)
  · refine z_iconst (x := nI 0) hb dX7_isOf_20 (by decide) ?_
    refine z_zret hb hr rfl dX7_isOf_21 ?_
    rw [hQ]
    exact z_rvb0 (by simp [c_5])
  · refine z_aload_n hb dX7_isOf_8 rfl ?_
    refine z_get (k := 2) (C := RX7) (T := TX7) (N := 4) hb ho zc6 in_X7 (zf_RX7_16 _) dX7_isOf_9 ht9 (by decide) rfl ?_
    refine z_iload_n hb dX7_isOf_12 rfl ?_
    refine z_icmp_ne (tgt := 20) hb dX7_isOf_13 (by decide) (fun c_13 => ?_) (fun c_13 => ?_)
    · refine z_iconst (x := nI 0) hb dX7_isOf_20 (by decide) ?_
      refine z_zret hb hr rfl dX7_isOf_21 ?_
      rw [hQ]
      exact z_rvb0 (by simp [c_5, c_13])
    · refine z_iconst (x := nI 1) hb dX7_isOf_16 (by decide) ?_
      refine z_goto (tgt := 21) hb dX7_isOf_17 (by decide) ?_
      refine z_zret hb hr rfl dX7_isOf_21 ?_
      rw [hQ]
      exact z_rvb1 (by simp [c_5, c_13])

set_option maxHeartbeats 1000000 in
theorem m_X4_init {l : Launch} {G : zG} {h : zH} {n : Nat} {t : Nat} (ht9 : h t = some (.inr (3, [.null, .null]))) (hnt : z_n0 G ≤ t) (htn : t < n) : z_C l G yX4_init 1 2 42 [.ref t] h n (z_r0 (z_up (z_up (z_up h n (z_al G 35 (fun _ => 0))) (n + 1) (z_az G 7 (fun _ => 0))) t (.inr (3, [.ref n, .ref (n + 1)]))) (n + 2)) := by
  refine z_start zk_X4_init zpl_RX4 (Nat.le_of_ble_eq_true rfl) ?_
  intro hn0 M hl hG ho hb hN hr hm hH hrm hQ
  subst hl hG
  have ho : zm_o M = RX4 := ho
  show z_V M h n 2 42 0 [(0, .ref t)] []
  refine z_aload_n hb dX4_init_0 rfl ?_
  refine z_oinit hb ho hrm (by omega) q570 q155 q156 (by decide) dX4_init_1 ?_
  refine z_aload_n hb dX4_init_4 rfl ?_
  refine z_bipush (x := nI 35) hb dX4_init_5 (by decide) ?_
  refine z_newl (N := 35) (b' := 1) (f' := 7) hb q582 dX4_init_7 rfl (by omega) (by omega) (by omega) ?_
  refine z_hn (fun h_1 eh_1 => ?_)
  have eh_1 : h_1 = z_up h n (.inl ((zm_G M).2.1 1, 35, .inr (.inl (fun _ => 0)))) := eh_1
  have k_2 : h_1 t = some (.inr (3, [.null, .null])) := z_nx eh_1 (Nat.ne_of_lt (by omega)) ht9
  refine z_put (k := 0) (C := RX4) (T := TX4) (N := 2) hb ho zc3 in_X4 tyX4_ok nmX4 (zf_RX4_9 _) dX4_init_9 k_2 hnt (by decide) (Or.inr ⟨hm, rfl⟩) rfl rfl rfl (Nat.le_of_ble_eq_true rfl) ?_
  refine z_hn (fun h_3 eh_3 => ?_)
  have eh_3 : h_3 = z_up h_1 t (.inr (3, [.ref n, .null])) := eh_3
  have k_4 : h_3 n = some (.inl ((zm_G M).2.1 1, 35, .inr (.inl (fun _ => 0)))) := z_nx eh_3 (z_neA' (z_nxs eh_1) k_2) (z_nxs eh_1)
  refine z_aload_n hb dX4_init_12 rfl ?_
  refine z_bipush (x := nI 7) hb dX4_init_13 (by decide) ?_
  refine z_newz (N := 7) (b' := 0) (f' := 0) hb q583 dX4_init_15 rfl (by omega) (by omega) (by omega) ?_
  refine z_hn (fun h_5 eh_5 => ?_)
  have eh_5 : h_5 = z_up h_3 (n + 1) (.inl ((zm_G M).2.1 2, 7, .inl (fun _ => 0))) := eh_5
  have k_6 : h_5 n = some (.inl ((zm_G M).2.1 1, 35, .inr (.inl (fun _ => 0)))) := z_nx eh_5 (by omega) k_4
  have k_7 : h_5 t = some (.inr (3, [.ref n, .null])) := z_nx eh_5 (Nat.ne_of_lt (by omega)) (z_nxs eh_3)
  refine z_put (k := 1) (C := RX4) (T := TX4) (N := 2) hb ho zc3 in_X4 tyX4_ok nmX4 (zf_RX4_15 _) dX4_init_17 k_7 hnt (by decide) (Or.inr ⟨hm, rfl⟩) rfl rfl rfl (Nat.le_of_ble_eq_true rfl) ?_
  refine z_hn (fun h_8 eh_8 => ?_)
  have eh_8 : h_8 = z_up h_5 t (.inr (3, [.ref n, .ref (n + 1)])) := eh_8
  have k_9 : h_8 n = some (.inl ((zm_G M).2.1 1, 35, .inr (.inl (fun _ => 0)))) := z_nx eh_8 (z_neA' k_6 k_7) k_6
  have k_10 : h_8 (n + 1) = some (.inl ((zm_G M).2.1 2, 7, .inl (fun _ => 0))) := z_nx eh_8 (z_neA' (z_nxs eh_5) k_7) (z_nxs eh_5)
  refine z_vret hb hr dX4_init_20 ?_
  rw [hQ]
  refine ⟨rfl, ?_, rfl⟩
  rw [eh_8, eh_5, eh_3, eh_1]
  funext y
  simp only [z_up]
  by_cases q1 : y = t
  · subst q1; simp only [if_true]
  · by_cases q2 : y = n + 1
    · subst q2; simp only [q1, if_true, if_false]
    · simp only [q1, q2, if_false]

set_option maxHeartbeats 1000000 in
theorem m_X4_copy {l : Launch} {G : zG} {h : zH} {n : Nat} {v e1 e2 : Nat} {F : Nat → Int64} {Z : Nat → Int32} (hv : h v = some (.inr (3, [.ref e1, .ref e2]))) (hF : h e1 = some (z_al G 35 F)) (hZ : h e2 = some (z_az G 7 Z)) (hvn : v < n) (h1n : e1 < n) (h2n : e2 < n) (hZb : ∀ i, i < 7 → ∃ b9, Z i = z_b b9) : z_C l G yX4_copy 2 3 44 [.ref v] h n (z_rv (.ref n) (z_up (z_up (z_up h n (.inr (3, [.ref (n + 1), .ref (n + 2)]))) (n + 1) (z_al G 35 (va_cpy F (fun _ => 0) 0 0 35))) (n + 2) (z_az G 7 (va_cpy Z (fun _ => 0) 0 0 7))) (n + 3)) := by
  refine z_start zk_X4_copy zpl_RX4 (Nat.le_of_ble_eq_true rfl) ?_
  intro hn0 M hl hG ho hb hN hr hm hH hrm hQ
  subst hl hG
  have ho : zm_o M = RX4 := ho
  show z_V M h n 3 44 0 [(0, .ref v)] []
  refine z_new (N0 := 2) (b' := 2) (f' := 42) (fs := [.null, .null]) (C := RX4) (T := TX4) (N := 2) hb ho zc3 in_X4 tyX4_ok q565 q566 q114 dX4_copy_0 (zdf_X4) (by omega) (by omega) ?_
  refine z_hn (fun h_1 eh_1 => ?_)
  have eh_1 : h_1 = z_up h n (.inr (3, [.null, .null])) := eh_1
  have k_2 : h_1 v = some (.inr (3, [.ref e1, .ref e2])) := z_nx eh_1 (Nat.ne_of_lt (by omega)) hv
  have k_3 : h_1 e1 = some (.inl ((zm_G M).2.1 1, 35, .inr (.inl F))) := z_nx eh_1 (Nat.ne_of_lt (by omega)) hF
  have k_4 : h_1 e2 = some (.inl ((zm_G M).2.1 2, 7, .inl Z)) := z_nx eh_1 (Nat.ne_of_lt (by omega)) hZ
  refine z_dup hb dX4_copy_3 rfl ?_
  refine z_call0 (b' := 0) (f' := 0) (rest := [.ref n]) (av := [.ref n]) (z_siteI hb ho q567 q568 q569 rfl zy_X4_init zl_X4_init dX4_copy_4 : z_Site M _ _ _ _ _ ([].reverse ++ .ref n :: [.ref n]) [.ref n] _) zk_X4_init q114 hrm (m_X4_init (z_nxs eh_1) (by omega) (by omega)) (by omega) (by decide) (Nat.le_of_ble_eq_true rfl) (by omega) (by omega) ?_
  obtain ⟨h_5, eh_5⟩ : ∃ h_5, h_5 = z_up h_1 (n + 1) (.inl ((zm_G M).2.1 1, 35, .inr (.inl (fun _ => 0)))) := ⟨_, rfl⟩
  have k_6 : h_5 v = some (.inr (3, [.ref e1, .ref e2])) := z_nx eh_5 (Nat.ne_of_lt (by omega)) k_2
  have k_7 : h_5 e1 = some (.inl ((zm_G M).2.1 1, 35, .inr (.inl F))) := z_nx eh_5 (Nat.ne_of_lt (by omega)) k_3
  have k_8 : h_5 e2 = some (.inl ((zm_G M).2.1 2, 7, .inl Z)) := z_nx eh_5 (Nat.ne_of_lt (by omega)) k_4
  have k_9 : h_5 n = some (.inr (3, [.null, .null])) := z_nx eh_5 (by omega) (z_nxs eh_1)
  obtain ⟨h_10, eh_10⟩ : ∃ h_10, h_10 = z_up h_5 (n + 2) (.inl ((zm_G M).2.1 2, 7, .inl (fun _ => 0))) := ⟨_, rfl⟩
  have k_11 : h_10 v = some (.inr (3, [.ref e1, .ref e2])) := z_nx eh_10 (Nat.ne_of_lt (by omega)) k_6
  have k_12 : h_10 e1 = some (.inl ((zm_G M).2.1 1, 35, .inr (.inl F))) := z_nx eh_10 (Nat.ne_of_lt (by omega)) k_7
  have k_13 : h_10 e2 = some (.inl ((zm_G M).2.1 2, 7, .inl Z)) := z_nx eh_10 (Nat.ne_of_lt (by omega)) k_8
  have k_14 : h_10 n = some (.inr (3, [.null, .null])) := z_nx eh_10 (by omega) k_9
  have k_15 : h_10 (n + 1) = some (.inl ((zm_G M).2.1 1, 35, .inr (.inl (fun _ => 0)))) := z_nx eh_10 (by omega) (z_nxs eh_5)
  refine z_hh (h2 := z_up h_10 n (.inr (3, [.ref (n + 1), .ref (n + 2)]))) (by rw [eh_10, eh_5]) ?_
  refine z_hn (fun h_16 eh_16 => ?_)
  have eh_16 : h_16 = z_up h_10 n (.inr (3, [.ref (n + 1), .ref (n + 2)])) := eh_16
  have k_17 : h_16 v = some (.inr (3, [.ref e1, .ref e2])) := z_nx eh_16 (by omega) k_11
  have k_18 : h_16 e1 = some (.inl ((zm_G M).2.1 1, 35, .inr (.inl F))) := z_nx eh_16 (z_neA' k_12 k_14) k_12
  have k_19 : h_16 e2 = some (.inl ((zm_G M).2.1 2, 7, .inl Z)) := z_nx eh_16 (z_neA' k_13 k_14) k_13
  have k_20 : h_16 (n + 1) = some (.inl ((zm_G M).2.1 1, 35, .inr (.inl (fun _ => 0)))) := z_nx eh_16 (z_neA' k_15 k_14) k_15
  have k_21 : h_16 (n + 2) = some (.inl ((zm_G M).2.1 2, 7, .inl (fun _ => 0))) := z_nx eh_16 (z_neA' (z_nxs eh_10) k_14) (z_nxs eh_10)
  refine z_astore_n (lv' := [(1, .ref n), (0, .ref v)]) hb dX4_copy_7 (by rw [hN]; decide) rfl ?_
  refine z_aload_n hb dX4_copy_8 rfl ?_
  refine z_get (k := 0) (C := RX4) (T := TX4) (N := 2) hb ho zc3 in_X4 (zf_RX4_9 _) dX4_copy_9 k_17 (by decide) rfl ?_
  refine z_iconst (x := nI 0) hb dX4_copy_12 (by decide) ?_
  refine z_aload_n hb dX4_copy_13 rfl ?_
  refine z_get (k := 0) (C := RX4) (T := TX4) (N := 2) hb ho zc3 in_X4 (zf_RX4_9 _) dX4_copy_14 (z_nxs eh_16) (by decide) rfl ?_
  refine z_iconst (x := nI 0) hb dX4_copy_17 (by decide) ?_
  refine z_aload_n hb dX4_copy_18 rfl ?_
  refine z_get (k := 0) (C := RX4) (T := TX4) (N := 2) hb ho zc3 in_X4 (zf_RX4_9 _) dX4_copy_19 k_17 (by decide) rfl ?_
  refine z_alen (kk := 1) hb rfl dX4_copy_22 k_18 ?_
  refine z_copyl hb ho hrm (by omega) q584 q557 q556 q113 dX4_copy_23 k_18 k_20 (by omega) rfl rfl rfl (by omega) (by omega) (by omega) (by omega)  (Nat.le_of_ble_eq_true rfl) ?_
  refine z_hn (fun h_22 eh_22 => ?_)
  have eh_22 : h_22 = z_up h_16 (n + 1) (.inl ((zm_G M).2.1 1, 35, .inr (.inl (va_cpy F (fun _ => 0) 0 0 35)))) := eh_22
  have k_23 : h_22 v = some (.inr (3, [.ref e1, .ref e2])) := z_nx eh_22 (z_neA k_17 k_20) k_17
  have k_24 : h_22 e1 = some (.inl ((zm_G M).2.1 1, 35, .inr (.inl F))) := z_nx eh_22 (by omega) k_18
  have k_25 : h_22 e2 = some (.inl ((zm_G M).2.1 2, 7, .inl Z)) := z_nx eh_22 (by omega) k_19
  have k_26 : h_22 (n + 2) = some (.inl ((zm_G M).2.1 2, 7, .inl (fun _ => 0))) := z_nx eh_22 (by omega) k_21
  have k_27 : h_22 n = some (.inr (3, [.ref (n + 1), .ref (n + 2)])) := z_nx eh_22 (z_neA (z_nxs eh_16) k_20) (z_nxs eh_16)
  refine z_aload_n hb dX4_copy_26 rfl ?_
  refine z_get (k := 1) (C := RX4) (T := TX4) (N := 2) hb ho zc3 in_X4 (zf_RX4_15 _) dX4_copy_27 k_23 (by decide) rfl ?_
  refine z_iconst (x := nI 0) hb dX4_copy_30 (by decide) ?_
  refine z_aload_n hb dX4_copy_31 rfl ?_
  refine z_get (k := 1) (C := RX4) (T := TX4) (N := 2) hb ho zc3 in_X4 (zf_RX4_15 _) dX4_copy_32 k_27 (by decide) rfl ?_
  refine z_iconst (x := nI 0) hb dX4_copy_35 (by decide) ?_
  refine z_bipush (x := nI 7) hb dX4_copy_36 (by decide) ?_
  refine z_copyz hb ho hrm (by omega) q584 q557 q556 q113 dX4_copy_38 k_25 k_26 (by omega) rfl rfl rfl (by omega) (by omega) (by omega) (by omega) (fun i hi => by obtain ⟨b9, hb9⟩ := hZb (0 + i) (by omega); rw [hb9]; exact z_bfit b9) (Nat.le_of_ble_eq_true rfl) ?_
  refine z_hn (fun h_28 eh_28 => ?_)
  have eh_28 : h_28 = z_up h_22 (n + 2) (.inl ((zm_G M).2.1 2, 7, .inl (va_cpy Z (fun _ => 0) 0 0 7))) := eh_28
  have k_29 : h_28 v = some (.inr (3, [.ref e1, .ref e2])) := z_nx eh_28 (z_neA k_23 k_26) k_23
  have k_30 : h_28 e1 = some (.inl ((zm_G M).2.1 1, 35, .inr (.inl F))) := z_nx eh_28 (by omega) k_24
  have k_31 : h_28 e2 = some (.inl ((zm_G M).2.1 2, 7, .inl Z)) := z_nx eh_28 (by omega) k_25
  have k_32 : h_28 n = some (.inr (3, [.ref (n + 1), .ref (n + 2)])) := z_nx eh_28 (z_neA k_27 k_26) k_27
  have k_33 : h_28 (n + 1) = some (.inl ((zm_G M).2.1 1, 35, .inr (.inl (va_cpy F (fun _ => 0) 0 0 35)))) := z_nx eh_28 (by omega) (z_nxs eh_22)
  refine z_aload_n hb dX4_copy_41 rfl ?_
  refine z_aret hb hr (Or.inl ⟨_, rfl⟩) (Or.inr ⟨_, rfl⟩) dX4_copy_42 ?_
  rw [hQ]
  refine ⟨rfl, ?_, rfl⟩
  rw [eh_28, eh_22, eh_16, eh_10, eh_5, eh_1]
  funext y
  simp only [z_up]
  by_cases q1 : y = n + 2
  · simp only [q1, if_true]
  · by_cases q2 : y = n + 1
    · simp only [q1, q2, if_true, if_false] <;> simp
    · by_cases q3 : y = n
      · subst q3; simp
      · simp only [q1, q2, q3, if_false]

set_option maxHeartbeats 1000000 in
theorem m_X9_init_8 {l : Launch} {G : zG} {h : zH} {n : Nat} {t : Nat}  {kd : Nat} (ht9 : h t = some (.inr (8, [.int (nI 0), .int (nI 0)]))) (hnt : z_n0 G ≤ t) (hkd : kd < 65536) : z_C l G yX9_init 1 0 0 [.ref t, .int (nI kd)] h n (z_r0 (z_up h t (.inr (8, [.int (nI 0), .int (nI kd)]))) n) := by
  refine z_start zk_X9_init zpl_RX9 (Nat.le_of_ble_eq_true rfl) ?_
  intro hn0 M hl hG ho hb hN hr hm hH hrm hQ
  subst hl hG
  have ho : zm_o M = RX9 := ho
  show z_V M h n 0 0 0 [(0, .ref t), (1, .int (nI kd))] []
  refine z_aload_n hb dX9_init_0 rfl ?_
  refine z_oinit hb ho hrm (by omega) q1469 q155 q156 (by decide) dX9_init_1 ?_
  refine z_aload_n hb dX9_init_4 rfl ?_
  refine z_iload_n hb dX9_init_5 rfl ?_
  refine z_put (k := 1) (C := RX11) (T := TX11) (N := 2) hb ho zc8 in_X11 tyX11_ok nmX11 (zf_RX9_7 _) dX9_init_6 ht9 hnt (by decide) (Or.inr ⟨hm, rfl⟩) rfl (pk_charN (by omega)).1 (pk_charN (by omega)).2 (Nat.le_of_ble_eq_true rfl) ?_
  refine z_hn (fun h_1 eh_1 => ?_)
  have eh_1 : h_1 = z_up h t (.inr (8, [.int (nI 0), .int (nI kd)])) := eh_1
  refine z_vret hb hr dX9_init_9 ?_
  rw [hQ]
  exact ⟨rfl, (by rw [eh_1] <;> simp only [z_up_up]), rfl⟩

set_option maxHeartbeats 1000000 in
theorem m_X9_init_9 {l : Launch} {G : zG} {h : zH} {n : Nat} {t : Nat}  {kd : Nat} (ht9 : h t = some (.inr (9, [.int (nI 0), .int (nI 0)]))) (hnt : z_n0 G ≤ t) (hkd : kd < 65536) : z_C l G yX9_init 1 0 0 [.ref t, .int (nI kd)] h n (z_r0 (z_up h t (.inr (9, [.int (nI 0), .int (nI kd)]))) n) := by
  refine z_start zk_X9_init zpl_RX9 (Nat.le_of_ble_eq_true rfl) ?_
  intro hn0 M hl hG ho hb hN hr hm hH hrm hQ
  subst hl hG
  have ho : zm_o M = RX9 := ho
  show z_V M h n 0 0 0 [(0, .ref t), (1, .int (nI kd))] []
  refine z_aload_n hb dX9_init_0 rfl ?_
  refine z_oinit hb ho hrm (by omega) q1469 q155 q156 (by decide) dX9_init_1 ?_
  refine z_aload_n hb dX9_init_4 rfl ?_
  refine z_iload_n hb dX9_init_5 rfl ?_
  refine z_put (k := 1) (C := RX12) (T := TX12) (N := 2) hb ho zc9 in_X12 tyX12_ok nmX12 (zf_RX9_7 _) dX9_init_6 ht9 hnt (by decide) (Or.inr ⟨hm, rfl⟩) rfl (pk_charN (by omega)).1 (pk_charN (by omega)).2 (Nat.le_of_ble_eq_true rfl) ?_
  refine z_hn (fun h_1 eh_1 => ?_)
  have eh_1 : h_1 = z_up h t (.inr (9, [.int (nI 0), .int (nI kd)])) := eh_1
  refine z_vret hb hr dX9_init_9 ?_
  rw [hQ]
  exact ⟨rfl, (by rw [eh_1] <;> simp only [z_up_up]), rfl⟩

set_option maxHeartbeats 1000000 in
theorem m_X9_init_10 {l : Launch} {G : zG} {h : zH} {n : Nat} {t : Nat}  {kd : Nat} (ht9 : h t = some (.inr (10, [.int (nI 0), .int (nI 0)]))) (hnt : z_n0 G ≤ t) (hkd : kd < 65536) : z_C l G yX9_init 1 0 0 [.ref t, .int (nI kd)] h n (z_r0 (z_up h t (.inr (10, [.int (nI 0), .int (nI kd)]))) n) := by
  refine z_start zk_X9_init zpl_RX9 (Nat.le_of_ble_eq_true rfl) ?_
  intro hn0 M hl hG ho hb hN hr hm hH hrm hQ
  subst hl hG
  have ho : zm_o M = RX9 := ho
  show z_V M h n 0 0 0 [(0, .ref t), (1, .int (nI kd))] []
  refine z_aload_n hb dX9_init_0 rfl ?_
  refine z_oinit hb ho hrm (by omega) q1469 q155 q156 (by decide) dX9_init_1 ?_
  refine z_aload_n hb dX9_init_4 rfl ?_
  refine z_iload_n hb dX9_init_5 rfl ?_
  refine z_put (k := 1) (C := RX13) (T := TX13) (N := 2) hb ho zc10 in_X13 tyX13_ok nmX13 (zf_RX9_7 _) dX9_init_6 ht9 hnt (by decide) (Or.inr ⟨hm, rfl⟩) rfl (pk_charN (by omega)).1 (pk_charN (by omega)).2 (Nat.le_of_ble_eq_true rfl) ?_
  refine z_hn (fun h_1 eh_1 => ?_)
  have eh_1 : h_1 = z_up h t (.inr (10, [.int (nI 0), .int (nI kd)])) := eh_1
  refine z_vret hb hr dX9_init_9 ?_
  rw [hQ]
  exact ⟨rfl, (by rw [eh_1] <;> simp only [z_up_up]), rfl⟩

set_option maxHeartbeats 1000000 in
theorem m_X9_init_11 {l : Launch} {G : zG} {h : zH} {n : Nat} {t : Nat}  {kd : Nat} (ht9 : h t = some (.inr (11, [.int (nI 0), .null, .null, .int (nI 0)]))) (hnt : z_n0 G ≤ t) (hkd : kd < 65536) : z_C l G yX9_init 1 0 0 [.ref t, .int (nI kd)] h n (z_r0 (z_up h t (.inr (11, [.int (nI kd), .null, .null, .int (nI 0)]))) n) := by
  refine z_start zk_X9_init zpl_RX9 (Nat.le_of_ble_eq_true rfl) ?_
  intro hn0 M hl hG ho hb hN hr hm hH hrm hQ
  subst hl hG
  have ho : zm_o M = RX9 := ho
  show z_V M h n 0 0 0 [(0, .ref t), (1, .int (nI kd))] []
  refine z_aload_n hb dX9_init_0 rfl ?_
  refine z_oinit hb ho hrm (by omega) q1469 q155 q156 (by decide) dX9_init_1 ?_
  refine z_aload_n hb dX9_init_4 rfl ?_
  refine z_iload_n hb dX9_init_5 rfl ?_
  refine z_put (k := 0) (C := RX14) (T := TX14) (N := 4) hb ho zc11 in_X14 tyX14_ok nmX14 (zf_RX9_7 _) dX9_init_6 ht9 hnt (by decide) (Or.inr ⟨hm, rfl⟩) rfl (pk_charN (by omega)).1 (pk_charN (by omega)).2 (Nat.le_of_ble_eq_true rfl) ?_
  refine z_hn (fun h_1 eh_1 => ?_)
  have eh_1 : h_1 = z_up h t (.inr (11, [.int (nI kd), .null, .null, .int (nI 0)])) := eh_1
  refine z_vret hb hr dX9_init_9 ?_
  rw [hQ]
  exact ⟨rfl, (by rw [eh_1] <;> simp only [z_up_up]), rfl⟩

set_option maxHeartbeats 1000000 in
theorem m_X9_init_12 {l : Launch} {G : zG} {h : zH} {n : Nat} {t : Nat}  {kd : Nat} (ht9 : h t = some (.inr (12, [.null, .int (nI 0)]))) (hnt : z_n0 G ≤ t) (hkd : kd < 65536) : z_C l G yX9_init 1 0 0 [.ref t, .int (nI kd)] h n (z_r0 (z_up h t (.inr (12, [.null, .int (nI kd)]))) n) := by
  refine z_start zk_X9_init zpl_RX9 (Nat.le_of_ble_eq_true rfl) ?_
  intro hn0 M hl hG ho hb hN hr hm hH hrm hQ
  subst hl hG
  have ho : zm_o M = RX9 := ho
  show z_V M h n 0 0 0 [(0, .ref t), (1, .int (nI kd))] []
  refine z_aload_n hb dX9_init_0 rfl ?_
  refine z_oinit hb ho hrm (by omega) q1469 q155 q156 (by decide) dX9_init_1 ?_
  refine z_aload_n hb dX9_init_4 rfl ?_
  refine z_iload_n hb dX9_init_5 rfl ?_
  refine z_put (k := 1) (C := RX16) (T := TX16) (N := 2) hb ho zc12 in_X16 tyX16_ok nmX16 (zf_RX9_7 _) dX9_init_6 ht9 hnt (by decide) (Or.inr ⟨hm, rfl⟩) rfl (pk_charN (by omega)).1 (pk_charN (by omega)).2 (Nat.le_of_ble_eq_true rfl) ?_
  refine z_hn (fun h_1 eh_1 => ?_)
  have eh_1 : h_1 = z_up h t (.inr (12, [.null, .int (nI kd)])) := eh_1
  refine z_vret hb hr dX9_init_9 ?_
  rw [hQ]
  exact ⟨rfl, (by rw [eh_1] <;> simp only [z_up_up]), rfl⟩

set_option maxHeartbeats 1000000 in
theorem m_X9_init_13 {l : Launch} {G : zG} {h : zH} {n : Nat} {t : Nat}  {kd : Nat} (ht9 : h t = some (.inr (13, [.null, .int (nI 0), .int (nI 0)]))) (hnt : z_n0 G ≤ t) (hkd : kd < 65536) : z_C l G yX9_init 1 0 0 [.ref t, .int (nI kd)] h n (z_r0 (z_up h t (.inr (13, [.null, .int (nI kd), .int (nI 0)]))) n) := by
  refine z_start zk_X9_init zpl_RX9 (Nat.le_of_ble_eq_true rfl) ?_
  intro hn0 M hl hG ho hb hN hr hm hH hrm hQ
  subst hl hG
  have ho : zm_o M = RX9 := ho
  show z_V M h n 0 0 0 [(0, .ref t), (1, .int (nI kd))] []
  refine z_aload_n hb dX9_init_0 rfl ?_
  refine z_oinit hb ho hrm (by omega) q1469 q155 q156 (by decide) dX9_init_1 ?_
  refine z_aload_n hb dX9_init_4 rfl ?_
  refine z_iload_n hb dX9_init_5 rfl ?_
  refine z_put (k := 1) (C := RX17) (T := TX17) (N := 3) hb ho zc13 in_X17 tyX17_ok nmX17 (zf_RX9_7 _) dX9_init_6 ht9 hnt (by decide) (Or.inr ⟨hm, rfl⟩) rfl (pk_charN (by omega)).1 (pk_charN (by omega)).2 (Nat.le_of_ble_eq_true rfl) ?_
  refine z_hn (fun h_1 eh_1 => ?_)
  have eh_1 : h_1 = z_up h t (.inr (13, [.null, .int (nI kd), .int (nI 0)])) := eh_1
  refine z_vret hb hr dX9_init_9 ?_
  rw [hQ]
  exact ⟨rfl, (by rw [eh_1] <;> simp only [z_up_up]), rfl⟩

set_option maxHeartbeats 1000000 in
theorem m_X10_init_8 {l : Launch} {G : zG} {h : zH} {n : Nat} {t : Nat}  {kd : Nat} (b : Int32) (ht9 : h t = some (.inr (8, [.int (nI 0), .int (nI 0)]))) (hnt : z_n0 G ≤ t) (hkd : kd < 65536) : z_C l G yX10_init 2 0 0 [.ref t, .int (nI kd), .int b] h n (z_r0 (z_up h t (.inr (8, [.int b, .int (nI kd)]))) n) := by
  refine z_start zk_X10_init zpl_RX10 (Nat.le_of_ble_eq_true rfl) ?_
  intro hn0 M hl hG ho hb hN hr hm hH hrm hQ
  subst hl hG
  have ho : zm_o M = RX10 := ho
  show z_V M h n 0 0 0 [(0, .ref t), (1, .int (nI kd)), (2, .int b)] []
  refine z_aload_n hb dX10_init_0 rfl ?_
  refine z_iload_n hb dX10_init_1 rfl ?_
  refine z_call0 (b' := 0) (f' := 0) (rest := []) (av := [.ref t, .int (nI kd)]) (z_siteI hb ho q1466 q1467 q1468 rfl zy_X9_init zl_X9_init dX10_init_2 : z_Site M _ _ _ _ _ ([.int (nI kd)].reverse ++ .ref t :: []) [] _) zk_X9_init q127 hrm (m_X9_init_8 ht9 hnt (by omega)) (by omega) (by decide) (Nat.le_of_ble_eq_true rfl) (by omega) (by omega) ?_
  refine z_hn (fun h_1 eh_1 => ?_)
  have eh_1 : h_1 = z_up h t (.inr (8, [.int (nI 0), .int (nI kd)])) := eh_1
  refine z_aload_n hb dX10_init_5 rfl ?_
  refine z_iload_n hb dX10_init_6 rfl ?_
  refine z_put (k := 0) (C := RX11) (T := TX11) (N := 2) hb ho zc8 in_X11 tyX11_ok nmX11 (zf_RX10_7 _) dX10_init_7 (z_nxs eh_1) hnt (by decide) (Or.inr ⟨hm, rfl⟩) rfl rfl rfl (Nat.le_of_ble_eq_true rfl) ?_
  refine z_hn (fun h_2 eh_2 => ?_)
  have eh_2 : h_2 = z_up h_1 t (.inr (8, [.int b, .int (nI kd)])) := eh_2
  refine z_vret hb hr dX10_init_10 ?_
  rw [hQ]
  exact ⟨rfl, (by rw [eh_2, eh_1] <;> simp only [z_up_up]), rfl⟩

set_option maxHeartbeats 1000000 in
theorem m_X10_init_9 {l : Launch} {G : zG} {h : zH} {n : Nat} {t : Nat}  {kd : Nat} (b : Int32) (ht9 : h t = some (.inr (9, [.int (nI 0), .int (nI 0)]))) (hnt : z_n0 G ≤ t) (hkd : kd < 65536) : z_C l G yX10_init 2 0 0 [.ref t, .int (nI kd), .int b] h n (z_r0 (z_up h t (.inr (9, [.int b, .int (nI kd)]))) n) := by
  refine z_start zk_X10_init zpl_RX10 (Nat.le_of_ble_eq_true rfl) ?_
  intro hn0 M hl hG ho hb hN hr hm hH hrm hQ
  subst hl hG
  have ho : zm_o M = RX10 := ho
  show z_V M h n 0 0 0 [(0, .ref t), (1, .int (nI kd)), (2, .int b)] []
  refine z_aload_n hb dX10_init_0 rfl ?_
  refine z_iload_n hb dX10_init_1 rfl ?_
  refine z_call0 (b' := 0) (f' := 0) (rest := []) (av := [.ref t, .int (nI kd)]) (z_siteI hb ho q1466 q1467 q1468 rfl zy_X9_init zl_X9_init dX10_init_2 : z_Site M _ _ _ _ _ ([.int (nI kd)].reverse ++ .ref t :: []) [] _) zk_X9_init q127 hrm (m_X9_init_9 ht9 hnt (by omega)) (by omega) (by decide) (Nat.le_of_ble_eq_true rfl) (by omega) (by omega) ?_
  refine z_hn (fun h_1 eh_1 => ?_)
  have eh_1 : h_1 = z_up h t (.inr (9, [.int (nI 0), .int (nI kd)])) := eh_1
  refine z_aload_n hb dX10_init_5 rfl ?_
  refine z_iload_n hb dX10_init_6 rfl ?_
  refine z_put (k := 0) (C := RX12) (T := TX12) (N := 2) hb ho zc9 in_X12 tyX12_ok nmX12 (zf_RX10_7 _) dX10_init_7 (z_nxs eh_1) hnt (by decide) (Or.inr ⟨hm, rfl⟩) rfl rfl rfl (Nat.le_of_ble_eq_true rfl) ?_
  refine z_hn (fun h_2 eh_2 => ?_)
  have eh_2 : h_2 = z_up h_1 t (.inr (9, [.int b, .int (nI kd)])) := eh_2
  refine z_vret hb hr dX10_init_10 ?_
  rw [hQ]
  exact ⟨rfl, (by rw [eh_2, eh_1] <;> simp only [z_up_up]), rfl⟩

set_option maxHeartbeats 1000000 in
theorem m_X10_init_10 {l : Launch} {G : zG} {h : zH} {n : Nat} {t : Nat}  {kd : Nat} (b : Int32) (ht9 : h t = some (.inr (10, [.int (nI 0), .int (nI 0)]))) (hnt : z_n0 G ≤ t) (hkd : kd < 65536) : z_C l G yX10_init 2 0 0 [.ref t, .int (nI kd), .int b] h n (z_r0 (z_up h t (.inr (10, [.int b, .int (nI kd)]))) n) := by
  refine z_start zk_X10_init zpl_RX10 (Nat.le_of_ble_eq_true rfl) ?_
  intro hn0 M hl hG ho hb hN hr hm hH hrm hQ
  subst hl hG
  have ho : zm_o M = RX10 := ho
  show z_V M h n 0 0 0 [(0, .ref t), (1, .int (nI kd)), (2, .int b)] []
  refine z_aload_n hb dX10_init_0 rfl ?_
  refine z_iload_n hb dX10_init_1 rfl ?_
  refine z_call0 (b' := 0) (f' := 0) (rest := []) (av := [.ref t, .int (nI kd)]) (z_siteI hb ho q1466 q1467 q1468 rfl zy_X9_init zl_X9_init dX10_init_2 : z_Site M _ _ _ _ _ ([.int (nI kd)].reverse ++ .ref t :: []) [] _) zk_X9_init q127 hrm (m_X9_init_10 ht9 hnt (by omega)) (by omega) (by decide) (Nat.le_of_ble_eq_true rfl) (by omega) (by omega) ?_
  refine z_hn (fun h_1 eh_1 => ?_)
  have eh_1 : h_1 = z_up h t (.inr (10, [.int (nI 0), .int (nI kd)])) := eh_1
  refine z_aload_n hb dX10_init_5 rfl ?_
  refine z_iload_n hb dX10_init_6 rfl ?_
  refine z_put (k := 0) (C := RX13) (T := TX13) (N := 2) hb ho zc10 in_X13 tyX13_ok nmX13 (zf_RX10_7 _) dX10_init_7 (z_nxs eh_1) hnt (by decide) (Or.inr ⟨hm, rfl⟩) rfl rfl rfl (Nat.le_of_ble_eq_true rfl) ?_
  refine z_hn (fun h_2 eh_2 => ?_)
  have eh_2 : h_2 = z_up h_1 t (.inr (10, [.int b, .int (nI kd)])) := eh_2
  refine z_vret hb hr dX10_init_10 ?_
  rw [hQ]
  exact ⟨rfl, (by rw [eh_2, eh_1] <;> simp only [z_up_up]), rfl⟩

set_option maxHeartbeats 1000000 in
theorem m_X11_init {l : Launch} {G : zG} {h : zH} {n : Nat} {t : Nat}  (b : Int32) (ht9 : h t = some (.inr (8, [.int (nI 0), .int (nI 0)]))) (hnt : z_n0 G ≤ t) : z_C l G yX11_init 3 0 0 [.ref t, .int b] h n (z_r0 (z_up h t (.inr (8, [.int b, .int (nI 115)]))) n) := by
  refine z_start zk_X11_init zpl_RX11 (Nat.le_of_ble_eq_true rfl) ?_
  intro hn0 M hl hG ho hb hN hr hm hH hrm hQ
  subst hl hG
  have ho : zm_o M = RX11 := ho
  show z_V M h n 0 0 0 [(0, .ref t), (1, .int b)] []
  refine z_aload_n hb dX11_init_0 rfl ?_
  refine z_bipush (x := nI 115) hb dX11_init_1 (by decide) ?_
  refine z_iload_n hb dX11_init_3 rfl ?_
  refine z_call0 (b' := 0) (f' := 0) (rest := []) (av := [.ref t, .int (nI 115), .int b]) (z_siteI hb ho q1463 q1464 q1465 rfl zy_X10_init zl_X10_init dX11_init_4 : z_Site M _ _ _ _ _ ([.int (nI 115), .int b].reverse ++ .ref t :: []) [] _) zk_X10_init q128 hrm (m_X10_init_8 b ht9 hnt (by omega)) (by omega) (by decide) (Nat.le_of_ble_eq_true rfl) (by omega) (by omega) ?_
  refine z_hn (fun h_1 eh_1 => ?_)
  have eh_1 : h_1 = z_up h t (.inr (8, [.int b, .int (nI 115)])) := eh_1
  refine z_vret hb hr dX11_init_7 ?_
  rw [hQ]
  exact ⟨rfl, (by rw [eh_1] <;> simp only [z_up_up]), rfl⟩

set_option maxHeartbeats 1000000 in
theorem m_X12_init {l : Launch} {G : zG} {h : zH} {n : Nat} {t : Nat}  (b : Int32) (ht9 : h t = some (.inr (9, [.int (nI 0), .int (nI 0)]))) (hnt : z_n0 G ≤ t) : z_C l G yX12_init 3 0 0 [.ref t, .int b] h n (z_r0 (z_up h t (.inr (9, [.int b, .int (nI 110)]))) n) := by
  refine z_start zk_X12_init zpl_RX12 (Nat.le_of_ble_eq_true rfl) ?_
  intro hn0 M hl hG ho hb hN hr hm hH hrm hQ
  subst hl hG
  have ho : zm_o M = RX12 := ho
  show z_V M h n 0 0 0 [(0, .ref t), (1, .int b)] []
  refine z_aload_n hb dX12_init_0 rfl ?_
  refine z_bipush (x := nI 110) hb dX12_init_1 (by decide) ?_
  refine z_iload_n hb dX12_init_3 rfl ?_
  refine z_call0 (b' := 0) (f' := 0) (rest := []) (av := [.ref t, .int (nI 110), .int b]) (z_siteI hb ho q1487 q1464 q1465 rfl zy_X10_init zl_X10_init dX12_init_4 : z_Site M _ _ _ _ _ ([.int (nI 110), .int b].reverse ++ .ref t :: []) [] _) zk_X10_init q128 hrm (m_X10_init_9 b ht9 hnt (by omega)) (by omega) (by decide) (Nat.le_of_ble_eq_true rfl) (by omega) (by omega) ?_
  refine z_hn (fun h_1 eh_1 => ?_)
  have eh_1 : h_1 = z_up h t (.inr (9, [.int b, .int (nI 110)])) := eh_1
  refine z_vret hb hr dX12_init_7 ?_
  rw [hQ]
  exact ⟨rfl, (by rw [eh_1] <;> simp only [z_up_up]), rfl⟩

set_option maxHeartbeats 1000000 in
theorem m_X13_init {l : Launch} {G : zG} {h : zH} {n : Nat} {t : Nat}  (b : Int32) (ht9 : h t = some (.inr (10, [.int (nI 0), .int (nI 0)]))) (hnt : z_n0 G ≤ t) : z_C l G yX13_init 3 0 0 [.ref t, .int b] h n (z_r0 (z_up h t (.inr (10, [.int b, .int (nI 120)]))) n) := by
  refine z_start zk_X13_init zpl_RX13 (Nat.le_of_ble_eq_true rfl) ?_
  intro hn0 M hl hG ho hb hN hr hm hH hrm hQ
  subst hl hG
  have ho : zm_o M = RX13 := ho
  show z_V M h n 0 0 0 [(0, .ref t), (1, .int b)] []
  refine z_aload_n hb dX13_init_0 rfl ?_
  refine z_bipush (x := nI 120) hb dX13_init_1 (by decide) ?_
  refine z_iload_n hb dX13_init_3 rfl ?_
  refine z_call0 (b' := 0) (f' := 0) (rest := []) (av := [.ref t, .int (nI 120), .int b]) (z_siteI hb ho q1496 q1464 q1465 rfl zy_X10_init zl_X10_init dX13_init_4 : z_Site M _ _ _ _ _ ([.int (nI 120), .int b].reverse ++ .ref t :: []) [] _) zk_X10_init q128 hrm (m_X10_init_10 b ht9 hnt (by omega)) (by omega) (by decide) (Nat.le_of_ble_eq_true rfl) (by omega) (by omega) ?_
  refine z_hn (fun h_1 eh_1 => ?_)
  have eh_1 : h_1 = z_up h t (.inr (10, [.int b, .int (nI 120)])) := eh_1
  refine z_vret hb hr dX13_init_7 ?_
  rw [hQ]
  exact ⟨rfl, (by rw [eh_1] <;> simp only [z_up_up]), rfl⟩

set_option maxHeartbeats 1000000 in
theorem m_X15_init_12 {l : Launch} {G : zG} {h : zH} {n : Nat} {t : Nat}  {kd x : Nat} (ht9 : h t = some (.inr (12, [.null, .int (nI 0)]))) (hnt : z_n0 G ≤ t) (hkd : kd < 65536) : z_C l G yX15_init 2 0 0 [.ref t, .int (nI kd), .ref x] h n (z_r0 (z_up h t (.inr (12, [.ref x, .int (nI kd)]))) n) := by
  refine z_start zk_X15_init zpl_RX15 (Nat.le_of_ble_eq_true rfl) ?_
  intro hn0 M hl hG ho hb hN hr hm hH hrm hQ
  subst hl hG
  have ho : zm_o M = RX15 := ho
  show z_V M h n 0 0 0 [(0, .ref t), (1, .int (nI kd)), (2, .ref x)] []
  refine z_aload_n hb dX15_init_0 rfl ?_
  refine z_iload_n hb dX15_init_1 rfl ?_
  refine z_call0 (b' := 0) (f' := 0) (rest := []) (av := [.ref t, .int (nI kd)]) (z_siteI hb ho q1556 q1467 q1468 rfl zy_X9_init zl_X9_init dX15_init_2 : z_Site M _ _ _ _ _ ([.int (nI kd)].reverse ++ .ref t :: []) [] _) zk_X9_init q127 hrm (m_X9_init_12 ht9 hnt (by omega)) (by omega) (by decide) (Nat.le_of_ble_eq_true rfl) (by omega) (by omega) ?_
  refine z_hn (fun h_1 eh_1 => ?_)
  have eh_1 : h_1 = z_up h t (.inr (12, [.null, .int (nI kd)])) := eh_1
  refine z_aload_n hb dX15_init_5 rfl ?_
  refine z_aload_n hb dX15_init_6 rfl ?_
  refine z_put (k := 0) (C := RX16) (T := TX16) (N := 2) hb ho zc12 in_X16 tyX16_ok nmX16 (zf_RX15_7 _) dX15_init_7 (z_nxs eh_1) hnt (by decide) (Or.inr ⟨hm, rfl⟩) rfl rfl rfl (Nat.le_of_ble_eq_true rfl) ?_
  refine z_hn (fun h_2 eh_2 => ?_)
  have eh_2 : h_2 = z_up h_1 t (.inr (12, [.ref x, .int (nI kd)])) := eh_2
  refine z_vret hb hr dX15_init_10 ?_
  rw [hQ]
  exact ⟨rfl, (by rw [eh_2, eh_1] <;> simp only [z_up_up]), rfl⟩

set_option maxHeartbeats 1000000 in
theorem m_X15_init_13 {l : Launch} {G : zG} {h : zH} {n : Nat} {t : Nat}  {kd x : Nat} (ht9 : h t = some (.inr (13, [.null, .int (nI 0), .int (nI 0)]))) (hnt : z_n0 G ≤ t) (hkd : kd < 65536) : z_C l G yX15_init 2 0 0 [.ref t, .int (nI kd), .ref x] h n (z_r0 (z_up h t (.inr (13, [.ref x, .int (nI kd), .int (nI 0)]))) n) := by
  refine z_start zk_X15_init zpl_RX15 (Nat.le_of_ble_eq_true rfl) ?_
  intro hn0 M hl hG ho hb hN hr hm hH hrm hQ
  subst hl hG
  have ho : zm_o M = RX15 := ho
  show z_V M h n 0 0 0 [(0, .ref t), (1, .int (nI kd)), (2, .ref x)] []
  refine z_aload_n hb dX15_init_0 rfl ?_
  refine z_iload_n hb dX15_init_1 rfl ?_
  refine z_call0 (b' := 0) (f' := 0) (rest := []) (av := [.ref t, .int (nI kd)]) (z_siteI hb ho q1556 q1467 q1468 rfl zy_X9_init zl_X9_init dX15_init_2 : z_Site M _ _ _ _ _ ([.int (nI kd)].reverse ++ .ref t :: []) [] _) zk_X9_init q127 hrm (m_X9_init_13 ht9 hnt (by omega)) (by omega) (by decide) (Nat.le_of_ble_eq_true rfl) (by omega) (by omega) ?_
  refine z_hn (fun h_1 eh_1 => ?_)
  have eh_1 : h_1 = z_up h t (.inr (13, [.null, .int (nI kd), .int (nI 0)])) := eh_1
  refine z_aload_n hb dX15_init_5 rfl ?_
  refine z_aload_n hb dX15_init_6 rfl ?_
  refine z_put (k := 0) (C := RX17) (T := TX17) (N := 3) hb ho zc13 in_X17 tyX17_ok nmX17 (zf_RX15_7 _) dX15_init_7 (z_nxs eh_1) hnt (by decide) (Or.inr ⟨hm, rfl⟩) rfl rfl rfl (Nat.le_of_ble_eq_true rfl) ?_
  refine z_hn (fun h_2 eh_2 => ?_)
  have eh_2 : h_2 = z_up h_1 t (.inr (13, [.ref x, .int (nI kd), .int (nI 0)])) := eh_2
  refine z_vret hb hr dX15_init_10 ?_
  rw [hQ]
  exact ⟨rfl, (by rw [eh_2, eh_1] <;> simp only [z_up_up]), rfl⟩

set_option maxHeartbeats 1000000 in
theorem m_X16_init {l : Launch} {G : zG} {h : zH} {n : Nat} {t : Nat}  {x : Nat} (ht9 : h t = some (.inr (12, [.null, .int (nI 0)]))) (hnt : z_n0 G ≤ t) : z_C l G yX16_init 3 0 0 [.ref t, .ref x] h n (z_r0 (z_up h t (.inr (12, [.ref x, .int (nI 114)]))) n) := by
  refine z_start zk_X16_init zpl_RX16 (Nat.le_of_ble_eq_true rfl) ?_
  intro hn0 M hl hG ho hb hN hr hm hH hrm hQ
  subst hl hG
  have ho : zm_o M = RX16 := ho
  show z_V M h n 0 0 0 [(0, .ref t), (1, .ref x)] []
  refine z_aload_n hb dX16_init_0 rfl ?_
  refine z_bipush (x := nI 114) hb dX16_init_1 (by decide) ?_
  refine z_aload_n hb dX16_init_3 rfl ?_
  refine z_call0 (b' := 0) (f' := 0) (rest := []) (av := [.ref t, .int (nI 114), .ref x]) (z_siteI hb ho q1553 q1554 q1555 rfl zy_X15_init zl_X15_init dX16_init_4 : z_Site M _ _ _ _ _ ([.int (nI 114), .ref x].reverse ++ .ref t :: []) [] _) zk_X15_init q134 hrm (m_X15_init_12 ht9 hnt (by omega)) (by omega) (by decide) (Nat.le_of_ble_eq_true rfl) (by omega) (by omega) ?_
  refine z_hn (fun h_1 eh_1 => ?_)
  have eh_1 : h_1 = z_up h t (.inr (12, [.ref x, .int (nI 114)])) := eh_1
  refine z_vret hb hr dX16_init_7 ?_
  rw [hQ]
  exact ⟨rfl, (by rw [eh_1] <;> simp only [z_up_up]), rfl⟩

set_option maxHeartbeats 1000000 in
theorem m_X17_init {l : Launch} {G : zG} {h : zH} {n : Nat} {t : Nat}  {x : Nat} (b : Int32) (ht9 : h t = some (.inr (13, [.null, .int (nI 0), .int (nI 0)]))) (hnt : z_n0 G ≤ t) : z_C l G yX17_init 3 0 0 [.ref t, .ref x, .int b] h n (z_r0 (z_up h t (.inr (13, [.ref x, .int (nI 107), .int b]))) n) := by
  refine z_start zk_X17_init zpl_RX17 (Nat.le_of_ble_eq_true rfl) ?_
  intro hn0 M hl hG ho hb hN hr hm hH hrm hQ
  subst hl hG
  have ho : zm_o M = RX17 := ho
  show z_V M h n 0 0 0 [(0, .ref t), (1, .ref x), (2, .int b)] []
  refine z_aload_n hb dX17_init_0 rfl ?_
  refine z_bipush (x := nI 107) hb dX17_init_1 (by decide) ?_
  refine z_aload_n hb dX17_init_3 rfl ?_
  refine z_call0 (b' := 0) (f' := 0) (rest := []) (av := [.ref t, .int (nI 107), .ref x]) (z_siteI hb ho q1570 q1554 q1555 rfl zy_X15_init zl_X15_init dX17_init_4 : z_Site M _ _ _ _ _ ([.int (nI 107), .ref x].reverse ++ .ref t :: []) [] _) zk_X15_init q134 hrm (m_X15_init_13 ht9 hnt (by omega)) (by omega) (by decide) (Nat.le_of_ble_eq_true rfl) (by omega) (by omega) ?_
  refine z_hn (fun h_1 eh_1 => ?_)
  have eh_1 : h_1 = z_up h t (.inr (13, [.ref x, .int (nI 107), .int (nI 0)])) := eh_1
  refine z_aload_n hb dX17_init_7 rfl ?_
  refine z_iload_n hb dX17_init_8 rfl ?_
  refine z_put (k := 2) (C := RX17) (T := TX17) (N := 3) hb ho zc13 in_X17 tyX17_ok nmX17 (zf_RX17_7 _) dX17_init_9 (z_nxs eh_1) hnt (by decide) (Or.inr ⟨hm, rfl⟩) rfl rfl rfl (Nat.le_of_ble_eq_true rfl) ?_
  refine z_hn (fun h_2 eh_2 => ?_)
  have eh_2 : h_2 = z_up h_1 t (.inr (13, [.ref x, .int (nI 107), .int b])) := eh_2
  refine z_vret hb hr dX17_init_12 ?_
  rw [hQ]
  exact ⟨rfl, (by rw [eh_2, eh_1] <;> simp only [z_up_up]), rfl⟩

set_option maxHeartbeats 1000000 in
theorem m_X14_init_p {l : Launch} {G : zG} {h : zH} {n : Nat} {t x y : Nat} (ht9 : h t = some (.inr (11, [.int (nI 0), .null, .null, .int (nI 0)]))) (hnt : z_n0 G ≤ t) : z_C l G yX14_init 2 0 0 [.ref t, .int (nI 43), .ref x, .ref y] h n (z_r0 (z_up h t (.inr (11, [.int (nI 43), .ref x, .ref y, .int (nI 1)]))) n) := by
  refine z_start zk_X14_init zpl_RX14 (Nat.le_of_ble_eq_true rfl) ?_
  intro hn0 M hl hG ho hb hN hr hm hH hrm hQ
  subst hl hG
  have ho : zm_o M = RX14 := ho
  show z_V M h n 0 0 0 [(0, .ref t), (1, .int (nI 43)), (2, .ref x), (3, .ref y)] []
  refine z_aload_n hb dX14_init_0 rfl ?_
  refine z_iload_n hb dX14_init_1 rfl ?_
  refine z_call0 (b' := 0) (f' := 0) (rest := []) (av := [.ref t, .int (nI 43)]) (z_siteI hb ho q1532 q1467 q1468 rfl zy_X9_init zl_X9_init dX14_init_2 : z_Site M _ _ _ _ _ ([.int (nI 43)].reverse ++ .ref t :: []) [] _) zk_X9_init q127 hrm (m_X9_init_11 ht9 hnt (by omega)) (by omega) (by decide) (Nat.le_of_ble_eq_true rfl) (by omega) (by omega) ?_
  refine z_hn (fun h_1 eh_1 => ?_)
  have eh_1 : h_1 = z_up h t (.inr (11, [.int (nI 43), .null, .null, .int (nI 0)])) := eh_1
  refine z_aload_n hb dX14_init_5 rfl ?_
  refine z_aload_n hb dX14_init_6 rfl ?_
  refine z_put (k := 1) (C := RX14) (T := TX14) (N := 4) hb ho zc11 in_X14 tyX14_ok nmX14 (zf_RX14_7 _) dX14_init_7 (z_nxs eh_1) hnt (by decide) (Or.inr ⟨hm, rfl⟩) rfl rfl rfl (Nat.le_of_ble_eq_true rfl) ?_
  refine z_hn (fun h_2 eh_2 => ?_)
  have eh_2 : h_2 = z_up h_1 t (.inr (11, [.int (nI 43), .ref x, .null, .int (nI 0)])) := eh_2
  refine z_aload_n hb dX14_init_10 rfl ?_
  refine z_aload_n hb dX14_init_11 rfl ?_
  refine z_put (k := 2) (C := RX14) (T := TX14) (N := 4) hb ho zc11 in_X14 tyX14_ok nmX14 (zf_RX14_13 _) dX14_init_12 (z_nxs eh_2) hnt (by decide) (Or.inr ⟨hm, rfl⟩) rfl rfl rfl (Nat.le_of_ble_eq_true rfl) ?_
  refine z_hn (fun h_3 eh_3 => ?_)
  have eh_3 : h_3 = z_up h_2 t (.inr (11, [.int (nI 43), .ref x, .ref y, .int (nI 0)])) := eh_3
  refine z_aload_n hb dX14_init_15 rfl ?_
  refine z_iload_n hb dX14_init_16 rfl ?_
  refine z_bipush (x := nI 43) hb dX14_init_17 (by decide) ?_
  refine z_icmp_neN (tgt := 26) hb dX14_init_19 (by decide) (by omega) (by omega) (fun c_19 => ?_) (fun c_19 => ?_)
  · exact absurd c_19 (by omega)
  · refine z_iconst (x := nI 1) hb dX14_init_22 (by decide) ?_
    refine z_goto (tgt := 27) hb dX14_init_23 (by decide) ?_
    refine z_put (k := 3) (C := RX14) (T := TX14) (N := 4) hb ho zc11 in_X14 tyX14_ok nmX14 (zf_RX14_16 _) dX14_init_27 (z_nxs eh_3) hnt (by decide) (Or.inr ⟨hm, rfl⟩) rfl rfl rfl (Nat.le_of_ble_eq_true rfl) ?_
    refine z_hn (fun h_4 eh_4 => ?_)
    have eh_4 : h_4 = z_up h_3 t (.inr (11, [.int (nI 43), .ref x, .ref y, .int (nI 1)])) := eh_4
    refine z_vret hb hr dX14_init_30 ?_
    rw [hQ]
    exact ⟨rfl, (by rw [eh_4, eh_3, eh_2, eh_1] <;> simp only [z_up_up]), rfl⟩

set_option maxHeartbeats 1000000 in
theorem m_X14_init_m {l : Launch} {G : zG} {h : zH} {n : Nat} {t x y : Nat} (ht9 : h t = some (.inr (11, [.int (nI 0), .null, .null, .int (nI 0)]))) (hnt : z_n0 G ≤ t) : z_C l G yX14_init 2 0 0 [.ref t, .int (nI 45), .ref x, .ref y] h n (z_r0 (z_up h t (.inr (11, [.int (nI 45), .ref x, .ref y, .int (-1)]))) n) := by
  refine z_start zk_X14_init zpl_RX14 (Nat.le_of_ble_eq_true rfl) ?_
  intro hn0 M hl hG ho hb hN hr hm hH hrm hQ
  subst hl hG
  have ho : zm_o M = RX14 := ho
  show z_V M h n 0 0 0 [(0, .ref t), (1, .int (nI 45)), (2, .ref x), (3, .ref y)] []
  refine z_aload_n hb dX14_init_0 rfl ?_
  refine z_iload_n hb dX14_init_1 rfl ?_
  refine z_call0 (b' := 0) (f' := 0) (rest := []) (av := [.ref t, .int (nI 45)]) (z_siteI hb ho q1532 q1467 q1468 rfl zy_X9_init zl_X9_init dX14_init_2 : z_Site M _ _ _ _ _ ([.int (nI 45)].reverse ++ .ref t :: []) [] _) zk_X9_init q127 hrm (m_X9_init_11 ht9 hnt (by omega)) (by omega) (by decide) (Nat.le_of_ble_eq_true rfl) (by omega) (by omega) ?_
  refine z_hn (fun h_1 eh_1 => ?_)
  have eh_1 : h_1 = z_up h t (.inr (11, [.int (nI 45), .null, .null, .int (nI 0)])) := eh_1
  refine z_aload_n hb dX14_init_5 rfl ?_
  refine z_aload_n hb dX14_init_6 rfl ?_
  refine z_put (k := 1) (C := RX14) (T := TX14) (N := 4) hb ho zc11 in_X14 tyX14_ok nmX14 (zf_RX14_7 _) dX14_init_7 (z_nxs eh_1) hnt (by decide) (Or.inr ⟨hm, rfl⟩) rfl rfl rfl (Nat.le_of_ble_eq_true rfl) ?_
  refine z_hn (fun h_2 eh_2 => ?_)
  have eh_2 : h_2 = z_up h_1 t (.inr (11, [.int (nI 45), .ref x, .null, .int (nI 0)])) := eh_2
  refine z_aload_n hb dX14_init_10 rfl ?_
  refine z_aload_n hb dX14_init_11 rfl ?_
  refine z_put (k := 2) (C := RX14) (T := TX14) (N := 4) hb ho zc11 in_X14 tyX14_ok nmX14 (zf_RX14_13 _) dX14_init_12 (z_nxs eh_2) hnt (by decide) (Or.inr ⟨hm, rfl⟩) rfl rfl rfl (Nat.le_of_ble_eq_true rfl) ?_
  refine z_hn (fun h_3 eh_3 => ?_)
  have eh_3 : h_3 = z_up h_2 t (.inr (11, [.int (nI 45), .ref x, .ref y, .int (nI 0)])) := eh_3
  refine z_aload_n hb dX14_init_15 rfl ?_
  refine z_iload_n hb dX14_init_16 rfl ?_
  refine z_bipush (x := nI 43) hb dX14_init_17 (by decide) ?_
  refine z_icmp_neN (tgt := 26) hb dX14_init_19 (by decide) (by omega) (by omega) (fun c_19 => ?_) (fun c_19 => ?_)
  · refine z_iconst (x := (-1)) hb dX14_init_26 (by decide) ?_
    refine z_put (k := 3) (C := RX14) (T := TX14) (N := 4) hb ho zc11 in_X14 tyX14_ok nmX14 (zf_RX14_16 _) dX14_init_27 (z_nxs eh_3) hnt (by decide) (Or.inr ⟨hm, rfl⟩) rfl rfl rfl (Nat.le_of_ble_eq_true rfl) ?_
    refine z_hn (fun h_4 eh_4 => ?_)
    have eh_4 : h_4 = z_up h_3 t (.inr (11, [.int (nI 45), .ref x, .ref y, .int (-1)])) := eh_4
    refine z_vret hb hr dX14_init_30 ?_
    rw [hQ]
    exact ⟨rfl, (by rw [eh_4, eh_3, eh_2, eh_1] <;> simp only [z_up_up]), rfl⟩
  · exact absurd c_19 (by omega)

