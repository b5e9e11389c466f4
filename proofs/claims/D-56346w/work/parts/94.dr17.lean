set_option maxHeartbeats 1000000 in
theorem m_X2_init_2 {l : Launch} {G : zG} {h : zH} {n : Nat} {w : Nat → Int32} {v : Nat → Int64} {R S D a lr ls lv : Nat} {ra sa va : Nat → Nat} {t b0 : Nat} {fE : Nat → Option Nat} (hL : z_Ln G h w v R S D a lr ls lv ra sa va) (hR4 : R ≤ 40) (hS8 : S ≤ 8) (hD6 : D ≤ 6) (ht9 : h t = some (.inr (1, [.null, .null, .null, .int (nI 0), .int (nI 0), .int (nI 0), .int (nI 0), .int (nI 0)]))) (hEM : h (G.2.2.1 1002) = some (z_ao G 0 fE)) (hE0 : G.2.2.1 1002 < z_n0 G) (hb0 : z_n0 G ≤ b0) (hbt : b0 ≤ t) (hbn : b0 ≤ n) : z_C l G yX2_init_2 7 92 3400 [.ref t, .ref a] h n (z_q0 (fun h' n' => z_DR G h' b0 w v R S D t ∧ z_fr (fun y => y = t) h h')) := by
  refine z_start zk_X2_init_2 zpl_RX2 (Nat.le_of_ble_eq_true rfl) ?_
  intro hn0 M hl hG ho hb hN hr hm hH hrm hQ
  subst hl hG
  have ho : zm_o M = RX2 := ho
  obtain ⟨h1, ⟨e0, N0, m0, f0, r1, r2, r3, ⟨r4, r4n⟩, r5⟩, ⟨e, N, m9, f, h3, h4, h5, ⟨h6, h6n⟩, h7⟩, ⟨ev, Nv, mv, fv, v1, v2, v3, ⟨v4, v4n⟩, v5⟩, h9, hs, hv, hi, hrI⟩ := id hL
  have hat : a ≠ t := fun z => by
    rw [z, ht9] at h1
    cases h1
  show z_V M h n 92 3400 0 [(0, .ref t), (1, .ref a)] []
  refine z_dom (fun hD0 => ?_)
  refine z_aload_n hb dX2_init_2_0 rfl ?_
  refine z_oinit hb ho hrm (by omega) q162 q155 q156 (by decide) dX2_init_2_1 ?_
  refine z_aload_n hb dX2_init_2_4 rfl ?_
  refine z_dom (fun hD_1 => ?_)
  refine z_new (N0 := 3) (b' := 91) (f' := 3397) (fs := [.int (nI 0), .null, .int (nI 0)]) (C := RJ2) (T := TJ2) (N := 3) hb ho zc20 in_J2 tyJ2_ok q163 q164 q98 dX2_init_2_5 (zdf_J2) (by omega) (by omega) ?_
  refine z_hn (fun h_2 eh_2 => ?_)
  have eh_2 : h_2 = z_up h n (.inr (20, [.int (nI 0), .null, .int (nI 0)])) := eh_2
  have k_3 : h_2 t = some (.inr (1, [.null, .null, .null, .int (nI 0), .int (nI 0), .int (nI 0), .int (nI 0), .int (nI 0)])) := z_nx eh_2 (Nat.ne_of_lt (hD_1 _ _ ht9)) ht9
  have k_4 : h_2 ((zm_G M).2.2.1 1002) = some (.inl ((zm_G M).2.1 5, 0, .inr (.inr (.inr (.inr fE))))) := z_nx eh_2 (Nat.ne_of_lt (hD_1 _ _ hEM)) hEM
  have k_5 : h_2 a = some (.inr (1, [.ref lr, .ref ls, .ref lv, .int (nI D), .int (w 2), .int (w 4), .int (w 5), .int (w 6)])) := z_nx eh_2 (Nat.ne_of_lt (hD_1 _ _ h1)) h1
  have k_6 : h_2 lr = some (.inr (20, [.int m0, .ref e0, .int (nI R)])) := z_nx eh_2 (Nat.ne_of_lt (hD_1 _ _ r1)) r1
  have k_7 : h_2 e0 = some (.inl ((zm_G M).2.1 5, N0, .inr (.inr (.inr (.inr f0))))) := z_nx eh_2 (Nat.ne_of_lt (hD_1 _ _ r2)) r2
  have k_8 : h_2 ls = some (.inr (20, [.int m9, .ref e, .int (nI S)])) := z_nx eh_2 (Nat.ne_of_lt (hD_1 _ _ h3)) h3
  have k_9 : h_2 e = some (.inl ((zm_G M).2.1 5, N, .inr (.inr (.inr (.inr f))))) := z_nx eh_2 (Nat.ne_of_lt (hD_1 _ _ h4)) h4
  have k_10 : h_2 lv = some (.inr (20, [.int mv, .ref ev, .int (nI S)])) := z_nx eh_2 (Nat.ne_of_lt (hD_1 _ _ v1)) v1
  have k_11 : h_2 ev = some (.inl ((zm_G M).2.1 5, Nv, .inr (.inr (.inr (.inr fv))))) := z_nx eh_2 (Nat.ne_of_lt (hD_1 _ _ v2)) v2
  refine z_dup hb dX2_init_2_8 rfl ?_
  refine z_call0 (b' := 91) (f' := 3397) (rest := [.ref n, .ref t]) (av := [.ref n]) (z_siteI hb ho q165 q166 q167 rfl zy_J2_init zl_J2_init dX2_init_2_9 : z_Site M _ _ _ _ _ ([].reverse ++ .ref n :: [.ref n, .ref t]) [.ref n, .ref t] _) zk_J2_init q98 hrm (m_J2_init (z_nxs eh_2) (by omega)) (by omega) (by decide) (Nat.le_of_ble_eq_true rfl) (by omega) (by omega) ?_
  refine z_hn (fun h_12 eh_12 => ?_)
  have eh_12 : h_12 = z_up h_2 n (.inr (20, [.int (nI 0), .ref ((zm_G M).2.2.1 1002), .int (nI 0)])) := eh_12
  have k_13 : h_12 t = some (.inr (1, [.null, .null, .null, .int (nI 0), .int (nI 0), .int (nI 0), .int (nI 0), .int (nI 0)])) := z_nx eh_12 (Nat.ne_of_lt (hD_1 _ _ ht9)) k_3
  have k_14 : h_12 ((zm_G M).2.2.1 1002) = some (.inl ((zm_G M).2.1 5, 0, .inr (.inr (.inr (.inr fE))))) := z_nx eh_12 (Nat.ne_of_lt (hD_1 _ _ hEM)) k_4
  have k_15 : h_12 a = some (.inr (1, [.ref lr, .ref ls, .ref lv, .int (nI D), .int (w 2), .int (w 4), .int (w 5), .int (w 6)])) := z_nx eh_12 (Nat.ne_of_lt (hD_1 _ _ h1)) k_5
  have k_16 : h_12 lr = some (.inr (20, [.int m0, .ref e0, .int (nI R)])) := z_nx eh_12 (Nat.ne_of_lt (hD_1 _ _ r1)) k_6
  have k_17 : h_12 e0 = some (.inl ((zm_G M).2.1 5, N0, .inr (.inr (.inr (.inr f0))))) := z_nx eh_12 (Nat.ne_of_lt (hD_1 _ _ r2)) k_7
  have k_18 : h_12 ls = some (.inr (20, [.int m9, .ref e, .int (nI S)])) := z_nx eh_12 (Nat.ne_of_lt (hD_1 _ _ h3)) k_8
  have k_19 : h_12 e = some (.inl ((zm_G M).2.1 5, N, .inr (.inr (.inr (.inr f))))) := z_nx eh_12 (Nat.ne_of_lt (hD_1 _ _ h4)) k_9
  have k_20 : h_12 lv = some (.inr (20, [.int mv, .ref ev, .int (nI S)])) := z_nx eh_12 (Nat.ne_of_lt (hD_1 _ _ v1)) k_10
  have k_21 : h_12 ev = some (.inl ((zm_G M).2.1 5, Nv, .inr (.inr (.inr (.inr fv))))) := z_nx eh_12 (Nat.ne_of_lt (hD_1 _ _ v2)) k_11
  refine z_put (k := 0) (C := RX2) (T := TX2) (N := 8) hb ho zc1 in_X2 tyX2_ok nmX2 (zf_RX2_12 _) dX2_init_2_12 k_13 (Nat.le_trans hb0 hbt) (by decide) (Or.inr ⟨hm, rfl⟩) rfl rfl rfl (Nat.le_of_ble_eq_true rfl) ?_
  refine z_hn (fun h_22 eh_22 => ?_)
  have eh_22 : h_22 = z_up h_12 t (.inr (1, [.ref n, .null, .null, .int (nI 0), .int (nI 0), .int (nI 0), .int (nI 0), .int (nI 0)])) := eh_22
  have k_23 : h_22 ((zm_G M).2.2.1 1002) = some (.inl ((zm_G M).2.1 5, 0, .inr (.inr (.inr (.inr fE))))) := z_nx eh_22 (z_neA' k_14 k_13) k_14
  have k_24 : h_22 a = some (.inr (1, [.ref lr, .ref ls, .ref lv, .int (nI D), .int (w 2), .int (w 4), .int (w 5), .int (w 6)])) := z_nx eh_22 hat k_15
  have k_25 : h_22 lr = some (.inr (20, [.int m0, .ref e0, .int (nI R)])) := z_nx eh_22 (z_neO k_16 k_13 rfl) k_16
  have k_26 : h_22 e0 = some (.inl ((zm_G M).2.1 5, N0, .inr (.inr (.inr (.inr f0))))) := z_nx eh_22 (z_neA' k_17 k_13) k_17
  have k_27 : h_22 ls = some (.inr (20, [.int m9, .ref e, .int (nI S)])) := z_nx eh_22 (z_neO k_18 k_13 rfl) k_18
  have k_28 : h_22 e = some (.inl ((zm_G M).2.1 5, N, .inr (.inr (.inr (.inr f))))) := z_nx eh_22 (z_neA' k_19 k_13) k_19
  have k_29 : h_22 lv = some (.inr (20, [.int mv, .ref ev, .int (nI S)])) := z_nx eh_22 (z_neO k_20 k_13 rfl) k_20
  have k_30 : h_22 ev = some (.inl ((zm_G M).2.1 5, Nv, .inr (.inr (.inr (.inr fv))))) := z_nx eh_22 (z_neA' k_21 k_13) k_21
  have k_31 : h_22 n = some (.inr (20, [.int (nI 0), .ref ((zm_G M).2.2.1 1002), .int (nI 0)])) := z_nx eh_22 (Nat.ne_of_gt (hD_1 _ _ ht9)) (z_nxs eh_12)
  refine z_aload_n hb dX2_init_2_15 rfl ?_
  refine z_dom (fun hD_32 => ?_)
  refine z_new (N0 := 3) (b' := 90) (f' := 3394) (fs := [.int (nI 0), .null, .int (nI 0)]) (C := RJ2) (T := TJ2) (N := 3) hb ho zc20 in_J2 tyJ2_ok q163 q164 q98 dX2_init_2_16 (zdf_J2) (by omega) (by omega) ?_
  refine z_hn (fun h_33 eh_33 => ?_)
  have eh_33 : h_33 = z_up h_22 (n + 1) (.inr (20, [.int (nI 0), .null, .int (nI 0)])) := eh_33
  have k_34 : h_33 ((zm_G M).2.2.1 1002) = some (.inl ((zm_G M).2.1 5, 0, .inr (.inr (.inr (.inr fE))))) := z_nx eh_33 (Nat.ne_of_lt (hD_32 _ _ k_23)) k_23
  have k_35 : h_33 a = some (.inr (1, [.ref lr, .ref ls, .ref lv, .int (nI D), .int (w 2), .int (w 4), .int (w 5), .int (w 6)])) := z_nx eh_33 (Nat.ne_of_lt (hD_32 _ _ k_24)) k_24
  have k_36 : h_33 lr = some (.inr (20, [.int m0, .ref e0, .int (nI R)])) := z_nx eh_33 (Nat.ne_of_lt (hD_32 _ _ k_25)) k_25
  have k_37 : h_33 e0 = some (.inl ((zm_G M).2.1 5, N0, .inr (.inr (.inr (.inr f0))))) := z_nx eh_33 (Nat.ne_of_lt (hD_32 _ _ k_26)) k_26
  have k_38 : h_33 ls = some (.inr (20, [.int m9, .ref e, .int (nI S)])) := z_nx eh_33 (Nat.ne_of_lt (hD_32 _ _ k_27)) k_27
  have k_39 : h_33 e = some (.inl ((zm_G M).2.1 5, N, .inr (.inr (.inr (.inr f))))) := z_nx eh_33 (Nat.ne_of_lt (hD_32 _ _ k_28)) k_28
  have k_40 : h_33 lv = some (.inr (20, [.int mv, .ref ev, .int (nI S)])) := z_nx eh_33 (Nat.ne_of_lt (hD_32 _ _ k_29)) k_29
  have k_41 : h_33 ev = some (.inl ((zm_G M).2.1 5, Nv, .inr (.inr (.inr (.inr fv))))) := z_nx eh_33 (Nat.ne_of_lt (hD_32 _ _ k_30)) k_30
  have k_42 : h_33 n = some (.inr (20, [.int (nI 0), .ref ((zm_G M).2.2.1 1002), .int (nI 0)])) := z_nx eh_33 (Nat.ne_of_lt (hD_32 _ _ k_31)) k_31
  have k_43 : h_33 t = some (.inr (1, [.ref n, .null, .null, .int (nI 0), .int (nI 0), .int (nI 0), .int (nI 0), .int (nI 0)])) := z_nx eh_33 (Nat.ne_of_lt (hD_32 _ _ (z_nxs eh_22))) (z_nxs eh_22)
  refine z_dup hb dX2_init_2_19 rfl ?_
  refine z_call0 (b' := 90) (f' := 3394) (rest := [.ref (n + 1), .ref t]) (av := [.ref (n + 1)]) (z_siteI hb ho q165 q166 q167 rfl zy_J2_init zl_J2_init dX2_init_2_20 : z_Site M _ _ _ _ _ ([].reverse ++ .ref (n + 1) :: [.ref (n + 1), .ref t]) [.ref (n + 1), .ref t] _) zk_J2_init q98 hrm (m_J2_init (z_nxs eh_33) (by omega)) (by omega) (by decide) (Nat.le_of_ble_eq_true rfl) (by omega) (by omega) ?_
  refine z_hn (fun h_44 eh_44 => ?_)
  have eh_44 : h_44 = z_up h_33 (n + 1) (.inr (20, [.int (nI 0), .ref ((zm_G M).2.2.1 1002), .int (nI 0)])) := eh_44
  have k_45 : h_44 ((zm_G M).2.2.1 1002) = some (.inl ((zm_G M).2.1 5, 0, .inr (.inr (.inr (.inr fE))))) := z_nx eh_44 (Nat.ne_of_lt (hD_32 _ _ k_23)) k_34
  have k_46 : h_44 a = some (.inr (1, [.ref lr, .ref ls, .ref lv, .int (nI D), .int (w 2), .int (w 4), .int (w 5), .int (w 6)])) := z_nx eh_44 (Nat.ne_of_lt (hD_32 _ _ k_24)) k_35
  have k_47 : h_44 lr = some (.inr (20, [.int m0, .ref e0, .int (nI R)])) := z_nx eh_44 (Nat.ne_of_lt (hD_32 _ _ k_25)) k_36
  have k_48 : h_44 e0 = some (.inl ((zm_G M).2.1 5, N0, .inr (.inr (.inr (.inr f0))))) := z_nx eh_44 (Nat.ne_of_lt (hD_32 _ _ k_26)) k_37
  have k_49 : h_44 ls = some (.inr (20, [.int m9, .ref e, .int (nI S)])) := z_nx eh_44 (Nat.ne_of_lt (hD_32 _ _ k_27)) k_38
  have k_50 : h_44 e = some (.inl ((zm_G M).2.1 5, N, .inr (.inr (.inr (.inr f))))) := z_nx eh_44 (Nat.ne_of_lt (hD_32 _ _ k_28)) k_39
  have k_51 : h_44 lv = some (.inr (20, [.int mv, .ref ev, .int (nI S)])) := z_nx eh_44 (Nat.ne_of_lt (hD_32 _ _ k_29)) k_40
  have k_52 : h_44 ev = some (.inl ((zm_G M).2.1 5, Nv, .inr (.inr (.inr (.inr fv))))) := z_nx eh_44 (Nat.ne_of_lt (hD_32 _ _ k_30)) k_41
  have k_53 : h_44 n = some (.inr (20, [.int (nI 0), .ref ((zm_G M).2.2.1 1002), .int (nI 0)])) := z_nx eh_44 (Nat.ne_of_lt (hD_32 _ _ k_31)) k_42
  have k_54 : h_44 t = some (.inr (1, [.ref n, .null, .null, .int (nI 0), .int (nI 0), .int (nI 0), .int (nI 0), .int (nI 0)])) := z_nx eh_44 (Nat.ne_of_lt (hD_32 _ _ (z_nxs eh_22))) k_43
  refine z_put (k := 1) (C := RX2) (T := TX2) (N := 8) hb ho zc1 in_X2 tyX2_ok nmX2 (zf_RX2_18 _) dX2_init_2_23 k_54 (Nat.le_trans hb0 hbt) (by decide) (Or.inr ⟨hm, rfl⟩) rfl rfl rfl (Nat.le_of_ble_eq_true rfl) ?_
  refine z_hn (fun h_55 eh_55 => ?_)
  have eh_55 : h_55 = z_up h_44 t (.inr (1, [.ref n, .ref (n + 1), .null, .int (nI 0), .int (nI 0), .int (nI 0), .int (nI 0), .int (nI 0)])) := eh_55
  have k_56 : h_55 ((zm_G M).2.2.1 1002) = some (.inl ((zm_G M).2.1 5, 0, .inr (.inr (.inr (.inr fE))))) := z_nx eh_55 (z_neA' k_45 k_54) k_45
  have k_57 : h_55 a = some (.inr (1, [.ref lr, .ref ls, .ref lv, .int (nI D), .int (w 2), .int (w 4), .int (w 5), .int (w 6)])) := z_nx eh_55 hat k_46
  have k_58 : h_55 lr = some (.inr (20, [.int m0, .ref e0, .int (nI R)])) := z_nx eh_55 (z_neO k_47 k_54 rfl) k_47
  have k_59 : h_55 e0 = some (.inl ((zm_G M).2.1 5, N0, .inr (.inr (.inr (.inr f0))))) := z_nx eh_55 (z_neA' k_48 k_54) k_48
  have k_60 : h_55 ls = some (.inr (20, [.int m9, .ref e, .int (nI S)])) := z_nx eh_55 (z_neO k_49 k_54 rfl) k_49
  have k_61 : h_55 e = some (.inl ((zm_G M).2.1 5, N, .inr (.inr (.inr (.inr f))))) := z_nx eh_55 (z_neA' k_50 k_54) k_50
  have k_62 : h_55 lv = some (.inr (20, [.int mv, .ref ev, .int (nI S)])) := z_nx eh_55 (z_neO k_51 k_54 rfl) k_51
  have k_63 : h_55 ev = some (.inl ((zm_G M).2.1 5, Nv, .inr (.inr (.inr (.inr fv))))) := z_nx eh_55 (z_neA' k_52 k_54) k_52
  have k_64 : h_55 n = some (.inr (20, [.int (nI 0), .ref ((zm_G M).2.2.1 1002), .int (nI 0)])) := z_nx eh_55 (Nat.ne_of_gt (hD_1 _ _ ht9)) k_53
  have k_65 : h_55 (n + 1) = some (.inr (20, [.int (nI 0), .ref ((zm_G M).2.2.1 1002), .int (nI 0)])) := z_nx eh_55 (Nat.ne_of_gt (hD_32 _ _ (z_nxs eh_22))) (z_nxs eh_44)
  refine z_aload_n hb dX2_init_2_26 rfl ?_
  refine z_dom (fun hD_66 => ?_)
  refine z_new (N0 := 3) (b' := 89) (f' := 3391) (fs := [.int (nI 0), .null, .int (nI 0)]) (C := RJ2) (T := TJ2) (N := 3) hb ho zc20 in_J2 tyJ2_ok q163 q164 q98 dX2_init_2_27 (zdf_J2) (by omega) (by omega) ?_
  refine z_hn (fun h_67 eh_67 => ?_)
  have eh_67 : h_67 = z_up h_55 (n + 2) (.inr (20, [.int (nI 0), .null, .int (nI 0)])) := eh_67
  have k_68 : h_67 ((zm_G M).2.2.1 1002) = some (.inl ((zm_G M).2.1 5, 0, .inr (.inr (.inr (.inr fE))))) := z_nx eh_67 (Nat.ne_of_lt (hD_66 _ _ k_56)) k_56
  have k_69 : h_67 a = some (.inr (1, [.ref lr, .ref ls, .ref lv, .int (nI D), .int (w 2), .int (w 4), .int (w 5), .int (w 6)])) := z_nx eh_67 (Nat.ne_of_lt (hD_66 _ _ k_57)) k_57
  have k_70 : h_67 lr = some (.inr (20, [.int m0, .ref e0, .int (nI R)])) := z_nx eh_67 (Nat.ne_of_lt (hD_66 _ _ k_58)) k_58
  have k_71 : h_67 e0 = some (.inl ((zm_G M).2.1 5, N0, .inr (.inr (.inr (.inr f0))))) := z_nx eh_67 (Nat.ne_of_lt (hD_66 _ _ k_59)) k_59
  have k_72 : h_67 ls = some (.inr (20, [.int m9, .ref e, .int (nI S)])) := z_nx eh_67 (Nat.ne_of_lt (hD_66 _ _ k_60)) k_60
  have k_73 : h_67 e = some (.inl ((zm_G M).2.1 5, N, .inr (.inr (.inr (.inr f))))) := z_nx eh_67 (Nat.ne_of_lt (hD_66 _ _ k_61)) k_61
  have k_74 : h_67 lv = some (.inr (20, [.int mv, .ref ev, .int (nI S)])) := z_nx eh_67 (Nat.ne_of_lt (hD_66 _ _ k_62)) k_62
  have k_75 : h_67 ev = some (.inl ((zm_G M).2.1 5, Nv, .inr (.inr (.inr (.inr fv))))) := z_nx eh_67 (Nat.ne_of_lt (hD_66 _ _ k_63)) k_63
  have k_76 : h_67 n = some (.inr (20, [.int (nI 0), .ref ((zm_G M).2.2.1 1002), .int (nI 0)])) := z_nx eh_67 (Nat.ne_of_lt (hD_66 _ _ k_64)) k_64
  have k_77 : h_67 (n + 1) = some (.inr (20, [.int (nI 0), .ref ((zm_G M).2.2.1 1002), .int (nI 0)])) := z_nx eh_67 (Nat.ne_of_lt (hD_66 _ _ k_65)) k_65
  have k_78 : h_67 t = some (.inr (1, [.ref n, .ref (n + 1), .null, .int (nI 0), .int (nI 0), .int (nI 0), .int (nI 0), .int (nI 0)])) := z_nx eh_67 (Nat.ne_of_lt (hD_66 _ _ (z_nxs eh_55))) (z_nxs eh_55)
  refine z_dup hb dX2_init_2_30 rfl ?_
  refine z_call0 (b' := 89) (f' := 3391) (rest := [.ref (n + 2), .ref t]) (av := [.ref (n + 2)]) (z_siteI hb ho q165 q166 q167 rfl zy_J2_init zl_J2_init dX2_init_2_31 : z_Site M _ _ _ _ _ ([].reverse ++ .ref (n + 2) :: [.ref (n + 2), .ref t]) [.ref (n + 2), .ref t] _) zk_J2_init q98 hrm (m_J2_init (z_nxs eh_67) (by omega)) (by omega) (by decide) (Nat.le_of_ble_eq_true rfl) (by omega) (by omega) ?_
  refine z_hn (fun h_79 eh_79 => ?_)
  have eh_79 : h_79 = z_up h_67 (n + 2) (.inr (20, [.int (nI 0), .ref ((zm_G M).2.2.1 1002), .int (nI 0)])) := eh_79
  have k_80 : h_79 ((zm_G M).2.2.1 1002) = some (.inl ((zm_G M).2.1 5, 0, .inr (.inr (.inr (.inr fE))))) := z_nx eh_79 (Nat.ne_of_lt (hD_66 _ _ k_56)) k_68
  have k_81 : h_79 a = some (.inr (1, [.ref lr, .ref ls, .ref lv, .int (nI D), .int (w 2), .int (w 4), .int (w 5), .int (w 6)])) := z_nx eh_79 (Nat.ne_of_lt (hD_66 _ _ k_57)) k_69
  have k_82 : h_79 lr = some (.inr (20, [.int m0, .ref e0, .int (nI R)])) := z_nx eh_79 (Nat.ne_of_lt (hD_66 _ _ k_58)) k_70
  have k_83 : h_79 e0 = some (.inl ((zm_G M).2.1 5, N0, .inr (.inr (.inr (.inr f0))))) := z_nx eh_79 (Nat.ne_of_lt (hD_66 _ _ k_59)) k_71
  have k_84 : h_79 ls = some (.inr (20, [.int m9, .ref e, .int (nI S)])) := z_nx eh_79 (Nat.ne_of_lt (hD_66 _ _ k_60)) k_72
  have k_85 : h_79 e = some (.inl ((zm_G M).2.1 5, N, .inr (.inr (.inr (.inr f))))) := z_nx eh_79 (Nat.ne_of_lt (hD_66 _ _ k_61)) k_73
  have k_86 : h_79 lv = some (.inr (20, [.int mv, .ref ev, .int (nI S)])) := z_nx eh_79 (Nat.ne_of_lt (hD_66 _ _ k_62)) k_74
  have k_87 : h_79 ev = some (.inl ((zm_G M).2.1 5, Nv, .inr (.inr (.inr (.inr fv))))) := z_nx eh_79 (Nat.ne_of_lt (hD_66 _ _ k_63)) k_75
  have k_88 : h_79 n = some (.inr (20, [.int (nI 0), .ref ((zm_G M).2.2.1 1002), .int (nI 0)])) := z_nx eh_79 (Nat.ne_of_lt (hD_66 _ _ k_64)) k_76
  have k_89 : h_79 (n + 1) = some (.inr (20, [.int (nI 0), .ref ((zm_G M).2.2.1 1002), .int (nI 0)])) := z_nx eh_79 (Nat.ne_of_lt (hD_66 _ _ k_65)) k_77
  have k_90 : h_79 t = some (.inr (1, [.ref n, .ref (n + 1), .null, .int (nI 0), .int (nI 0), .int (nI 0), .int (nI 0), .int (nI 0)])) := z_nx eh_79 (Nat.ne_of_lt (hD_66 _ _ (z_nxs eh_55))) k_78
  refine z_put (k := 2) (C := RX2) (T := TX2) (N := 8) hb ho zc1 in_X2 tyX2_ok nmX2 (zf_RX2_21 _) dX2_init_2_34 k_90 (Nat.le_trans hb0 hbt) (by decide) (Or.inr ⟨hm, rfl⟩) rfl rfl rfl (Nat.le_of_ble_eq_true rfl) ?_
  refine z_hn (fun h_91 eh_91 => ?_)
  have eh_91 : h_91 = z_up h_79 t (.inr (1, [.ref n, .ref (n + 1), .ref (n + 2), .int (nI 0), .int (nI 0), .int (nI 0), .int (nI 0), .int (nI 0)])) := eh_91
  have k_92 : h_91 ((zm_G M).2.2.1 1002) = some (.inl ((zm_G M).2.1 5, 0, .inr (.inr (.inr (.inr fE))))) := z_nx eh_91 (z_neA' k_80 k_90) k_80
  have k_93 : h_91 a = some (.inr (1, [.ref lr, .ref ls, .ref lv, .int (nI D), .int (w 2), .int (w 4), .int (w 5), .int (w 6)])) := z_nx eh_91 hat k_81
  have k_94 : h_91 lr = some (.inr (20, [.int m0, .ref e0, .int (nI R)])) := z_nx eh_91 (z_neO k_82 k_90 rfl) k_82
  have k_95 : h_91 e0 = some (.inl ((zm_G M).2.1 5, N0, .inr (.inr (.inr (.inr f0))))) := z_nx eh_91 (z_neA' k_83 k_90) k_83
  have k_96 : h_91 ls = some (.inr (20, [.int m9, .ref e, .int (nI S)])) := z_nx eh_91 (z_neO k_84 k_90 rfl) k_84
  have k_97 : h_91 e = some (.inl ((zm_G M).2.1 5, N, .inr (.inr (.inr (.inr f))))) := z_nx eh_91 (z_neA' k_85 k_90) k_85
  have k_98 : h_91 lv = some (.inr (20, [.int mv, .ref ev, .int (nI S)])) := z_nx eh_91 (z_neO k_86 k_90 rfl) k_86
  have k_99 : h_91 ev = some (.inl ((zm_G M).2.1 5, Nv, .inr (.inr (.inr (.inr fv))))) := z_nx eh_91 (z_neA' k_87 k_90) k_87
  have k_100 : h_91 n = some (.inr (20, [.int (nI 0), .ref ((zm_G M).2.2.1 1002), .int (nI 0)])) := z_nx eh_91 (Nat.ne_of_gt (hD_1 _ _ ht9)) k_88
  have k_101 : h_91 (n + 1) = some (.inr (20, [.int (nI 0), .ref ((zm_G M).2.2.1 1002), .int (nI 0)])) := z_nx eh_91 (Nat.ne_of_gt (hD_32 _ _ (z_nxs eh_22))) k_89
  have k_102 : h_91 (n + 2) = some (.inr (20, [.int (nI 0), .ref ((zm_G M).2.2.1 1002), .int (nI 0)])) := z_nx eh_91 (Nat.ne_of_gt (hD_66 _ _ (z_nxs eh_55))) (z_nxs eh_79)
  have hL0_0 : z_Lx (zm_G M) h_91 b0 n ((zm_G M).2.2.1 1002) 0 ra := ⟨by omega, Or.inr ⟨rfl, rfl⟩, 0, _, _, k_100, k_92, Nat.le_refl _, Or.inl rfl, ⟨fun z => absurd (Nat.lt_of_lt_of_le hE0 hb0) (Nat.not_lt.mpr z), fun _ => rfl⟩, fun j hj => absurd hj (Nat.not_lt_zero _)⟩
  have hL1_0 : z_Lx (zm_G M) h_91 b0 (n + 1) ((zm_G M).2.2.1 1002) 0 sa := ⟨by omega, Or.inr ⟨rfl, rfl⟩, 0, _, _, k_101, k_92, Nat.le_refl _, Or.inl rfl, ⟨fun z => absurd (Nat.lt_of_lt_of_le hE0 hb0) (Nat.not_lt.mpr z), fun _ => rfl⟩, fun j hj => absurd hj (Nat.not_lt_zero _)⟩
  have hL2_0 : z_Lx (zm_G M) h_91 b0 (n + 2) ((zm_G M).2.2.1 1002) 0 va := ⟨by omega, Or.inr ⟨rfl, rfl⟩, 0, _, _, k_102, k_92, Nat.le_refl _, Or.inl rfl, ⟨fun z => absurd (Nat.lt_of_lt_of_le hE0 hb0) (Nat.not_lt.mpr z), fun _ => rfl⟩, fun j hj => absurd hj (Nat.not_lt_zero _)⟩
  refine z_aload_n hb dX2_init_2_37 rfl ?_
  refine z_get (k := 0) (C := RX2) (T := TX2) (N := 8) hb ho zc1 in_X2 (zf_RX2_12 _) dX2_init_2_38 k_93 (by decide) rfl ?_
  refine z_dom (fun hD_103 => ?_)
  refine z_call1 (b' := 88) (f' := 3387) (rest := []) (av := [.ref lr]) (z_siteF hb ho zc20 k_94 q340 zx1 q343 q345 q346 q344 q321 zxl1 dX2_init_2_41 : z_Site M _ _ _ _ _ ([].reverse ++ .ref lr :: []) [] _) zk_J2_iterator q98 hrm (m_J2_iterator k_94 (hD_103 _ _ k_94)) (by omega) (by decide) (Nat.le_of_ble_eq_true rfl) (by omega) (by omega) ?_
  refine z_hn (fun h_104 eh_104 => ?_)
  have eh_104 : h_104 = z_up h_91 (n + 3) (.inr (24, [.int (nI 0), .int (-1), .int m0, .ref lr])) := eh_104
  have k_105 : h_104 ((zm_G M).2.2.1 1002) = some (.inl ((zm_G M).2.1 5, 0, .inr (.inr (.inr (.inr fE))))) := z_nx eh_104 (Nat.ne_of_lt (hD_103 _ _ k_92)) k_92
  have k_106 : h_104 a = some (.inr (1, [.ref lr, .ref ls, .ref lv, .int (nI D), .int (w 2), .int (w 4), .int (w 5), .int (w 6)])) := z_nx eh_104 (Nat.ne_of_lt (hD_103 _ _ k_93)) k_93
  have k_107 : h_104 lr = some (.inr (20, [.int m0, .ref e0, .int (nI R)])) := z_nx eh_104 (Nat.ne_of_lt (hD_103 _ _ k_94)) k_94
  have k_108 : h_104 e0 = some (.inl ((zm_G M).2.1 5, N0, .inr (.inr (.inr (.inr f0))))) := z_nx eh_104 (Nat.ne_of_lt (hD_103 _ _ k_95)) k_95
  have k_109 : h_104 ls = some (.inr (20, [.int m9, .ref e, .int (nI S)])) := z_nx eh_104 (Nat.ne_of_lt (hD_103 _ _ k_96)) k_96
  have k_110 : h_104 e = some (.inl ((zm_G M).2.1 5, N, .inr (.inr (.inr (.inr f))))) := z_nx eh_104 (Nat.ne_of_lt (hD_103 _ _ k_97)) k_97
  have k_111 : h_104 lv = some (.inr (20, [.int mv, .ref ev, .int (nI S)])) := z_nx eh_104 (Nat.ne_of_lt (hD_103 _ _ k_98)) k_98
  have k_112 : h_104 ev = some (.inl ((zm_G M).2.1 5, Nv, .inr (.inr (.inr (.inr fv))))) := z_nx eh_104 (Nat.ne_of_lt (hD_103 _ _ k_99)) k_99
  have k_113 : h_104 n = some (.inr (20, [.int (nI 0), .ref ((zm_G M).2.2.1 1002), .int (nI 0)])) := z_nx eh_104 (Nat.ne_of_lt (hD_103 _ _ k_100)) k_100
  have k_114 : h_104 (n + 1) = some (.inr (20, [.int (nI 0), .ref ((zm_G M).2.2.1 1002), .int (nI 0)])) := z_nx eh_104 (Nat.ne_of_lt (hD_103 _ _ k_101)) k_101
  have k_115 : h_104 (n + 2) = some (.inr (20, [.int (nI 0), .ref ((zm_G M).2.2.1 1002), .int (nI 0)])) := z_nx eh_104 (Nat.ne_of_lt (hD_103 _ _ k_102)) k_102
  have k_116 : h_104 t = some (.inr (1, [.ref n, .ref (n + 1), .ref (n + 2), .int (nI 0), .int (nI 0), .int (nI 0), .int (nI 0), .int (nI 0)])) := z_nx eh_104 (Nat.ne_of_lt (hD_103 _ _ (z_nxs eh_91))) (z_nxs eh_91)
  refine z_astore_n (lv' := [(2, .ref (n + 3)), (0, .ref t), (1, .ref a)]) hb dX2_init_2_46 (by rw [hN]; decide) rfl ?_
  have lp_47 : ∀ (k9_47 : Nat) (j : Nat) (lr90 : Int32) (nn0 : Nat) (hh0 : zH) (e90 : Nat), R + 1 - j < k9_47 → (j ≤ R) → (n + 3 < nn0) → (z_fr (fun y => y = t) h hh0) → (hh0 t = some (.inr (1, [.ref n, .ref (n + 1), .ref (n + 2), .int (nI 0), .int (nI 0), .int (nI 0), .int (nI 0), .int (nI 0)]))) → (hh0 (n + 3) = some (.inr (24, [.int (nI j), .int lr90, .int m0, .ref lr]))) → (z_Lx (zm_G M) hh0 b0 n e90 j ra) → (z_Lx (zm_G M) hh0 b0 (n + 1) ((zm_G M).2.2.1 1002) 0 sa) → (z_Lx (zm_G M) hh0 b0 (n + 2) ((zm_G M).2.2.1 1002) 0 va) → (e90 = ((zm_G M).2.2.1 1002) ∨ n ≤ e90) → ((b0 ≤ e90 → e90 ≠ ((zm_G M).2.2.1 1002)) ∧ (b0 ≤ ((zm_G M).2.2.1 1002) → ((zm_G M).2.2.1 1002) ≠ e90)) → ((b0 ≤ e90 → e90 ≠ ((zm_G M).2.2.1 1002)) ∧ (b0 ≤ ((zm_G M).2.2.1 1002) → ((zm_G M).2.2.1 1002) ≠ e90)) → z_V M hh0 nn0 (45 + (40 - j)) (1300 + 50 * (40 - j)) 47 [(2, .ref (n + 3)), (0, .ref t), (1, .ref a)] [] := by
    intro k9_47
    induction k9_47 with
    | zero => intro j lr90 nn0 hh0 e90 hk9_47; exact absurd hk9_47 (Nat.not_lt_zero _)
    | succ k9_47 ih_47 =>
      intro j lr90 nn0 hh0 e90 hk9_47 hj hnn0 hF0 ht0 hT0 hX00 hX01 hX02 hn0 hS01 hS02
      refine z_aload_n hb dX2_init_2_47 rfl ?_
      refine z_call1 (b' := 45 + (40 - j)) (f' := 1300 + 50 * (40 - j)) (rest := []) (av := [.ref (n + 3)]) (z_siteF hb ho zc24 hT0 q368 zx2 q372 q374 q375 q373 q371 zxl2 dX2_init_2_48 : z_Site M _ _ _ _ _ ([].reverse ++ .ref (n + 3) :: []) [] _) zk_J8_hasNext q105 hrm (m_J8_hasNext hT0 (hF0 _ _ r1 (z_neO r1 ht9 rfl)) (by omega) (by omega)) (by omega) (by decide) (Nat.le_of_ble_eq_true rfl) (by omega) (by omega) ?_
      refine z_ifb_eq (tgt := 80) hb dX2_init_2_53 (by decide) (fun c_53 => ?_) (fun c_53 => ?_)
      · have hx_0 : j = R := by simpa using c_53
        have hY0 := hX00
        rw [hx_0] at hY0
        refine z_aload_n hb dX2_init_2_80 rfl ?_
        refine z_get (k := 1) (C := RX2) (T := TX2) (N := 8) hb ho zc1 in_X2 (zf_RX2_18 _) dX2_init_2_81 (hF0 _ _ h1 hat) (by decide) rfl ?_
        refine z_dom (fun hD_117 => ?_)
        refine z_call1 (b' := (45 + (40 - j)) - 1) (f' := (1300 + 50 * (40 - j)) - 4) (rest := []) (av := [.ref ls]) (z_siteF hb ho zc20 (hF0 _ _ h3 (z_neO h3 ht9 rfl)) q340 zx1 q343 q345 q346 q344 q321 zxl1 dX2_init_2_84 : z_Site M _ _ _ _ _ ([].reverse ++ .ref ls :: []) [] _) zk_J2_iterator q98 hrm (m_J2_iterator (hF0 _ _ h3 (z_neO h3 ht9 rfl)) (hD_117 _ _ (hF0 _ _ h3 (z_neO h3 ht9 rfl)))) (by omega) (by decide) (Nat.le_of_ble_eq_true rfl) (by omega) (by omega) ?_
        refine z_hn (fun h_118 eh_118 => ?_)
        have eh_118 : h_118 = z_up hh0 nn0 (.inr (24, [.int (nI 0), .int (-1), .int m9, .ref ls])) := eh_118
        have k_119 : h_118 a = some (.inr (1, [.ref lr, .ref ls, .ref lv, .int (nI D), .int (w 2), .int (w 4), .int (w 5), .int (w 6)])) := z_nx eh_118 (Nat.ne_of_lt (hD_117 _ _ (hF0 _ _ h1 hat))) (hF0 _ _ h1 hat)
        have k_120 : h_118 lr = some (.inr (20, [.int m0, .ref e0, .int (nI R)])) := z_nx eh_118 (Nat.ne_of_lt (hD_117 _ _ (hF0 _ _ r1 (z_neO r1 ht9 rfl)))) (hF0 _ _ r1 (z_neO r1 ht9 rfl))
        have k_121 : h_118 e0 = some (.inl ((zm_G M).2.1 5, N0, .inr (.inr (.inr (.inr f0))))) := z_nx eh_118 (Nat.ne_of_lt (hD_117 _ _ (hF0 _ _ r2 (z_neA' r2 ht9)))) (hF0 _ _ r2 (z_neA' r2 ht9))
        have k_122 : h_118 ls = some (.inr (20, [.int m9, .ref e, .int (nI S)])) := z_nx eh_118 (Nat.ne_of_lt (hD_117 _ _ (hF0 _ _ h3 (z_neO h3 ht9 rfl)))) (hF0 _ _ h3 (z_neO h3 ht9 rfl))
        have k_123 : h_118 e = some (.inl ((zm_G M).2.1 5, N, .inr (.inr (.inr (.inr f))))) := z_nx eh_118 (Nat.ne_of_lt (hD_117 _ _ (hF0 _ _ h4 (z_neA' h4 ht9)))) (hF0 _ _ h4 (z_neA' h4 ht9))
        have k_124 : h_118 lv = some (.inr (20, [.int mv, .ref ev, .int (nI S)])) := z_nx eh_118 (Nat.ne_of_lt (hD_117 _ _ (hF0 _ _ v1 (z_neO v1 ht9 rfl)))) (hF0 _ _ v1 (z_neO v1 ht9 rfl))
        have k_125 : h_118 ev = some (.inl ((zm_G M).2.1 5, Nv, .inr (.inr (.inr (.inr fv))))) := z_nx eh_118 (Nat.ne_of_lt (hD_117 _ _ (hF0 _ _ v2 (z_neA' v2 ht9)))) (hF0 _ _ v2 (z_neA' v2 ht9))
        have k_126 : h_118 (n + 3) = some (.inr (24, [.int (nI j), .int lr90, .int m0, .ref lr])) := z_nx eh_118 (Nat.ne_of_lt (hD_117 _ _ hT0)) hT0
        have k_127 : h_118 t = some (.inr (1, [.ref n, .ref (n + 1), .ref (n + 2), .int (nI 0), .int (nI 0), .int (nI 0), .int (nI 0), .int (nI 0)])) := z_nx eh_118 (Nat.ne_of_lt (hD_117 _ _ ht0)) ht0
        refine z_astore_n (lv' := [(2, .ref nn0), (0, .ref t), (1, .ref a)]) hb dX2_init_2_89 (by rw [hN]; decide) rfl ?_
        have lp_90 : ∀ (k9_90 : Nat) (j : Nat) (lr91 : Int32) (nn1 : Nat) (hh1 : zH) (e91 : Nat), S + 1 - j < k9_90 → (j ≤ S) → (nn0 < nn1) → (z_fr (fun y => y = t) h hh1) → (hh1 t = some (.inr (1, [.ref n, .ref (n + 1), .ref (n + 2), .int (nI 0), .int (nI 0), .int (nI 0), .int (nI 0), .int (nI 0)]))) → (hh1 nn0 = some (.inr (24, [.int (nI j), .int lr91, .int m9, .ref ls]))) → (z_Lx (zm_G M) hh1 b0 n e90 R ra) → (z_Lx (zm_G M) hh1 b0 (n + 1) e91 j sa) → (z_Lx (zm_G M) hh1 b0 (n + 2) ((zm_G M).2.2.1 1002) 0 va) → (e91 = ((zm_G M).2.2.1 1002) ∨ n ≤ e91) → ((b0 ≤ e91 → e91 ≠ e90) ∧ (b0 ≤ e90 → e90 ≠ e91)) → ((b0 ≤ e91 → e91 ≠ ((zm_G M).2.2.1 1002)) ∧ (b0 ≤ ((zm_G M).2.2.1 1002) → ((zm_G M).2.2.1 1002) ≠ e91)) → z_V M hh1 nn1 (34 + (8 - j)) (800 + 50 * (8 - j)) 90 [(2, .ref nn0), (0, .ref t), (1, .ref a)] [] := by
          intro k9_90
          induction k9_90 with
          | zero => intro j lr91 nn1 hh1 e91 hk9_90; exact absurd hk9_90 (Nat.not_lt_zero _)
          | succ k9_90 ih_90 =>
            intro j lr91 nn1 hh1 e91 hk9_90 hj hnn1 hF1 ht1 hT1 hX10 hX11 hX12 hn1 hS10 hS12
            refine z_aload_n hb dX2_init_2_90 rfl ?_
            refine z_call1 (b' := 34 + (8 - j)) (f' := 800 + 50 * (8 - j)) (rest := []) (av := [.ref nn0]) (z_siteF hb ho zc24 hT1 q368 zx2 q372 q374 q375 q373 q371 zxl2 dX2_init_2_91 : z_Site M _ _ _ _ _ ([].reverse ++ .ref nn0 :: []) [] _) zk_J8_hasNext q105 hrm (m_J8_hasNext hT1 (hF1 _ _ h3 (z_neO h3 ht9 rfl)) (by omega) (by omega)) (by omega) (by decide) (Nat.le_of_ble_eq_true rfl) (by omega) (by omega) ?_
            refine z_ifb_eq (tgt := 123) hb dX2_init_2_96 (by decide) (fun c_96 => ?_) (fun c_96 => ?_)
            · have hx_1 : j = S := by simpa using c_96
              have hY1 := hX11
              rw [hx_1] at hY1
              refine z_aload_n hb dX2_init_2_123 rfl ?_
              refine z_get (k := 2) (C := RX2) (T := TX2) (N := 8) hb ho zc1 in_X2 (zf_RX2_21 _) dX2_init_2_124 (hF1 _ _ h1 hat) (by decide) rfl ?_
              refine z_dom (fun hD_128 => ?_)
              refine z_call1 (b' := (34 + (8 - j)) - 1) (f' := (800 + 50 * (8 - j)) - 4) (rest := []) (av := [.ref lv]) (z_siteF hb ho zc20 (hF1 _ _ v1 (z_neO v1 ht9 rfl)) q340 zx1 q343 q345 q346 q344 q321 zxl1 dX2_init_2_127 : z_Site M _ _ _ _ _ ([].reverse ++ .ref lv :: []) [] _) zk_J2_iterator q98 hrm (m_J2_iterator (hF1 _ _ v1 (z_neO v1 ht9 rfl)) (hD_128 _ _ (hF1 _ _ v1 (z_neO v1 ht9 rfl)))) (by omega) (by decide) (Nat.le_of_ble_eq_true rfl) (by omega) (by omega) ?_
              refine z_hn (fun h_129 eh_129 => ?_)
              have eh_129 : h_129 = z_up hh1 nn1 (.inr (24, [.int (nI 0), .int (-1), .int mv, .ref lv])) := eh_129
              have k_130 : h_129 a = some (.inr (1, [.ref lr, .ref ls, .ref lv, .int (nI D), .int (w 2), .int (w 4), .int (w 5), .int (w 6)])) := z_nx eh_129 (Nat.ne_of_lt (hD_128 _ _ (hF1 _ _ h1 hat))) (hF1 _ _ h1 hat)
              have k_131 : h_129 lr = some (.inr (20, [.int m0, .ref e0, .int (nI R)])) := z_nx eh_129 (Nat.ne_of_lt (hD_128 _ _ (hF1 _ _ r1 (z_neO r1 ht9 rfl)))) (hF1 _ _ r1 (z_neO r1 ht9 rfl))
              have k_132 : h_129 e0 = some (.inl ((zm_G M).2.1 5, N0, .inr (.inr (.inr (.inr f0))))) := z_nx eh_129 (Nat.ne_of_lt (hD_128 _ _ (hF1 _ _ r2 (z_neA' r2 ht9)))) (hF1 _ _ r2 (z_neA' r2 ht9))
              have k_133 : h_129 ls = some (.inr (20, [.int m9, .ref e, .int (nI S)])) := z_nx eh_129 (Nat.ne_of_lt (hD_128 _ _ (hF1 _ _ h3 (z_neO h3 ht9 rfl)))) (hF1 _ _ h3 (z_neO h3 ht9 rfl))
              have k_134 : h_129 e = some (.inl ((zm_G M).2.1 5, N, .inr (.inr (.inr (.inr f))))) := z_nx eh_129 (Nat.ne_of_lt (hD_128 _ _ (hF1 _ _ h4 (z_neA' h4 ht9)))) (hF1 _ _ h4 (z_neA' h4 ht9))
              have k_135 : h_129 lv = some (.inr (20, [.int mv, .ref ev, .int (nI S)])) := z_nx eh_129 (Nat.ne_of_lt (hD_128 _ _ (hF1 _ _ v1 (z_neO v1 ht9 rfl)))) (hF1 _ _ v1 (z_neO v1 ht9 rfl))
              have k_136 : h_129 ev = some (.inl ((zm_G M).2.1 5, Nv, .inr (.inr (.inr (.inr fv))))) := z_nx eh_129 (Nat.ne_of_lt (hD_128 _ _ (hF1 _ _ v2 (z_neA' v2 ht9)))) (hF1 _ _ v2 (z_neA' v2 ht9))
              have k_137 : h_129 nn0 = some (.inr (24, [.int (nI j), .int lr91, .int m9, .ref ls])) := z_nx eh_129 (Nat.ne_of_lt (hD_128 _ _ hT1)) hT1
              have k_138 : h_129 t = some (.inr (1, [.ref n, .ref (n + 1), .ref (n + 2), .int (nI 0), .int (nI 0), .int (nI 0), .int (nI 0), .int (nI 0)])) := z_nx eh_129 (Nat.ne_of_lt (hD_128 _ _ ht1)) ht1
              refine z_astore_n (lv' := [(2, .ref nn1), (0, .ref t), (1, .ref a)]) hb dX2_init_2_132 (by rw [hN]; decide) rfl ?_
              have lp_133 : ∀ (k9_133 : Nat) (j : Nat) (lr92 : Int32) (nn2 : Nat) (hh2 : zH) (e92 : Nat) (va9 : Nat → Nat) (na9 : Nat → Nat) (ba9 : Nat → Nat), S + 1 - j < k9_133 → (j ≤ S) → (nn1 < nn2) → (z_fr (fun y => y = t) h hh2) → (hh2 t = some (.inr (1, [.ref n, .ref (n + 1), .ref (n + 2), .int (nI 0), .int (nI 0), .int (nI 0), .int (nI 0), .int (nI 0)]))) → (hh2 nn1 = some (.inr (24, [.int (nI j), .int lr92, .int mv, .ref lv]))) → (z_Lx (zm_G M) hh2 b0 n e90 R ra) → (z_Lx (zm_G M) hh2 b0 (n + 1) e91 S sa) → (z_Lx (zm_G M) hh2 b0 (n + 2) e92 j va9) → (e92 = ((zm_G M).2.2.1 1002) ∨ n ≤ e92) → ((b0 ≤ e92 → e92 ≠ e90) ∧ (b0 ≤ e90 → e90 ≠ e92)) → ((b0 ≤ e92 → e92 ≠ e91) ∧ (b0 ≤ e91 → e91 ≠ e92)) → (∀ i, i < j → z_Vx (zm_G M) hh2 b0 w v D va9 na9 ba9 i) → (∀ i, i < j → na9 i < nn2 ∧ ba9 i < nn2) → (z_ij na9 j) → (z_ij ba9 j) → z_V M hh2 nn2 (4 * (8 - j)) (94 * (8 - j)) 133 [(2, .ref nn1), (0, .ref t), (1, .ref a)] [] := by
                intro k9_133
                induction k9_133 with
                | zero => intro j lr92 nn2 hh2 e92 va9 na9 ba9 hk9_133; exact absurd hk9_133 (Nat.not_lt_zero _)
                | succ k9_133 ih_133 =>
                  intro j lr92 nn2 hh2 e92 va9 na9 ba9 hk9_133 hj hnn2 hF2 ht2 hT2 hX20 hX21 hX22 hn2 hS20 hS21 hV hVn hIn hIb
                  refine z_aload_n hb dX2_init_2_133 rfl ?_
                  refine z_call1 (b' := 4 * (8 - j)) (f' := 94 * (8 - j)) (rest := []) (av := [.ref nn1]) (z_siteF hb ho zc24 hT2 q368 zx2 q372 q374 q375 q373 q371 zxl2 dX2_init_2_134 : z_Site M _ _ _ _ _ ([].reverse ++ .ref nn1 :: []) [] _) zk_J8_hasNext q105 hrm (m_J8_hasNext hT2 (hF2 _ _ v1 (z_neO v1 ht9 rfl)) (by omega) (by omega)) (by omega) (by decide) (Nat.le_of_ble_eq_true rfl) (by omega) (by omega) ?_
                  refine z_ifb_eq (tgt := 169) hb dX2_init_2_139 (by decide) (fun c_139 => ?_) (fun c_139 => ?_)
                  · have hx_2 : j = S := by simpa using c_139
                    have hY2 := hX22
                    rw [hx_2] at hY2
                    refine z_aload_n hb dX2_init_2_169 rfl ?_
                    refine z_aload_n hb dX2_init_2_170 rfl ?_
                    refine z_get (k := 3) (C := RX2) (T := TX2) (N := 8) hb ho zc1 in_X2 (zf_RX2_54 _) dX2_init_2_171 (hF2 _ _ h1 hat) (by decide) rfl ?_
                    refine z_put (k := 3) (C := RX2) (T := TX2) (N := 8) hb ho zc1 in_X2 tyX2_ok nmX2 (zf_RX2_54 _) dX2_init_2_174 ht2 (Nat.le_trans hb0 hbt) (by decide) (Or.inl rfl) rfl rfl rfl (Nat.le_of_ble_eq_true rfl) ?_
                    refine z_hn (fun h_139 eh_139 => ?_)
                    have eh_139 : h_139 = z_up hh2 t (.inr (1, [.ref n, .ref (n + 1), .ref (n + 2), .int (nI D), .int (nI 0), .int (nI 0), .int (nI 0), .int (nI 0)])) := eh_139
                    have k_140 : h_139 a = some (.inr (1, [.ref lr, .ref ls, .ref lv, .int (nI D), .int (w 2), .int (w 4), .int (w 5), .int (w 6)])) := z_nx eh_139 hat (hF2 _ _ h1 hat)
                    have k_141 : h_139 lr = some (.inr (20, [.int m0, .ref e0, .int (nI R)])) := z_nx eh_139 (z_neO (hF2 _ _ r1 (z_neO r1 ht9 rfl)) ht2 rfl) (hF2 _ _ r1 (z_neO r1 ht9 rfl))
                    have k_142 : h_139 e0 = some (.inl ((zm_G M).2.1 5, N0, .inr (.inr (.inr (.inr f0))))) := z_nx eh_139 (z_neA' (hF2 _ _ r2 (z_neA' r2 ht9)) ht2) (hF2 _ _ r2 (z_neA' r2 ht9))
                    have k_143 : h_139 ls = some (.inr (20, [.int m9, .ref e, .int (nI S)])) := z_nx eh_139 (z_neO (hF2 _ _ h3 (z_neO h3 ht9 rfl)) ht2 rfl) (hF2 _ _ h3 (z_neO h3 ht9 rfl))
                    have k_144 : h_139 e = some (.inl ((zm_G M).2.1 5, N, .inr (.inr (.inr (.inr f))))) := z_nx eh_139 (z_neA' (hF2 _ _ h4 (z_neA' h4 ht9)) ht2) (hF2 _ _ h4 (z_neA' h4 ht9))
                    have k_145 : h_139 lv = some (.inr (20, [.int mv, .ref ev, .int (nI S)])) := z_nx eh_139 (z_neO (hF2 _ _ v1 (z_neO v1 ht9 rfl)) ht2 rfl) (hF2 _ _ v1 (z_neO v1 ht9 rfl))
                    have k_146 : h_139 ev = some (.inl ((zm_G M).2.1 5, Nv, .inr (.inr (.inr (.inr fv))))) := z_nx eh_139 (z_neA' (hF2 _ _ v2 (z_neA' v2 ht9)) ht2) (hF2 _ _ v2 (z_neA' v2 ht9))
                    have k_147 : h_139 nn1 = some (.inr (24, [.int (nI j), .int lr92, .int mv, .ref lv])) := z_nx eh_139 (Nat.ne_of_gt (hD_128 _ _ ht1)) hT2
                    refine z_aload_n hb dX2_init_2_177 rfl ?_
                    refine z_aload_n hb dX2_init_2_178 rfl ?_
                    refine z_get (k := 4) (C := RX2) (T := TX2) (N := 8) hb ho zc1 in_X2 (zf_RX2_58 _) dX2_init_2_179 k_140 (by decide) rfl ?_
                    refine z_put (k := 4) (C := RX2) (T := TX2) (N := 8) hb ho zc1 in_X2 tyX2_ok nmX2 (zf_RX2_58 _) dX2_init_2_182 (z_nxs eh_139) (Nat.le_trans hb0 hbt) (by decide) (Or.inl rfl) rfl rfl rfl (Nat.le_of_ble_eq_true rfl) ?_
                    refine z_hn (fun h_148 eh_148 => ?_)
                    have eh_148 : h_148 = z_up h_139 t (.inr (1, [.ref n, .ref (n + 1), .ref (n + 2), .int (nI D), .int (w 2), .int (nI 0), .int (nI 0), .int (nI 0)])) := eh_148
                    have k_149 : h_148 a = some (.inr (1, [.ref lr, .ref ls, .ref lv, .int (nI D), .int (w 2), .int (w 4), .int (w 5), .int (w 6)])) := z_nx eh_148 hat k_140
                    have k_150 : h_148 lr = some (.inr (20, [.int m0, .ref e0, .int (nI R)])) := z_nx eh_148 (z_neO k_141 (z_nxs eh_139) rfl) k_141
                    have k_151 : h_148 e0 = some (.inl ((zm_G M).2.1 5, N0, .inr (.inr (.inr (.inr f0))))) := z_nx eh_148 (z_neA' k_142 (z_nxs eh_139)) k_142
                    have k_152 : h_148 ls = some (.inr (20, [.int m9, .ref e, .int (nI S)])) := z_nx eh_148 (z_neO k_143 (z_nxs eh_139) rfl) k_143
                    have k_153 : h_148 e = some (.inl ((zm_G M).2.1 5, N, .inr (.inr (.inr (.inr f))))) := z_nx eh_148 (z_neA' k_144 (z_nxs eh_139)) k_144
                    have k_154 : h_148 lv = some (.inr (20, [.int mv, .ref ev, .int (nI S)])) := z_nx eh_148 (z_neO k_145 (z_nxs eh_139) rfl) k_145
                    have k_155 : h_148 ev = some (.inl ((zm_G M).2.1 5, Nv, .inr (.inr (.inr (.inr fv))))) := z_nx eh_148 (z_neA' k_146 (z_nxs eh_139)) k_146
                    have k_156 : h_148 nn1 = some (.inr (24, [.int (nI j), .int lr92, .int mv, .ref lv])) := z_nx eh_148 (Nat.ne_of_gt (hD_128 _ _ ht1)) k_147
                    refine z_aload_n hb dX2_init_2_185 rfl ?_
                    refine z_aload_n hb dX2_init_2_186 rfl ?_
                    refine z_get (k := 5) (C := RX2) (T := TX2) (N := 8) hb ho zc1 in_X2 (zf_RX2_61 _) dX2_init_2_187 k_149 (by decide) rfl ?_
                    refine z_put (k := 5) (C := RX2) (T := TX2) (N := 8) hb ho zc1 in_X2 tyX2_ok nmX2 (zf_RX2_61 _) dX2_init_2_190 (z_nxs eh_148) (Nat.le_trans hb0 hbt) (by decide) (Or.inl rfl) rfl rfl rfl (Nat.le_of_ble_eq_true rfl) ?_
                    refine z_hn (fun h_157 eh_157 => ?_)
                    have eh_157 : h_157 = z_up h_148 t (.inr (1, [.ref n, .ref (n + 1), .ref (n + 2), .int (nI D), .int (w 2), .int (w 4), .int (nI 0), .int (nI 0)])) := eh_157
                    have k_158 : h_157 a = some (.inr (1, [.ref lr, .ref ls, .ref lv, .int (nI D), .int (w 2), .int (w 4), .int (w 5), .int (w 6)])) := z_nx eh_157 hat k_149
                    have k_159 : h_157 lr = some (.inr (20, [.int m0, .ref e0, .int (nI R)])) := z_nx eh_157 (z_neO k_150 (z_nxs eh_148) rfl) k_150
                    have k_160 : h_157 e0 = some (.inl ((zm_G M).2.1 5, N0, .inr (.inr (.inr (.inr f0))))) := z_nx eh_157 (z_neA' k_151 (z_nxs eh_148)) k_151
                    have k_161 : h_157 ls = some (.inr (20, [.int m9, .ref e, .int (nI S)])) := z_nx eh_157 (z_neO k_152 (z_nxs eh_148) rfl) k_152
                    have k_162 : h_157 e = some (.inl ((zm_G M).2.1 5, N, .inr (.inr (.inr (.inr f))))) := z_nx eh_157 (z_neA' k_153 (z_nxs eh_148)) k_153
                    have k_163 : h_157 lv = some (.inr (20, [.int mv, .ref ev, .int (nI S)])) := z_nx eh_157 (z_neO k_154 (z_nxs eh_148) rfl) k_154
                    have k_164 : h_157 ev = some (.inl ((zm_G M).2.1 5, Nv, .inr (.inr (.inr (.inr fv))))) := z_nx eh_157 (z_neA' k_155 (z_nxs eh_148)) k_155
                    have k_165 : h_157 nn1 = some (.inr (24, [.int (nI j), .int lr92, .int mv, .ref lv])) := z_nx eh_157 (Nat.ne_of_gt (hD_128 _ _ ht1)) k_156
                    refine z_aload_n hb dX2_init_2_193 rfl ?_
                    refine z_aload_n hb dX2_init_2_194 rfl ?_
                    refine z_get (k := 6) (C := RX2) (T := TX2) (N := 8) hb ho zc1 in_X2 (zf_RX2_64 _) dX2_init_2_195 k_158 (by decide) rfl ?_
                    refine z_put (k := 6) (C := RX2) (T := TX2) (N := 8) hb ho zc1 in_X2 tyX2_ok nmX2 (zf_RX2_64 _) dX2_init_2_198 (z_nxs eh_157) (Nat.le_trans hb0 hbt) (by decide) (Or.inl rfl) rfl rfl rfl (Nat.le_of_ble_eq_true rfl) ?_
                    refine z_hn (fun h_166 eh_166 => ?_)
                    have eh_166 : h_166 = z_up h_157 t (.inr (1, [.ref n, .ref (n + 1), .ref (n + 2), .int (nI D), .int (w 2), .int (w 4), .int (w 5), .int (nI 0)])) := eh_166
                    have k_167 : h_166 a = some (.inr (1, [.ref lr, .ref ls, .ref lv, .int (nI D), .int (w 2), .int (w 4), .int (w 5), .int (w 6)])) := z_nx eh_166 hat k_158
                    have k_168 : h_166 lr = some (.inr (20, [.int m0, .ref e0, .int (nI R)])) := z_nx eh_166 (z_neO k_159 (z_nxs eh_157) rfl) k_159
                    have k_169 : h_166 e0 = some (.inl ((zm_G M).2.1 5, N0, .inr (.inr (.inr (.inr f0))))) := z_nx eh_166 (z_neA' k_160 (z_nxs eh_157)) k_160
                    have k_170 : h_166 ls = some (.inr (20, [.int m9, .ref e, .int (nI S)])) := z_nx eh_166 (z_neO k_161 (z_nxs eh_157) rfl) k_161
                    have k_171 : h_166 e = some (.inl ((zm_G M).2.1 5, N, .inr (.inr (.inr (.inr f))))) := z_nx eh_166 (z_neA' k_162 (z_nxs eh_157)) k_162
                    have k_172 : h_166 lv = some (.inr (20, [.int mv, .ref ev, .int (nI S)])) := z_nx eh_166 (z_neO k_163 (z_nxs eh_157) rfl) k_163
                    have k_173 : h_166 ev = some (.inl ((zm_G M).2.1 5, Nv, .inr (.inr (.inr (.inr fv))))) := z_nx eh_166 (z_neA' k_164 (z_nxs eh_157)) k_164
                    have k_174 : h_166 nn1 = some (.inr (24, [.int (nI j), .int lr92, .int mv, .ref lv])) := z_nx eh_166 (Nat.ne_of_gt (hD_128 _ _ ht1)) k_165
                    refine z_aload_n hb dX2_init_2_201 rfl ?_
                    refine z_aload_n hb dX2_init_2_202 rfl ?_
                    refine z_get (k := 7) (C := RX2) (T := TX2) (N := 8) hb ho zc1 in_X2 (zf_RX2_67 _) dX2_init_2_203 k_167 (by decide) rfl ?_
                    refine z_put (k := 7) (C := RX2) (T := TX2) (N := 8) hb ho zc1 in_X2 tyX2_ok nmX2 (zf_RX2_67 _) dX2_init_2_206 (z_nxs eh_166) (Nat.le_trans hb0 hbt) (by decide) (Or.inl rfl) rfl rfl rfl (Nat.le_of_ble_eq_true rfl) ?_
                    refine z_hn (fun h_175 eh_175 => ?_)
                    have eh_175 : h_175 = z_up h_166 t (.inr (1, [.ref n, .ref (n + 1), .ref (n + 2), .int (nI D), .int (w 2), .int (w 4), .int (w 5), .int (w 6)])) := eh_175
                    have k_176 : h_175 a = some (.inr (1, [.ref lr, .ref ls, .ref lv, .int (nI D), .int (w 2), .int (w 4), .int (w 5), .int (w 6)])) := z_nx eh_175 hat k_167
                    have k_177 : h_175 lr = some (.inr (20, [.int m0, .ref e0, .int (nI R)])) := z_nx eh_175 (z_neO k_168 (z_nxs eh_166) rfl) k_168
                    have k_178 : h_175 e0 = some (.inl ((zm_G M).2.1 5, N0, .inr (.inr (.inr (.inr f0))))) := z_nx eh_175 (z_neA' k_169 (z_nxs eh_166)) k_169
                    have k_179 : h_175 ls = some (.inr (20, [.int m9, .ref e, .int (nI S)])) := z_nx eh_175 (z_neO k_170 (z_nxs eh_166) rfl) k_170
                    have k_180 : h_175 e = some (.inl ((zm_G M).2.1 5, N, .inr (.inr (.inr (.inr f))))) := z_nx eh_175 (z_neA' k_171 (z_nxs eh_166)) k_171
                    have k_181 : h_175 lv = some (.inr (20, [.int mv, .ref ev, .int (nI S)])) := z_nx eh_175 (z_neO k_172 (z_nxs eh_166) rfl) k_172
                    have k_182 : h_175 ev = some (.inl ((zm_G M).2.1 5, Nv, .inr (.inr (.inr (.inr fv))))) := z_nx eh_175 (z_neA' k_173 (z_nxs eh_166)) k_173
                    have k_183 : h_175 nn1 = some (.inr (24, [.int (nI j), .int lr92, .int mv, .ref lv])) := z_nx eh_175 (Nat.ne_of_gt (hD_128 _ _ ht1)) k_174
                    refine z_vret hb hr dX2_init_2_209 ?_
                    rw [hQ]
                    refine ⟨rfl, ⟨_, _, _, _, _, _, ra, sa, va9, na9, ba9, ⟨hbt, (z_nxs eh_175)⟩, (((((hX20.ft ht2 (z_fr_up (P := fun y => y = t) rfl eh_139)).ft (z_nxs eh_139) (z_fr_up (P := fun y => y = t) rfl eh_148)).ft (z_nxs eh_148) (z_fr_up (P := fun y => y = t) rfl eh_157)).ft (z_nxs eh_157) (z_fr_up (P := fun y => y = t) rfl eh_166)).ft (z_nxs eh_166) (z_fr_up (P := fun y => y = t) rfl eh_175)), (((((hX21.ft ht2 (z_fr_up (P := fun y => y = t) rfl eh_139)).ft (z_nxs eh_139) (z_fr_up (P := fun y => y = t) rfl eh_148)).ft (z_nxs eh_148) (z_fr_up (P := fun y => y = t) rfl eh_157)).ft (z_nxs eh_157) (z_fr_up (P := fun y => y = t) rfl eh_166)).ft (z_nxs eh_166) (z_fr_up (P := fun y => y = t) rfl eh_175)), (((((hY2.ft ht2 (z_fr_up (P := fun y => y = t) rfl eh_139)).ft (z_nxs eh_139) (z_fr_up (P := fun y => y = t) rfl eh_148)).ft (z_nxs eh_148) (z_fr_up (P := fun y => y = t) rfl eh_157)).ft (z_nxs eh_157) (z_fr_up (P := fun y => y = t) rfl eh_166)).ft (z_nxs eh_166) (z_fr_up (P := fun y => y = t) rfl eh_175)), ⟨by omega, by omega, by omega⟩, ⟨fun z => ⟨hS10.2 z, hS20.2 z⟩, fun z => ⟨hS10.1 z, hS21.2 z⟩, fun z => ⟨hS20.1 z, hS21.1 z⟩⟩, fun p hp => ?_, fun k hk => ?_, fun k hk => ?_, hi, hrI, ?_, ?_⟩, (((((hF2.t (z_fr_up (P := fun y => y = t) rfl eh_139)).t (z_fr_up (P := fun y => y = t) rfl eh_148)).t (z_fr_up (P := fun y => y = t) rfl eh_157)).t (z_fr_up (P := fun y => y = t) rfl eh_166)).t (z_fr_up (P := fun y => y = t) rfl eh_175))⟩
                    · exact (((((hF2.t (z_fr_up (P := fun y => y = t) rfl eh_139)).t (z_fr_up (P := fun y => y = t) rfl eh_148)).t (z_fr_up (P := fun y => y = t) rfl eh_157)).t (z_fr_up (P := fun y => y = t) rfl eh_166)).t (z_fr_up (P := fun y => y = t) rfl eh_175)) _ _ (h9 p hp) (z_neO (h9 p hp) ht9 rfl)
                    · exact (hs k hk).frS (fun y ci fs hy hc => (((((hF2.t (z_fr_up (P := fun y => y = t) rfl eh_139)).t (z_fr_up (P := fun y => y = t) rfl eh_148)).t (z_fr_up (P := fun y => y = t) rfl eh_157)).t (z_fr_up (P := fun y => y = t) rfl eh_166)).t (z_fr_up (P := fun y => y = t) rfl eh_175)) _ _ hy (fun z => by rw [z, ht9] at hy; cases hy; omega))
                    · rw [← hx_2] at hk; exact ((((((hV k (by omega)).ft ht2 (z_fr_up (P := fun y => y = t) rfl eh_139)).ft (z_nxs eh_139) (z_fr_up (P := fun y => y = t) rfl eh_148)).ft (z_nxs eh_148) (z_fr_up (P := fun y => y = t) rfl eh_157)).ft (z_nxs eh_157) (z_fr_up (P := fun y => y = t) rfl eh_166)).ft (z_nxs eh_166) (z_fr_up (P := fun y => y = t) rfl eh_175))
                    · rw [← hx_2]; exact hIn
                    · rw [← hx_2]; exact hIb
                  · have hl_j : j < S := Nat.lt_of_le_of_ne hj (by simpa using c_139)
                    refine z_aload_n hb dX2_init_2_142 rfl ?_
                    refine z_call1 (b' := 4 * (8 - j)) (f' := 94 * (8 - j)) (rest := []) (av := [.ref nn1]) (z_siteF hb ho zc24 hT2 q378 zx3 q381 q383 q384 q382 q371 zxl3 dX2_init_2_143 : z_Site M _ _ _ _ _ ([].reverse ++ .ref nn1 :: []) [] _) zk_J8_next q105 hrm (m_J8_next hT2 (hF2 _ _ v1 (z_neO v1 ht9 rfl)) (hF2 _ _ v2 (z_neA' v2 ht9)) (by omega) (by omega) v5 (by omega) (by omega)) (by omega) (by decide) (Nat.le_of_ble_eq_true rfl) (by omega) (by omega) ?_
                    refine z_hn (fun h_184 eh_184 => ?_)
                    have eh_184 : h_184 = z_up hh2 nn1 (.inr (24, [.int (nI (j + 1)), .int (nI j), .int mv, .ref lv])) := eh_184
                    have k_185 : h_184 a = some (.inr (1, [.ref lr, .ref ls, .ref lv, .int (nI D), .int (w 2), .int (w 4), .int (w 5), .int (w 6)])) := z_nx eh_184 (Nat.ne_of_lt (hD_128 _ _ (hF1 _ _ h1 hat))) (hF2 _ _ h1 hat)
                    have k_186 : h_184 lr = some (.inr (20, [.int m0, .ref e0, .int (nI R)])) := z_nx eh_184 (Nat.ne_of_lt (hD_128 _ _ (hF1 _ _ r1 (z_neO r1 ht9 rfl)))) (hF2 _ _ r1 (z_neO r1 ht9 rfl))
                    have k_187 : h_184 e0 = some (.inl ((zm_G M).2.1 5, N0, .inr (.inr (.inr (.inr f0))))) := z_nx eh_184 (Nat.ne_of_lt (hD_128 _ _ (hF1 _ _ r2 (z_neA' r2 ht9)))) (hF2 _ _ r2 (z_neA' r2 ht9))
                    have k_188 : h_184 ls = some (.inr (20, [.int m9, .ref e, .int (nI S)])) := z_nx eh_184 (Nat.ne_of_lt (hD_128 _ _ (hF1 _ _ h3 (z_neO h3 ht9 rfl)))) (hF2 _ _ h3 (z_neO h3 ht9 rfl))
                    have k_189 : h_184 e = some (.inl ((zm_G M).2.1 5, N, .inr (.inr (.inr (.inr f))))) := z_nx eh_184 (Nat.ne_of_lt (hD_128 _ _ (hF1 _ _ h4 (z_neA' h4 ht9)))) (hF2 _ _ h4 (z_neA' h4 ht9))
                    have k_190 : h_184 lv = some (.inr (20, [.int mv, .ref ev, .int (nI S)])) := z_nx eh_184 (Nat.ne_of_lt (hD_128 _ _ (hF1 _ _ v1 (z_neO v1 ht9 rfl)))) (hF2 _ _ v1 (z_neO v1 ht9 rfl))
                    have k_191 : h_184 ev = some (.inl ((zm_G M).2.1 5, Nv, .inr (.inr (.inr (.inr fv))))) := z_nx eh_184 (Nat.ne_of_lt (hD_128 _ _ (hF1 _ _ v2 (z_neA' v2 ht9)))) (hF2 _ _ v2 (z_neA' v2 ht9))
                    have k_192 : h_184 t = some (.inr (1, [.ref n, .ref (n + 1), .ref (n + 2), .int (nI 0), .int (nI 0), .int (nI 0), .int (nI 0), .int (nI 0)])) := z_nx eh_184 (Nat.ne_of_lt (hD_128 _ _ ht1)) ht2
                    obtain ⟨e1, e2, F, Z, hv1, hv2, hv3, hv4, hv5, hv6⟩ := hv j (by omega)
                    have k_193 : h_184 (va j) = some (.inr (3, [.ref e1, .ref e2])) := (z_frW hD0 (by omega) eh_184 hF2) _ _ hv1 (z_neO hv1 ht9 rfl)
                    have k_194 : h_184 e1 = some (.inl ((zm_G M).2.1 1, 35, .inr (.inl F))) := (z_frW hD0 (by omega) eh_184 hF2) _ _ hv2 (z_neA' hv2 ht9)
                    have k_195 : h_184 e2 = some (.inl ((zm_G M).2.1 2, 7, .inl Z)) := (z_frW hD0 (by omega) eh_184 hF2) _ _ hv3 (z_neA' hv3 ht9)
                    refine z_cast hb ho zc3 k_193 q461 (Or.inl rfl) dX2_init_2_148 ?_
                    refine z_astore_n (lv' := [(3, .ref (va j)), (2, .ref nn1), (0, .ref t), (1, .ref a)]) hb dX2_init_2_151 (by rw [hN]; decide) rfl ?_
                    refine z_aload_n hb dX2_init_2_152 rfl ?_
                    refine z_get (k := 2) (C := RX2) (T := TX2) (N := 8) hb ho zc1 in_X2 (zf_RX2_21 _) dX2_init_2_153 k_192 (by decide) rfl ?_
                    refine z_aload_n hb dX2_init_2_156 rfl ?_
                    refine z_dom (fun hD_196 => ?_)
                    refine z_call1 (b' := (4 * (8 - j)) - 3) (f' := (94 * (8 - j)) - 44) (rest := [.ref (n + 2)]) (av := [.ref (va j)]) (z_siteV hb ho zc3 k_193 q561 q562 q563 ⟨_, _, _, _, zk_X4_copy⟩ zy_X4_copy zl_X4_copy dX2_init_2_157 : z_Site M _ _ _ _ _ ([].reverse ++ .ref (va j) :: [.ref (n + 2)]) [.ref (n + 2)] _) zk_X4_copy q114 hrm (m_X4_copy k_193 k_194 k_195 (hD_196 _ _ k_193) (hD_196 _ _ k_194) (hD_196 _ _ k_195) hv6) (by omega) (by decide) (Nat.le_of_ble_eq_true rfl) (by omega) (by omega) ?_
                    have ⟨h_197, eh_197⟩ : ∃ x, x = z_up (z_up (z_up h_184 nn2 (.inr (3, [.ref (nn2 + 1), .ref (nn2 + 2)]))) (nn2 + 1) (z_al (zm_G M) 35 (va_cpy F (fun _ => 0) 0 0 35))) (nn2 + 2) (z_az (zm_G M) 7 (va_cpy Z (fun _ => 0) 0 0 7)) := ⟨_, rfl⟩
                    rw [← eh_197]
                    have hxx := z_up3y hD_196 eh_197
                    have hV8 : ∀ i, i < j + 1 → z_Vx (zm_G M) h_197 b0 w v D (va_up va9 j nn2) (va_up na9 j (nn2 + 1)) (va_up ba9 j (nn2 + 2)) i := fun i hi => by
                      by_cases z : i = j
                      · rw [z]; exact z_Vx_new (va := va9) (na := na9) (ba := ba9) (by omega) hD6 eh_197 hv4 hv5 hv6
                      · exact (((hV i (by omega)).kp (z_kp_up hT2 (by simp [z_lnk]) eh_184)).kp hxx.kp).c (va_upn z) (va_upn z) (va_upn z)
                    have k_198 : h_197 a = some (.inr (1, [.ref lr, .ref ls, .ref lv, .int (nI D), .int (w 2), .int (w 4), .int (w 5), .int (w 6)])) := hxx _ _ k_185
                    have k_199 : h_197 lr = some (.inr (20, [.int m0, .ref e0, .int (nI R)])) := hxx _ _ k_186
                    have k_200 : h_197 e0 = some (.inl ((zm_G M).2.1 5, N0, .inr (.inr (.inr (.inr f0))))) := hxx _ _ k_187
                    have k_201 : h_197 ls = some (.inr (20, [.int m9, .ref e, .int (nI S)])) := hxx _ _ k_188
                    have k_202 : h_197 e = some (.inl ((zm_G M).2.1 5, N, .inr (.inr (.inr (.inr f))))) := hxx _ _ k_189
                    have k_203 : h_197 lv = some (.inr (20, [.int mv, .ref ev, .int (nI S)])) := hxx _ _ k_190
                    have k_204 : h_197 ev = some (.inl ((zm_G M).2.1 5, Nv, .inr (.inr (.inr (.inr fv))))) := hxx _ _ k_191
                    have k_205 : h_197 t = some (.inr (1, [.ref n, .ref (n + 1), .ref (n + 2), .int (nI 0), .int (nI 0), .int (nI 0), .int (nI 0), .int (nI 0)])) := hxx _ _ k_192
                    have k_206 : h_197 nn1 = some (.inr (24, [.int (nI (j + 1)), .int (nI j), .int mv, .ref lv])) := hxx _ _ (z_nxs eh_184)
                    have k_207 : h_197 (va j) = some (.inr (3, [.ref e1, .ref e2])) := hxx _ _ k_193
                    have k_208 : h_197 e1 = some (.inl ((zm_G M).2.1 1, 35, .inr (.inl F))) := hxx _ _ k_194
                    have k_209 : h_197 e2 = some (.inl ((zm_G M).2.1 2, 7, .inl Z)) := hxx _ _ k_195
                    have kvn : h_197 nn2 = some (.inr (3, [.ref (nn2 + 1), .ref (nn2 + 2)])) := by rw [eh_197, z_up_n (by omega), z_up_n (by omega), z_up_s]
                    obtain ⟨m_210, hm_210⟩ := ((hX22.kp (z_kp_up hT2 (by simp [z_lnk]) eh_184)).kp hxx.kp).o
                    refine z_dom (fun hD_214 => ?_)
                    obtain ⟨m99, hlo9⟩ := ((hX22.kp (z_kp_up hT2 (by simp [z_lnk]) eh_184)).kp hxx.kp).o
                    refine z_callQ1 (b' := ((4 * (8 - j)) - 3) - 1) (f' := ((94 * (8 - j)) - 44) - 50) (rest := []) (av := [.ref (n + 2), .ref nn2]) (z_siteF hb ho zc20 hm_210 q475 zx4 q478 q480 q481 q479 q321 zxl4 dX2_init_2_160 : z_Site M _ _ _ _ _ ([.ref nn2].reverse ++ .ref (n + 2) :: []) [] _) zk_J2_add q98 hrm (m_add hb0 ((hX22.kp (z_kp_up hT2 (by simp [z_lnk]) eh_184)).kp hxx.kp) (by omega) ⟨3, _, _, kvn, zc3, q3309⟩ (z_neO kvn hlo9 rfl) (fun i hi => ⟨(((hV i hi).kp (z_kp_up hT2 (by simp [z_lnk]) eh_184)).kp hxx.kp).ob, z_neO (((hV i hi).kp (z_kp_up hT2 (by simp [z_lnk]) eh_184)).kp hxx.kp).2.2.2.1 hlo9 rfl⟩)) (by omega) (by decide) (Nat.le_of_ble_eq_true rfl) (by omega) (by omega) (fun rhq_211 h_212 n_213 hq_211 hn_213 => ?_)
                    obtain ⟨rfl, hq_211⟩ := hq_211
                    obtain ⟨e9x, hlx, he9, hfl⟩ := hq_211
                    obtain ⟨m98, hlo8⟩ := ((hX22.kp (z_kp_up hT2 (by simp [z_lnk]) eh_184)).kp hxx.kp).o
                    obtain ⟨N98, f98, har8⟩ := ((hX22.kp (z_kp_up hT2 (by simp [z_lnk]) eh_184)).kp hxx.kp).ar
                    have hge : ∀ y, (y = (n + 2) ∨ (y = e92 ∧ b0 ≤ y)) → n ≤ y := fun y z => by
                      rcases z with z | z
                      · omega
                      · rcases hn2 with q1 | q1 <;> omega
                    have k_215 : h_212 a = some (.inr (1, [.ref lr, .ref ls, .ref lv, .int (nI D), .int (w 2), .int (w 4), .int (w 5), .int (w 6)])) := hfl _ _ k_198 (fun z => absurd (hge _ z) (Nat.not_le.mpr (hD0 _ _ h1)))
                    have k_216 : h_212 lr = some (.inr (20, [.int m0, .ref e0, .int (nI R)])) := hfl _ _ k_199 (fun z => absurd (hge _ z) (Nat.not_le.mpr (hD0 _ _ r1)))
                    have k_217 : h_212 e0 = some (.inl ((zm_G M).2.1 5, N0, .inr (.inr (.inr (.inr f0))))) := hfl _ _ k_200 (fun z => absurd (hge _ z) (Nat.not_le.mpr (hD0 _ _ r2)))
                    have k_218 : h_212 ls = some (.inr (20, [.int m9, .ref e, .int (nI S)])) := hfl _ _ k_201 (fun z => absurd (hge _ z) (Nat.not_le.mpr (hD0 _ _ h3)))
                    have k_219 : h_212 e = some (.inl ((zm_G M).2.1 5, N, .inr (.inr (.inr (.inr f))))) := hfl _ _ k_202 (fun z => absurd (hge _ z) (Nat.not_le.mpr (hD0 _ _ h4)))
                    have k_220 : h_212 lv = some (.inr (20, [.int mv, .ref ev, .int (nI S)])) := hfl _ _ k_203 (fun z => absurd (hge _ z) (Nat.not_le.mpr (hD0 _ _ v1)))
                    have k_221 : h_212 ev = some (.inl ((zm_G M).2.1 5, Nv, .inr (.inr (.inr (.inr fv))))) := hfl _ _ k_204 (fun z => absurd (hge _ z) (Nat.not_le.mpr (hD0 _ _ v2)))
                    have k_222 : h_212 t = some (.inr (1, [.ref n, .ref (n + 1), .ref (n + 2), .int (nI 0), .int (nI 0), .int (nI 0), .int (nI 0), .int (nI 0)])) := hfl _ _ k_205 (fun z => absurd (hge _ z) (Nat.not_le.mpr (hD0 _ _ ht9)))
                    have k_223 : h_212 nn1 = some (.inr (24, [.int (nI (j + 1)), .int (nI j), .int mv, .ref lv])) := hfl _ _ k_206 (fun z => z.elim (z_neO k_206 hlo8 rfl) (fun z => z_neA k_206 har8 z.1))
                    have hn9 : e9x = ((zm_G M).2.2.1 1002) ∨ n ≤ e9x := he9.elim (fun q1 => by rw [q1]; exact hn2) (fun q1 => Or.inr (by omega))
                    have hlz0 := ((hX20.kp (z_kp_up hT2 (by simp [z_lnk]) eh_184)).kp hxx.kp).nx ((hX22.kp (z_kp_up hT2 (by simp [z_lnk]) eh_184)).kp hxx.kp) hfl (by omega) (fun z => (hS20.1 z).symm)
                    obtain ⟨Nz0, fz0, haz0⟩ := ((hX20.kp (z_kp_up hT2 (by simp [z_lnk]) eh_184)).kp hxx.kp).ar
                    have hdz0 := hD_214 _ _ haz0
                    have hs90 : (b0 ≤ e9x → e9x ≠ e90) ∧ (b0 ≤ e90 → e90 ≠ e9x) := by
                      rcases he9 with q1 | q1
                      · rw [q1]; exact hS20
                      · exact ⟨fun _ => by omega, fun _ => by omega⟩
                    have hlz1 := ((hX21.kp (z_kp_up hT2 (by simp [z_lnk]) eh_184)).kp hxx.kp).nx ((hX22.kp (z_kp_up hT2 (by simp [z_lnk]) eh_184)).kp hxx.kp) hfl (by omega) (fun z => (hS21.1 z).symm)
                    obtain ⟨Nz1, fz1, haz1⟩ := ((hX21.kp (z_kp_up hT2 (by simp [z_lnk]) eh_184)).kp hxx.kp).ar
                    have hdz1 := hD_214 _ _ haz1
                    have hs91 : (b0 ≤ e9x → e9x ≠ e91) ∧ (b0 ≤ e91 → e91 ≠ e9x) := by
                      rcases he9 with q1 | q1
                      · rw [q1]; exact hS21
                      · exact ⟨fun _ => by omega, fun _ => by omega⟩
                    have hlc := hlx
                    have hV9 : ∀ i, i < j + 1 → z_Vx (zm_G M) h_212 b0 w v D (va_up va9 j nn2) (va_up na9 j (nn2 + 1)) (va_up ba9 j (nn2 + 2)) i := fun i hi => (hV8 i hi).nx ((hX22.kp (z_kp_up hT2 (by simp [z_lnk]) eh_184)).kp hxx.kp) hfl
                    have hVn9 : ∀ i, i < j + 1 → (va_up na9 j (nn2 + 1)) i < n_213 ∧ (va_up ba9 j (nn2 + 2)) i < n_213 := fun i hi => by
                      by_cases z : i = j
                      · rw [z, va_ups, va_ups]; exact ⟨by omega, by omega⟩
                      · rw [va_upn z, va_upn z]; have := hVn i (by omega); exact ⟨by omega, by omega⟩
                    have hIn9 := z_ij_up (t := nn2 + 1) hIn (fun i hi => by have := (hVn i hi).1; omega)
                    have hIb9 := z_ij_up (t := nn2 + 2) hIb (fun i hi => by have := (hVn i hi).2; omega)
                    refine z_pop hb dX2_init_2_165 rfl ?_
                    refine z_goto (tgt := 133) hb dX2_init_2_166 (by decide) ?_
                    refine z_lv [1, 2, 3] (lv' := [(2, .ref nn1), (0, .ref t), (1, .ref a)]) rfl ?_
                    exact z_bf (by omega) (by omega) (ih_133 (j + 1) _ n_213 h_212 e9x (va_up va9 j nn2) (va_up na9 j (nn2 + 1)) (va_up ba9 j (nn2 + 2)) (by omega) (by omega) (by omega) (z_frL hD0 ((z_frW hD0 (by omega) eh_184 hF2).t hxx.fr) hfl hge) k_222 k_223 hlz0 hlz1 hlc hn9 hs90 hs91 hV9 hVn9 hIn9 hIb9)
              refine z_lv [0, 1, 2] (lv' := [(2, .ref nn1), (0, .ref t), (1, .ref a)]) rfl ?_
              exact z_bf (by omega) (by omega) (lp_133 _ 0 (-1) (nn1 + 1) h_129 ((zm_G M).2.2.1 1002) va va va (Nat.lt_succ_self _) (Nat.zero_le _) (by omega) (hF1.t (z_exN z_ex_r hD_128 eh_129).fr) k_138 (z_nxs eh_129) (hX10.kp (z_exN z_ex_r hD_128 eh_129).kp) (hY1.kp (z_exN z_ex_r hD_128 eh_129).kp) (hX12.kp (z_exN z_ex_r hD_128 eh_129).kp) (Or.inl rfl) ⟨fun z => absurd (Nat.lt_of_lt_of_le hE0 hb0) (Nat.not_lt.mpr z), fun z z2 => absurd (Nat.lt_of_lt_of_le hE0 hb0) (Nat.not_lt.mpr (z2 ▸ z))⟩ ⟨fun z => absurd (Nat.lt_of_lt_of_le hE0 hb0) (Nat.not_lt.mpr z), fun z z2 => absurd (Nat.lt_of_lt_of_le hE0 hb0) (Nat.not_lt.mpr (z2 ▸ z))⟩ (fun i hi => absurd hi (Nat.not_lt_zero _)) (fun i hi => absurd hi (Nat.not_lt_zero _)) (fun i j hi => absurd hi (Nat.not_lt_zero _)) (fun i j hi => absurd hi (Nat.not_lt_zero _)))
            · have hl_j : j < S := Nat.lt_of_le_of_ne hj (by simpa using c_96)
              refine z_aload_n hb dX2_init_2_99 rfl ?_
              refine z_call1 (b' := 34 + (8 - j)) (f' := 800 + 50 * (8 - j)) (rest := []) (av := [.ref nn0]) (z_siteF hb ho zc24 hT1 q378 zx3 q381 q383 q384 q382 q371 zxl3 dX2_init_2_100 : z_Site M _ _ _ _ _ ([].reverse ++ .ref nn0 :: []) [] _) zk_J8_next q105 hrm (m_J8_next hT1 (hF1 _ _ h3 (z_neO h3 ht9 rfl)) (hF1 _ _ h4 (z_neA' h4 ht9)) (by omega) (by omega) h7 (by omega) (by omega)) (by omega) (by decide) (Nat.le_of_ble_eq_true rfl) (by omega) (by omega) ?_
              refine z_hn (fun h_224 eh_224 => ?_)
              have eh_224 : h_224 = z_up hh1 nn0 (.inr (24, [.int (nI (j + 1)), .int (nI j), .int m9, .ref ls])) := eh_224
              have k_225 : h_224 a = some (.inr (1, [.ref lr, .ref ls, .ref lv, .int (nI D), .int (w 2), .int (w 4), .int (w 5), .int (w 6)])) := z_nx eh_224 (Nat.ne_of_lt (hD_117 _ _ (hF0 _ _ h1 hat))) (hF1 _ _ h1 hat)
              have k_226 : h_224 lr = some (.inr (20, [.int m0, .ref e0, .int (nI R)])) := z_nx eh_224 (Nat.ne_of_lt (hD_117 _ _ (hF0 _ _ r1 (z_neO r1 ht9 rfl)))) (hF1 _ _ r1 (z_neO r1 ht9 rfl))
              have k_227 : h_224 e0 = some (.inl ((zm_G M).2.1 5, N0, .inr (.inr (.inr (.inr f0))))) := z_nx eh_224 (Nat.ne_of_lt (hD_117 _ _ (hF0 _ _ r2 (z_neA' r2 ht9)))) (hF1 _ _ r2 (z_neA' r2 ht9))
              have k_228 : h_224 ls = some (.inr (20, [.int m9, .ref e, .int (nI S)])) := z_nx eh_224 (Nat.ne_of_lt (hD_117 _ _ (hF0 _ _ h3 (z_neO h3 ht9 rfl)))) (hF1 _ _ h3 (z_neO h3 ht9 rfl))
              have k_229 : h_224 e = some (.inl ((zm_G M).2.1 5, N, .inr (.inr (.inr (.inr f))))) := z_nx eh_224 (Nat.ne_of_lt (hD_117 _ _ (hF0 _ _ h4 (z_neA' h4 ht9)))) (hF1 _ _ h4 (z_neA' h4 ht9))
              have k_230 : h_224 lv = some (.inr (20, [.int mv, .ref ev, .int (nI S)])) := z_nx eh_224 (Nat.ne_of_lt (hD_117 _ _ (hF0 _ _ v1 (z_neO v1 ht9 rfl)))) (hF1 _ _ v1 (z_neO v1 ht9 rfl))
              have k_231 : h_224 ev = some (.inl ((zm_G M).2.1 5, Nv, .inr (.inr (.inr (.inr fv))))) := z_nx eh_224 (Nat.ne_of_lt (hD_117 _ _ (hF0 _ _ v2 (z_neA' v2 ht9)))) (hF1 _ _ v2 (z_neA' v2 ht9))
              have k_232 : h_224 t = some (.inr (1, [.ref n, .ref (n + 1), .ref (n + 2), .int (nI 0), .int (nI 0), .int (nI 0), .int (nI 0), .int (nI 0)])) := z_nx eh_224 (Nat.ne_of_lt (hD_117 _ _ ht0)) ht1
              have J_108 : z_V M h_224 nn1 (34 + (8 - j)) (800 + 50 * (8 - j)) 108 [(2, .ref nn0), (0, .ref t), (1, .ref a)] [.ref (sa j)] := by
                refine z_astore_n (lv' := [(3, .ref (sa j)), (2, .ref nn0), (0, .ref t), (1, .ref a)]) hb dX2_init_2_108 (by rw [hN]; decide) rfl ?_
                refine z_aload_n hb dX2_init_2_109 rfl ?_
                refine z_get (k := 1) (C := RX2) (T := TX2) (N := 8) hb ho zc1 in_X2 (zf_RX2_18 _) dX2_init_2_110 k_232 (by decide) rfl ?_
                refine z_aload_n hb dX2_init_2_113 rfl ?_
                obtain ⟨m_233, hm_233⟩ := (hX11.kp (z_kp_up hT1 (by simp [z_lnk]) eh_224)).o
                refine z_dom (fun hD_237 => ?_)
                refine z_callQ1 (b' := (34 + (8 - j)) - 1) (f' := (800 + 50 * (8 - j)) - 50) (rest := []) (av := [.ref (n + 1), .ref (sa j)]) (z_siteF hb ho zc20 hm_233 q475 zx4 q478 q480 q481 q479 q321 zxl4 dX2_init_2_114 : z_Site M _ _ _ _ _ ([.ref (sa j)].reverse ++ .ref (n + 1) :: []) [] _) zk_J2_add q98 hrm (m_add hb0 (hX11.kp (z_kp_up hT1 (by simp [z_lnk]) eh_224)) (by omega) ((hs j (by omega)).o.1.fr (z_frW hD0 (by omega) eh_224 hF1) ((hs j (by omega)).ne ht9 (by omega))) (Nat.ne_of_lt (Nat.lt_of_lt_of_le ((hs j (by omega)).o.1.lt hD0) (by omega))) (fun i hi => ⟨(hs i (by omega)).o.1.fr (z_frW hD0 (by omega) eh_224 hF1) ((hs i (by omega)).ne ht9 (by omega)), Nat.ne_of_lt (Nat.lt_of_lt_of_le ((hs i (by omega)).o.1.lt hD0) (by omega))⟩)) (by omega) (by decide) (Nat.le_of_ble_eq_true rfl) (by omega) (by omega) (fun rhq_234 h_235 n_236 hq_234 hn_236 => ?_)
                obtain ⟨rfl, hq_234⟩ := hq_234
                obtain ⟨e9x, hlx, he9, hfl⟩ := hq_234
                obtain ⟨m98, hlo8⟩ := (hX11.kp (z_kp_up hT1 (by simp [z_lnk]) eh_224)).o
                obtain ⟨N98, f98, har8⟩ := (hX11.kp (z_kp_up hT1 (by simp [z_lnk]) eh_224)).ar
                have hge : ∀ y, (y = (n + 1) ∨ (y = e91 ∧ b0 ≤ y)) → n ≤ y := fun y z => by
                  rcases z with z | z
                  · omega
                  · rcases hn1 with q1 | q1 <;> omega
                have k_238 : h_235 a = some (.inr (1, [.ref lr, .ref ls, .ref lv, .int (nI D), .int (w 2), .int (w 4), .int (w 5), .int (w 6)])) := hfl _ _ k_225 (fun z => absurd (hge _ z) (Nat.not_le.mpr (hD0 _ _ h1)))
                have k_239 : h_235 lr = some (.inr (20, [.int m0, .ref e0, .int (nI R)])) := hfl _ _ k_226 (fun z => absurd (hge _ z) (Nat.not_le.mpr (hD0 _ _ r1)))
                have k_240 : h_235 e0 = some (.inl ((zm_G M).2.1 5, N0, .inr (.inr (.inr (.inr f0))))) := hfl _ _ k_227 (fun z => absurd (hge _ z) (Nat.not_le.mpr (hD0 _ _ r2)))
                have k_241 : h_235 ls = some (.inr (20, [.int m9, .ref e, .int (nI S)])) := hfl _ _ k_228 (fun z => absurd (hge _ z) (Nat.not_le.mpr (hD0 _ _ h3)))
                have k_242 : h_235 e = some (.inl ((zm_G M).2.1 5, N, .inr (.inr (.inr (.inr f))))) := hfl _ _ k_229 (fun z => absurd (hge _ z) (Nat.not_le.mpr (hD0 _ _ h4)))
                have k_243 : h_235 lv = some (.inr (20, [.int mv, .ref ev, .int (nI S)])) := hfl _ _ k_230 (fun z => absurd (hge _ z) (Nat.not_le.mpr (hD0 _ _ v1)))
                have k_244 : h_235 ev = some (.inl ((zm_G M).2.1 5, Nv, .inr (.inr (.inr (.inr fv))))) := hfl _ _ k_231 (fun z => absurd (hge _ z) (Nat.not_le.mpr (hD0 _ _ v2)))
                have k_245 : h_235 t = some (.inr (1, [.ref n, .ref (n + 1), .ref (n + 2), .int (nI 0), .int (nI 0), .int (nI 0), .int (nI 0), .int (nI 0)])) := hfl _ _ k_232 (fun z => absurd (hge _ z) (Nat.not_le.mpr (hD0 _ _ ht9)))
                have k_246 : h_235 nn0 = some (.inr (24, [.int (nI (j + 1)), .int (nI j), .int m9, .ref ls])) := hfl _ _ (z_nxs eh_224) (fun z => z.elim (z_neO (z_nxs eh_224) hlo8 rfl) (fun z => z_neA (z_nxs eh_224) har8 z.1))
                have hn9 : e9x = ((zm_G M).2.2.1 1002) ∨ n ≤ e9x := he9.elim (fun q1 => by rw [q1]; exact hn1) (fun q1 => Or.inr (by omega))
                have hlz0 := (hX10.kp (z_kp_up hT1 (by simp [z_lnk]) eh_224)).nx (hX11.kp (z_kp_up hT1 (by simp [z_lnk]) eh_224)) hfl (by omega) (fun z => (hS10.1 z).symm)
                obtain ⟨Nz0, fz0, haz0⟩ := (hX10.kp (z_kp_up hT1 (by simp [z_lnk]) eh_224)).ar
                have hdz0 := hD_237 _ _ haz0
                have hs90 : (b0 ≤ e9x → e9x ≠ e90) ∧ (b0 ≤ e90 → e90 ≠ e9x) := by
                  rcases he9 with q1 | q1
                  · rw [q1]; exact hS10
                  · exact ⟨fun _ => by omega, fun _ => by omega⟩
                have hlz2 := (hX12.kp (z_kp_up hT1 (by simp [z_lnk]) eh_224)).nx (hX11.kp (z_kp_up hT1 (by simp [z_lnk]) eh_224)) hfl (by omega) (fun z => (hS12.1 z).symm)
                obtain ⟨Nz2, fz2, haz2⟩ := (hX12.kp (z_kp_up hT1 (by simp [z_lnk]) eh_224)).ar
                have hdz2 := hD_237 _ _ haz2
                have hs92 : (b0 ≤ e9x → e9x ≠ ((zm_G M).2.2.1 1002)) ∧ (b0 ≤ ((zm_G M).2.2.1 1002) → ((zm_G M).2.2.1 1002) ≠ e9x) := by
                  rcases he9 with q1 | q1
                  · rw [q1]; exact hS12
                  · exact ⟨fun _ => by omega, fun _ => by omega⟩
                have hlc := hlx.cg (g' := sa) (fun j9 hj9 => by
                  unfold va_up
                  split
                  · next z => rw [z]
                  · rfl)
                refine z_pop hb dX2_init_2_119 rfl ?_
                refine z_goto (tgt := 90) hb dX2_init_2_120 (by decide) ?_
                refine z_lv [1, 2, 3] (lv' := [(2, .ref nn0), (0, .ref t), (1, .ref a)]) rfl ?_
                exact z_bf (by omega) (by omega) (ih_90 (j + 1) _ n_236 h_235 e9x (by omega) (by omega) (by omega) (z_frL hD0 (z_frW hD0 (by omega) eh_224 hF1) hfl hge) k_245 k_246 hlz0 hlc hlz2 hn9 hs90 hs92)
              rcases hs j (by omega) with ⟨q1, q9⟩ | ⟨q1, q9⟩ | ⟨q1, q9⟩ | ⟨q1, q2, q3, q9⟩ | ⟨q1, q2, q3, q9⟩ | ⟨q1, q2, q3, q9⟩ | ⟨q1, q2, q3, q9⟩
              · exact z_cast hb ho zc8 ((z_frW hD0 (by omega) eh_224 hF1) _ _ q9 (z_neO q9 ht9 rfl)) q560 (Or.inr q3300) dX2_init_2_105 J_108
              · exact z_cast hb ho zc9 ((z_frW hD0 (by omega) eh_224 hF1) _ _ q9 (z_neO q9 ht9 rfl)) q560 (Or.inr q3296) dX2_init_2_105 J_108
              · exact z_cast hb ho zc10 ((z_frW hD0 (by omega) eh_224 hF1) _ _ q9 (z_neO q9 ht9 rfl)) q560 (Or.inr q3297) dX2_init_2_105 J_108
              · exact z_cast hb ho zc11 ((z_frW hD0 (by omega) eh_224 hF1) _ _ q9 (z_neO q9 ht9 rfl)) q560 (Or.inr q3298) dX2_init_2_105 J_108
              · exact z_cast hb ho zc11 ((z_frW hD0 (by omega) eh_224 hF1) _ _ q9 (z_neO q9 ht9 rfl)) q560 (Or.inr q3298) dX2_init_2_105 J_108
              · exact z_cast hb ho zc12 ((z_frW hD0 (by omega) eh_224 hF1) _ _ q9 (z_neO q9 ht9 rfl)) q560 (Or.inr q3299) dX2_init_2_105 J_108
              · exact z_cast hb ho zc13 ((z_frW hD0 (by omega) eh_224 hF1) _ _ q9 (z_neO q9 ht9 rfl)) q560 (Or.inr q3295) dX2_init_2_105 J_108
        refine z_lv [0, 1, 2] (lv' := [(2, .ref nn0), (0, .ref t), (1, .ref a)]) rfl ?_
        exact z_bf (by omega) (by omega) (lp_90 _ 0 (-1) (nn0 + 1) h_118 ((zm_G M).2.2.1 1002) (Nat.lt_succ_self _) (Nat.zero_le _) (by omega) (hF0.t (z_exN z_ex_r hD_117 eh_118).fr) k_127 (z_nxs eh_118) (hY0.kp (z_exN z_ex_r hD_117 eh_118).kp) (hX01.kp (z_exN z_ex_r hD_117 eh_118).kp) (hX02.kp (z_exN z_ex_r hD_117 eh_118).kp) (Or.inl rfl) ⟨fun z => absurd (Nat.lt_of_lt_of_le hE0 hb0) (Nat.not_lt.mpr z), fun z z2 => absurd (Nat.lt_of_lt_of_le hE0 hb0) (Nat.not_lt.mpr (z2 ▸ z))⟩ ⟨fun z => absurd (Nat.lt_of_lt_of_le hE0 hb0) (Nat.not_lt.mpr z), fun z => absurd (Nat.lt_of_lt_of_le hE0 hb0) (Nat.not_lt.mpr z)⟩)
      · have hl_j : j < R := Nat.lt_of_le_of_ne hj (by simpa using c_53)
        refine z_aload_n hb dX2_init_2_56 rfl ?_
        refine z_call1 (b' := 45 + (40 - j)) (f' := 1300 + 50 * (40 - j)) (rest := []) (av := [.ref (n + 3)]) (z_siteF hb ho zc24 hT0 q378 zx3 q381 q383 q384 q382 q371 zxl3 dX2_init_2_57 : z_Site M _ _ _ _ _ ([].reverse ++ .ref (n + 3) :: []) [] _) zk_J8_next q105 hrm (m_J8_next hT0 (hF0 _ _ r1 (z_neO r1 ht9 rfl)) (hF0 _ _ r2 (z_neA' r2 ht9)) (by omega) (by omega) r5 (by omega) (by omega)) (by omega) (by decide) (Nat.le_of_ble_eq_true rfl) (by omega) (by omega) ?_
        refine z_hn (fun h_247 eh_247 => ?_)
        have eh_247 : h_247 = z_up hh0 (n + 3) (.inr (24, [.int (nI (j + 1)), .int (nI j), .int m0, .ref lr])) := eh_247
        have k_248 : h_247 a = some (.inr (1, [.ref lr, .ref ls, .ref lv, .int (nI D), .int (w 2), .int (w 4), .int (w 5), .int (w 6)])) := z_nx eh_247 (Nat.ne_of_lt (hD_103 _ _ k_93)) (hF0 _ _ h1 hat)
        have k_249 : h_247 lr = some (.inr (20, [.int m0, .ref e0, .int (nI R)])) := z_nx eh_247 (Nat.ne_of_lt (hD_103 _ _ k_94)) (hF0 _ _ r1 (z_neO r1 ht9 rfl))
        have k_250 : h_247 e0 = some (.inl ((zm_G M).2.1 5, N0, .inr (.inr (.inr (.inr f0))))) := z_nx eh_247 (Nat.ne_of_lt (hD_103 _ _ k_95)) (hF0 _ _ r2 (z_neA' r2 ht9))
        have k_251 : h_247 ls = some (.inr (20, [.int m9, .ref e, .int (nI S)])) := z_nx eh_247 (Nat.ne_of_lt (hD_103 _ _ k_96)) (hF0 _ _ h3 (z_neO h3 ht9 rfl))
        have k_252 : h_247 e = some (.inl ((zm_G M).2.1 5, N, .inr (.inr (.inr (.inr f))))) := z_nx eh_247 (Nat.ne_of_lt (hD_103 _ _ k_97)) (hF0 _ _ h4 (z_neA' h4 ht9))
        have k_253 : h_247 lv = some (.inr (20, [.int mv, .ref ev, .int (nI S)])) := z_nx eh_247 (Nat.ne_of_lt (hD_103 _ _ k_98)) (hF0 _ _ v1 (z_neO v1 ht9 rfl))
        have k_254 : h_247 ev = some (.inl ((zm_G M).2.1 5, Nv, .inr (.inr (.inr (.inr fv))))) := z_nx eh_247 (Nat.ne_of_lt (hD_103 _ _ k_99)) (hF0 _ _ v2 (z_neA' v2 ht9))
        have k_255 : h_247 t = some (.inr (1, [.ref n, .ref (n + 1), .ref (n + 2), .int (nI 0), .int (nI 0), .int (nI 0), .int (nI 0), .int (nI 0)])) := z_nx eh_247 (Nat.ne_of_lt (hD_103 _ _ (z_nxs eh_91))) ht0
        have hrw_256 := h9 j (by omega)
        unfold z_Rw at hrw_256
        have k_257 : h_247 (ra j) = some (.inr (6, [.int (w (16 + 4 * j)), .int (w (16 + 4 * j + 1)), .int (w (16 + 4 * j + 2)), .int (w (16 + 4 * j + 3))])) := (z_frW hD0 (by omega) eh_247 hF0) _ _ hrw_256 (z_neO hrw_256 ht9 rfl)
        refine z_cast hb ho zc6 k_257 q473 (Or.inl rfl) dX2_init_2_62 ?_
        refine z_astore_n (lv' := [(3, .ref (ra j)), (2, .ref (n + 3)), (0, .ref t), (1, .ref a)]) hb dX2_init_2_65 (by rw [hN]; decide) rfl ?_
        refine z_aload_n hb dX2_init_2_66 rfl ?_
        refine z_get (k := 0) (C := RX2) (T := TX2) (N := 8) hb ho zc1 in_X2 (zf_RX2_12 _) dX2_init_2_67 k_255 (by decide) rfl ?_
        refine z_aload_n hb dX2_init_2_70 rfl ?_
        obtain ⟨m_258, hm_258⟩ := (hX00.kp (z_kp_up hT0 (by simp [z_lnk]) eh_247)).o
        refine z_dom (fun hD_262 => ?_)
        refine z_callQ1 (b' := (45 + (40 - j)) - 1) (f' := (1300 + 50 * (40 - j)) - 50) (rest := []) (av := [.ref n, .ref (ra j)]) (z_siteF hb ho zc20 hm_258 q475 zx4 q478 q480 q481 q479 q321 zxl4 dX2_init_2_71 : z_Site M _ _ _ _ _ ([.ref (ra j)].reverse ++ .ref n :: []) [] _) zk_J2_add q98 hrm (m_add hb0 (hX00.kp (z_kp_up hT0 (by simp [z_lnk]) eh_247)) (by omega) ((h9 j (by omega)).o.fr (z_frW hD0 (by omega) eh_247 hF0) (z_neO (h9 j (by omega)) ht9 rfl)) (Nat.ne_of_lt (Nat.lt_of_lt_of_le ((h9 j (by omega)).o.lt hD0) (by omega))) (fun i hi => ⟨(h9 i (by omega)).o.fr (z_frW hD0 (by omega) eh_247 hF0) (z_neO (h9 i (by omega)) ht9 rfl), Nat.ne_of_lt (Nat.lt_of_lt_of_le ((h9 i (by omega)).o.lt hD0) (by omega))⟩)) (by omega) (by decide) (Nat.le_of_ble_eq_true rfl) (by omega) (by omega) (fun rhq_259 h_260 n_261 hq_259 hn_261 => ?_)
        obtain ⟨rfl, hq_259⟩ := hq_259
        obtain ⟨e9x, hlx, he9, hfl⟩ := hq_259
        obtain ⟨m98, hlo8⟩ := (hX00.kp (z_kp_up hT0 (by simp [z_lnk]) eh_247)).o
        obtain ⟨N98, f98, har8⟩ := (hX00.kp (z_kp_up hT0 (by simp [z_lnk]) eh_247)).ar
        have hge : ∀ y, (y = n ∨ (y = e90 ∧ b0 ≤ y)) → n ≤ y := fun y z => by
          rcases z with z | z
          · omega
          · rcases hn0 with q1 | q1 <;> omega
        have k_263 : h_260 a = some (.inr (1, [.ref lr, .ref ls, .ref lv, .int (nI D), .int (w 2), .int (w 4), .int (w 5), .int (w 6)])) := hfl _ _ k_248 (fun z => absurd (hge _ z) (Nat.not_le.mpr (hD0 _ _ h1)))
        have k_264 : h_260 lr = some (.inr (20, [.int m0, .ref e0, .int (nI R)])) := hfl _ _ k_249 (fun z => absurd (hge _ z) (Nat.not_le.mpr (hD0 _ _ r1)))
        have k_265 : h_260 e0 = some (.inl ((zm_G M).2.1 5, N0, .inr (.inr (.inr (.inr f0))))) := hfl _ _ k_250 (fun z => absurd (hge _ z) (Nat.not_le.mpr (hD0 _ _ r2)))
        have k_266 : h_260 ls = some (.inr (20, [.int m9, .ref e, .int (nI S)])) := hfl _ _ k_251 (fun z => absurd (hge _ z) (Nat.not_le.mpr (hD0 _ _ h3)))
        have k_267 : h_260 e = some (.inl ((zm_G M).2.1 5, N, .inr (.inr (.inr (.inr f))))) := hfl _ _ k_252 (fun z => absurd (hge _ z) (Nat.not_le.mpr (hD0 _ _ h4)))
        have k_268 : h_260 lv = some (.inr (20, [.int mv, .ref ev, .int (nI S)])) := hfl _ _ k_253 (fun z => absurd (hge _ z) (Nat.not_le.mpr (hD0 _ _ v1)))
        have k_269 : h_260 ev = some (.inl ((zm_G M).2.1 5, Nv, .inr (.inr (.inr (.inr fv))))) := hfl _ _ k_254 (fun z => absurd (hge _ z) (Nat.not_le.mpr (hD0 _ _ v2)))
        have k_270 : h_260 t = some (.inr (1, [.ref n, .ref (n + 1), .ref (n + 2), .int (nI 0), .int (nI 0), .int (nI 0), .int (nI 0), .int (nI 0)])) := hfl _ _ k_255 (fun z => absurd (hge _ z) (Nat.not_le.mpr (hD0 _ _ ht9)))
        have k_271 : h_260 (n + 3) = some (.inr (24, [.int (nI (j + 1)), .int (nI j), .int m0, .ref lr])) := hfl _ _ (z_nxs eh_247) (fun z => z.elim (z_neO (z_nxs eh_247) hlo8 rfl) (fun z => z_neA (z_nxs eh_247) har8 z.1))
        have hn9 : e9x = ((zm_G M).2.2.1 1002) ∨ n ≤ e9x := he9.elim (fun q1 => by rw [q1]; exact hn0) (fun q1 => Or.inr (by omega))
        have hlz1 := (hX01.kp (z_kp_up hT0 (by simp [z_lnk]) eh_247)).nx (hX00.kp (z_kp_up hT0 (by simp [z_lnk]) eh_247)) hfl (by omega) (fun z => (hS01.1 z).symm)
        obtain ⟨Nz1, fz1, haz1⟩ := (hX01.kp (z_kp_up hT0 (by simp [z_lnk]) eh_247)).ar
        have hdz1 := hD_262 _ _ haz1
        have hs91 : (b0 ≤ e9x → e9x ≠ ((zm_G M).2.2.1 1002)) ∧ (b0 ≤ ((zm_G M).2.2.1 1002) → ((zm_G M).2.2.1 1002) ≠ e9x) := by
          rcases he9 with q1 | q1
          · rw [q1]; exact hS01
          · exact ⟨fun _ => by omega, fun _ => by omega⟩
        have hlz2 := (hX02.kp (z_kp_up hT0 (by simp [z_lnk]) eh_247)).nx (hX00.kp (z_kp_up hT0 (by simp [z_lnk]) eh_247)) hfl (by omega) (fun z => (hS02.1 z).symm)
        obtain ⟨Nz2, fz2, haz2⟩ := (hX02.kp (z_kp_up hT0 (by simp [z_lnk]) eh_247)).ar
        have hdz2 := hD_262 _ _ haz2
        have hs92 : (b0 ≤ e9x → e9x ≠ ((zm_G M).2.2.1 1002)) ∧ (b0 ≤ ((zm_G M).2.2.1 1002) → ((zm_G M).2.2.1 1002) ≠ e9x) := by
          rcases he9 with q1 | q1
          · rw [q1]; exact hS02
          · exact ⟨fun _ => by omega, fun _ => by omega⟩
        have hlc := hlx.cg (g' := ra) (fun j9 hj9 => by
          unfold va_up
          split
          · next z => rw [z]
          · rfl)
        refine z_pop hb dX2_init_2_76 rfl ?_
        refine z_goto (tgt := 47) hb dX2_init_2_77 (by decide) ?_
        refine z_lv [1, 2, 3] (lv' := [(2, .ref (n + 3)), (0, .ref t), (1, .ref a)]) rfl ?_
        exact z_bf (by omega) (by omega) (ih_47 (j + 1) _ n_261 h_260 e9x (by omega) (by omega) (by omega) (z_frL hD0 (z_frW hD0 (by omega) eh_247 hF0) hfl hge) k_270 k_271 hlc hlz1 hlz2 hn9 hs91 hs92)
  refine z_lv [0, 1, 2] (lv' := [(2, .ref (n + 3)), (0, .ref t), (1, .ref a)]) rfl ?_
  exact z_bf (by omega) (by omega) (lp_47 _ 0 (-1) (n + 4) h_104 ((zm_G M).2.2.1 1002) (Nat.lt_succ_self _) (Nat.zero_le _) (by omega) (((z_frW hD0 (by omega) eh_79 (((z_frW hD0 (by omega) eh_44 (((z_frW hD0 (by omega) eh_12 (z_exN z_ex_r hD_1 eh_2).fr).t (z_fr_up (P := fun y => y = t) rfl eh_22)).t (z_exN z_ex_r hD_32 eh_33).fr)).t (z_fr_up (P := fun y => y = t) rfl eh_55)).t (z_exN z_ex_r hD_66 eh_67).fr)).t (z_fr_up (P := fun y => y = t) rfl eh_91)).t (z_exN z_ex_r hD_103 eh_104).fr) k_116 (z_nxs eh_104) (hL0_0.kp (z_exN z_ex_r hD_103 eh_104).kp) (hL1_0.kp (z_exN z_ex_r hD_103 eh_104).kp) (hL2_0.kp (z_exN z_ex_r hD_103 eh_104).kp) (Or.inl rfl) ⟨fun z => absurd (Nat.lt_of_lt_of_le hE0 hb0) (Nat.not_lt.mpr z), fun z => absurd (Nat.lt_of_lt_of_le hE0 hb0) (Nat.not_lt.mpr z)⟩ ⟨fun z => absurd (Nat.lt_of_lt_of_le hE0 hb0) (Nat.not_lt.mpr z), fun z => absurd (Nat.lt_of_lt_of_le hE0 hb0) (Nat.not_lt.mpr z)⟩)

