set_option maxHeartbeats 1000000 in
theorem m_X2_addRow_now {l : Launch} {G : zG} {h : zH} {n : Nat} {b0 : Nat} {w : Nat → Int32} {v : Nat → Int64} {R S D a lr er ls es lv ev : Nat} {ra sa va na ba : Nat → Nat} {g c : Nat} (hDr : z_Dr G h b0 w v R S D a lr er ls es lv ev ra sa va na ba) (hb0 : z_n0 G ≤ b0) (hS8 : S ≤ 8) (hD6 : D ≤ 6) (hR40 : R < 40) (hg : g < 5) (hc9 : c ≤ 99) (hiW : z_inp w S) (hfrs : z_frs w v R S D) : z_C l G yX2_addRow 33 20 250 [.ref a, .int (nI (97 + g)), .int (nI D), .int (nI c)] h n (z_q1 (fun r9 h' n' => r9 = .int (w 2) ∧ z_DR G h' b0 (tw_nrow w R g D c) (tw_tt (tw_nrow w R g D c) (R + 1) D v S) (R + 1) S D a ∧ z_fb b0 h h')) := by
  refine z_start zk_X2_addRow zpl_RX2 (Nat.le_of_ble_eq_true rfl) ?_
  intro hn0 M hl hG ho hb hN hr hm hH hrm hQ
  subst hl hG
  have ho : zm_o M = RX2 := ho
  obtain ⟨⟨ha0, h1⟩, ⟨lr0, lr1, N0, m0, f0, r1, r2, r3, r4, r4b, r5⟩, ⟨ls0, ls1, N, m9, f, h3, h4, h5, h6, h6b, h7⟩, ⟨lv0, lv1, Nv, mv, fv, v1, v2, v3, v4, v4b, v5⟩, hne, hse, h9, hs, hvx, hi, hrI, hna, hba⟩ := id hDr
  have r4N := r4.le
  have h6N := h6.le
  have v4N := v4.le
  show z_V M h n 20 250 0 [(0, .ref a), (1, .int (nI (97 + g))), (2, .int (nI D)), (3, .int (nI c))] []
  refine z_dom (fun hD0 => ?_)
  refine z_iload_n hb dX2_addRow_0 rfl ?_
  refine z_call1 (b' := 19) (f' := 244) (rest := []) (av := [.int (nI (97 + g))]) (z_siteSN hb ho q1131 q1132 q94 ⟨_, _, _, _, zk_X1_groupNumber⟩ zy_X1_groupNumber zl_X1_groupNumber dX2_addRow_1 : z_Site M _ _ _ _ _ ([.int (nI (97 + g))].reverse ++ []) [] _) zk_X1_groupNumber q94 hrm (m_X1_groupNumber_ok hg) (by omega) (by decide) (Nat.le_of_ble_eq_true rfl) (by omega) (by omega) ?_
  refine z_istore (lv' := [(4, .int (nI g)), (0, .ref a), (1, .int (nI (97 + g))), (2, .int (nI D)), (3, .int (nI c))]) hb dX2_addRow_4 (by rw [hN]; decide) rfl ?_
  refine z_iload_n hb dX2_addRow_6 rfl ?_
  refine z_iconst (x := nI 0) hb dX2_addRow_7 (by decide) ?_
  refine z_bipush (x := nI 6) hb dX2_addRow_8 (by decide) ?_
  refine z_callC0 (b' := 18) (f' := 238) (rest := []) (av := [.int (nI D), .int (nI 0), .int (nI 6)]) (z_siteSN hb ho q1148 q1135 q94 ⟨_, _, _, _, zk_X1_requireRange⟩ zy_X1_requireRange zl_X1_requireRange dX2_addRow_10 : z_Site M _ _ _ _ _ ([.int (nI D), .int (nI 0), .int (nI 6)].reverse ++ []) [] _) zk_X1_requireRange q94 hrm (m_X1_requireRange (nI D) (nI 0) (nI 6)) (by omega) (by decide) (Nat.le_of_ble_eq_true rfl) (by omega) (by omega) (fun c_10 => ?_) (fun c_10 => ?_)
  · refine z_iload_n hb dX2_addRow_13 rfl ?_
    refine z_iconst (x := nI 0) hb dX2_addRow_14 (by decide) ?_
    refine z_bipush (x := nI 99) hb dX2_addRow_15 (by decide) ?_
    refine z_callC0 (b' := 17) (f' := 232) (rest := []) (av := [.int (nI c), .int (nI 0), .int (nI 99)]) (z_siteSN hb ho q1148 q1135 q94 ⟨_, _, _, _, zk_X1_requireRange⟩ zy_X1_requireRange zl_X1_requireRange dX2_addRow_17 : z_Site M _ _ _ _ _ ([.int (nI c), .int (nI 0), .int (nI 99)].reverse ++ []) [] _) zk_X1_requireRange q94 hrm (m_X1_requireRange (nI c) (nI 0) (nI 99)) (by omega) (by decide) (Nat.le_of_ble_eq_true rfl) (by omega) (by omega) (fun c_17 => ?_) (fun c_17 => ?_)
    · refine z_iload_n hb dX2_addRow_20 rfl ?_
      refine z_aload_n hb dX2_addRow_21 rfl ?_
      refine z_get (k := 3) (C := RX2) (T := TX2) (N := 8) hb ho zc1 in_X2 (zf_RX2_54 _) dX2_addRow_22 h1 (by decide) rfl ?_
      refine z_icmp_gtN (tgt := 32) hb dX2_addRow_25 (by decide) (by omega) (by omega) (fun c_25 => ?_) (fun c_25 => ?_)
      · exact absurd c_25 (by omega)
      · refine z_iconst (x := nI 1) hb dX2_addRow_28 (by decide) ?_
        refine z_goto (tgt := 33) hb dX2_addRow_29 (by decide) ?_
        refine z_iconst (x := nI 2) hb dX2_addRow_33 (by decide) ?_
        refine z_aload_n hb dX2_addRow_34 rfl ?_
        refine z_get (k := 3) (C := RX2) (T := TX2) (N := 8) hb ho zc1 in_X2 (zf_RX2_54 _) dX2_addRow_35 h1 (by decide) rfl ?_
        refine z_call0 (b' := 16) (f' := 224) (rest := []) (av := [.int (nI 1), .int (nI 2), .int (nI D)]) (z_siteSN hb ho q1149 q1150 q94 ⟨_, _, _, _, zk_X1_denyUnless⟩ zy_X1_denyUnless zl_X1_denyUnless dX2_addRow_38 : z_Site M _ _ _ _ _ ([.int (nI 1), .int (nI 2), .int (nI D)].reverse ++ []) [] _) zk_X1_denyUnless q94 hrm ((m_X1_denyUnless_t (nI 2) (nI D))) (by omega) (by decide) (Nat.le_of_ble_eq_true rfl) (by omega) (by omega) ?_
        refine z_aload_n hb dX2_addRow_41 rfl ?_
        refine z_get (k := 0) (C := RX2) (T := TX2) (N := 8) hb ho zc1 in_X2 (zf_RX2_12 _) dX2_addRow_42 h1 (by decide) rfl ?_
        refine z_call1 (b' := 16) (f' := 224) (rest := []) (av := [.ref lr]) (z_siteF hb ho zc20 r1 q1183 zx0 q322 q324 q325 q323 q321 zxl0 dX2_addRow_45 : z_Site M _ _ _ _ _ ([].reverse ++ .ref lr :: []) [] _) zk_J2_size q98 hrm (m_J2_size r1) (by omega) (by decide) (Nat.le_of_ble_eq_true rfl) (by omega) (by omega) ?_
        refine z_bipush (x := nI 40) hb dX2_addRow_50 (by decide) ?_
        refine z_icmp_geN (tgt := 59) hb dX2_addRow_52 (by decide) (by omega) (by omega) (fun c_52 => ?_) (fun c_52 => ?_)
        · exact absurd c_52 (by omega)
        · refine z_iconst (x := nI 1) hb dX2_addRow_55 (by decide) ?_
          refine z_goto (tgt := 60) hb dX2_addRow_56 (by decide) ?_
          refine z_iconst (x := nI 1) hb dX2_addRow_60 (by decide) ?_
          refine z_bipush (x := nI 40) hb dX2_addRow_61 (by decide) ?_
          refine z_call0 (b' := 15) (f' := 216) (rest := []) (av := [.int (nI 1), .int (nI 1), .int (nI 40)]) (z_siteSN hb ho q1149 q1150 q94 ⟨_, _, _, _, zk_X1_denyUnless⟩ zy_X1_denyUnless zl_X1_denyUnless dX2_addRow_63 : z_Site M _ _ _ _ _ ([.int (nI 1), .int (nI 1), .int (nI 40)].reverse ++ []) [] _) zk_X1_denyUnless q94 hrm ((m_X1_denyUnless_t (nI 1) (nI 40))) (by omega) (by decide) (Nat.le_of_ble_eq_true rfl) (by omega) (by omega) ?_
          refine z_dom (fun hD_1 => ?_)
          refine z_new (N0 := 4) (b' := 14) (f' := 212) (fs := [.int (nI 0), .int (nI 0), .int (nI 0), .int (nI 0)]) (C := RX7) (T := TX7) (N := 4) hb ho zc6 in_X7 tyX7_ok q473 q1184 q122 dX2_addRow_66 (zdf_X7) (by omega) (by omega) ?_
          refine z_hn (fun h_2 eh_2 => ?_)
          have eh_2 : h_2 = z_up h n (.inr (6, [.int (nI 0), .int (nI 0), .int (nI 0), .int (nI 0)])) := eh_2
          have k_3 : h_2 a = some (.inr (1, [.ref lr, .ref ls, .ref lv, .int (nI D), .int (w 2), .int (w 4), .int (w 5), .int (w 6)])) := z_nx eh_2 (Nat.ne_of_lt (hD_1 _ _ h1)) h1
          have k_4 : h_2 lr = some (.inr (20, [.int m0, .ref er, .int (nI R)])) := z_nx eh_2 (Nat.ne_of_lt (hD_1 _ _ r1)) r1
          have k_5 : h_2 er = some (.inl ((zm_G M).2.1 5, N0, .inr (.inr (.inr (.inr f0))))) := z_nx eh_2 (Nat.ne_of_lt (hD_1 _ _ r2)) r2
          have k_6 : h_2 ls = some (.inr (20, [.int m9, .ref es, .int (nI S)])) := z_nx eh_2 (Nat.ne_of_lt (hD_1 _ _ h3)) h3
          have k_7 : h_2 es = some (.inl ((zm_G M).2.1 5, N, .inr (.inr (.inr (.inr f))))) := z_nx eh_2 (Nat.ne_of_lt (hD_1 _ _ h4)) h4
          have k_8 : h_2 lv = some (.inr (20, [.int mv, .ref ev, .int (nI S)])) := z_nx eh_2 (Nat.ne_of_lt (hD_1 _ _ v1)) v1
          have k_9 : h_2 ev = some (.inl ((zm_G M).2.1 5, Nv, .inr (.inr (.inr (.inr fv))))) := z_nx eh_2 (Nat.ne_of_lt (hD_1 _ _ v2)) v2
          refine z_dup hb dX2_addRow_69 rfl ?_
          refine z_aload_n hb dX2_addRow_70 rfl ?_
          refine z_get (k := 4) (C := RX2) (T := TX2) (N := 8) hb ho zc1 in_X2 (zf_RX2_58 _) dX2_addRow_71 k_3 (by decide) rfl ?_
          refine z_iload_n hb dX2_addRow_74 rfl ?_
          refine z_iload hb dX2_addRow_75 rfl ?_
          refine z_iload_n hb dX2_addRow_77 rfl ?_
          refine z_call0 (b' := 14) (f' := 212) (rest := [.ref n]) (av := [.ref n, .int (w 2), .int (nI D), .int (nI g), .int (nI c)]) (z_siteI hb ho q1185 q1186 q1187 rfl zy_X7_init zl_X7_init dX2_addRow_78 : z_Site M _ _ _ _ _ ([.int (w 2), .int (nI D), .int (nI g), .int (nI c)].reverse ++ .ref n :: [.ref n]) [.ref n] _) zk_X7_init q122 hrm (m_X7_init (w 2) (nI D) (nI g) (nI c) (z_nxs eh_2) (by omega)) (by omega) (by decide) (Nat.le_of_ble_eq_true rfl) (by omega) (by omega) ?_
          refine z_hn (fun h_10 eh_10 => ?_)
          have eh_10 : h_10 = z_up h_2 n (.inr (6, [.int (w 2), .int (nI D), .int (nI g), .int (nI c)])) := eh_10
          have k_11 : h_10 a = some (.inr (1, [.ref lr, .ref ls, .ref lv, .int (nI D), .int (w 2), .int (w 4), .int (w 5), .int (w 6)])) := z_nx eh_10 (Nat.ne_of_lt (hD_1 _ _ h1)) k_3
          have k_12 : h_10 lr = some (.inr (20, [.int m0, .ref er, .int (nI R)])) := z_nx eh_10 (Nat.ne_of_lt (hD_1 _ _ r1)) k_4
          have k_13 : h_10 er = some (.inl ((zm_G M).2.1 5, N0, .inr (.inr (.inr (.inr f0))))) := z_nx eh_10 (Nat.ne_of_lt (hD_1 _ _ r2)) k_5
          have k_14 : h_10 ls = some (.inr (20, [.int m9, .ref es, .int (nI S)])) := z_nx eh_10 (Nat.ne_of_lt (hD_1 _ _ h3)) k_6
          have k_15 : h_10 es = some (.inl ((zm_G M).2.1 5, N, .inr (.inr (.inr (.inr f))))) := z_nx eh_10 (Nat.ne_of_lt (hD_1 _ _ h4)) k_7
          have k_16 : h_10 lv = some (.inr (20, [.int mv, .ref ev, .int (nI S)])) := z_nx eh_10 (Nat.ne_of_lt (hD_1 _ _ v1)) k_8
          have k_17 : h_10 ev = some (.inl ((zm_G M).2.1 5, Nv, .inr (.inr (.inr (.inr fv))))) := z_nx eh_10 (Nat.ne_of_lt (hD_1 _ _ v2)) k_9
          have e_18 := eh_10
          rw [eh_2, z_up_up] at e_18
          refine z_astore (lv' := [(5, .ref n), (4, .int (nI g)), (0, .ref a), (1, .int (nI (97 + g))), (2, .int (nI D)), (3, .int (nI c))]) hb dX2_addRow_81 (by rw [hN]; decide) rfl ?_
          refine z_aload_n hb dX2_addRow_83 rfl ?_
          refine z_get (k := 0) (C := RX2) (T := TX2) (N := 8) hb ho zc1 in_X2 (zf_RX2_12 _) dX2_addRow_84 k_11 (by decide) rfl ?_
          refine z_aload hb dX2_addRow_87 rfl ?_
          refine z_dom (fun hD_22 => ?_)
          refine z_callQ1 (b' := 13) (f' := 162) (rest := []) (av := [.ref lr, .ref n]) (z_siteF hb ho zc20 k_12 q475 zx4 q478 q480 q481 q479 q321 zxl4 dX2_addRow_89 : z_Site M _ _ _ _ _ ([.ref n].reverse ++ .ref lr :: []) [] _) zk_J2_add q98 hrm (m_add hb0 (hDr.kp (z_exN z_ex_r hD_1 e_18).kp).2.1 (by omega) ⟨6, _, _, (z_nxs eh_10), zc6, q3315⟩ (z_neO (z_nxs eh_10) k_12 rfl) (fun j hj => ⟨((hDr.kp (z_exN z_ex_r hD_1 e_18).kp).2.2.2.2.2.2.1 j hj).o, z_neO ((hDr.kp (z_exN z_ex_r hD_1 e_18).kp).2.2.2.2.2.2.1 j hj) k_12 rfl⟩)) (by omega) (by decide) (Nat.le_of_ble_eq_true rfl) (by omega) (by omega) (fun rhq_19 h_20 n_21 hq_19 hn_21 => ?_)
          obtain ⟨rfl, hq_19⟩ := hq_19
          obtain ⟨er2, hlx, her, hfl⟩ := hq_19
          have k_23 : h_20 a = some (.inr (1, [.ref lr, .ref ls, .ref lv, .int (nI D), .int (w 2), .int (w 4), .int (w 5), .int (w 6)])) := hfl _ _ k_11 (fun z => z.elim (z_neO k_11 k_12 rfl) (fun z => z_neA k_11 k_13 z.1))
          have k_24 : h_20 n = some (.inr (6, [.int (w 2), .int (nI D), .int (nI g), .int (nI c)])) := hfl _ _ (z_nxs eh_10) (fun z => z.elim (z_neO (z_nxs eh_10) k_12 rfl) (fun z => z_neA (z_nxs eh_10) k_13 z.1))
          have hq_25 := z_Dr.addR (d := D) (g := g) (c := c) (hDr.kp (z_exN z_ex_r hD_1 e_18).kp) hR40 hD_22 (z_nxs eh_10) (fun p hp => Nat.ne_of_lt (hD0 _ _ (h9 p hp))) hlx her hfl
          refine z_pop hb dX2_addRow_94 rfl ?_
          refine z_aload_n hb dX2_addRow_95 rfl ?_
          refine z_dup hb dX2_addRow_96 rfl ?_
          refine z_get (k := 4) (C := RX2) (T := TX2) (N := 8) hb ho zc1 in_X2 (zf_RX2_58 _) dX2_addRow_97 k_23 (by decide) rfl ?_
          refine z_iconst (x := nI 1) hb dX2_addRow_100 (by decide) ?_
          refine z_iadd hb dX2_addRow_101 ?_
          refine z_put (k := 4) (C := RX2) (T := TX2) (N := 8) hb ho zc1 in_X2 tyX2_ok nmX2 (zf_RX2_58 _) dX2_addRow_102 k_23 (Nat.le_trans hb0 ha0) (by decide) (Or.inl rfl) rfl rfl rfl (Nat.le_of_ble_eq_true rfl) ?_
          refine z_hn (fun h_26 eh_26 => ?_)
          have eh_26 : h_26 = z_up h_20 a (.inr (1, [.ref lr, .ref ls, .ref lv, .int (nI D), .int ((w 2) + (nI 1)), .int (w 4), .int (w 5), .int (w 6)])) := eh_26
          have k_27 : h_26 n = some (.inr (6, [.int (w 2), .int (nI D), .int (nI g), .int (nI c)])) := z_nx eh_26 (Nat.ne_of_gt (hD_1 _ _ h1)) k_24
          have hq_28 := hq_25.fld (h2 := h_26) (w' := tw_nrow w R g D c) (by omega) hS8 (fun j hj => (va_upn (by omega)).symm) (by rw [eh_26, show tw_nrow w R g D c 2 = w 2 + nI 1 from va_ups, tw_nrow_at (by omega) (by omega) (by omega), tw_nrow_at (by omega) (by omega) (by omega), tw_nrow_at (by omega) (by omega) (by omega)])
          refine z_aload_n hb dX2_addRow_105 rfl ?_
          refine z_aload hb dX2_addRow_106 rfl ?_
          refine z_iconst (x := nI 1) hb dX2_addRow_108 (by decide) ?_
          refine z_callQ0 (b' := 2) (f' := 116) (rest := []) (av := [.ref a, .ref n, .int (nI 1)]) (z_siteV hb ho zc1 (z_nxs eh_26) q1219 q1221 qs8 ⟨_, _, _, _, zk_X2_follow⟩ zy_X2_follow zl_X2_follow dX2_addRow_109 : z_Site M _ _ _ _ _ ([.ref n, .int (nI 1)].reverse ++ .ref a :: []) [] _) zk_X2_follow q95 hrm (m_X2_follow_now hq_28 hb0 (by omega) hS8 hD6 k_27 hg) (by omega) (by decide) (Nat.le_of_ble_eq_true rfl) (by omega) (by omega) (fun h_30 n_31 hq_29 hn_31 => ?_)
          have k_32 : h_30 n = some (.inr (6, [.int (w 2), .int (nI D), .int (nI g), .int (nI c)])) := hq_29.2 _ _ k_27 (fun z => z.elim (z_neO k_27 (z_nxs eh_26) rfl) (hq_28.nO k_27))
          refine z_aload hb dX2_addRow_112 rfl ?_
          refine z_get (k := 0) (C := RX7) (T := TX7) (N := 4) hb ho zc6 in_X7 (zf_RX2_111 _) dX2_addRow_114 k_32 (by decide) rfl ?_
          refine z_iret hb hr dX2_addRow_117 ?_
          rw [hQ]
          exact ⟨_, rfl, rfl, (hq_29.1.cg (by omega) hS8 (fun _ _ _ => rfl) (fun k hk d hd => ⟨rfl, fun g' hg' => z_cr_tt hiW (by omega) hg (z_rch_new hR40 (by omega) hg) (z_hof_new hR40 hc9) hfrs k hk d hd g' hg'⟩)).dr, ((((z_exN z_ex_r hD_1 e_18).fb.t (z_fbL1 k_12 k_13 r4N.2 lr0 hfl)).t (z_fb_up k_23 (Or.inl rfl) ha0 eh_26)).t (hq_28.cfb hq_29.2))⟩
    · exact absurd c_17 (by rw [show decide (nI 0 ≤ nI c ∧ nI c ≤ nI 99) = true from z_inN (by omega) (by omega) (by omega)]; exact Bool.noConfusion)
  · exact absurd c_10 (by rw [show decide (nI 0 ≤ nI D ∧ nI D ≤ nI 6) = true from z_inN (by omega) (by omega) (by omega)]; exact Bool.noConfusion)

set_option maxHeartbeats 1000000 in
theorem m_X2_addRow_past {l : Launch} {G : zG} {h : zH} {n : Nat} {b0 : Nat} {w : Nat → Int32} {v : Nat → Int64} {R S D a lr er ls es lv ev : Nat} {ra sa va na ba : Nat → Nat} {g c d : Nat} (hDr : z_Dr G h b0 w v R S D a lr er ls es lv ev ra sa va na ba) (hb0 : z_n0 G ≤ b0) (hS8 : S ≤ 8) (hD6 : D ≤ 6) (hR40 : R < 40) (hg : g < 5) (hc9 : c ≤ 99) (hiW : z_inp w S) (hdD : d < D) : z_C l G yX2_addRow 33 20 250 [.ref a, .int (nI (97 + g)), .int (nI d), .int (nI c)] h n (z_q1 (fun r9 h' n' => r9 = .int (w 2) ∧ z_DR G h' b0 (tw_sp (va_up (tw_nrow w R g d c) 5 ((tw_nrow w R g d c) 5 + nI 1)) d D S) v (R + 1) S D a ∧ z_fb b0 h h')) := by
  refine z_start zk_X2_addRow zpl_RX2 (Nat.le_of_ble_eq_true rfl) ?_
  intro hn0 M hl hG ho hb hN hr hm hH hrm hQ
  subst hl hG
  have ho : zm_o M = RX2 := ho
  obtain ⟨⟨ha0, h1⟩, ⟨lr0, lr1, N0, m0, f0, r1, r2, r3, r4, r4b, r5⟩, ⟨ls0, ls1, N, m9, f, h3, h4, h5, h6, h6b, h7⟩, ⟨lv0, lv1, Nv, mv, fv, v1, v2, v3, v4, v4b, v5⟩, hne, hse, h9, hs, hvx, hi, hrI, hna, hba⟩ := id hDr
  have r4N := r4.le
  have h6N := h6.le
  have v4N := v4.le
  show z_V M h n 20 250 0 [(0, .ref a), (1, .int (nI (97 + g))), (2, .int (nI d)), (3, .int (nI c))] []
  refine z_dom (fun hD0 => ?_)
  refine z_iload_n hb dX2_addRow_0 rfl ?_
  refine z_call1 (b' := 19) (f' := 244) (rest := []) (av := [.int (nI (97 + g))]) (z_siteSN hb ho q1131 q1132 q94 ⟨_, _, _, _, zk_X1_groupNumber⟩ zy_X1_groupNumber zl_X1_groupNumber dX2_addRow_1 : z_Site M _ _ _ _ _ ([.int (nI (97 + g))].reverse ++ []) [] _) zk_X1_groupNumber q94 hrm (m_X1_groupNumber_ok hg) (by omega) (by decide) (Nat.le_of_ble_eq_true rfl) (by omega) (by omega) ?_
  refine z_istore (lv' := [(4, .int (nI g)), (0, .ref a), (1, .int (nI (97 + g))), (2, .int (nI d)), (3, .int (nI c))]) hb dX2_addRow_4 (by rw [hN]; decide) rfl ?_
  refine z_iload_n hb dX2_addRow_6 rfl ?_
  refine z_iconst (x := nI 0) hb dX2_addRow_7 (by decide) ?_
  refine z_bipush (x := nI 6) hb dX2_addRow_8 (by decide) ?_
  refine z_callC0 (b' := 18) (f' := 238) (rest := []) (av := [.int (nI d), .int (nI 0), .int (nI 6)]) (z_siteSN hb ho q1148 q1135 q94 ⟨_, _, _, _, zk_X1_requireRange⟩ zy_X1_requireRange zl_X1_requireRange dX2_addRow_10 : z_Site M _ _ _ _ _ ([.int (nI d), .int (nI 0), .int (nI 6)].reverse ++ []) [] _) zk_X1_requireRange q94 hrm (m_X1_requireRange (nI d) (nI 0) (nI 6)) (by omega) (by decide) (Nat.le_of_ble_eq_true rfl) (by omega) (by omega) (fun c_10 => ?_) (fun c_10 => ?_)
  · refine z_iload_n hb dX2_addRow_13 rfl ?_
    refine z_iconst (x := nI 0) hb dX2_addRow_14 (by decide) ?_
    refine z_bipush (x := nI 99) hb dX2_addRow_15 (by decide) ?_
    refine z_callC0 (b' := 17) (f' := 232) (rest := []) (av := [.int (nI c), .int (nI 0), .int (nI 99)]) (z_siteSN hb ho q1148 q1135 q94 ⟨_, _, _, _, zk_X1_requireRange⟩ zy_X1_requireRange zl_X1_requireRange dX2_addRow_17 : z_Site M _ _ _ _ _ ([.int (nI c), .int (nI 0), .int (nI 99)].reverse ++ []) [] _) zk_X1_requireRange q94 hrm (m_X1_requireRange (nI c) (nI 0) (nI 99)) (by omega) (by decide) (Nat.le_of_ble_eq_true rfl) (by omega) (by omega) (fun c_17 => ?_) (fun c_17 => ?_)
    · refine z_iload_n hb dX2_addRow_20 rfl ?_
      refine z_aload_n hb dX2_addRow_21 rfl ?_
      refine z_get (k := 3) (C := RX2) (T := TX2) (N := 8) hb ho zc1 in_X2 (zf_RX2_54 _) dX2_addRow_22 h1 (by decide) rfl ?_
      refine z_icmp_gtN (tgt := 32) hb dX2_addRow_25 (by decide) (by omega) (by omega) (fun c_25 => ?_) (fun c_25 => ?_)
      · exact absurd c_25 (by omega)
      · refine z_iconst (x := nI 1) hb dX2_addRow_28 (by decide) ?_
        refine z_goto (tgt := 33) hb dX2_addRow_29 (by decide) ?_
        refine z_iconst (x := nI 2) hb dX2_addRow_33 (by decide) ?_
        refine z_aload_n hb dX2_addRow_34 rfl ?_
        refine z_get (k := 3) (C := RX2) (T := TX2) (N := 8) hb ho zc1 in_X2 (zf_RX2_54 _) dX2_addRow_35 h1 (by decide) rfl ?_
        refine z_call0 (b' := 16) (f' := 224) (rest := []) (av := [.int (nI 1), .int (nI 2), .int (nI D)]) (z_siteSN hb ho q1149 q1150 q94 ⟨_, _, _, _, zk_X1_denyUnless⟩ zy_X1_denyUnless zl_X1_denyUnless dX2_addRow_38 : z_Site M _ _ _ _ _ ([.int (nI 1), .int (nI 2), .int (nI D)].reverse ++ []) [] _) zk_X1_denyUnless q94 hrm ((m_X1_denyUnless_t (nI 2) (nI D))) (by omega) (by decide) (Nat.le_of_ble_eq_true rfl) (by omega) (by omega) ?_
        refine z_aload_n hb dX2_addRow_41 rfl ?_
        refine z_get (k := 0) (C := RX2) (T := TX2) (N := 8) hb ho zc1 in_X2 (zf_RX2_12 _) dX2_addRow_42 h1 (by decide) rfl ?_
        refine z_call1 (b' := 16) (f' := 224) (rest := []) (av := [.ref lr]) (z_siteF hb ho zc20 r1 q1183 zx0 q322 q324 q325 q323 q321 zxl0 dX2_addRow_45 : z_Site M _ _ _ _ _ ([].reverse ++ .ref lr :: []) [] _) zk_J2_size q98 hrm (m_J2_size r1) (by omega) (by decide) (Nat.le_of_ble_eq_true rfl) (by omega) (by omega) ?_
        refine z_bipush (x := nI 40) hb dX2_addRow_50 (by decide) ?_
        refine z_icmp_geN (tgt := 59) hb dX2_addRow_52 (by decide) (by omega) (by omega) (fun c_52 => ?_) (fun c_52 => ?_)
        · exact absurd c_52 (by omega)
        · refine z_iconst (x := nI 1) hb dX2_addRow_55 (by decide) ?_
          refine z_goto (tgt := 60) hb dX2_addRow_56 (by decide) ?_
          refine z_iconst (x := nI 1) hb dX2_addRow_60 (by decide) ?_
          refine z_bipush (x := nI 40) hb dX2_addRow_61 (by decide) ?_
          refine z_call0 (b' := 15) (f' := 216) (rest := []) (av := [.int (nI 1), .int (nI 1), .int (nI 40)]) (z_siteSN hb ho q1149 q1150 q94 ⟨_, _, _, _, zk_X1_denyUnless⟩ zy_X1_denyUnless zl_X1_denyUnless dX2_addRow_63 : z_Site M _ _ _ _ _ ([.int (nI 1), .int (nI 1), .int (nI 40)].reverse ++ []) [] _) zk_X1_denyUnless q94 hrm ((m_X1_denyUnless_t (nI 1) (nI 40))) (by omega) (by decide) (Nat.le_of_ble_eq_true rfl) (by omega) (by omega) ?_
          refine z_dom (fun hD_1 => ?_)
          refine z_new (N0 := 4) (b' := 14) (f' := 212) (fs := [.int (nI 0), .int (nI 0), .int (nI 0), .int (nI 0)]) (C := RX7) (T := TX7) (N := 4) hb ho zc6 in_X7 tyX7_ok q473 q1184 q122 dX2_addRow_66 (zdf_X7) (by omega) (by omega) ?_
          refine z_hn (fun h_2 eh_2 => ?_)
          have eh_2 : h_2 = z_up h n (.inr (6, [.int (nI 0), .int (nI 0), .int (nI 0), .int (nI 0)])) := eh_2
          have k_3 : h_2 a = some (.inr (1, [.ref lr, .ref ls, .ref lv, .int (nI D), .int (w 2), .int (w 4), .int (w 5), .int (w 6)])) := z_nx eh_2 (Nat.ne_of_lt (hD_1 _ _ h1)) h1
          have k_4 : h_2 lr = some (.inr (20, [.int m0, .ref er, .int (nI R)])) := z_nx eh_2 (Nat.ne_of_lt (hD_1 _ _ r1)) r1
          have k_5 : h_2 er = some (.inl ((zm_G M).2.1 5, N0, .inr (.inr (.inr (.inr f0))))) := z_nx eh_2 (Nat.ne_of_lt (hD_1 _ _ r2)) r2
          have k_6 : h_2 ls = some (.inr (20, [.int m9, .ref es, .int (nI S)])) := z_nx eh_2 (Nat.ne_of_lt (hD_1 _ _ h3)) h3
          have k_7 : h_2 es = some (.inl ((zm_G M).2.1 5, N, .inr (.inr (.inr (.inr f))))) := z_nx eh_2 (Nat.ne_of_lt (hD_1 _ _ h4)) h4
          have k_8 : h_2 lv = some (.inr (20, [.int mv, .ref ev, .int (nI S)])) := z_nx eh_2 (Nat.ne_of_lt (hD_1 _ _ v1)) v1
          have k_9 : h_2 ev = some (.inl ((zm_G M).2.1 5, Nv, .inr (.inr (.inr (.inr fv))))) := z_nx eh_2 (Nat.ne_of_lt (hD_1 _ _ v2)) v2
          refine z_dup hb dX2_addRow_69 rfl ?_
          refine z_aload_n hb dX2_addRow_70 rfl ?_
          refine z_get (k := 4) (C := RX2) (T := TX2) (N := 8) hb ho zc1 in_X2 (zf_RX2_58 _) dX2_addRow_71 k_3 (by decide) rfl ?_
          refine z_iload_n hb dX2_addRow_74 rfl ?_
          refine z_iload hb dX2_addRow_75 rfl ?_
          refine z_iload_n hb dX2_addRow_77 rfl ?_
          refine z_call0 (b' := 14) (f' := 212) (rest := [.ref n]) (av := [.ref n, .int (w 2), .int (nI d), .int (nI g), .int (nI c)]) (z_siteI hb ho q1185 q1186 q1187 rfl zy_X7_init zl_X7_init dX2_addRow_78 : z_Site M _ _ _ _ _ ([.int (w 2), .int (nI d), .int (nI g), .int (nI c)].reverse ++ .ref n :: [.ref n]) [.ref n] _) zk_X7_init q122 hrm (m_X7_init (w 2) (nI d) (nI g) (nI c) (z_nxs eh_2) (by omega)) (by omega) (by decide) (Nat.le_of_ble_eq_true rfl) (by omega) (by omega) ?_
          refine z_hn (fun h_10 eh_10 => ?_)
          have eh_10 : h_10 = z_up h_2 n (.inr (6, [.int (w 2), .int (nI d), .int (nI g), .int (nI c)])) := eh_10
          have k_11 : h_10 a = some (.inr (1, [.ref lr, .ref ls, .ref lv, .int (nI D), .int (w 2), .int (w 4), .int (w 5), .int (w 6)])) := z_nx eh_10 (Nat.ne_of_lt (hD_1 _ _ h1)) k_3
          have k_12 : h_10 lr = some (.inr (20, [.int m0, .ref er, .int (nI R)])) := z_nx eh_10 (Nat.ne_of_lt (hD_1 _ _ r1)) k_4
          have k_13 : h_10 er = some (.inl ((zm_G M).2.1 5, N0, .inr (.inr (.inr (.inr f0))))) := z_nx eh_10 (Nat.ne_of_lt (hD_1 _ _ r2)) k_5
          have k_14 : h_10 ls = some (.inr (20, [.int m9, .ref es, .int (nI S)])) := z_nx eh_10 (Nat.ne_of_lt (hD_1 _ _ h3)) k_6
          have k_15 : h_10 es = some (.inl ((zm_G M).2.1 5, N, .inr (.inr (.inr (.inr f))))) := z_nx eh_10 (Nat.ne_of_lt (hD_1 _ _ h4)) k_7
          have k_16 : h_10 lv = some (.inr (20, [.int mv, .ref ev, .int (nI S)])) := z_nx eh_10 (Nat.ne_of_lt (hD_1 _ _ v1)) k_8
          have k_17 : h_10 ev = some (.inl ((zm_G M).2.1 5, Nv, .inr (.inr (.inr (.inr fv))))) := z_nx eh_10 (Nat.ne_of_lt (hD_1 _ _ v2)) k_9
          have e_18 := eh_10
          rw [eh_2, z_up_up] at e_18
          refine z_astore (lv' := [(5, .ref n), (4, .int (nI g)), (0, .ref a), (1, .int (nI (97 + g))), (2, .int (nI d)), (3, .int (nI c))]) hb dX2_addRow_81 (by rw [hN]; decide) rfl ?_
          refine z_aload_n hb dX2_addRow_83 rfl ?_
          refine z_get (k := 0) (C := RX2) (T := TX2) (N := 8) hb ho zc1 in_X2 (zf_RX2_12 _) dX2_addRow_84 k_11 (by decide) rfl ?_
          refine z_aload hb dX2_addRow_87 rfl ?_
          refine z_dom (fun hD_22 => ?_)
          refine z_callQ1 (b' := 13) (f' := 162) (rest := []) (av := [.ref lr, .ref n]) (z_siteF hb ho zc20 k_12 q475 zx4 q478 q480 q481 q479 q321 zxl4 dX2_addRow_89 : z_Site M _ _ _ _ _ ([.ref n].reverse ++ .ref lr :: []) [] _) zk_J2_add q98 hrm (m_add hb0 (hDr.kp (z_exN z_ex_r hD_1 e_18).kp).2.1 (by omega) ⟨6, _, _, (z_nxs eh_10), zc6, q3315⟩ (z_neO (z_nxs eh_10) k_12 rfl) (fun j hj => ⟨((hDr.kp (z_exN z_ex_r hD_1 e_18).kp).2.2.2.2.2.2.1 j hj).o, z_neO ((hDr.kp (z_exN z_ex_r hD_1 e_18).kp).2.2.2.2.2.2.1 j hj) k_12 rfl⟩)) (by omega) (by decide) (Nat.le_of_ble_eq_true rfl) (by omega) (by omega) (fun rhq_19 h_20 n_21 hq_19 hn_21 => ?_)
          obtain ⟨rfl, hq_19⟩ := hq_19
          obtain ⟨er2, hlx, her, hfl⟩ := hq_19
          have k_23 : h_20 a = some (.inr (1, [.ref lr, .ref ls, .ref lv, .int (nI D), .int (w 2), .int (w 4), .int (w 5), .int (w 6)])) := hfl _ _ k_11 (fun z => z.elim (z_neO k_11 k_12 rfl) (fun z => z_neA k_11 k_13 z.1))
          have k_24 : h_20 n = some (.inr (6, [.int (w 2), .int (nI d), .int (nI g), .int (nI c)])) := hfl _ _ (z_nxs eh_10) (fun z => z.elim (z_neO (z_nxs eh_10) k_12 rfl) (fun z => z_neA (z_nxs eh_10) k_13 z.1))
          have hq_25 := z_Dr.addR (d := d) (g := g) (c := c) (hDr.kp (z_exN z_ex_r hD_1 e_18).kp) hR40 hD_22 (z_nxs eh_10) (fun p hp => Nat.ne_of_lt (hD0 _ _ (h9 p hp))) hlx her hfl
          refine z_pop hb dX2_addRow_94 rfl ?_
          refine z_aload_n hb dX2_addRow_95 rfl ?_
          refine z_dup hb dX2_addRow_96 rfl ?_
          refine z_get (k := 4) (C := RX2) (T := TX2) (N := 8) hb ho zc1 in_X2 (zf_RX2_58 _) dX2_addRow_97 k_23 (by decide) rfl ?_
          refine z_iconst (x := nI 1) hb dX2_addRow_100 (by decide) ?_
          refine z_iadd hb dX2_addRow_101 ?_
          refine z_put (k := 4) (C := RX2) (T := TX2) (N := 8) hb ho zc1 in_X2 tyX2_ok nmX2 (zf_RX2_58 _) dX2_addRow_102 k_23 (Nat.le_trans hb0 ha0) (by decide) (Or.inl rfl) rfl rfl rfl (Nat.le_of_ble_eq_true rfl) ?_
          refine z_hn (fun h_26 eh_26 => ?_)
          have eh_26 : h_26 = z_up h_20 a (.inr (1, [.ref lr, .ref ls, .ref lv, .int (nI D), .int ((w 2) + (nI 1)), .int (w 4), .int (w 5), .int (w 6)])) := eh_26
          have k_27 : h_26 n = some (.inr (6, [.int (w 2), .int (nI d), .int (nI g), .int (nI c)])) := z_nx eh_26 (Nat.ne_of_gt (hD_1 _ _ h1)) k_24
          have hq_28 := hq_25.fld (h2 := h_26) (w' := tw_nrow w R g d c) (by omega) hS8 (fun j hj => (va_upn (by omega)).symm) (by rw [eh_26, show tw_nrow w R g d c 2 = w 2 + nI 1 from va_ups, tw_nrow_at (by omega) (by omega) (by omega), tw_nrow_at (by omega) (by omega) (by omega), tw_nrow_at (by omega) (by omega) (by omega)])
          refine z_aload_n hb dX2_addRow_105 rfl ?_
          refine z_aload hb dX2_addRow_106 rfl ?_
          refine z_iconst (x := nI 1) hb dX2_addRow_108 (by decide) ?_
          refine z_callQ0 (b' := 2) (f' := 116) (rest := []) (av := [.ref a, .ref n, .int (nI 1)]) (z_siteV hb ho zc1 (z_nxs eh_26) q1219 q1221 qs8 ⟨_, _, _, _, zk_X2_follow⟩ zy_X2_follow zl_X2_follow dX2_addRow_109 : z_Site M _ _ _ _ _ ([.ref n, .int (nI 1)].reverse ++ .ref a :: []) [] _) zk_X2_follow q95 hrm (m_X2_follow_past hq_28 hb0 (by omega) hS8 hD6 k_27 hdD (hiW.congr fun k hk => (fun o ho => (tw_nrow_at (by omega) (by omega) (by omega)).symm))) (by omega) (by decide) (Nat.le_of_ble_eq_true rfl) (by omega) (by omega) (fun h_30 n_31 hq_29 hn_31 => ?_)
          have k_32 : h_30 n = some (.inr (6, [.int (w 2), .int (nI d), .int (nI g), .int (nI c)])) := hq_29.2 _ _ k_27 (fun z => z.elim (z_neO k_27 (z_nxs eh_26) rfl) (hq_28.nO k_27))
          refine z_aload hb dX2_addRow_112 rfl ?_
          refine z_get (k := 0) (C := RX7) (T := TX7) (N := 4) hb ho zc6 in_X7 (zf_RX2_111 _) dX2_addRow_114 k_32 (by decide) rfl ?_
          refine z_iret hb hr dX2_addRow_117 ?_
          rw [hQ]
          exact ⟨_, rfl, rfl, hq_29.1.dr, ((((z_exN z_ex_r hD_1 e_18).fb.t (z_fbL1 k_12 k_13 r4N.2 lr0 hfl)).t (z_fb_up k_23 (Or.inl rfl) ha0 eh_26)).t (hq_28.cfb hq_29.2))⟩
    · exact absurd c_17 (by rw [show decide (nI 0 ≤ nI c ∧ nI c ≤ nI 99) = true from z_inN (by omega) (by omega) (by omega)]; exact Bool.noConfusion)
  · exact absurd c_10 (by rw [show decide (nI 0 ≤ nI d ∧ nI d ≤ nI 6) = true from z_inN (by omega) (by omega) (by omega)]; exact Bool.noConfusion)

