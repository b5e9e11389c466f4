theorem z_bg_fin {G : zG} {h : zH} {b0 : Nat} {w : Nat → Int32} {v : Nat → Int64} {R S D a lr er ls es lv ev : Nat} {ra sa va na ba : Nat → Nat} {w1 : Nat → Int32} {v1 : Nat → Int64} (q : z_Dr G h b0 (tw_bg0 w1 (D + 1) S) (tw_bg5 w1 R (D + 1) v1 S) R S (D + 1) a lr er ls es lv ev ra sa va na ba) (hR4 : R ≤ 40) (hS8 : S ≤ 8) (hD5 : D < 6) (hiW : z_inp w S) (hw1 : ∀ j, j < 208 → (j ≠ 0 ∧ j ≠ 1 ∧ j ≠ 3) → w1 j = w j) (hag : ∀ k, k < S → ∀ d, d ≤ D → tw_st w1 k d = tw_st w k d ∧ ∀ g, g < 5 → v1 (5 * (7 * k + d) + g) = v (5 * (7 * k + d) + g)) :
    z_Dr G h b0 (tw_bg0 (va_up w 0 (nI (D + 1))) (D + 1) S) (tw_bg5 (va_up w 0 (nI (D + 1))) R (D + 1) v S) R S (D + 1) a lr er ls es lv ev ra sa va na ba ∧ z_so (tw_bg0 w1 (D + 1) S) (D + 1) S = tw_bgc (va_up w 0 (nI (D + 1))) (D + 1) S := by
  have h1 : z_ag w1 (va_up w 0 (nI (D + 1))) v1 v S (D + 1) (fun _ d => d = D + 1) := ⟨fun j hj hn => by rw [va_upn (by omega)]; exact hw1 j hj hn, fun k hk d hd hn => by
    rw [z_st_up_ne (by omega)]; exact hag k hk d (by omega)⟩
  have h2 := z_ag_bg (R := R) h1 (z_inp_up hiW hS8 (Or.inl (by omega))) hS8 hR4 (by omega) S (Nat.le_refl _)
  have h3 : ∀ k, k < S → ∀ d, d ≤ D + 1 → _ := fun k hk d hd => h2.2 k hk d hd (fun z => by omega)
  refine ⟨q.cg hR4 hS8 (fun j hj hn => (h2.1 j hj hn).symm) fun k hk d hd => ⟨(h3 k hk d hd).1.symm, fun g hg => ((h3 k hk d hd).2 g hg).symm⟩, ?_⟩
  rw [z_so_cg S fun k hk => (h3 k hk (D + 1) (Nat.le_refl _)).1, z_so_bg (by omega) S hS8]

set_option maxHeartbeats 1000000 in
theorem m_X2_beginDay_ok {l : Launch} {G : zG} {h : zH} {n : Nat} {b0 : Nat} {w : Nat → Int32} {v : Nat → Int64} {R S D a lr er ls es lv ev : Nat} {ra sa va na ba : Nat → Nat} (hDr : z_Dr G h b0 w v R S D a lr er ls es lv ev ra sa va na ba) (hb0 : z_n0 G ≤ b0) (hR4 : R ≤ 40) (hS8 : S ≤ 8) (hD5 : D < 6) (hiW : z_inp w S) : z_C l G yX2_beginDay 11 44 184 [.ref a] h n (z_q1 (fun r9 h' n' => r9 = .int (nI (tw_bgc (va_up w 0 (nI (D + 1))) (D + 1) S)) ∧ z_Dr G h' b0 (tw_bg0 (va_up w 0 (nI (D + 1))) (D + 1) S) (tw_bg5 (va_up w 0 (nI (D + 1))) R (D + 1) v S) R S (D + 1) a lr er ls es lv ev ra sa va na ba ∧ z_fb b0 h h')) := by
  refine z_start zk_X2_beginDay zpl_RX2 (Nat.le_of_ble_eq_true rfl) ?_
  intro hn0 M hl hG ho hb hN hr hm hH hrm hQ
  subst hl hG
  have ho : zm_o M = RX2 := ho
  obtain ⟨⟨ha0, h1⟩, ⟨lr0, lr1, N0, m0, f0, r1, r2, r3, r4, r4b, r5⟩, ⟨ls0, ls1, N, m9, f, h3, h4, h5, h6, h6b, h7⟩, ⟨lv0, lv1, Nv, mv, fv, v1, v2, v3, v4, v4b, v5⟩, hne, hse, h9, hs, hvx, hi, hrI, hna, hba⟩ := id hDr
  have r4N := r4.le
  have h6N := h6.le
  have v4N := v4.le
  show z_V M h n 44 184 0 [(0, .ref a)] []
  refine z_dom (fun hD0 => ?_)
  refine z_aload_n hb dX2_beginDay_0 rfl ?_
  refine z_get (k := 3) (C := RX2) (T := TX2) (N := 8) hb ho zc1 in_X2 (zf_RX2_54 _) dX2_beginDay_1 h1 (by decide) rfl ?_
  refine z_bipush (x := nI 6) hb dX2_beginDay_4 (by decide) ?_
  refine z_icmp_geN (tgt := 13) hb dX2_beginDay_6 (by decide) (by omega) (by omega) (fun c_6 => ?_) (fun c_6 => ?_)
  · exact absurd c_6 (by omega)
  · refine z_iconst (x := nI 1) hb dX2_beginDay_9 (by decide) ?_
    refine z_goto (tgt := 14) hb dX2_beginDay_10 (by decide) ?_
    refine z_iconst (x := nI 2) hb dX2_beginDay_14 (by decide) ?_
    refine z_aload_n hb dX2_beginDay_15 rfl ?_
    refine z_get (k := 3) (C := RX2) (T := TX2) (N := 8) hb ho zc1 in_X2 (zf_RX2_54 _) dX2_beginDay_16 h1 (by decide) rfl ?_
    refine z_call0 (b' := 43) (f' := 176) (rest := []) (av := [.int (nI 1), .int (nI 2), .int (nI D)]) (z_siteSN hb ho q1149 q1150 q94 ⟨_, _, _, _, zk_X1_denyUnless⟩ zy_X1_denyUnless zl_X1_denyUnless dX2_beginDay_19 : z_Site M _ _ _ _ _ ([.int (nI 1), .int (nI 2), .int (nI D)].reverse ++ []) [] _) zk_X1_denyUnless q94 hrm ((m_X1_denyUnless_t (nI 2) (nI D))) (by omega) (by decide) (Nat.le_of_ble_eq_true rfl) (by omega) (by omega) ?_
    refine z_aload_n hb dX2_beginDay_22 rfl ?_
    refine z_dup hb dX2_beginDay_23 rfl ?_
    refine z_get (k := 3) (C := RX2) (T := TX2) (N := 8) hb ho zc1 in_X2 (zf_RX2_54 _) dX2_beginDay_24 h1 (by decide) rfl ?_
    refine z_iconst (x := nI 1) hb dX2_beginDay_27 (by decide) ?_
    refine z_iadd hb dX2_beginDay_28 ?_
    refine z_toI (y := nI (D + 1)) (nI_add D 1) ?_
    refine z_put (k := 3) (C := RX2) (T := TX2) (N := 8) hb ho zc1 in_X2 tyX2_ok nmX2 (zf_RX2_54 _) dX2_beginDay_29 h1 (Nat.le_trans hb0 ha0) (by decide) (Or.inl rfl) rfl rfl rfl (Nat.le_of_ble_eq_true rfl) ?_
    refine z_hn (fun h_1 eh_1 => ?_)
    have eh_1 : h_1 = z_up h a (.inr (1, [.ref lr, .ref ls, .ref lv, .int (nI (D + 1)), .int (w 2), .int (w 4), .int (w 5), .int (w 6)])) := eh_1
    have k_2 : h_1 lr = some (.inr (20, [.int m0, .ref er, .int (nI R)])) := z_nx eh_1 (z_neO r1 h1 rfl) r1
    have k_3 : h_1 er = some (.inl ((zm_G M).2.1 5, N0, .inr (.inr (.inr (.inr f0))))) := z_nx eh_1 (z_neA' r2 h1) r2
    have k_4 : h_1 ls = some (.inr (20, [.int m9, .ref es, .int (nI S)])) := z_nx eh_1 (z_neO h3 h1 rfl) h3
    have k_5 : h_1 es = some (.inl ((zm_G M).2.1 5, N, .inr (.inr (.inr (.inr f))))) := z_nx eh_1 (z_neA' h4 h1) h4
    have k_6 : h_1 lv = some (.inr (20, [.int mv, .ref ev, .int (nI S)])) := z_nx eh_1 (z_neO v1 h1 rfl) v1
    have k_7 : h_1 ev = some (.inl ((zm_G M).2.1 5, Nv, .inr (.inr (.inr (.inr fv))))) := z_nx eh_1 (z_neA' v2 h1) v2
    obtain ⟨w1, v1, hD1, hw1, hag⟩ := hDr.own (D' := D + 1) hR4 hS8 (by omega) (Nat.le_succ D) eh_1
    refine z_aload_n hb dX2_beginDay_32 rfl ?_
    refine z_get (k := 1) (C := RX2) (T := TX2) (N := 8) hb ho zc1 in_X2 (zf_RX2_18 _) dX2_beginDay_33 (z_nxs eh_1) (by decide) rfl ?_
    refine z_dom (fun hD_9 => ?_)
    refine z_call1 (b' := 42) (f' := 172) (rest := []) (av := [.ref ls]) (z_siteF hb ho zc20 k_4 q340 zx1 q343 q345 q346 q344 q321 zxl1 dX2_beginDay_36 : z_Site M _ _ _ _ _ ([].reverse ++ .ref ls :: []) [] _) zk_J2_iterator q98 hrm (m_J2_iterator k_4 (hD_9 _ _ k_4)) (by omega) (by decide) (Nat.le_of_ble_eq_true rfl) (by omega) (by omega) ?_
    refine z_hn (fun h_10 eh_10 => ?_)
    have eh_10 : h_10 = z_up h_1 n (.inr (24, [.int (nI 0), .int (-1), .int m9, .ref ls])) := eh_10
    have k_11 : h_10 lr = some (.inr (20, [.int m0, .ref er, .int (nI R)])) := z_nx eh_10 (Nat.ne_of_lt (hD_9 _ _ k_2)) k_2
    have k_12 : h_10 er = some (.inl ((zm_G M).2.1 5, N0, .inr (.inr (.inr (.inr f0))))) := z_nx eh_10 (Nat.ne_of_lt (hD_9 _ _ k_3)) k_3
    have k_13 : h_10 ls = some (.inr (20, [.int m9, .ref es, .int (nI S)])) := z_nx eh_10 (Nat.ne_of_lt (hD_9 _ _ k_4)) k_4
    have k_14 : h_10 es = some (.inl ((zm_G M).2.1 5, N, .inr (.inr (.inr (.inr f))))) := z_nx eh_10 (Nat.ne_of_lt (hD_9 _ _ k_5)) k_5
    have k_15 : h_10 lv = some (.inr (20, [.int mv, .ref ev, .int (nI S)])) := z_nx eh_10 (Nat.ne_of_lt (hD_9 _ _ k_6)) k_6
    have k_16 : h_10 ev = some (.inl ((zm_G M).2.1 5, Nv, .inr (.inr (.inr (.inr fv))))) := z_nx eh_10 (Nat.ne_of_lt (hD_9 _ _ k_7)) k_7
    have k_17 : h_10 a = some (.inr (1, [.ref lr, .ref ls, .ref lv, .int (nI (D + 1)), .int (w 2), .int (w 4), .int (w 5), .int (w 6)])) := z_nx eh_10 (Nat.ne_of_lt (hD_9 _ _ (z_nxs eh_1))) (z_nxs eh_1)
    refine z_astore_n (lv' := [(1, .ref n), (0, .ref a)]) hb dX2_beginDay_41 (by rw [hN]; decide) rfl ?_
    have lp_42 : ∀ (k9_42 : Nat) (j : Nat) (lr9j : Int32) (nnj : Nat) (hhj : zH), S + 1 - j < k9_42 → (j ≤ S) → (n < nnj) → (z_Dr (zm_G M) hhj b0 (tw_bg0 w1 (D + 1) j) (tw_bg5 w1 R (D + 1) v1 j) R S (D + 1) a lr er ls es lv ev ra sa va na ba) → (z_fr (z_VA na ba S) h_1 hhj) → (hhj n = some (.inr (24, [.int (nI j), .int lr9j, .int m9, .ref ls]))) → z_V M hhj nnj (5 * (8 - j) + 1) (20 * (8 - j) + 4) 42 [(1, .ref n), (0, .ref a)] [] := by
      intro k9_42
      induction k9_42 with
      | zero => intro j lr9j nnj hhj hk9_42; exact absurd hk9_42 (Nat.not_lt_zero _)
      | succ k9_42 ih_42 =>
        intro j lr9j nnj hhj hk9_42 hj hnnj hDrj hFrj hTj
        refine z_aload_n hb dX2_beginDay_42 rfl ?_
        refine z_call1 (b' := 5 * (8 - j) + 1) (f' := 20 * (8 - j) + 4) (rest := []) (av := [.ref n]) (z_siteF hb ho zc24 hTj q368 zx2 q372 q374 q375 q373 q371 zxl2 dX2_beginDay_43 : z_Site M _ _ _ _ _ ([].reverse ++ .ref n :: []) [] _) zk_J8_hasNext q105 hrm (m_J8_hasNext hTj (hFrj _ _ k_4 (hD1.nO k_4)) (by omega) (by omega)) (by omega) (by decide) (Nat.le_of_ble_eq_true rfl) (by omega) (by omega) ?_
        refine z_ifb_eq (tgt := 73) hb dX2_beginDay_48 (by decide) (fun c_48 => ?_) (fun c_48 => ?_)
        · have hx_j : j = S := by simpa using c_48
          refine z_aload_n hb dX2_beginDay_73 rfl ?_
          refine z_aload_n hb dX2_beginDay_74 rfl ?_
          refine z_get (k := 3) (C := RX2) (T := TX2) (N := 8) hb ho zc1 in_X2 (zf_RX2_54 _) dX2_beginDay_75 (hFrj _ _ (z_nxs eh_1) (hD1.nO (z_nxs eh_1))) (by decide) rfl ?_
          refine z_callN1 (b' := (5 * (8 - j) + 1) - 1) (f' := (20 * (8 - j) + 4) - 4) (rest := []) (av := [.ref a, .int (nI (D + 1))]) (z_siteV hb ho zc1 (hFrj _ _ (z_nxs eh_1) (hD1.nO (z_nxs eh_1))) q1405 q336 q337 ⟨_, _, _, _, zk_X2_staleOn⟩ zy_X2_staleOn zl_X2_staleOn dX2_beginDay_78 : z_Site M _ _ _ _ _ ([.int (nI (D + 1))].reverse ++ .ref a :: []) [] _) zk_X2_staleOn q95 hrm (m_X2_staleOn hDrj.ln hS8 (show D + 1 ≤ 6 by omega) (Nat.le_refl _)) (by omega) (by decide) (Nat.le_of_ble_eq_true rfl) (by omega) (by omega) (fun n_18 hn_18 => ?_)
          refine z_iret hb hr dX2_beginDay_81 ?_
          rw [hQ]
          subst hx_j
          obtain ⟨g1, g2⟩ := z_bg_fin hDrj hR4 hS8 hD5 hiW hw1 hag
          exact ⟨_, rfl, by rw [g2], g1, ((z_fb_up h1 (Or.inl rfl) ha0 eh_1).t (hD1.vfb hFrj))⟩
        · have hl_j : j < S := Nat.lt_of_le_of_ne hj (by simpa using c_48)
          refine z_aload_n hb dX2_beginDay_51 rfl ?_
          refine z_call1 (b' := 5 * (8 - j) + 1) (f' := 20 * (8 - j) + 4) (rest := []) (av := [.ref n]) (z_siteF hb ho zc24 hTj q378 zx3 q381 q383 q384 q382 q371 zxl3 dX2_beginDay_52 : z_Site M _ _ _ _ _ ([].reverse ++ .ref n :: []) [] _) zk_J8_next q105 hrm (m_J8_next hTj (hFrj _ _ k_4 (hD1.nO k_4)) (hFrj _ _ k_5 (hD1.nA k_5)) (by omega) (by omega) h7 (by omega) (by omega)) (by omega) (by decide) (Nat.le_of_ble_eq_true rfl) (by omega) (by omega) ?_
          refine z_hn (fun h_19 eh_19 => ?_)
          have eh_19 : h_19 = z_up hhj n (.inr (24, [.int (nI (j + 1)), .int (nI j), .int m9, .ref ls])) := eh_19
          have k_20 : h_19 lr = some (.inr (20, [.int m0, .ref er, .int (nI R)])) := z_nx eh_19 (Nat.ne_of_lt (hD_9 _ _ k_2)) (hFrj _ _ k_2 (hD1.nO k_2))
          have k_21 : h_19 er = some (.inl ((zm_G M).2.1 5, N0, .inr (.inr (.inr (.inr f0))))) := z_nx eh_19 (Nat.ne_of_lt (hD_9 _ _ k_3)) (hFrj _ _ k_3 (hD1.nA k_3))
          have k_22 : h_19 ls = some (.inr (20, [.int m9, .ref es, .int (nI S)])) := z_nx eh_19 (Nat.ne_of_lt (hD_9 _ _ k_4)) (hFrj _ _ k_4 (hD1.nO k_4))
          have k_23 : h_19 es = some (.inl ((zm_G M).2.1 5, N, .inr (.inr (.inr (.inr f))))) := z_nx eh_19 (Nat.ne_of_lt (hD_9 _ _ k_5)) (hFrj _ _ k_5 (hD1.nA k_5))
          have k_24 : h_19 lv = some (.inr (20, [.int mv, .ref ev, .int (nI S)])) := z_nx eh_19 (Nat.ne_of_lt (hD_9 _ _ k_6)) (hFrj _ _ k_6 (hD1.nO k_6))
          have k_25 : h_19 ev = some (.inl ((zm_G M).2.1 5, Nv, .inr (.inr (.inr (.inr fv))))) := z_nx eh_19 (Nat.ne_of_lt (hD_9 _ _ k_7)) (hFrj _ _ k_7 (hD1.nA k_7))
          have k_26 : h_19 a = some (.inr (1, [.ref lr, .ref ls, .ref lv, .int (nI (D + 1)), .int (w 2), .int (w 4), .int (w 5), .int (w 6)])) := z_nx eh_19 (Nat.ne_of_lt (hD_9 _ _ (z_nxs eh_1))) (hFrj _ _ (z_nxs eh_1) (hD1.nO (z_nxs eh_1)))
          have J_60 : z_V M h_19 nnj (5 * (8 - j) + 1) (20 * (8 - j) + 4) 60 [(1, .ref n), (0, .ref a)] [.ref (sa j)] := by
            refine z_astore_n (lv' := [(2, .ref (sa j)), (1, .ref n), (0, .ref a)]) hb dX2_beginDay_60 (by rw [hN]; decide) rfl ?_
            refine z_aload_n hb dX2_beginDay_61 rfl ?_
            refine z_aload_n hb dX2_beginDay_62 rfl ?_
            refine z_aload_n hb dX2_beginDay_63 rfl ?_
            refine z_get (k := 3) (C := RX2) (T := TX2) (N := 8) hb ho zc1 in_X2 (zf_RX2_54 _) dX2_beginDay_64 k_26 (by decide) rfl ?_
            refine z_callQ0 (b' := (5 * (8 - j) + 1) - 5) (f' := (20 * (8 - j) + 4) - 20) (rest := []) (av := [.ref a, .ref (sa j), .int (nI (D + 1))]) (z_siteV hb ho zc1 k_26 q1400 q1402 qs12 ⟨_, _, _, _, zk_X2_beginPartition⟩ zy_X2_beginPartition zl_X2_beginPartition dX2_beginDay_67 : z_Site M _ _ _ _ _ ([.ref (sa j), .int (nI (D + 1))].reverse ++ .ref a :: []) [] _) zk_X2_beginPartition q95 hrm (m_X2_beginPartition (hDrj.kp (z_kp_up hTj (by simp [z_lnk]) eh_19)) hb0 hR4 hS8 (show D + 1 ≤ 6 by omega) (by omega) (Nat.le_refl _)) (by omega) (by decide) (Nat.le_of_ble_eq_true rfl) (by omega) (by omega) (fun h_28 n_29 hq_27 hn_29 => ?_)
            have k_30 : h_28 lr = some (.inr (20, [.int m0, .ref er, .int (nI R)])) := (hq_27.2 _ _ k_20 ((hDrj.kp (z_kp_up hTj (by simp [z_lnk]) eh_19)).nO k_20))
            have k_31 : h_28 er = some (.inl ((zm_G M).2.1 5, N0, .inr (.inr (.inr (.inr f0))))) := (hq_27.2 _ _ k_21 ((hDrj.kp (z_kp_up hTj (by simp [z_lnk]) eh_19)).nA k_21))
            have k_32 : h_28 ls = some (.inr (20, [.int m9, .ref es, .int (nI S)])) := (hq_27.2 _ _ k_22 ((hDrj.kp (z_kp_up hTj (by simp [z_lnk]) eh_19)).nO k_22))
            have k_33 : h_28 es = some (.inl ((zm_G M).2.1 5, N, .inr (.inr (.inr (.inr f))))) := (hq_27.2 _ _ k_23 ((hDrj.kp (z_kp_up hTj (by simp [z_lnk]) eh_19)).nA k_23))
            have k_34 : h_28 lv = some (.inr (20, [.int mv, .ref ev, .int (nI S)])) := (hq_27.2 _ _ k_24 ((hDrj.kp (z_kp_up hTj (by simp [z_lnk]) eh_19)).nO k_24))
            have k_35 : h_28 ev = some (.inl ((zm_G M).2.1 5, Nv, .inr (.inr (.inr (.inr fv))))) := (hq_27.2 _ _ k_25 ((hDrj.kp (z_kp_up hTj (by simp [z_lnk]) eh_19)).nA k_25))
            have k_36 : h_28 a = some (.inr (1, [.ref lr, .ref ls, .ref lv, .int (nI (D + 1)), .int (w 2), .int (w 4), .int (w 5), .int (w 6)])) := (hq_27.2 _ _ k_26 ((hDrj.kp (z_kp_up hTj (by simp [z_lnk]) eh_19)).nO k_26))
            have k_37 : h_28 n = some (.inr (24, [.int (nI (j + 1)), .int (nI j), .int m9, .ref ls])) := (hq_27.2 _ _ (z_nxs eh_19) ((hDrj.kp (z_kp_up hTj (by simp [z_lnk]) eh_19)).nO (z_nxs eh_19)))
            refine z_goto (tgt := 42) hb dX2_beginDay_70 (by decide) ?_
            refine z_lv [1, 2] (lv' := [(1, .ref n), (0, .ref a)]) rfl ?_
            exact z_bf (by omega) (by omega) (ih_42 (j + 1) _ n_29 h_28  (by omega) (by omega) (by omega) hq_27.1 ((z_frW hD_9 (by omega) eh_19 hFrj).t hq_27.2) k_37 )
          rcases (hDrj.kp (z_kp_up hTj (by simp [z_lnk]) eh_19)).sp j (by omega) with ⟨q1, q9⟩ | ⟨q1, q9⟩ | ⟨q1, q9⟩ | ⟨q1, q2, q3, q9⟩ | ⟨q1, q2, q3, q9⟩ | ⟨q1, q2, q3, q9⟩ | ⟨q1, q2, q3, q9⟩
          · exact z_cast hb ho zc8 q9 q560 (Or.inr q3300) dX2_beginDay_57 J_60
          · exact z_cast hb ho zc9 q9 q560 (Or.inr q3296) dX2_beginDay_57 J_60
          · exact z_cast hb ho zc10 q9 q560 (Or.inr q3297) dX2_beginDay_57 J_60
          · exact z_cast hb ho zc11 q9 q560 (Or.inr q3298) dX2_beginDay_57 J_60
          · exact z_cast hb ho zc11 q9 q560 (Or.inr q3298) dX2_beginDay_57 J_60
          · exact z_cast hb ho zc12 q9 q560 (Or.inr q3299) dX2_beginDay_57 J_60
          · exact z_cast hb ho zc13 q9 q560 (Or.inr q3295) dX2_beginDay_57 J_60
    refine z_lv [0, 1] (lv' := [(1, .ref n), (0, .ref a)]) rfl ?_
    exact z_bf (by omega) (by omega) (lp_42 _ 0 (-1) (n + 1) h_10  (Nat.lt_succ_self _) (Nat.zero_le _) (by omega) (hD1.kp (z_exN z_ex_r hD_9 eh_10).kp) (z_exN z_ex_r hD_9 eh_10).fr (z_nxs eh_10) )

set_option maxHeartbeats 1000000 in
theorem m_X2_beginDay_no {l : Launch} {G : zG} {h : zH} {n : Nat} {w : Nat → Int32} {v : Nat → Int64} {R S D a lr ls lv : Nat} {ra sa va : Nat → Nat} (hL : z_Ln G h w v R S D a lr ls lv ra sa va) (hD5 : D = 6) : z_C l G yX2_beginDay 11 1 8 [.ref a] h n (z_tf 5 [.null, .null, .null, .null, .null, .int (nI 0), .int (nI 2), .int (nI D)] h n) := by
  refine z_start zk_X2_beginDay zpl_RX2 (Nat.le_of_ble_eq_true rfl) ?_
  intro hn0 M hl hG ho hb hN hr hm hH hrm hQ
  subst hl hG
  have ho : zm_o M = RX2 := ho
  obtain ⟨h1, ⟨e0, N0, m0, f0, r1, r2, r3, ⟨r4, r4n⟩, r5⟩, ⟨e, N, m9, f, h3, h4, h5, ⟨h6, h6n⟩, h7⟩, ⟨ev, Nv, mv, fv, v1, v2, v3, ⟨v4, v4n⟩, v5⟩, h9, hs, hv, hi, hrI⟩ := id hL
  show z_V M h n 1 8 0 [(0, .ref a)] []
  refine z_dom (fun hD0 => ?_)
  refine z_aload_n hb dX2_beginDay_0 rfl ?_
  refine z_get (k := 3) (C := RX2) (T := TX2) (N := 8) hb ho zc1 in_X2 (zf_RX2_54 _) dX2_beginDay_1 h1 (by decide) rfl ?_
  refine z_bipush (x := nI 6) hb dX2_beginDay_4 (by decide) ?_
  refine z_icmp_geN (tgt := 13) hb dX2_beginDay_6 (by decide) (by omega) (by omega) (fun c_6 => ?_) (fun c_6 => ?_)
  · refine z_iconst (x := nI 0) hb dX2_beginDay_13 (by decide) ?_
    refine z_iconst (x := nI 2) hb dX2_beginDay_14 (by decide) ?_
    refine z_aload_n hb dX2_beginDay_15 rfl ?_
    refine z_get (k := 3) (C := RX2) (T := TX2) (N := 8) hb ho zc1 in_X2 (zf_RX2_54 _) dX2_beginDay_16 h1 (by decide) rfl ?_
    refine z_callTf (b' := 0) (f' := 0) (rest := []) (av := [.int (nI 0), .int (nI 2), .int (nI D)]) (z_siteSN hb ho q1149 q1150 q94 ⟨_, _, _, _, zk_X1_denyUnless⟩ zy_X1_denyUnless zl_X1_denyUnless dX2_beginDay_19 : z_Site M _ _ _ _ _ ([.int (nI 0), .int (nI 2), .int (nI D)].reverse ++ []) [] _) zk_X1_denyUnless q94 hrm (z_C.tf (m_X1_denyUnless_f (nI 2) (nI D))) (by omega) (by decide) (Nat.le_of_ble_eq_true rfl) (by omega) (by omega) (fun q_1 n_2 hq_1 hn_2 => ?_)
    exact z_out ho hH zc5 z_up_s (by omega) (fun _ h => nomatch h) (by rw [hQ]; exact ⟨_, rfl, by omega, by omega, rfl⟩)
  · exact absurd c_6 (by omega)

