theorem z_stF_s {w : Nat → Int32} {S e : Nat} : ∀ {n a : Nat}, tw_stF w S a n = some e → a ≤ e ∧ e < a + n ∧ tw_anyS w e S = true ∧ ∀ x, a ≤ x → x < e → tw_anyS w x S = false
  | 0, a, h => by cases h
  | n + 1, a, h => by
    rw [tw_stF] at h
    by_cases q : tw_anyS w a S = true
    · rw [if_pos q] at h
      cases h
      exact ⟨Nat.le_refl _, by omega, q, fun x h1 h2 => by omega⟩
    · rw [if_neg q] at h
      obtain ⟨h1, h2, h3, h4⟩ := z_stF_s h
      refine ⟨by omega, by omega, h3, fun x g1 g2 => ?_⟩
      by_cases z : x = a
      · rw [z]; simpa using q
      · exact h4 x (by omega) g2
theorem z_nm1 {e : Nat} (h : e < 2 ^ 31) : nI e ≠ -1 := fun q => by
  have h1 := nI_toInt h
  rw [q, show (-1 : Int32).toInt = -1 from rfl] at h1
  omega
theorem z_rep_no {w : Nat → Int32} {S D d : Nat} (hD6 : D ≤ 6) (hd : d ≤ D) (hn : tw_stF w S 0 d = none) (h1 : z_o (tw_stF w S 0 (D + 1)) ≠ -1) : ¬ z_o (tw_stF w S 0 (D + 1)) < nI d := by
  intro h2
  cases hq : tw_stF w S 0 (D + 1) with
  | none => rw [hq] at h1; exact h1 rfl
  | some e =>
    rw [hq] at h2
    obtain ⟨-, g2, g3, -⟩ := z_stF_s hq
    have h3 := (nI_ltI (by omega) (by omega)).mp h2
    rw [z_stF_n hn e (Nat.zero_le _) (by omega)] at g3
    cases g3
theorem z_stF_long {w : Nat → Int32} {S D d e : Nat} (hd : d ≤ D) (h : tw_stF w S 0 d = some e) : tw_stF w S 0 (D + 1) = some e := by
  obtain ⟨g1, g2, g3, g4⟩ := z_stF_s h
  exact z_stF_some (fun x h1 h2 => g4 x h1 h2) g1 (by omega) g3

set_option maxHeartbeats 1000000 in
theorem m_X2_repair_ok {l : Launch} {G : zG} {h : zH} {n : Nat} {b0 : Nat} {w : Nat → Int32} {v : Nat → Int64} {R S D a lr er ls es lv ev : Nat} {ra sa va na ba : Nat → Nat} {d : Nat} (hDr : z_Dr G h b0 w v R S D a lr er ls es lv ev ra sa va na ba) (hb0 : z_n0 G ≤ b0) (hR4 : R ≤ 40) (hS8 : S ≤ 8) (hD6 : D ≤ 6) (hd : d ≤ D) (hn : tw_stF w S 0 d = none) : z_C l G yX2_repair 11 60 270 [.ref a, .int (nI d)] h n (z_q1 (fun r9 h' n' => r9 = .int (nI (tw_rpc w d S)) ∧ z_Dr G h' b0 (tw_rep w S d) (tw_rp5 w R d v S) R S D a lr er ls es lv ev ra sa va na ba ∧ z_fb b0 h h')) := by
  refine z_start zk_X2_repair zpl_RX2 (Nat.le_of_ble_eq_true rfl) ?_
  intro hn0 M hl hG ho hb hN hr hm hH hrm hQ
  subst hl hG
  have ho : zm_o M = RX2 := ho
  obtain ⟨⟨ha0, h1⟩, ⟨lr0, lr1, N0, m0, f0, r1, r2, r3, r4, r4b, r5⟩, ⟨ls0, ls1, N, m9, f, h3, h4, h5, h6, h6b, h7⟩, ⟨lv0, lv1, Nv, mv, fv, v1, v2, v3, v4, v4b, v5⟩, hne, hse, h9, hs, hvx, hi, hrI, hna, hba⟩ := id hDr
  have r4N := r4.le
  have h6N := h6.le
  have v4N := v4.le
  show z_V M h n 60 270 0 [(0, .ref a), (1, .int (nI d))] []
  refine z_dom (fun hD0 => ?_)
  refine z_aload_n hb dX2_repair_0 rfl ?_
  refine z_iload_n hb dX2_repair_1 rfl ?_
  refine z_call0 (b' := 59) (f' := 264) (rest := []) (av := [.ref a, .int (nI d)]) (z_siteV hb ho zc1 h1 q1609 q1610 q1611 ⟨_, _, _, _, zk_X2_requireDay⟩ zy_X2_requireDay zl_X2_requireDay dX2_repair_2 : z_Site M _ _ _ _ _ ([.int (nI d)].reverse ++ .ref a :: []) [] _) zk_X2_requireDay q95 hrm (m_X2_requireDay_ok h1 hD6 hd) (by omega) (by decide) (Nat.le_of_ble_eq_true rfl) (by omega) (by omega) ?_
  refine z_aload_n hb dX2_repair_5 rfl ?_
  refine z_callN1 (b' := 52) (f' := 236) (rest := []) (av := [.ref a]) (z_siteV hb ho zc1 h1 q1613 q1614 q1615 ⟨_, _, _, _, zk_X2_firstStaleDay⟩ zy_X2_firstStaleDay zl_X2_firstStaleDay dX2_repair_6 : z_Site M _ _ _ _ _ ([].reverse ++ .ref a :: []) [] _) zk_X2_firstStaleDay q95 hrm (m_X2_firstStaleDay hDr.ln hS8 hD6) (by omega) (by decide) (Nat.le_of_ble_eq_true rfl) (by omega) (by omega) (fun n_1 hn_1 => ?_)
  refine z_istore_n (lv' := [(2, .int (z_o (tw_stF w S 0 (D + 1)))), (0, .ref a), (1, .int (nI d))]) hb dX2_repair_9 (by rw [hN]; decide) rfl ?_
  have J_25 : z_V M h n_1 52 236 25 [(2, .int (z_o (tw_stF w S 0 (D + 1)))), (0, .ref a), (1, .int (nI d))] [.int (nI 1)] := by
    refine z_iconst (x := nI 3) hb dX2_repair_25 (by decide) ?_
    refine z_iload_n hb dX2_repair_26 rfl ?_
    refine z_call0 (b' := 51) (f' := 228) (rest := []) (av := [.int (nI 1), .int (nI 3), .int (z_o (tw_stF w S 0 (D + 1)))]) (z_siteSN hb ho q1149 q1150 q94 ⟨_, _, _, _, zk_X1_denyUnless⟩ zy_X1_denyUnless zl_X1_denyUnless dX2_repair_27 : z_Site M _ _ _ _ _ ([.int (nI 1), .int (nI 3), .int (z_o (tw_stF w S 0 (D + 1)))].reverse ++ []) [] _) zk_X1_denyUnless q94 hrm ((m_X1_denyUnless_t (nI 3) (z_o (tw_stF w S 0 (D + 1))))) (by omega) (by decide) (Nat.le_of_ble_eq_true rfl) (by omega) (by omega) ?_
    refine z_aload_n hb dX2_repair_30 rfl ?_
    refine z_iload_n hb dX2_repair_31 rfl ?_
    refine z_callN1 (b' := 50) (f' := 224) (rest := []) (av := [.ref a, .int (nI d)]) (z_siteV hb ho zc1 h1 q1405 q336 q337 ⟨_, _, _, _, zk_X2_staleOn⟩ zy_X2_staleOn zl_X2_staleOn dX2_repair_32 : z_Site M _ _ _ _ _ ([.int (nI d)].reverse ++ .ref a :: []) [] _) zk_X2_staleOn q95 hrm (m_X2_staleOn hDr.ln hS8 hD6 hd) (by omega) (by decide) (Nat.le_of_ble_eq_true rfl) (by omega) (by omega) (fun n_2 hn_2 => ?_)
    refine z_istore_n (lv' := [(3, .int (nI (z_so w d S))), (2, .int (z_o (tw_stF w S 0 (D + 1)))), (0, .ref a), (1, .int (nI d))]) hb dX2_repair_35 (by rw [hN]; decide) rfl ?_
    refine z_aload_n hb dX2_repair_36 rfl ?_
    refine z_get (k := 1) (C := RX2) (T := TX2) (N := 8) hb ho zc1 in_X2 (zf_RX2_18 _) dX2_repair_37 h1 (by decide) rfl ?_
    refine z_dom (fun hD_3 => ?_)
    refine z_call1 (b' := 49) (f' := 220) (rest := []) (av := [.ref ls]) (z_siteF hb ho zc20 h3 q340 zx1 q343 q345 q346 q344 q321 zxl1 dX2_repair_40 : z_Site M _ _ _ _ _ ([].reverse ++ .ref ls :: []) [] _) zk_J2_iterator q98 hrm (m_J2_iterator h3 (hD_3 _ _ h3)) (by omega) (by decide) (Nat.le_of_ble_eq_true rfl) (by omega) (by omega) ?_
    refine z_hn (fun h_4 eh_4 => ?_)
    have eh_4 : h_4 = z_up h n_2 (.inr (24, [.int (nI 0), .int (-1), .int m9, .ref ls])) := eh_4
    have k_5 : h_4 a = some (.inr (1, [.ref lr, .ref ls, .ref lv, .int (nI D), .int (w 2), .int (w 4), .int (w 5), .int (w 6)])) := z_nx eh_4 (Nat.ne_of_lt (hD_3 _ _ h1)) h1
    have k_6 : h_4 lr = some (.inr (20, [.int m0, .ref er, .int (nI R)])) := z_nx eh_4 (Nat.ne_of_lt (hD_3 _ _ r1)) r1
    have k_7 : h_4 er = some (.inl ((zm_G M).2.1 5, N0, .inr (.inr (.inr (.inr f0))))) := z_nx eh_4 (Nat.ne_of_lt (hD_3 _ _ r2)) r2
    have k_8 : h_4 ls = some (.inr (20, [.int m9, .ref es, .int (nI S)])) := z_nx eh_4 (Nat.ne_of_lt (hD_3 _ _ h3)) h3
    have k_9 : h_4 es = some (.inl ((zm_G M).2.1 5, N, .inr (.inr (.inr (.inr f))))) := z_nx eh_4 (Nat.ne_of_lt (hD_3 _ _ h4)) h4
    have k_10 : h_4 lv = some (.inr (20, [.int mv, .ref ev, .int (nI S)])) := z_nx eh_4 (Nat.ne_of_lt (hD_3 _ _ v1)) v1
    have k_11 : h_4 ev = some (.inl ((zm_G M).2.1 5, Nv, .inr (.inr (.inr (.inr fv))))) := z_nx eh_4 (Nat.ne_of_lt (hD_3 _ _ v2)) v2
    refine z_astore (lv' := [(4, .ref n_2), (3, .int (nI (z_so w d S))), (2, .int (z_o (tw_stF w S 0 (D + 1)))), (0, .ref a), (1, .int (nI d))]) hb dX2_repair_45 (by rw [hN]; decide) rfl ?_
    have lp_47 : ∀ (k9_47 : Nat) (j : Nat) (lr9j : Int32) (nnj : Nat) (hhj : zH), S + 1 - j < k9_47 → (j ≤ S) → (n_2 < nnj) → (z_Dr (zm_G M) hhj b0 (tw_rp0 w d j) (tw_rp5 w R d v j) R S D a lr er ls es lv ev ra sa va na ba) → (z_fr (z_VA na ba S) h hhj) → (hhj n_2 = some (.inr (24, [.int (nI j), .int lr9j, .int m9, .ref ls]))) → z_V M hhj nnj (5 * (8 - j)) (20 * (8 - j)) 47 [(4, .ref n_2), (3, .int (nI (z_so w d S))), (2, .int (z_o (tw_stF w S 0 (D + 1)))), (0, .ref a), (1, .int (nI d))] [] := by
      intro k9_47
      induction k9_47 with
      | zero => intro j lr9j nnj hhj hk9_47; exact absurd hk9_47 (Nat.not_lt_zero _)
      | succ k9_47 ih_47 =>
        intro j lr9j nnj hhj hk9_47 hj hnnj hDrj hFrj hTj
        refine z_aload hb dX2_repair_47 rfl ?_
        refine z_call1 (b' := 5 * (8 - j)) (f' := 20 * (8 - j)) (rest := []) (av := [.ref n_2]) (z_siteF hb ho zc24 hTj q368 zx2 q372 q374 q375 q373 q371 zxl2 dX2_repair_49 : z_Site M _ _ _ _ _ ([].reverse ++ .ref n_2 :: []) [] _) zk_J8_hasNext q105 hrm (m_J8_hasNext hTj (hFrj _ _ h3 (hDr.nO h3)) (by omega) (by omega)) (by omega) (by decide) (Nat.le_of_ble_eq_true rfl) (by omega) (by omega) ?_
        refine z_ifb_eq (tgt := 91) hb dX2_repair_54 (by decide) (fun c_54 => ?_) (fun c_54 => ?_)
        · have hx_j : j = S := by simpa using c_54
          refine z_aload_n hb dX2_repair_91 rfl ?_
          refine z_dup hb dX2_repair_92 rfl ?_
          refine z_get (k := 7) (C := RX2) (T := TX2) (N := 8) hb ho zc1 in_X2 (zf_RX2_67 _) dX2_repair_93 (hFrj _ _ h1 (hDr.nO h1)) (by decide) rfl ?_
          refine z_iload_n hb dX2_repair_96 rfl ?_
          refine z_iadd hb dX2_repair_97 ?_
          refine z_put (k := 7) (C := RX2) (T := TX2) (N := 8) hb ho zc1 in_X2 tyX2_ok nmX2 (zf_RX2_67 _) dX2_repair_98 (hFrj _ _ h1 (hDr.nO h1)) (Nat.le_trans hb0 ha0) (by decide) (Or.inl rfl) rfl rfl rfl (Nat.le_of_ble_eq_true rfl) ?_
          refine z_hn (fun h_12 eh_12 => ?_)
          have eh_12 : h_12 = z_up hhj a (.inr (1, [.ref lr, .ref ls, .ref lv, .int (nI D), .int (w 2), .int (w 4), .int (w 5), .int ((w 6) + (nI (z_so w d S)))])) := eh_12
          have k_13 : h_12 lr = some (.inr (20, [.int m0, .ref er, .int (nI R)])) := z_nx eh_12 (z_neO (hFrj _ _ r1 (hDr.nO r1)) (hFrj _ _ h1 (hDr.nO h1)) rfl) (hFrj _ _ r1 (hDr.nO r1))
          have k_14 : h_12 er = some (.inl ((zm_G M).2.1 5, N0, .inr (.inr (.inr (.inr f0))))) := z_nx eh_12 (z_neA' (hFrj _ _ r2 (hDr.nA r2)) (hFrj _ _ h1 (hDr.nO h1))) (hFrj _ _ r2 (hDr.nA r2))
          have k_15 : h_12 ls = some (.inr (20, [.int m9, .ref es, .int (nI S)])) := z_nx eh_12 (z_neO (hFrj _ _ h3 (hDr.nO h3)) (hFrj _ _ h1 (hDr.nO h1)) rfl) (hFrj _ _ h3 (hDr.nO h3))
          have k_16 : h_12 es = some (.inl ((zm_G M).2.1 5, N, .inr (.inr (.inr (.inr f))))) := z_nx eh_12 (z_neA' (hFrj _ _ h4 (hDr.nA h4)) (hFrj _ _ h1 (hDr.nO h1))) (hFrj _ _ h4 (hDr.nA h4))
          have k_17 : h_12 lv = some (.inr (20, [.int mv, .ref ev, .int (nI S)])) := z_nx eh_12 (z_neO (hFrj _ _ v1 (hDr.nO v1)) (hFrj _ _ h1 (hDr.nO h1)) rfl) (hFrj _ _ v1 (hDr.nO v1))
          have k_18 : h_12 ev = some (.inl ((zm_G M).2.1 5, Nv, .inr (.inr (.inr (.inr fv))))) := z_nx eh_12 (z_neA' (hFrj _ _ v2 (hDr.nA v2)) (hFrj _ _ h1 (hDr.nO h1))) (hFrj _ _ v2 (hDr.nA v2))
          have k_19 : h_12 n_2 = some (.inr (24, [.int (nI j), .int lr9j, .int m9, .ref ls])) := z_nx eh_12 (Nat.ne_of_gt (hD_3 _ _ h1)) hTj
          have hq_20 := hDrj.fld (h2 := h_12) (w' := va_up (tw_rp0 w d j) 6 (w 6 + nI (z_so w d S))) hR4 hS8 (fun j hj => va_upn (by omega)) (by rw [eh_12, va_upn (by omega), va_upn (by omega), va_upn (by omega), va_ups, tw_rp0_lo (by omega), tw_rp0_lo (by omega), tw_rp0_lo (by omega)])
          refine z_iload_n hb dX2_repair_101 rfl ?_
          refine z_iret hb hr dX2_repair_102 ?_
          rw [hQ]
          have e9 : va_up (tw_rp0 w d j) 6 (w 6 + nI (z_so w d S)) = tw_rep w S d := by
            rw [hx_j]
            unfold tw_rep
            rw [tw_rp0_lo (by omega), z_so_rp (by omega)]
          have e8 := hq_20
          rw [e9, hx_j] at e8
          exact ⟨_, rfl, by rw [z_so_rp (by omega)], e8, ((hDr.vfb hFrj).t (z_fb_up (hFrj _ _ h1 (hDr.nO h1)) (Or.inl rfl) ha0 eh_12))⟩
        · have hl_j : j < S := Nat.lt_of_le_of_ne hj (by simpa using c_54)
          refine z_aload hb dX2_repair_57 rfl ?_
          refine z_call1 (b' := 5 * (8 - j)) (f' := 20 * (8 - j)) (rest := []) (av := [.ref n_2]) (z_siteF hb ho zc24 hTj q378 zx3 q381 q383 q384 q382 q371 zxl3 dX2_repair_59 : z_Site M _ _ _ _ _ ([].reverse ++ .ref n_2 :: []) [] _) zk_J8_next q105 hrm (m_J8_next hTj (hFrj _ _ h3 (hDr.nO h3)) (hFrj _ _ h4 (hDr.nA h4)) (by omega) (by omega) h7 (by omega) (by omega)) (by omega) (by decide) (Nat.le_of_ble_eq_true rfl) (by omega) (by omega) ?_
          refine z_hn (fun h_21 eh_21 => ?_)
          have eh_21 : h_21 = z_up hhj n_2 (.inr (24, [.int (nI (j + 1)), .int (nI j), .int m9, .ref ls])) := eh_21
          have k_22 : h_21 a = some (.inr (1, [.ref lr, .ref ls, .ref lv, .int (nI D), .int (w 2), .int (w 4), .int (w 5), .int (w 6)])) := z_nx eh_21 (Nat.ne_of_lt (hD_3 _ _ h1)) (hFrj _ _ h1 (hDr.nO h1))
          have k_23 : h_21 lr = some (.inr (20, [.int m0, .ref er, .int (nI R)])) := z_nx eh_21 (Nat.ne_of_lt (hD_3 _ _ r1)) (hFrj _ _ r1 (hDr.nO r1))
          have k_24 : h_21 er = some (.inl ((zm_G M).2.1 5, N0, .inr (.inr (.inr (.inr f0))))) := z_nx eh_21 (Nat.ne_of_lt (hD_3 _ _ r2)) (hFrj _ _ r2 (hDr.nA r2))
          have k_25 : h_21 ls = some (.inr (20, [.int m9, .ref es, .int (nI S)])) := z_nx eh_21 (Nat.ne_of_lt (hD_3 _ _ h3)) (hFrj _ _ h3 (hDr.nO h3))
          have k_26 : h_21 es = some (.inl ((zm_G M).2.1 5, N, .inr (.inr (.inr (.inr f))))) := z_nx eh_21 (Nat.ne_of_lt (hD_3 _ _ h4)) (hFrj _ _ h4 (hDr.nA h4))
          have k_27 : h_21 lv = some (.inr (20, [.int mv, .ref ev, .int (nI S)])) := z_nx eh_21 (Nat.ne_of_lt (hD_3 _ _ v1)) (hFrj _ _ v1 (hDr.nO v1))
          have k_28 : h_21 ev = some (.inl ((zm_G M).2.1 5, Nv, .inr (.inr (.inr (.inr fv))))) := z_nx eh_21 (Nat.ne_of_lt (hD_3 _ _ v2)) (hFrj _ _ v2 (hDr.nA v2))
          have J_67 : z_V M h_21 nnj (5 * (8 - j)) (20 * (8 - j)) 67 [(4, .ref n_2), (3, .int (nI (z_so w d S))), (2, .int (z_o (tw_stF w S 0 (D + 1)))), (0, .ref a), (1, .int (nI d))] [.ref (sa j)] := by
            refine z_astore (lv' := [(5, .ref (sa j)), (4, .ref n_2), (3, .int (nI (z_so w d S))), (2, .int (z_o (tw_stF w S 0 (D + 1)))), (0, .ref a), (1, .int (nI d))]) hb dX2_repair_67 (by rw [hN]; decide) rfl ?_
            refine z_aload_n hb dX2_repair_69 rfl ?_
            refine z_aload hb dX2_repair_70 rfl ?_
            refine z_iload_n hb dX2_repair_72 rfl ?_
            refine z_callQ0 (b' := (5 * (8 - j)) - 5) (f' := (20 * (8 - j)) - 20) (rest := []) (av := [.ref a, .ref (sa j), .int (nI d)]) (z_siteV hb ho zc1 k_22 q1404 q594 qs5 ⟨_, _, _, _, zk_X2_computePartition⟩ zy_X2_computePartition zl_X2_computePartition dX2_repair_73 : z_Site M _ _ _ _ _ ([.ref (sa j), .int (nI d)].reverse ++ .ref a :: []) [] _) zk_X2_computePartition q95 hrm (m_X2_computePartition (hDrj.kp (z_kp_up hTj (by simp [z_lnk]) eh_21)) hb0 hR4 hS8 hD6 (by omega) hd) (by omega) (by decide) (Nat.le_of_ble_eq_true rfl) (by omega) (by omega) (fun h_30 n_31 hq_29 hn_31 => ?_)
            have k_32 : h_30 a = some (.inr (1, [.ref lr, .ref ls, .ref lv, .int (nI D), .int (w 2), .int (w 4), .int (w 5), .int (w 6)])) := (hq_29.2 _ _ k_22 ((hDrj.kp (z_kp_up hTj (by simp [z_lnk]) eh_21)).nO k_22))
            have k_33 : h_30 lr = some (.inr (20, [.int m0, .ref er, .int (nI R)])) := (hq_29.2 _ _ k_23 ((hDrj.kp (z_kp_up hTj (by simp [z_lnk]) eh_21)).nO k_23))
            have k_34 : h_30 er = some (.inl ((zm_G M).2.1 5, N0, .inr (.inr (.inr (.inr f0))))) := (hq_29.2 _ _ k_24 ((hDrj.kp (z_kp_up hTj (by simp [z_lnk]) eh_21)).nA k_24))
            have k_35 : h_30 ls = some (.inr (20, [.int m9, .ref es, .int (nI S)])) := (hq_29.2 _ _ k_25 ((hDrj.kp (z_kp_up hTj (by simp [z_lnk]) eh_21)).nO k_25))
            have k_36 : h_30 es = some (.inl ((zm_G M).2.1 5, N, .inr (.inr (.inr (.inr f))))) := (hq_29.2 _ _ k_26 ((hDrj.kp (z_kp_up hTj (by simp [z_lnk]) eh_21)).nA k_26))
            have k_37 : h_30 lv = some (.inr (20, [.int mv, .ref ev, .int (nI S)])) := (hq_29.2 _ _ k_27 ((hDrj.kp (z_kp_up hTj (by simp [z_lnk]) eh_21)).nO k_27))
            have k_38 : h_30 ev = some (.inl ((zm_G M).2.1 5, Nv, .inr (.inr (.inr (.inr fv))))) := (hq_29.2 _ _ k_28 ((hDrj.kp (z_kp_up hTj (by simp [z_lnk]) eh_21)).nA k_28))
            have k_39 : h_30 n_2 = some (.inr (24, [.int (nI (j + 1)), .int (nI j), .int m9, .ref ls])) := (hq_29.2 _ _ (z_nxs eh_21) ((hDrj.kp (z_kp_up hTj (by simp [z_lnk]) eh_21)).nO (z_nxs eh_21)))
            refine z_aload_n hb dX2_repair_76 rfl ?_
            refine z_aload hb dX2_repair_77 rfl ?_
            refine z_callN1 (b' := (5 * (8 - j)) - 5) (f' := (20 * (8 - j)) - 20) (rest := []) (av := [.ref a, .ref (sa j)]) (z_siteV hb ho zc1 k_32 q596 q597 q598 ⟨_, _, _, _, zk_X2_viewOf⟩ zy_X2_viewOf zl_X2_viewOf dX2_repair_79 : z_Site M _ _ _ _ _ ([.ref (sa j)].reverse ++ .ref a :: []) [] _) zk_X2_viewOf q95 hrm (z_C.rn (m_X2_viewOf hq_29.1.ln (by omega) hS8)) (by omega) (by decide) (Nat.le_of_ble_eq_true rfl) (by omega) (by omega) (fun n_40 hn_40 => ?_)
            have k_41 := hq_29.1.ob (show j < S by omega)
            refine z_get (k := 1) (C := RX4) (T := TX4) (N := 2) hb ho zc3 in_X4 (zf_RX2_101 _) dX2_repair_82 k_41 (by decide) rfl ?_
            refine z_iload_n hb dX2_repair_85 rfl ?_
            refine z_iconst (x := nI 0) hb dX2_repair_86 (by decide) ?_
            refine z_toI (y := z_b false) (by decide) ?_
            obtain ⟨hbv41, hbn41, hbb41, hvo41, F41, Z41, hF41, hZ41, hFv41, hZv41, hZb41⟩ := hq_29.1.vx (show j < S by omega)
            refine z_zast (j := d) (v := (z_b false)) hb dX2_repair_87 hZ41 (Nat.le_trans hb0 hbb41) rfl (by omega) (by omega) (z_bnar _) ?_
            refine z_hn (fun h_43 eh_43 => ?_)
            have eh_43 : h_43 = z_up h_30 (ba j) (.inl ((zm_G M).2.1 2, 7, .inl (va_up Z41 d (z_b false)))) := eh_43
            have k_44 : h_43 a = some (.inr (1, [.ref lr, .ref ls, .ref lv, .int (nI D), .int (w 2), .int (w 4), .int (w 5), .int (w 6)])) := z_nx eh_43 (z_neA k_32 hZ41) k_32
            have k_45 : h_43 lr = some (.inr (20, [.int m0, .ref er, .int (nI R)])) := z_nx eh_43 (z_neA k_33 hZ41) k_33
            have k_46 : h_43 er = some (.inl ((zm_G M).2.1 5, N0, .inr (.inr (.inr (.inr f0))))) := z_nx eh_43 (z_neXoz k_34 hZ41) k_34
            have k_47 : h_43 ls = some (.inr (20, [.int m9, .ref es, .int (nI S)])) := z_nx eh_43 (z_neA k_35 hZ41) k_35
            have k_48 : h_43 es = some (.inl ((zm_G M).2.1 5, N, .inr (.inr (.inr (.inr f))))) := z_nx eh_43 (z_neXoz k_36 hZ41) k_36
            have k_49 : h_43 lv = some (.inr (20, [.int mv, .ref ev, .int (nI S)])) := z_nx eh_43 (z_neA k_37 hZ41) k_37
            have k_50 : h_43 ev = some (.inl ((zm_G M).2.1 5, Nv, .inr (.inr (.inr (.inr fv))))) := z_nx eh_43 (z_neXoz k_38 hZ41) k_38
            have k_51 : h_43 n_2 = some (.inr (24, [.int (nI (j + 1)), .int (nI j), .int m9, .ref ls])) := z_nx eh_43 (z_neA k_39 hZ41) k_39
            have k_52 : h_43 (va j) = some (.inr (3, [.ref (na j), .ref (ba j)])) := z_nx eh_43 (z_neA k_41 hZ41) k_41
            have hq_53 := hq_29.1.flag hR4 hS8 hD6 (by omega) hd hZ41 eh_43
            refine z_goto (tgt := 47) hb dX2_repair_88 (by decide) ?_
            refine z_lv [1, 2, 3, 4, 5] (lv' := [(4, .ref n_2), (3, .int (nI (z_so w d S))), (2, .int (z_o (tw_stF w S 0 (D + 1)))), (0, .ref a), (1, .int (nI d))]) rfl ?_
            exact z_bf (by omega) (by omega) (ih_47 (j + 1) _ n_40 h_43  (by omega) (by omega) (by omega) hq_53.1 (((z_frW hD_3 (by omega) eh_21 hFrj).t hq_29.2).t hq_53.2) k_51 )
          rcases (hDrj.kp (z_kp_up hTj (by simp [z_lnk]) eh_21)).sp j (by omega) with ⟨q1, q9⟩ | ⟨q1, q9⟩ | ⟨q1, q9⟩ | ⟨q1, q2, q3, q9⟩ | ⟨q1, q2, q3, q9⟩ | ⟨q1, q2, q3, q9⟩ | ⟨q1, q2, q3, q9⟩
          · exact z_cast hb ho zc8 q9 q560 (Or.inr q3300) dX2_repair_64 J_67
          · exact z_cast hb ho zc9 q9 q560 (Or.inr q3296) dX2_repair_64 J_67
          · exact z_cast hb ho zc10 q9 q560 (Or.inr q3297) dX2_repair_64 J_67
          · exact z_cast hb ho zc11 q9 q560 (Or.inr q3298) dX2_repair_64 J_67
          · exact z_cast hb ho zc11 q9 q560 (Or.inr q3298) dX2_repair_64 J_67
          · exact z_cast hb ho zc12 q9 q560 (Or.inr q3299) dX2_repair_64 J_67
          · exact z_cast hb ho zc13 q9 q560 (Or.inr q3295) dX2_repair_64 J_67
    refine z_lv [0, 1, 2, 3, 4] (lv' := [(4, .ref n_2), (3, .int (nI (z_so w d S))), (2, .int (z_o (tw_stF w S 0 (D + 1)))), (0, .ref a), (1, .int (nI d))]) rfl ?_
    exact z_bf (by omega) (by omega) (lp_47 _ 0 (-1) (n_2 + 1) h_4  (Nat.lt_succ_self _) (Nat.zero_le _) (by omega) (hDr.kp (z_exN z_ex_r hD_3 eh_4).kp) (z_exN z_ex_r hD_3 eh_4).fr (z_nxs eh_4) )
  refine z_iload_n hb dX2_repair_10 rfl ?_
  refine z_iconst (x := (-1)) hb dX2_repair_11 (by decide) ?_
  refine z_icmp_eq (tgt := 20) hb dX2_repair_12 (by decide) (fun c_12 => ?_) (fun c_12 => ?_)
  · refine z_iconst (x := nI 1) hb dX2_repair_20 (by decide) ?_
    refine z_goto (tgt := 25) hb dX2_repair_21 (by decide) ?_
    exact J_25
  · refine z_iload_n hb dX2_repair_15 rfl ?_
    refine z_iload_n hb dX2_repair_16 rfl ?_
    refine z_icmp_lt (tgt := 24) hb dX2_repair_17 (by decide) (fun c_17 => ?_) (fun c_17 => ?_)
    · exact absurd c_17 (z_rep_no hD6 hd hn c_12)
    · refine z_iconst (x := nI 1) hb dX2_repair_20 (by decide) ?_
      refine z_goto (tgt := 25) hb dX2_repair_21 (by decide) ?_
      exact J_25

set_option maxHeartbeats 1000000 in
theorem m_X2_repair_no {l : Launch} {G : zG} {h : zH} {n : Nat} {w : Nat → Int32} {v : Nat → Int64} {R S D a lr ls lv : Nat} {ra sa va : Nat → Nat} {d e9 : Nat} (hL : z_Ln G h w v R S D a lr ls lv ra sa va) (hS8 : S ≤ 8) (hD6 : D ≤ 6) (hd : d ≤ D) (hn : tw_stF w S 0 d = some e9) : z_C l G yX2_repair 11 60 270 [.ref a, .int (nI d)] h n (z_tf 5 [.null, .null, .null, .null, .null, .int (nI 0), .int (nI 3), .int (nI e9)] h n) := by
  refine z_start zk_X2_repair zpl_RX2 (Nat.le_of_ble_eq_true rfl) ?_
  intro hn0 M hl hG ho hb hN hr hm hH hrm hQ
  subst hl hG
  have ho : zm_o M = RX2 := ho
  obtain ⟨h1, ⟨e0, N0, m0, f0, r1, r2, r3, ⟨r4, r4n⟩, r5⟩, ⟨e, N, m9, f, h3, h4, h5, ⟨h6, h6n⟩, h7⟩, ⟨ev, Nv, mv, fv, v1, v2, v3, ⟨v4, v4n⟩, v5⟩, h9, hs, hv, hi, hrI⟩ := id hL
  have hn2 := z_stF_long hd hn
  obtain ⟨-, hn3, -⟩ := z_stF_s hn
  show z_V M h n 60 270 0 [(0, .ref a), (1, .int (nI d))] []
  refine z_dom (fun hD0 => ?_)
  refine z_aload_n hb dX2_repair_0 rfl ?_
  refine z_iload_n hb dX2_repair_1 rfl ?_
  refine z_call0 (b' := 59) (f' := 264) (rest := []) (av := [.ref a, .int (nI d)]) (z_siteV hb ho zc1 h1 q1609 q1610 q1611 ⟨_, _, _, _, zk_X2_requireDay⟩ zy_X2_requireDay zl_X2_requireDay dX2_repair_2 : z_Site M _ _ _ _ _ ([.int (nI d)].reverse ++ .ref a :: []) [] _) zk_X2_requireDay q95 hrm (m_X2_requireDay_ok h1 hD6 hd) (by omega) (by decide) (Nat.le_of_ble_eq_true rfl) (by omega) (by omega) ?_
  refine z_aload_n hb dX2_repair_5 rfl ?_
  refine z_callN1 (b' := 52) (f' := 236) (rest := []) (av := [.ref a]) (z_siteV hb ho zc1 h1 q1613 q1614 q1615 ⟨_, _, _, _, zk_X2_firstStaleDay⟩ zy_X2_firstStaleDay zl_X2_firstStaleDay dX2_repair_6 : z_Site M _ _ _ _ _ ([].reverse ++ .ref a :: []) [] _) zk_X2_firstStaleDay q95 hrm (m_X2_firstStaleDay hL hS8 hD6) (by omega) (by decide) (Nat.le_of_ble_eq_true rfl) (by omega) (by omega) (fun n_1 hn_1 => ?_)
  refine z_toI (y := nI e9) (by rw [hn2]; rfl) ?_
  refine z_istore_n (lv' := [(2, .int (nI e9)), (0, .ref a), (1, .int (nI d))]) hb dX2_repair_9 (by rw [hN]; decide) rfl ?_
  refine z_iload_n hb dX2_repair_10 rfl ?_
  refine z_iconst (x := (-1)) hb dX2_repair_11 (by decide) ?_
  refine z_icmp_eq (tgt := 20) hb dX2_repair_12 (by decide) (fun c_12 => ?_) (fun c_12 => ?_)
  · exact absurd c_12 (z_nm1 (by omega))
  · refine z_iload_n hb dX2_repair_15 rfl ?_
    refine z_iload_n hb dX2_repair_16 rfl ?_
    refine z_icmp_ltN (tgt := 24) hb dX2_repair_17 (by decide) (by omega) (by omega) (fun c_17 => ?_) (fun c_17 => ?_)
    · refine z_iconst (x := nI 0) hb dX2_repair_24 (by decide) ?_
      refine z_iconst (x := nI 3) hb dX2_repair_25 (by decide) ?_
      refine z_iload_n hb dX2_repair_26 rfl ?_
      refine z_callTf (b' := 51) (f' := 228) (rest := []) (av := [.int (nI 0), .int (nI 3), .int (nI e9)]) (z_siteSN hb ho q1149 q1150 q94 ⟨_, _, _, _, zk_X1_denyUnless⟩ zy_X1_denyUnless zl_X1_denyUnless dX2_repair_27 : z_Site M _ _ _ _ _ ([.int (nI 0), .int (nI 3), .int (nI e9)].reverse ++ []) [] _) zk_X1_denyUnless q94 hrm (z_C.tf (m_X1_denyUnless_f (nI 3) (nI e9))) (by omega) (by decide) (Nat.le_of_ble_eq_true rfl) (by omega) (by omega) (fun q_2 n_3 hq_2 hn_3 => ?_)
      exact z_out ho hH zc5 z_up_s (by omega) (fun _ h => nomatch h) (by rw [hQ]; exact ⟨_, rfl, by omega, by omega, rfl⟩)
    · exact absurd c_17 (by omega)

set_option maxHeartbeats 1000000 in
theorem m_X2_repair_no0 {l : Launch} {G : zG} {h : zH} {n : Nat} {w : Nat → Int32} {v : Nat → Int64} {R S D a lr ls lv : Nat} {ra sa va : Nat → Nat} {x : Int32} (hL : z_Ln G h w v R S D a lr ls lv ra sa va) (hD6 : D ≤ 6) (hx : decide (nI 0 ≤ x ∧ x ≤ nI D) = false) : z_C l G yX2_repair 11 60 270 [.ref a, .int x] h n (z_tf 27 [] h n) := by
  refine z_start zk_X2_repair zpl_RX2 (Nat.le_of_ble_eq_true rfl) ?_
  intro hn0 M hl hG ho hb hN hr hm hH hrm hQ
  subst hl hG
  have ho : zm_o M = RX2 := ho
  obtain ⟨h1, ⟨e0, N0, m0, f0, r1, r2, r3, ⟨r4, r4n⟩, r5⟩, ⟨e, N, m9, f, h3, h4, h5, ⟨h6, h6n⟩, h7⟩, ⟨ev, Nv, mv, fv, v1, v2, v3, ⟨v4, v4n⟩, v5⟩, h9, hs, hv, hi, hrI⟩ := id hL
  show z_V M h n 60 270 0 [(0, .ref a), (1, .int x)] []
  refine z_dom (fun hD0 => ?_)
  refine z_aload_n hb dX2_repair_0 rfl ?_
  refine z_iload_n hb dX2_repair_1 rfl ?_
  refine z_callTf (b' := 59) (f' := 264) (rest := []) (av := [.ref a, .int x]) (z_siteV hb ho zc1 h1 q1609 q1610 q1611 ⟨_, _, _, _, zk_X2_requireDay⟩ zy_X2_requireDay zl_X2_requireDay dX2_repair_2 : z_Site M _ _ _ _ _ ([.int x].reverse ++ .ref a :: []) [] _) zk_X2_requireDay q95 hrm (z_C.tf (m_X2_requireDay_no h1 hD6 hx)) (by omega) (by decide) (Nat.le_of_ble_eq_true rfl) (by omega) (by omega) (fun q_1 n_2 hq_1 hn_2 => ?_)
  exact z_out ho hH zc27 z_up_s (by omega) (fun _ h => nomatch h) (by rw [hQ]; exact ⟨_, rfl, by omega, by omega, rfl⟩)

