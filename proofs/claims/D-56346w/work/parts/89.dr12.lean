theorem z_fbT {b0 : Nat} {h0 h1 h2 : zH} {n0 t : Nat} (d : z_dm h0 n0) (hb : n0 ≤ t) (a : z_fb b0 h0 h1) (b : z_fr (fun y => y = t) h1 h2) : z_fb b0 h0 h2 := fun y c q l => b y c (a y c q l) fun z => by
  have := d y c q
  omega

set_option maxHeartbeats 1000000 in
theorem m_X2_add {l : Launch} {G : zG} {h : zH} {n : Nat} {b0 : Nat} {w : Nat → Int32} {v : Nat → Int64} {R S D a lr er ls es lv ev : Nat} {ra sa va na ba : Nat → Nat} {x i j : Nat} {kd bd : Int32} (hDr : z_Dr G h b0 w v R S D a lr er ls es lv ev ra sa va na ba) (hb0 : z_n0 G ≤ b0) (hR4 : R ≤ 40) (hD6 : D ≤ 6) (hS7 : S < 8) (hbn : b0 ≤ n) (hxn : ∀ k, k < S → sa k ≠ x) (hsp : z_Sp h (tw_nst w S kd bd i j) (va_up sa S x) S) (hiW : z_inp w S) (hkda : z_kda S kd i j) : z_C l G yX2_add 30 45 296 [.ref a, .ref x] h n (z_q1 (fun r9 h' n' => r9 = .int (nI S) ∧ z_DR G h' b0 (tw_ns0 (tw_nst w S kd bd i j) S (D + 1)) (tw_ns5 (tw_nst w S kd bd i j) R S v (D + 1)) R (S + 1) D a ∧ z_fb b0 h h')) := by
  refine z_start zk_X2_add zpl_RX2 (Nat.le_of_ble_eq_true rfl) ?_
  intro hn0 M hl hG ho hb hN hr hm hH hrm hQ
  subst hl hG
  have ho : zm_o M = RX2 := ho
  obtain ⟨⟨ha0, h1⟩, ⟨lr0, lr1, N0, m0, f0, r1, r2, r3, r4, r4b, r5⟩, ⟨ls0, ls1, N, m9, f, h3, h4, h5, h6, h6b, h7⟩, ⟨lv0, lv1, Nv, mv, fv, v1, v2, v3, v4, v4b, v5⟩, hne, hse, h9, hs, hvx, hi, hrI, hna, hba⟩ := id hDr
  have r4N := r4.le
  have h6N := h6.le
  have v4N := v4.le
  have hxo : z_obj h x := by
    have q := hsp.o.1
    rw [va_ups] at q
    exact q
  have hxls : x ≠ ls := by
    have q := hsp.ne h3 (by omega)
    rw [va_ups] at q
    exact q
  show z_V M h n 45 296 0 [(0, .ref a), (1, .ref x)] []
  refine z_dom (fun hD0 => ?_)
  refine z_aload_n hb dX2_add_0 rfl ?_
  refine z_get (k := 1) (C := RX2) (T := TX2) (N := 8) hb ho zc1 in_X2 (zf_RX2_18 _) dX2_add_1 h1 (by decide) rfl ?_
  refine z_call1 (b' := 45) (f' := 296) (rest := []) (av := [.ref ls]) (z_siteF hb ho zc20 h3 q1183 zx0 q322 q324 q325 q323 q321 zxl0 dX2_add_4 : z_Site M _ _ _ _ _ ([].reverse ++ .ref ls :: []) [] _) zk_J2_size q98 hrm (m_J2_size h3) (by omega) (by decide) (Nat.le_of_ble_eq_true rfl) (by omega) (by omega) ?_
  refine z_bipush (x := nI 8) hb dX2_add_9 (by decide) ?_
  refine z_icmp_geN (tgt := 18) hb dX2_add_11 (by decide) (by omega) (by omega) (fun c_11 => ?_) (fun c_11 => ?_)
  · exact absurd c_11 (by omega)
  · refine z_iconst (x := nI 1) hb dX2_add_14 (by decide) ?_
    refine z_goto (tgt := 19) hb dX2_add_15 (by decide) ?_
    refine z_iconst (x := nI 1) hb dX2_add_19 (by decide) ?_
    refine z_bipush (x := nI 8) hb dX2_add_20 (by decide) ?_
    refine z_call0 (b' := 44) (f' := 288) (rest := []) (av := [.int (nI 1), .int (nI 1), .int (nI 8)]) (z_siteSN hb ho q1149 q1150 q94 ⟨_, _, _, _, zk_X1_denyUnless⟩ zy_X1_denyUnless zl_X1_denyUnless dX2_add_22 : z_Site M _ _ _ _ _ ([.int (nI 1), .int (nI 1), .int (nI 8)].reverse ++ []) [] _) zk_X1_denyUnless q94 hrm ((m_X1_denyUnless_t (nI 1) (nI 8))) (by omega) (by decide) (Nat.le_of_ble_eq_true rfl) (by omega) (by omega) ?_
    refine z_aload_n hb dX2_add_25 rfl ?_
    refine z_get (k := 1) (C := RX2) (T := TX2) (N := 8) hb ho zc1 in_X2 (zf_RX2_18 _) dX2_add_26 h1 (by decide) rfl ?_
    refine z_aload_n hb dX2_add_29 rfl ?_
    refine z_dom (fun hD_4 => ?_)
    refine z_callQ1 (b' := 43) (f' := 238) (rest := []) (av := [.ref ls, .ref x]) (z_siteF hb ho zc20 h3 q475 zx4 q478 q480 q481 q479 q321 zxl4 dX2_add_30 : z_Site M _ _ _ _ _ ([.ref x].reverse ++ .ref ls :: []) [] _) zk_J2_add q98 hrm (m_add hb0 hDr.2.2.1 (by omega) hxo hxls (fun j hj => ⟨(hDr.sp j hj).o.1, (hDr.sp j hj).ne h3 (by omega)⟩)) (by omega) (by decide) (Nat.le_of_ble_eq_true rfl) (by omega) (by omega) (fun rhq_1 h_2 n_3 hq_1 hn_3 => ?_)
    obtain ⟨rfl, hq_1⟩ := hq_1
    obtain ⟨es2, hlx1, hes, hfl1⟩ := hq_1
    obtain ⟨ls0x, ls1x, N8, m8, f8, y1, y2, y3, y4, y4b, y5⟩ := id hlx1
    have hbes2 : b0 ≤ es2 := ls1x.elim id (fun z => absurd z.2 (Nat.succ_ne_zero _))
    have k_5 : h_2 a = some (.inr (1, [.ref lr, .ref ls, .ref lv, .int (nI D), .int (w 2), .int (w 4), .int (w 5), .int (w 6)])) := hfl1 _ _ h1 (fun z => z.elim (z_neO h1 h3 rfl) (fun z => z_neA h1 h4 z.1))
    have k_6 : h_2 lv = some (.inr (20, [.int mv, .ref ev, .int (nI S)])) := hfl1 _ _ v1 (fun z => z.elim hne.2.2.symm (fun z => z_neA v1 h4 z.1))
    have k_7 : h_2 ev = some (.inl ((zm_G M).2.1 5, Nv, .inr (.inr (.inr (.inr fv))))) := hfl1 _ _ v2 (fun z => z.elim (z_neA' v2 h3) (fun z => (hse.2.1 (z.1 ▸ z.2)).2.symm z.1))
    have hvo1 : ∀ j, j < S → h_2 (va j) = some (.inr (3, [.ref (na j), .ref (ba j)])) := fun j hj => hfl1 _ _ (hDr.ob hj) (fun z => z.elim (z_neO (hDr.ob hj) h3 rfl) (fun z => z_neA (hDr.ob hj) h4 z.1))
    have hfa1 : z_fr (z_PA b0 ls es lv ev) h h_2 := hfl1.w (fun y hy => hy.elim (fun z => Or.inl (Or.inl z)) (fun z => Or.inr (Or.inl z)))
    refine z_pop hb dX2_add_35 rfl ?_
    refine z_aload_n hb dX2_add_36 rfl ?_
    refine z_get (k := 2) (C := RX2) (T := TX2) (N := 8) hb ho zc1 in_X2 (zf_RX2_21 _) dX2_add_37 k_5 (by decide) rfl ?_
    refine z_dom (fun hD_8 => ?_)
    refine z_new (N0 := 2) (b' := 42) (f' := 236) (fs := [.null, .null]) (C := RX4) (T := TX4) (N := 2) hb ho zc3 in_X4 tyX4_ok q461 q566 q114 dX2_add_40 (zdf_X4) (by omega) (by omega) ?_
    refine z_hn (fun h_9 eh_9 => ?_)
    have eh_9 : h_9 = z_up h_2 n_3 (.inr (3, [.null, .null])) := eh_9
    have k_10 : h_9 a = some (.inr (1, [.ref lr, .ref ls, .ref lv, .int (nI D), .int (w 2), .int (w 4), .int (w 5), .int (w 6)])) := z_nx eh_9 (Nat.ne_of_lt (hD_8 _ _ k_5)) k_5
    have k_11 : h_9 lv = some (.inr (20, [.int mv, .ref ev, .int (nI S)])) := z_nx eh_9 (Nat.ne_of_lt (hD_8 _ _ k_6)) k_6
    have k_12 : h_9 ev = some (.inl ((zm_G M).2.1 5, Nv, .inr (.inr (.inr (.inr fv))))) := z_nx eh_9 (Nat.ne_of_lt (hD_8 _ _ k_7)) k_7
    have k_13 : h_9 ls = some (.inr (20, [.int m8, .ref es2, .int (nI (S + 1))])) := z_nx eh_9 (Nat.ne_of_lt (hD_8 _ _ y1)) y1
    have k_14 : h_9 es2 = some (.inl ((zm_G M).2.1 5, N8, .inr (.inr (.inr (.inr f8))))) := z_nx eh_9 (Nat.ne_of_lt (hD_8 _ _ y2)) y2
    have hvo2 : ∀ j, j < S → h_9 (va j) = some (.inr (3, [.ref (na j), .ref (ba j)])) := fun j hj => (z_exN z_ex_r hD_8 eh_9) _ _ (hvo1 j hj)
    have hfa2 : z_fr (z_PA b0 ls es lv ev) h h_9 := hfa1.t (z_exN z_ex_r hD_8 eh_9).fr
    refine z_dup hb dX2_add_43 rfl ?_
    refine z_dom (fun hD_15 => ?_)
    refine z_call0 (b' := 40) (f' := 194) (rest := [.ref n_3, .ref lv]) (av := [.ref n_3]) (z_siteIN hb ho q1481 q568 q569 rfl zy_X4_init zl_X4_init dX2_add_44 : z_Site M _ _ _ _ _ ([].reverse ++ .ref n_3 :: [.ref n_3, .ref lv]) [.ref n_3, .ref lv] _) zk_X4_init q114 hrm (m_X4_init (z_nxs eh_9) (by omega) (by omega)) (by omega) (by decide) (Nat.le_of_ble_eq_true rfl) (by omega) (by omega) ?_
    have ⟨h_16, eh_16⟩ : ∃ x, x = z_up (z_up (z_up h_9 (n_3 + 1) (z_al (zm_G M) 35 (fun _ => 0))) (n_3 + 1 + 1) (z_az (zm_G M) 7 (fun _ => 0))) n_3 (.inr (3, [.ref (n_3 + 1), .ref (n_3 + 1 + 1)])) := ⟨_, rfl⟩
    rw [← eh_16]
    have k_17 : h_16 a = some (.inr (1, [.ref lr, .ref ls, .ref lv, .int (nI D), .int (w 2), .int (w 4), .int (w 5), .int (w 6)])) := z_up3x eh_16 k_10 (hD_15 _ _ k_10) (Nat.ne_of_lt (hD_8 _ _ k_5))
    have k_18 : h_16 lv = some (.inr (20, [.int mv, .ref ev, .int (nI S)])) := z_up3x eh_16 k_11 (hD_15 _ _ k_11) (Nat.ne_of_lt (hD_8 _ _ k_6))
    have k_19 : h_16 ev = some (.inl ((zm_G M).2.1 5, Nv, .inr (.inr (.inr (.inr fv))))) := z_up3x eh_16 k_12 (hD_15 _ _ k_12) (Nat.ne_of_lt (hD_8 _ _ k_7))
    have k_20 : h_16 ls = some (.inr (20, [.int m8, .ref es2, .int (nI (S + 1))])) := z_up3x eh_16 k_13 (hD_15 _ _ k_13) (Nat.ne_of_lt (hD_8 _ _ y1))
    have k_21 : h_16 es2 = some (.inl ((zm_G M).2.1 5, N8, .inr (.inr (.inr (.inr f8))))) := z_up3x eh_16 k_14 (hD_15 _ _ k_14) (Nat.ne_of_lt (hD_8 _ _ y2))
    have kv0 : h_16 n_3 = some (.inr (3, [.ref (n_3 + 1), .ref (n_3 + 1 + 1)])) := by rw [eh_16, z_up_s]
    have kv1 : h_16 (n_3 + 1) = some (z_al (zm_G M) 35 (fun _ => 0)) := by rw [eh_16, z_up_n (by omega), z_up_n (by omega), z_up_s]
    have kv2 : h_16 (n_3 + 1 + 1) = some (z_az (zm_G M) 7 (fun _ => 0)) := by rw [eh_16, z_up_n (by omega), z_up_s]
    have hfx := z_fr3 hD_15 eh_16
    have hvo3 : ∀ j, j < S → h_16 (va j) = some (.inr (3, [.ref (na j), .ref (ba j)])) := fun j hj => hfx _ _ (hvo2 j hj) (Nat.ne_of_lt (Nat.lt_of_lt_of_le (hD0 _ _ (hDr.ob hj)) (by omega)))
    have hfa3 : z_fr (z_PA b0 ls es lv ev) h h_16 := z_frT hD0 (by omega) hfa2 hfx
    refine z_dom (fun hD_25 => ?_)
    refine z_callQ1 (b' := 39) (f' := 144) (rest := []) (av := [.ref lv, .ref n_3]) (z_siteF hb ho zc20 k_18 q475 zx4 q478 q480 q481 q479 q321 zxl4 dX2_add_47 : z_Site M _ _ _ _ _ ([.ref n_3].reverse ++ .ref lv :: []) [] _) zk_J2_add q98 hrm (m_add hb0 (⟨lv0, lv1, Nv, mv, fv, k_18, k_19, v3, v4, v4b, v5⟩ : z_Lx (zm_G M) h_16 b0 lv ev S va) (by omega) ⟨3, _, _, kv0, zc3, q3309⟩ (z_neO kv0 k_18 rfl) (fun j hj => ⟨⟨3, _, _, hvo3 j hj, zc3, q3309⟩, z_neO (hvo3 j hj) k_18 rfl⟩)) (by omega) (by decide) (Nat.le_of_ble_eq_true rfl) (by omega) (by omega) (fun rhq_22 h_23 n_24 hq_22 hn_24 => ?_)
    obtain ⟨rfl, hq_22⟩ := hq_22
    obtain ⟨ev2, hlx2, hev, hfl2⟩ := hq_22
    have hes2n := hD_25 _ _ k_21
    have hdes := hD0 _ _ h4
    have hdev := hD0 _ _ v2
    have hbev2 : b0 ≤ ev2 := hlx2.2.1.elim id (fun z => absurd z.2 (Nat.succ_ne_zero _))
    have hee : es2 ≠ ev2 := fun z => by
      rcases hes with q1 | q1
      · rcases hev with q2 | q2
        · rw [q1] at hbes2
          exact (hse.2.1 hbes2).2 (q1 ▸ q2 ▸ z)
        · omega
      · rcases hev with q2 | q2 <;> omega
    have k_26 : h_23 a = some (.inr (1, [.ref lr, .ref ls, .ref lv, .int (nI D), .int (w 2), .int (w 4), .int (w 5), .int (w 6)])) := hfl2 _ _ k_17 (fun z => z.elim (z_neO k_17 k_18 rfl) (fun z => z_neA k_17 k_19 z.1))
    have k_27 : h_23 ls = some (.inr (20, [.int m8, .ref es2, .int (nI (S + 1))])) := hfl2 _ _ k_20 (fun z => z.elim hne.2.2 (fun z => z_neA k_20 k_19 z.1))
    have hne9 : es2 ≠ ev := fun z => by
      rcases hes with q1 | q1
      · exact (hse.2.1 (q1 ▸ hbes2)).2 (q1 ▸ z)
      · omega
    have k_28 : h_23 es2 = some (.inl ((zm_G M).2.1 5, N8, .inr (.inr (.inr (.inr f8))))) := hfl2 _ _ k_21 (fun z => z.elim (z_neA' k_21 k_18) (fun z => hne9 z.1))
    have k_29 : h_23 n_3 = some (.inr (3, [.ref (n_3 + 1), .ref (n_3 + 1 + 1)])) := hfl2 _ _ kv0 (fun z => z.elim (z_neO kv0 k_18 rfl) (fun z => z_neA kv0 k_19 z.1))
    have k_30 : h_23 (n_3 + 1) = some (.inl ((zm_G M).2.1 1, 35, .inr (.inl (fun _ => 0)))) := hfl2 _ _ kv1 (fun z => z.elim (z_neA' kv1 k_18) (fun z => (z_neXlo kv1 k_19) z.1))
    have k_31 : h_23 (n_3 + 1 + 1) = some (.inl ((zm_G M).2.1 2, 7, .inl (fun _ => 0))) := hfl2 _ _ kv2 (fun z => z.elim (z_neA' kv2 k_18) (fun z => (z_neXzo kv2 k_19) z.1))
    have hfa4 : z_fr (z_PA b0 ls es lv ev) h h_23 := hfa3.t (hfl2.w (fun y hy => hy.elim (fun z => Or.inl (Or.inr z)) (fun z => Or.inr (Or.inr z))))
    have hl1 : z_Lx (zm_G M) h_23 b0 ls es2 (S + 1) (va_up sa S x) := ⟨ls0x, ls1x, N8, m8, f8, k_27, k_28, y3, y4, y4b, y5⟩
    obtain ⟨w1, v1, hD1, hag⟩ := z_Dr.addS (n := n) hDr hR4 hS7 hD6 hD0 hbn hl1 (hes.imp id (fun z => by omega)) hlx2 (hev.imp id (fun z => by omega)) hee hfa4 k_29 k_30 k_31 ⟨by omega, by omega, by omega⟩ hxn hsp
    obtain ⟨ls0y, ls1y, N7, m7, f7, z1, z2, z3⟩ := id hD1.2.2.1
    refine z_pop hb dX2_add_52 rfl ?_
    refine z_iconst (x := nI 0) hb dX2_add_53 (by decide) ?_
    refine z_istore_n (lv' := [(2, .int (nI 0)), (0, .ref a), (1, .ref x)]) hb dX2_add_54 (by rw [hN]; decide) rfl ?_
    have lp_55 : ∀ (k9_55 : Nat) (d : Nat) (nnd : Nat) (hhd : zH), D + 2 - d < k9_55 → (d ≤ D + 1) → (n_24 ≤ nnd) → (z_Dr (zm_G M) hhd b0 (tw_ns0 w1 S d) (tw_ns5 w1 R S v1 d) R (S + 1) D a lr er ls es2 lv ev2 ra (va_up sa S x) (va_up va S n_3) (va_up na S (n_3 + 1)) (va_up ba S (n_3 + 1 + 1))) → (z_fr (z_VA (va_up na S (n_3 + 1)) (va_up ba S (n_3 + 1 + 1)) (S + 1)) h_23 hhd) → z_V M hhd nnd (5 * (7 - d)) (20 * (7 - d)) 55 [(2, .int (nI d)), (0, .ref a), (1, .ref x)] [] := by
      intro k9_55
      induction k9_55 with
      | zero => intro d nnd hhd hk9_55; exact absurd hk9_55 (Nat.not_lt_zero _)
      | succ k9_55 ih_55 =>
        intro d nnd hhd hk9_55 hd9 hnnd hDd hFd
        refine z_iload_n hb dX2_add_55 rfl ?_
        refine z_aload_n hb dX2_add_56 rfl ?_
        refine z_get (k := 3) (C := RX2) (T := TX2) (N := 8) hb ho zc1 in_X2 (zf_RX2_54 _) dX2_add_57 (hFd _ _ k_26 (hD1.nO k_26)) (by decide) rfl ?_
        refine z_icmp_gtN (tgt := 75) hb dX2_add_60 (by decide) (by omega) (by omega) (fun c_60 => ?_) (fun c_60 => ?_)
        · refine z_aload_n hb dX2_add_75 rfl ?_
          refine z_get (k := 1) (C := RX2) (T := TX2) (N := 8) hb ho zc1 in_X2 (zf_RX2_18 _) dX2_add_76 (hFd _ _ k_26 (hD1.nO k_26)) (by decide) rfl ?_
          refine z_call1 (b' := 5 * (7 - d)) (f' := 20 * (7 - d)) (rest := []) (av := [.ref ls]) (z_siteF hb ho zc20 (hFd _ _ k_27 (hD1.nO k_27)) q1183 zx0 q322 q324 q325 q323 q321 zxl0 dX2_add_79 : z_Site M _ _ _ _ _ ([].reverse ++ .ref ls :: []) [] _) zk_J2_size q98 hrm (m_J2_size (hFd _ _ k_27 (hD1.nO k_27))) (by omega) (by decide) (Nat.le_of_ble_eq_true rfl) (by omega) (by omega) ?_
          refine z_iconst (x := nI 1) hb dX2_add_84 (by decide) ?_
          refine z_isub hb dX2_add_85 ?_
          refine z_toI (y := nI S) ((pk_sub (by omega)).trans (congrArg nI (by omega))) ?_
          refine z_iret hb hr dX2_add_86 ?_
          rw [hQ]
          obtain rfl : d = D + 1 := by omega
          have h9 := z_ag_ns (R := R) hag (z_nst_inp hiW hS7 hkda) (show S + 1 ≤ 8 by omega) hR4 hD6 (Nat.lt_succ_self S) (D + 1) (Nat.le_refl _)
          exact ⟨_, rfl, rfl, (hDd.cg hR4 (by omega) (fun j hj hn => (h9.1 j hj hn).symm) (fun k hk d hd => ⟨(h9.2 k hk d hd (by omega)).1.symm, fun g hg => ((h9.2 k hk d hd (by omega)).2 g hg).symm⟩)).dr, (((z_fbT hD0 (by omega) ((z_fbL1 h3 h4 h6N.2 ls0 hfl1).t (z_exN z_ex_r hD_8 eh_9).fb) hfx).t (z_fbL1 k_18 k_19 v4N.2 lv0 hfl2)).t (hD1.vfb hFd))⟩
        · refine z_aload_n hb dX2_add_63 rfl ?_
          refine z_aload_n hb dX2_add_64 rfl ?_
          refine z_iload_n hb dX2_add_65 rfl ?_
          refine z_callQ0 (b' := (5 * (7 - d)) - 5) (f' := (20 * (7 - d)) - 20) (rest := []) (av := [.ref a, .ref x, .int (nI d)]) (z_siteV hb ho zc1 (hFd _ _ k_26 (hD1.nO k_26)) q1400 q1402 qs12 ⟨_, _, _, _, zk_X2_beginPartition⟩ zy_X2_beginPartition zl_X2_beginPartition dX2_add_66 : z_Site M _ _ _ _ _ ([.ref x, .int (nI d)].reverse ++ .ref a :: []) [] _) zk_X2_beginPartition q95 hrm ((by have h9 := m_X2_beginPartition (l := zm_l M) (n := nnd) (k := S) (d := d) hDd hb0 hR4 (show S + 1 ≤ 8 by omega) hD6 (Nat.lt_succ_self S) (show d ≤ D by omega); rw [show va_up sa S x S = x from va_ups] at h9; exact h9)) (by omega) (by decide) (Nat.le_of_ble_eq_true rfl) (by omega) (by omega) (fun h_33 n_34 hq_32 hn_34 => ?_)
          have k_35 : h_33 a = some (.inr (1, [.ref lr, .ref ls, .ref lv, .int (nI D), .int (w 2), .int (w 4), .int (w 5), .int (w 6)])) := (hq_32.2 _ _ (hFd _ _ k_26 (hD1.nO k_26)) (hDd.nO (hFd _ _ k_26 (hD1.nO k_26))))
          have k_36 : h_33 ls = some (.inr (20, [.int m8, .ref es2, .int (nI (S + 1))])) := (hq_32.2 _ _ (hFd _ _ k_27 (hD1.nO k_27)) (hDd.nO (hFd _ _ k_27 (hD1.nO k_27))))
          refine z_iinc (k0 := 0) (lv' := [(2, .int (nI (d + 1))), (0, .ref a), (1, .ref x)]) hb dX2_add_69 rfl (nI_1 d) (by rw [hN]; decide) rfl ?_
          refine z_goto (tgt := 55) hb dX2_add_72 (by decide) ?_
          refine z_lv [0, 1, 2] (lv' := [(2, .int (nI (d + 1))), (0, .ref a), (1, .ref x)]) rfl ?_
          exact z_bf (by omega) (by omega) (ih_55 (d + 1) n_34 h_33 (by omega) (by omega) (by omega) hq_32.1 (hFd.t hq_32.2))
    refine z_lv [0, 1, 2] (lv' := [(2, .int (nI 0)), (0, .ref a), (1, .ref x)]) rfl ?_
    exact z_bf (by omega) (by omega) (lp_55 _ 0 n_24 h_23 (Nat.lt_succ_self _) (Nat.zero_le _) (by omega) hD1 z_fr_r)

