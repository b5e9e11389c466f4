theorem z_lw.up {b n : Nat} {h h2 : zH} {c : va_E} (hb : b ≤ n) (e : h2 = z_up h n c) : z_ex (z_lw b h) (z_lw b h2) := fun y c q => by
  have h1 := z_lw.lt q
  exact z_lw.at h1 (by rw [e, z_up_n (by omega)]; exact z_lw.ex y c q)

theorem z_fb.frb {b : Nat} {h h2 : zH} (f : z_fb b h h2) : z_fr (fun y => b ≤ y) h h2 := fun y c q l => f y c q (fun z => absurd z l)
theorem z_hw.lw {b wo : Nat} {h h2 h3 : zH} {hs : Int32} (hb : wo < b) (q : z_hw h h2 wo hs) (g : z_fb b h2 h3) : z_hw (z_lw b h) (z_lw b h3) wo hs := by
  obtain ⟨e, hs1, w1, w2⟩ := q
  exact ⟨e, hs1, z_lw.at hb w1, z_lw.at hb (g _ _ w2 (fun z => absurd z (by omega)))⟩

set_option maxHeartbeats 1000000 in
theorem m_X1_applyAll {l : Launch} {G : zG} {h : zH} {n : Nat} {b0 m0 R S D a c9 lq el c : Nat} {w : Nat → Int32} {v : Nat → Int64} {cs : List Nat} {g P KD : Nat → Nat} (hDR : z_DR G h b0 w v R S D a) (hb0 : z_n0 G ≤ b0) (hm0 : z_n0 G ≤ m0) (hmb : m0 ≤ b0) (hbn : b0 ≤ n) (hI : z_inv w v R S D c9) (hc9 : c9 + 60 < 2 ^ 30) (hK : z_KC G h) (hLx : z_Lx G (z_lw b0 h) m0 lq el c g) (hck : ∀ i, i < c → z_ck G m0 (z_lw b0 h) cs (g i) (P i) (KD i)) (hkd : ∀ i, i < c → KD i < 9) (hsg : ∀ i, (z_rv9 cs (KD i) (P i + (z_wd (KD i)).length)).1 < 65536) (hc30 : c ≤ 30) : z_C l G yX1_applyAll 43 (103 * c + 2) (1040 * c + 10) [.ref lq, .ref a] h n (z_al9 G h n b0 m0 w v R S D a (z_A9 cs P KD) c) := by
  refine z_start zk_X1_applyAll zpl_RX1 (Nat.le_of_ble_eq_true rfl) ?_
  intro hn0 M hl hG ho hb hN hr hm hH hrm hQ
  subst hl hG
  have ho : zm_o M = RX1 := ho
  refine z_dom (fun hdm0 => ?_)
  obtain ⟨-, -, N5, m5, f5, hq1_, hq2_, k5, z5, y5, l6q⟩ := id hLx
  have z5N := z5.le
  obtain ⟨lr0, er0, ls0, es0, lv0, ev0, ra0, sa0, va0, na0, ba0, hDr0⟩ := id hDR
  show z_V M h n (103 * c + 2) (1040 * c + 10) 0 [(0, .ref lq), (1, .ref a)] []
  refine z_dom (fun hD0 => ?_)
  refine z_iconst (x := nI 0) hb dX1_applyAll_0 (by decide) ?_
  refine z_istore_n (lv' := [(2, .int (nI 0)), (0, .ref lq), (1, .ref a)]) hb dX1_applyAll_1 (by rw [hN]; decide) rfl ?_
  refine z_aload_n hb dX1_applyAll_2 rfl ?_
  refine z_dom (fun hD_1 => ?_)
  refine z_call1 (b' := (103 * c + 2) - 1) (f' := (1040 * c + 10) - 4) (rest := []) (av := [.ref lq]) (z_siteF hb ho zc20 (z_lw.ex _ _ hq1_) q586 zx1 q343 q345 q346 q344 q321 zxl1 dX1_applyAll_3 : z_Site M _ _ _ _ _ ([].reverse ++ .ref lq :: []) [] _) zk_J2_iterator q98 hrm (m_J2_iterator (z_lw.ex _ _ hq1_) (hD_1 _ _ (z_lw.ex _ _ hq1_))) (by omega) (by decide) (Nat.le_of_ble_eq_true rfl) (by omega) (by omega) ?_
  refine z_hn (fun h_2 eh_2 => ?_)
  have eh_2 : h_2 = z_up h n (.inr (24, [.int (nI 0), .int (-1), .int m5, .ref lq])) := eh_2
  have k_3 : h_2 lq = some (.inr (20, [.int m5, .ref el, .int (nI c)])) := z_nx eh_2 (Nat.ne_of_lt (hD_1 _ _ (z_lw.ex _ _ hq1_))) (z_lw.ex _ _ hq1_)
  have k_4 : h_2 el = some (.inl ((zm_G M).2.1 5, N5, .inr (.inr (.inr (.inr f5))))) := z_nx eh_2 (Nat.ne_of_lt (hD_1 _ _ (z_lw.ex _ _ hq2_))) (z_lw.ex _ _ hq2_)
  refine z_astore_n (lv' := [(3, .ref n), (2, .int (nI 0)), (0, .ref lq), (1, .ref a)]) hb dX1_applyAll_8 (by rw [hN]; decide) rfl ?_
  have lp_9 : ∀ (k9_9 : Nat) (j : Nat) (l9 : Int32) (nn : Nat) (hh : zH), c + 1 - j < k9_9 → (j ≤ c) → (n + 1 ≤ nn) → (hh n = some (.inr (24, [.int (nI j), .int l9, .int m5, .ref lq]))) → ((z_lw b0 hh) lq = some (.inr (20, [.int m5, .ref el, .int (nI c)]))) → ((z_lw b0 hh) el = some (z_ao (zm_G M) N5 f5)) → (∀ i, i < c → z_ck (zm_G M) m0 (z_lw b0 hh) cs (g i) (P i) (KD i)) → (z_DR (zm_G M) hh b0 (z_cr9 w v R S D (z_A9 cs P KD) j).1 (z_cr9 w v R S D (z_A9 cs P KD) j).2.1 (z_cr9 w v R S D (z_A9 cs P KD) j).2.2.2.1 (z_cr9 w v R S D (z_A9 cs P KD) j).2.2.2.2.1 (z_cr9 w v R S D (z_A9 cs P KD) j).2.2.2.2.2 a) → (z_KC (zm_G M) hh) → (∀ k, k < j → (z_cy9 w v R S D (z_A9 cs P KD) k).1 = 0) → (z_fr (fun y => m0 ≤ y) h hh) → z_V M hh nn (103 * (c - j)) (1040 * (c - j)) 9 [(0, .ref lq), (1, .ref a), (2, .int (nI j)), (3, .ref n)] [] := by
    intro k9_9
    induction k9_9 with
    | zero => intro j l9 nn hh hk9_9; exact absurd hk9_9 (Nat.not_lt_zero _)
    | succ k9_9 ih_9 =>
      intro j l9 nn hh hk9_9 hj hnnj hT9 hq1 hq2 hckj hDRj hKj h0j hFj
      refine z_dom (fun hdl => ?_)
      refine z_aload_n hb dX1_applyAll_9 rfl ?_
      refine z_call1 (b' := 103 * (c - j)) (f' := 1040 * (c - j)) (rest := []) (av := [.ref n]) (z_siteF hb ho zc24 hT9 q588 zx2 q372 q374 q375 q373 q371 zxl2 dX1_applyAll_10 : z_Site M _ _ _ _ _ ([].reverse ++ .ref n :: []) [] _) zk_J8_hasNext q105 hrm (m_J8_hasNext hT9 (z_lw.ex _ _ hq1) (by omega) (by omega)) (by omega) (by decide) (Nat.le_of_ble_eq_true rfl) (by omega) (by omega) ?_
      refine z_ifb_eq (tgt := 60) hb dX1_applyAll_15 (by decide) (fun c_15 => ?_) (fun c_15 => ?_)
      · refine z_vret hb hr dX1_applyAll_60 ?_
        rw [hQ]
        obtain rfl : j = c := by simpa using c_15
        exact Or.inl ⟨h0j, rfl, hDRj, hFj⟩
      · have hl_j : j < c := Nat.lt_of_le_of_ne hj (by simpa using c_15)
        refine z_aload_n hb dX1_applyAll_18 rfl ?_
        refine z_call1 (b' := 103 * (c - j)) (f' := 1040 * (c - j)) (rest := []) (av := [.ref n]) (z_siteF hb ho zc24 hT9 q590 zx3 q381 q383 q384 q382 q371 zxl3 dX1_applyAll_19 : z_Site M _ _ _ _ _ ([].reverse ++ .ref n :: []) [] _) zk_J8_next q105 hrm (m_J8_next hT9 (z_lw.ex _ _ hq1) (z_lw.ex _ _ hq2) (by omega) (by omega) l6q (by omega) (by omega)) (by omega) (by decide) (Nat.le_of_ble_eq_true rfl) (by omega) (by omega) ?_
        refine z_hn (fun h_5 eh_5 => ?_)
        have eh_5 : h_5 = z_up hh n (.inr (24, [.int (nI (j + 1)), .int (nI j), .int m5, .ref lq])) := eh_5
        have k_6 : h_5 lq = some (.inr (20, [.int m5, .ref el, .int (nI c)])) := z_nx eh_5 (z_neO (z_lw.ex _ _ hq1) hT9 rfl) (z_lw.ex _ _ hq1)
        have k_7 : h_5 el = some (.inl ((zm_G M).2.1 5, N5, .inr (.inr (.inr (.inr f5))))) := z_nx eh_5 (z_neA' (z_lw.ex _ _ hq2) hT9) (z_lw.ex _ _ hq2)
        have hckc := fun i hi => (hckj i hi).ex (z_lw.up hbn eh_5)
        obtain ⟨s9, hs9, ⟨hs91, hs92⟩, hsf9, hcc9⟩ := hckc j hl_j
        refine z_cast hb ho zc4 (z_lw.ex _ _ hcc9) q817 (Or.inl rfl) dX1_applyAll_24 ?_
        refine z_astore (lv' := [(4, .ref (g j)), (0, .ref lq), (1, .ref a), (2, .int (nI j)), (3, .ref n)]) hb dX1_applyAll_27 (by rw [hN]; decide) rfl ?_
        refine z_aload hb dX1_applyAll_29 rfl ?_
        refine z_aload_n hb dX1_applyAll_31 rfl ?_
        obtain ⟨lr, er, ls, es, lv, ev, ra, sa, va, na, ba, hDr⟩ := hDRj
        have hDrc := hDr.kp (z_kp_up hT9 (by simp [z_lnk]) eh_5)
        have hKc := hKj.fr (z_fr_up (P := fun y => y = n) rfl eh_5) (fun y z => by omega)
        obtain ⟨c8, hc8, hI8⟩ := z_cr9_inv (A := z_A9 cs P KD) hI j (by omega) h0j
        refine z_call (b' := (103 * (c - j)) - 101) (f' := (1040 * (c - j)) - 1010) (rest := []) (av := [.ref (g j), .ref a]) (z_siteS hb ho q2469 q2470 q94 ⟨_, _, _, _, zk_X1_applyCommand⟩ zy_X1_applyCommand zl_X1_applyCommand dX1_applyAll_32 : z_Site M _ _ _ _ _ ([.ref (g j), .ref a].reverse ++ []) [] _) zk_X1_applyCommand q94 hrm (m_X1_applyCommand hDrc hb0 (by omega) hI8 hKc (hsg j) (z_lw.ex _ _ hcc9) (hkd j hl_j) (by omega) hs92 (hsf9.ex z_lw.ex)) (by omega) (by decide) (Nat.le_of_ble_eq_true rfl) (by omega) (by omega) (fun v9 h9 n9 hq9 hn9 => ?_) (fun q9 h9 n9 hq9 hn9 => ?_)
        · rcases hq9 with ⟨hw0, v9_, hv9, hDR9, h2_, hhw, f1, f2⟩ | ⟨-, q9_, r9, d9, hv9, -⟩
          · cases hv9
            have hfl := z_lw.fr f1 f2
            have hwl := z_lw.lt hsf9.o.choose_spec
            have hT8 := f2 _ _ (f1 _ _ (z_nxs eh_5) (z_ne_cc (z_lw.ex _ _ hsf9.o.choose_spec) (z_nxs eh_5) (by decide))) (fun _ => by simp [z_lnj])
            refine z_istore (lv' := [(5, .int v9_), (4, .ref (g j)), (0, .ref lq), (1, .ref a), (2, .int (nI j)), (3, .ref n)]) hb dX1_applyAll_35 (by rw [hN]; decide) rfl ?_
            refine z_goto (tgt := 54) hb dX1_applyAll_37 (by decide) ?_
            refine z_iinc (k0 := 4) (lv' := [(2, .int (nI (j + 1))), (5, .int v9_), (4, .ref (g j)), (0, .ref lq), (1, .ref a), (3, .ref n)]) hb dX1_applyAll_54 rfl (nI_1 j) (by rw [hN]; decide) rfl ?_
            refine z_goto (tgt := 9) hb dX1_applyAll_57 (by decide) ?_
            refine z_lv [3, 4, 0, 5] (lv' := [(0, .ref lq), (1, .ref a), (2, .int (nI (j + 1))), (3, .ref n)]) rfl ?_
            exact z_bf (by omega) (by omega) (ih_9 (j + 1) _ n9 h9 (by omega) (by omega) (by omega) hT8 (hfl _ _ (z_lw.up hbn eh_5 _ _ hq1) (z_ne_cc hsf9.o.choose_spec (z_lw.up hbn eh_5 _ _ hq1) (by decide))) (hfl _ _ (z_lw.up hbn eh_5 _ _ hq2) (fun z => by have q1 := z_lw.up hbn eh_5 _ _ hq2; have q2 := hsf9.o.choose_spec; rw [z, q2] at q1; cases q1)) (fun i hi => (hckc i hi).fw hsf9 (z_hw.lw hwl hhw f2) hfl) hDR9 ((hKc.fr f1 (fun y z => by omega)).fr f2.frb (fun y z => by omega)) (fun k hk => by
              rcases Nat.lt_succ_iff_lt_or_eq.mp hk with z | z
              · exact h0j k z
              · rw [z]; exact hw0) (((hFj.t (z_fr_up (by omega) eh_5)).t (f1.w (fun y z => by omega))).t (f2.frb.w (fun y z => by omega))))
          · cases hv9
        · rcases hq9 with ⟨-, v9_, hv9, -⟩ | ⟨hw0, q9_, r9, d9, hv9, hqn, hqd, hrd, f1⟩
          · cases hv9
          · cases hv9
            refine z_catch ho hH (pre := []) (suf := []) (x := ((29 : Nat), (37 : Nat), (40 : Nat), (30 : Nat))) rfl zc5 hqd (by omega) (fun _ h => nomatch h) ⟨by decide, by decide⟩ (by decide) q816 q1153 ?_
            refine z_astore (lv' := [(5, .ref q9), (4, .ref (g j)), (0, .ref lq), (1, .ref a), (2, .int (nI j)), (3, .ref n)]) hb dX1_applyAll_40 (by rw [hN]; decide) rfl ?_
            refine z_dom (fun hD_8 => ?_)
            refine z_new (N0 := 8) (b' := ((103 * (c - j)) - 101) - 1) (f' := ((1040 * (c - j)) - 1010) - 8) (fs := [.null, .null, .null, .null, .null, .int (nI 0), .int (nI 0), .int (nI 0)]) (C := RX6) (T := TX6) (N := 8) hb ho zc5 in_X6 tyX6_ok q816 q1152 q121 dX1_applyAll_42 (zdf_X6) (by omega) (by omega) ?_
            refine z_hn (fun h_9 eh_9 => ?_)
            have eh_9 : h_9 = z_up h9 n9 (.inr (5, [.null, .null, .null, .null, .null, .int (nI 0), .int (nI 0), .int (nI 0)])) := eh_9
            have k_10 : h_9 q9 = some (.inr (5, [.null, .null, .null, .null, .null, .int (nI 0), .int (nI r9), .int (nI d9)])) := z_nx eh_9 (Nat.ne_of_lt (hD_8 _ _ hqd)) hqd
            refine z_dup hb dX1_applyAll_45 rfl ?_
            refine z_iconst (x := nI 5) hb dX1_applyAll_46 (by decide) ?_
            refine z_iload_n hb dX1_applyAll_47 rfl ?_
            refine z_aload hb dX1_applyAll_48 rfl ?_
            refine z_call0 (b' := ((103 * (c - j)) - 101) - 1) (f' := ((1040 * (c - j)) - 1010) - 8) (rest := [.ref n9]) (av := [.ref n9, .int (nI 5), .int (nI j), .ref q9]) (z_siteI hb ho q2472 q1164 q1165 rfl zy_X6_init_2 zl_X6_init_2 dX1_applyAll_50 : z_Site M _ _ _ _ _ ([.int (nI 5), .int (nI j), .ref q9].reverse ++ .ref n9 :: [.ref n9]) [.ref n9] _) zk_X6_init_2 q121 hrm (m_X6_init_2c (nI 5) (nI j) (z_nxs eh_9) (by omega)) (by omega) (by decide) (Nat.le_of_ble_eq_true rfl) (by omega) (by omega) ?_
            refine z_hn (fun h_11 eh_11 => ?_)
            have eh_11 : h_11 = z_up h_9 n9 (.inr (5, [.ref q9, .null, .null, .null, .null, .int (nI 0), .int (nI 5), .int (nI j)])) := eh_11
            have k_12 : h_11 q9 = some (.inr (5, [.null, .null, .null, .null, .null, .int (nI 0), .int (nI r9), .int (nI d9)])) := z_nx eh_11 (Nat.ne_of_lt (hD_8 _ _ hqd)) k_10
            refine z_athrow hb dX1_applyAll_53 ?_
            exact z_out ho hH zc5 (z_nxs eh_11) (by omega) (fun z hz => by rw [List.mem_singleton] at hz; subst hz; exact Or.inl (by decide)) (by rw [hQ]; exact Or.inr ⟨j, hl_j, h0j, hw0, _, _, r9, d9, rfl, by omega, by omega, (fun z => by have q1 := (z_nxs eh_11); have q2 := k_12; rw [z, q1] at q2; cases q2), (z_nxs eh_11), k_12, hrd, ((((hFj.t (z_fr_up (by omega) eh_5)).t (f1.w (fun y z => by omega))).t (z_fr_up (by omega) eh_9)).t (z_fr_up (by omega) eh_11))⟩)
  refine z_lv [2, 3, 1, 0] (lv' := [(0, .ref lq), (1, .ref a), (2, .int (nI 0)), (3, .ref n)]) rfl ?_
  exact z_bf (by omega) (by omega) (lp_9 _ 0 (-1) (n + 1) h_2 (Nat.lt_succ_self _) (Nat.zero_le _) (by omega) (z_nxs eh_2) (z_lw.up hbn eh_2 _ _ hq1_) (z_lw.up hbn eh_2 _ _ hq2_) (fun i hi => (hck i hi).ex (z_lw.up hbn eh_2)) ⟨_, _, _, _, _, _, _, _, _, _, _, hDr0.kp (z_exN z_ex_r hdm0 eh_2).kp⟩ (hK.fr (z_fr_up (P := fun y => y = n) rfl eh_2) (fun y z => by omega)) (fun k hk => absurd hk (Nat.not_lt_zero _)) (z_fr_up (P := fun y => m0 ≤ y) (by omega) eh_2))

