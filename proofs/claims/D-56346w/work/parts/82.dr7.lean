set_option maxHeartbeats 1000000 in
theorem m_X8_init {l : Launch} {G : zG} {h : zH} {n : Nat} {w : Nat → Int32} {v : Nat → Int64} {R S D a lr ls lv : Nat} {ra sa va : Nat → Nat} {t q g : Nat} {nu am sg : Int32} (hL : z_Ln G h w v R S D a lr ls lv ra sa va) (hS8 : S ≤ 8) (hR4 : R ≤ 40) (hD6 : D ≤ 6) (ht9 : h t = some (.inr (7, [.null, .null]))) (hnt : z_n0 G ≤ t) (htn : t < n) (hq9 : h q = some (.inr (6, [.int nu, .int (nI D), .int (nI g), .int am]))) (hg : g < 5) : z_C l G yX8_init 10 9 40 [.ref t, .ref a, .ref q, .int sg] h n (z_q0 (fun h' n' => ∃ ec, h' t = some (.inr (7, [.ref ls, .ref ec])) ∧ h' ec = some (z_al G 8 (z_ch w v R D g am sg S)) ∧ n ≤ ec ∧ z_fr (fun y => y = t) h h')) := by
  refine z_start zk_X8_init zpl_RX8 (Nat.le_of_ble_eq_true rfl) ?_
  intro hn0 M hl hG ho hb hN hr hm hH hrm hQ
  subst hl hG
  have ho : zm_o M = RX8 := ho
  obtain ⟨h1, ⟨e0, N0, m0, f0, r1, r2, r3, ⟨r4, r4n⟩, r5⟩, ⟨e, N, m9, f, h3, h4, h5, ⟨h6, h6n⟩, h7⟩, ⟨ev, Nv, mv, fv, v1, v2, v3, ⟨v4, v4n⟩, v5⟩, h9, hs, hv, hi, hrI⟩ := id hL
  show z_V M h n 9 40 0 [(0, .ref t), (1, .ref a), (2, .ref q), (3, .int sg)] []
  refine z_dom (fun hD0 => ?_)
  refine z_aload_n hb dX8_init_0 rfl ?_
  refine z_oinit hb ho hrm (by omega) q1232 q155 q156 (by decide) dX8_init_1 ?_
  refine z_aload_n hb dX8_init_4 rfl ?_
  refine z_bipush (x := nI 8) hb dX8_init_5 (by decide) ?_
  refine z_dom (fun hD_1 => ?_)
  refine z_newl (N := 8) (b' := 8) (f' := 32) hb q582 dX8_init_7 rfl (by omega) (by omega) (by omega) ?_
  refine z_hn (fun h_2 eh_2 => ?_)
  have eh_2 : h_2 = z_up h n (.inl ((zm_G M).2.1 1, 8, .inr (.inl (fun _ => 0)))) := eh_2
  have k_3 : h_2 a = some (.inr (1, [.ref lr, .ref ls, .ref lv, .int (nI D), .int (w 2), .int (w 4), .int (w 5), .int (w 6)])) := z_nx eh_2 (Nat.ne_of_lt (hD_1 _ _ h1)) h1
  have k_4 : h_2 lr = some (.inr (20, [.int m0, .ref e0, .int (nI R)])) := z_nx eh_2 (Nat.ne_of_lt (hD_1 _ _ r1)) r1
  have k_5 : h_2 e0 = some (.inl ((zm_G M).2.1 5, N0, .inr (.inr (.inr (.inr f0))))) := z_nx eh_2 (Nat.ne_of_lt (hD_1 _ _ r2)) r2
  have k_6 : h_2 ls = some (.inr (20, [.int m9, .ref e, .int (nI S)])) := z_nx eh_2 (Nat.ne_of_lt (hD_1 _ _ h3)) h3
  have k_7 : h_2 e = some (.inl ((zm_G M).2.1 5, N, .inr (.inr (.inr (.inr f))))) := z_nx eh_2 (Nat.ne_of_lt (hD_1 _ _ h4)) h4
  have k_8 : h_2 lv = some (.inr (20, [.int mv, .ref ev, .int (nI S)])) := z_nx eh_2 (Nat.ne_of_lt (hD_1 _ _ v1)) v1
  have k_9 : h_2 ev = some (.inl ((zm_G M).2.1 5, Nv, .inr (.inr (.inr (.inr fv))))) := z_nx eh_2 (Nat.ne_of_lt (hD_1 _ _ v2)) v2
  have k_10 : h_2 t = some (.inr (7, [.null, .null])) := z_nx eh_2 (Nat.ne_of_lt (hD_1 _ _ ht9)) ht9
  have k_11 : h_2 q = some (.inr (6, [.int nu, .int (nI D), .int (nI g), .int am])) := z_nx eh_2 (Nat.ne_of_lt (hD_1 _ _ hq9)) hq9
  refine z_put (k := 1) (C := RX8) (T := TX8) (N := 2) hb ho zc7 in_X8 tyX8_ok nmX8 (zf_RX8_9 _) dX8_init_9 k_10 hnt (by decide) (Or.inr ⟨hm, rfl⟩) rfl rfl rfl (Nat.le_of_ble_eq_true rfl) ?_
  refine z_hn (fun h_12 eh_12 => ?_)
  have eh_12 : h_12 = z_up h_2 t (.inr (7, [.null, .ref n])) := eh_12
  have k_13 : h_12 a = some (.inr (1, [.ref lr, .ref ls, .ref lv, .int (nI D), .int (w 2), .int (w 4), .int (w 5), .int (w 6)])) := z_nx eh_12 (z_neO k_3 k_10 rfl) k_3
  have k_14 : h_12 lr = some (.inr (20, [.int m0, .ref e0, .int (nI R)])) := z_nx eh_12 (z_neO k_4 k_10 rfl) k_4
  have k_15 : h_12 e0 = some (.inl ((zm_G M).2.1 5, N0, .inr (.inr (.inr (.inr f0))))) := z_nx eh_12 (z_neA' k_5 k_10) k_5
  have k_16 : h_12 ls = some (.inr (20, [.int m9, .ref e, .int (nI S)])) := z_nx eh_12 (z_neO k_6 k_10 rfl) k_6
  have k_17 : h_12 e = some (.inl ((zm_G M).2.1 5, N, .inr (.inr (.inr (.inr f))))) := z_nx eh_12 (z_neA' k_7 k_10) k_7
  have k_18 : h_12 lv = some (.inr (20, [.int mv, .ref ev, .int (nI S)])) := z_nx eh_12 (z_neO k_8 k_10 rfl) k_8
  have k_19 : h_12 ev = some (.inl ((zm_G M).2.1 5, Nv, .inr (.inr (.inr (.inr fv))))) := z_nx eh_12 (z_neA' k_9 k_10) k_9
  have k_20 : h_12 q = some (.inr (6, [.int nu, .int (nI D), .int (nI g), .int am])) := z_nx eh_12 (z_neO k_11 k_10 rfl) k_11
  have k_21 : h_12 n = some (.inl ((zm_G M).2.1 1, 8, .inr (.inl (fun _ => 0)))) := z_nx eh_12 (Nat.ne_of_gt (hD_1 _ _ ht9)) (z_nxs eh_2)
  refine z_aload_n hb dX8_init_12 rfl ?_
  refine z_aload_n hb dX8_init_13 rfl ?_
  refine z_get (k := 1) (C := RX2) (T := TX2) (N := 8) hb ho zc1 in_X2 (zf_RX8_15 _) dX8_init_14 k_13 (by decide) rfl ?_
  refine z_put (k := 0) (C := RX8) (T := TX8) (N := 2) hb ho zc7 in_X8 tyX8_ok nmX8 (zf_RX8_21 _) dX8_init_17 (z_nxs eh_12) hnt (by decide) (Or.inr ⟨hm, rfl⟩) rfl rfl rfl (Nat.le_of_ble_eq_true rfl) ?_
  refine z_hn (fun h_22 eh_22 => ?_)
  have eh_22 : h_22 = z_up h_12 t (.inr (7, [.ref ls, .ref n])) := eh_22
  have k_23 : h_22 a = some (.inr (1, [.ref lr, .ref ls, .ref lv, .int (nI D), .int (w 2), .int (w 4), .int (w 5), .int (w 6)])) := z_nx eh_22 (z_neO k_13 (z_nxs eh_12) rfl) k_13
  have k_24 : h_22 lr = some (.inr (20, [.int m0, .ref e0, .int (nI R)])) := z_nx eh_22 (z_neO k_14 (z_nxs eh_12) rfl) k_14
  have k_25 : h_22 e0 = some (.inl ((zm_G M).2.1 5, N0, .inr (.inr (.inr (.inr f0))))) := z_nx eh_22 (z_neA' k_15 (z_nxs eh_12)) k_15
  have k_26 : h_22 ls = some (.inr (20, [.int m9, .ref e, .int (nI S)])) := z_nx eh_22 (z_neO k_16 (z_nxs eh_12) rfl) k_16
  have k_27 : h_22 e = some (.inl ((zm_G M).2.1 5, N, .inr (.inr (.inr (.inr f))))) := z_nx eh_22 (z_neA' k_17 (z_nxs eh_12)) k_17
  have k_28 : h_22 lv = some (.inr (20, [.int mv, .ref ev, .int (nI S)])) := z_nx eh_22 (z_neO k_18 (z_nxs eh_12) rfl) k_18
  have k_29 : h_22 ev = some (.inl ((zm_G M).2.1 5, Nv, .inr (.inr (.inr (.inr fv))))) := z_nx eh_22 (z_neA' k_19 (z_nxs eh_12)) k_19
  have k_30 : h_22 q = some (.inr (6, [.int nu, .int (nI D), .int (nI g), .int am])) := z_nx eh_22 (z_neO k_20 (z_nxs eh_12) rfl) k_20
  have k_31 : h_22 n = some (.inl ((zm_G M).2.1 1, 8, .inr (.inl (fun _ => 0)))) := z_nx eh_22 (Nat.ne_of_gt (hD_1 _ _ ht9)) k_21
  refine z_iconst (x := nI 0) hb dX8_init_20 (by decide) ?_
  refine z_istore (lv' := [(4, .int (nI 0)), (0, .ref t), (1, .ref a), (2, .ref q), (3, .int sg)]) hb dX8_init_21 (by rw [hN]; decide) rfl ?_
  have lp_23 : ∀ (k9_23 : Nat) (i : Nat) (nni : Nat) (hhi : zH), S + 1 - i < k9_23 → (i ≤ S) → (n + 1 ≤ nni) → (z_kp h hhi) → (z_fr (fun y => y = t) h hhi) → (hhi t = some (.inr (7, [.ref ls, .ref n]))) → (hhi n = some (.inl ((zm_G M).2.1 1, 8, .inr (.inl (z_ch w v R D g am sg i))))) → z_V M hhi nni (8 - i) (4 * (8 - i)) 23 [(4, .int (nI i)), (0, .ref t), (1, .ref a), (2, .ref q), (3, .int sg)] [] := by
    intro k9_23
    induction k9_23 with
    | zero => intro i nni hhi hk9_23; exact absurd hk9_23 (Nat.not_lt_zero _)
    | succ k9_23 ih_23 =>
      intro i nni hhi hk9_23 hi9 hnni hKi hFi hTi hEi
      refine z_iload hb dX8_init_23 rfl ?_
      refine z_aload_n hb dX8_init_25 rfl ?_
      refine z_get (k := 0) (C := RX8) (T := TX8) (N := 2) hb ho zc7 in_X8 (zf_RX8_21 _) dX8_init_26 hTi (by decide) rfl ?_
      refine z_call1 (b' := 8 - i) (f' := 4 * (8 - i)) (rest := [.int (nI i)]) (av := [.ref ls]) (z_siteF hb ho zc20 (hKi _ _ h3 (by simp [z_lnk])) q1234 zx0 q322 q324 q325 q323 q321 zxl0 dX8_init_29 : z_Site M _ _ _ _ _ ([].reverse ++ .ref ls :: [.int (nI i)]) [.int (nI i)] _) zk_J2_size q98 hrm (m_J2_size (hKi _ _ h3 (by simp [z_lnk]))) (by omega) (by decide) (Nat.le_of_ble_eq_true rfl) (by omega) (by omega) ?_
      refine z_icmp_geN (tgt := 112) hb dX8_init_34 (by decide) (by omega) (by omega) (fun c_34 => ?_) (fun c_34 => ?_)
      · refine z_vret hb hr dX8_init_112 ?_
        rw [hQ]
        obtain rfl : i = S := by omega
        exact ⟨rfl, _, hTi, hEi, Nat.le_refl _, hFi⟩
      · refine z_aload_n hb dX8_init_37 rfl ?_
        refine z_get (k := 2) (C := RX2) (T := TX2) (N := 8) hb ho zc1 in_X2 (zf_RX8_28 _) dX8_init_38 (hKi _ _ h1 (by simp [z_lnk])) (by decide) rfl ?_
        refine z_iload hb dX8_init_41 rfl ?_
        refine z_call1 (b' := 8 - i) (f' := 4 * (8 - i)) (rest := []) (av := [.ref lv, .int (nI i)]) (z_siteF hb ho zc20 (hKi _ _ v1 (by simp [z_lnk])) q1236 zx6 q663 q665 q666 q664 q321 zxl6 dX8_init_43 : z_Site M _ _ _ _ _ ([.int (nI i)].reverse ++ .ref lv :: []) [] _) zk_J2_get q98 hrm (m_J2_get (hKi _ _ v1 (by simp [z_lnk])) (hKi _ _ v2 (by simp [z_lnk])) (by omega) (by omega) v5 (by omega)) (by omega) (by decide) (Nat.le_of_ble_eq_true rfl) (by omega) (by omega) ?_
        obtain ⟨e1, e2, F, Z, hv1, hv2, hv3, hv4, hv5, hv6⟩ := hv i (by omega)
        have k_33 : hhi (va i) = some (.inr (3, [.ref e1, .ref e2])) := hKi _ _ hv1 (by simp [z_lnk])
        have k_34 : hhi e2 = some (.inl ((zm_G M).2.1 2, 7, .inl Z)) := hKi _ _ hv3 (by simp [z_lnk])
        have k_35 : hhi e1 = some (.inl ((zm_G M).2.1 1, 35, .inr (.inl F))) := hKi _ _ hv2 (by simp [z_lnk])
        refine z_cast hb ho zc3 k_33 q1237 (Or.inl rfl) dX8_init_48 ?_
        refine z_get (k := 1) (C := RX4) (T := TX4) (N := 2) hb ho zc3 in_X4 (zf_RX8_37 _) dX8_init_51 k_33 (by decide) rfl ?_
        refine z_aload_n hb dX8_init_54 rfl ?_
        refine z_get (k := 1) (C := RX7) (T := TX7) (N := 4) hb ho zc6 in_X7 (zf_RX8_41 _) dX8_init_55 (hKi _ _ hq9 (by simp [z_lnk])) (by decide) rfl ?_
        refine z_zald (j := D) hb dX8_init_58 k_34 rfl (by omega) (by omega) ?_
        refine z_toI (y := z_b (tw_st w i D)) (hv5 D (Nat.le_refl _)) ?_
        have J_67 : z_V M hhi nni (8 - i) (4 * (8 - i)) 67 [(4, .int (nI i)), (0, .ref t), (1, .ref a), (2, .ref q), (3, .int sg)] [.int (z_b (!tw_st w i D))] := by
          refine z_istore (lv' := [(5, .int (z_b (!tw_st w i D))), (4, .int (nI i)), (0, .ref t), (1, .ref a), (2, .ref q), (3, .int sg)]) hb dX8_init_67 (by rw [hN]; decide) rfl ?_
          refine z_aload_n hb dX8_init_69 rfl ?_
          refine z_get (k := 1) (C := RX8) (T := TX8) (N := 2) hb ho zc7 in_X8 (zf_RX8_9 _) dX8_init_70 hTi (by decide) rfl ?_
          refine z_iload hb dX8_init_73 rfl ?_
          refine z_iload hb dX8_init_75 rfl ?_
          refine z_ifb_eq (tgt := 104) hb dX8_init_77 (by decide) (fun c_77 => ?_) (fun c_77 => ?_)
          · refine z_lconst (x := 0) hb dX8_init_104 rfl ?_
            refine z_last (j := i) hb dX8_init_105 hEi (by omega) rfl (by omega) (by omega) ?_
            refine z_hn (fun h_36 eh_36 => ?_)
            have eh_36 : h_36 = z_up hhi n (.inl ((zm_G M).2.1 1, 8, .inr (.inl (va_up (z_ch w v R D g am sg i) i 0)))) := eh_36
            have k_37 : h_36 a = some (.inr (1, [.ref lr, .ref ls, .ref lv, .int (nI D), .int (w 2), .int (w 4), .int (w 5), .int (w 6)])) := z_nx eh_36 (Nat.ne_of_lt (hD_1 _ _ h1)) (hKi _ _ h1 (by simp [z_lnk]))
            have k_38 : h_36 lr = some (.inr (20, [.int m0, .ref e0, .int (nI R)])) := z_nx eh_36 (Nat.ne_of_lt (hD_1 _ _ r1)) (hKi _ _ r1 (by simp [z_lnk]))
            have k_39 : h_36 e0 = some (.inl ((zm_G M).2.1 5, N0, .inr (.inr (.inr (.inr f0))))) := z_nx eh_36 (Nat.ne_of_lt (hD_1 _ _ r2)) (hKi _ _ r2 (by simp [z_lnk]))
            have k_40 : h_36 ls = some (.inr (20, [.int m9, .ref e, .int (nI S)])) := z_nx eh_36 (Nat.ne_of_lt (hD_1 _ _ h3)) (hKi _ _ h3 (by simp [z_lnk]))
            have k_41 : h_36 e = some (.inl ((zm_G M).2.1 5, N, .inr (.inr (.inr (.inr f))))) := z_nx eh_36 (Nat.ne_of_lt (hD_1 _ _ h4)) (hKi _ _ h4 (by simp [z_lnk]))
            have k_42 : h_36 lv = some (.inr (20, [.int mv, .ref ev, .int (nI S)])) := z_nx eh_36 (Nat.ne_of_lt (hD_1 _ _ v1)) (hKi _ _ v1 (by simp [z_lnk]))
            have k_43 : h_36 ev = some (.inl ((zm_G M).2.1 5, Nv, .inr (.inr (.inr (.inr fv))))) := z_nx eh_36 (Nat.ne_of_lt (hD_1 _ _ v2)) (hKi _ _ v2 (by simp [z_lnk]))
            have k_44 : h_36 q = some (.inr (6, [.int nu, .int (nI D), .int (nI g), .int am])) := z_nx eh_36 (Nat.ne_of_lt (hD_1 _ _ hq9)) (hKi _ _ hq9 (by simp [z_lnk]))
            have k_45 : h_36 t = some (.inr (7, [.ref ls, .ref n])) := z_nx eh_36 (Nat.ne_of_lt (hD_1 _ _ ht9)) hTi
            have k_46 : h_36 (va i) = some (.inr (3, [.ref e1, .ref e2])) := z_nx eh_36 (z_neA k_33 hEi) k_33
            refine z_iinc (k0 := 1) (lv' := [(4, .int (nI (i + 1))), (5, .int (z_b (!tw_st w i D))), (0, .ref t), (1, .ref a), (2, .ref q), (3, .int sg)]) hb dX8_init_106 rfl (nI_1 i) (by rw [hN]; decide) rfl ?_
            refine z_goto (tgt := 23) hb dX8_init_109 (by decide) ?_
            refine z_lv [0, 2, 3, 4, 5] (lv' := [(4, .int (nI (i + 1))), (0, .ref t), (1, .ref a), (2, .ref q), (3, .int sg)]) rfl ?_
            exact z_bf (by omega) (by omega) (ih_23 (i + 1) nni h_36 (by omega) (by omega) (by omega) (z_kpW hD0 (by omega) eh_36 hKi) (z_frW hD0 (by omega) eh_36 hFi) k_45 (by rw [z_ch, if_pos (by simpa using c_77)]; exact (z_nxs eh_36)))
          · refine z_aload_n hb dX8_init_80 rfl ?_
            refine z_get (k := 0) (C := RX8) (T := TX8) (N := 2) hb ho zc7 in_X8 (zf_RX8_21 _) dX8_init_81 hTi (by decide) rfl ?_
            refine z_iload hb dX8_init_84 rfl ?_
            refine z_call1 (b' := 8 - i) (f' := 4 * (8 - i)) (rest := [.int (nI i), .ref n]) (av := [.ref ls, .int (nI i)]) (z_siteF hb ho zc20 (hKi _ _ h3 (by simp [z_lnk])) q1236 zx6 q663 q665 q666 q664 q321 zxl6 dX8_init_86 : z_Site M _ _ _ _ _ ([.int (nI i)].reverse ++ .ref ls :: [.int (nI i), .ref n]) [.int (nI i), .ref n] _) zk_J2_get q98 hrm (m_J2_get (hKi _ _ h3 (by simp [z_lnk])) (hKi _ _ h4 (by simp [z_lnk])) (by omega) (by omega) h7 (by omega)) (by omega) (by decide) (Nat.le_of_ble_eq_true rfl) (by omega) (by omega) ?_
            have J_94 : z_V M hhi nni (8 - i) (4 * (8 - i)) 94 [(5, .int (z_b (!tw_st w i D))), (4, .int (nI i)), (0, .ref t), (1, .ref a), (2, .ref q), (3, .int sg)] [.ref (sa i), .int (nI i), .ref n] := by
              refine z_aload_n hb dX8_init_94 rfl ?_
              refine z_aload_n hb dX8_init_95 rfl ?_
              refine z_iload_n hb dX8_init_96 rfl ?_
              refine z_aload_n hb dX8_init_97 rfl ?_
              have J_101 : ∀ n_47 : Nat, nni ≤ n_47 → z_V M hhi n_47 (8 - i - 1) (4 * (8 - i) - 4) 101 [(5, .int (z_b (!tw_st w i D))), (4, .int (nI i)), (0, .ref t), (1, .ref a), (2, .ref q), (3, .int sg)] [.long (z_chg w v R i D g am sg (z_ch w v R D g am sg i)), .int (nI i), .ref n] := by
                intro n_47 hn_47
                refine z_goto (tgt := 105) hb dX8_init_101 (by decide) ?_
                refine z_last (j := i) hb dX8_init_105 hEi (by omega) rfl (by omega) (by omega) ?_
                refine z_hn (fun h_48 eh_48 => ?_)
                have eh_48 : h_48 = z_up hhi n (.inl ((zm_G M).2.1 1, 8, .inr (.inl (va_up (z_ch w v R D g am sg i) i (z_chg w v R i D g am sg (z_ch w v R D g am sg i)))))) := eh_48
                have k_49 : h_48 a = some (.inr (1, [.ref lr, .ref ls, .ref lv, .int (nI D), .int (w 2), .int (w 4), .int (w 5), .int (w 6)])) := z_nx eh_48 (Nat.ne_of_lt (hD_1 _ _ h1)) (hKi _ _ h1 (by simp [z_lnk]))
                have k_50 : h_48 lr = some (.inr (20, [.int m0, .ref e0, .int (nI R)])) := z_nx eh_48 (Nat.ne_of_lt (hD_1 _ _ r1)) (hKi _ _ r1 (by simp [z_lnk]))
                have k_51 : h_48 e0 = some (.inl ((zm_G M).2.1 5, N0, .inr (.inr (.inr (.inr f0))))) := z_nx eh_48 (Nat.ne_of_lt (hD_1 _ _ r2)) (hKi _ _ r2 (by simp [z_lnk]))
                have k_52 : h_48 ls = some (.inr (20, [.int m9, .ref e, .int (nI S)])) := z_nx eh_48 (Nat.ne_of_lt (hD_1 _ _ h3)) (hKi _ _ h3 (by simp [z_lnk]))
                have k_53 : h_48 e = some (.inl ((zm_G M).2.1 5, N, .inr (.inr (.inr (.inr f))))) := z_nx eh_48 (Nat.ne_of_lt (hD_1 _ _ h4)) (hKi _ _ h4 (by simp [z_lnk]))
                have k_54 : h_48 lv = some (.inr (20, [.int mv, .ref ev, .int (nI S)])) := z_nx eh_48 (Nat.ne_of_lt (hD_1 _ _ v1)) (hKi _ _ v1 (by simp [z_lnk]))
                have k_55 : h_48 ev = some (.inl ((zm_G M).2.1 5, Nv, .inr (.inr (.inr (.inr fv))))) := z_nx eh_48 (Nat.ne_of_lt (hD_1 _ _ v2)) (hKi _ _ v2 (by simp [z_lnk]))
                have k_56 : h_48 q = some (.inr (6, [.int nu, .int (nI D), .int (nI g), .int am])) := z_nx eh_48 (Nat.ne_of_lt (hD_1 _ _ hq9)) (hKi _ _ hq9 (by simp [z_lnk]))
                have k_57 : h_48 t = some (.inr (7, [.ref ls, .ref n])) := z_nx eh_48 (Nat.ne_of_lt (hD_1 _ _ ht9)) hTi
                have k_58 : h_48 (va i) = some (.inr (3, [.ref e1, .ref e2])) := z_nx eh_48 (z_neA k_33 hEi) k_33
                refine z_iinc (k0 := 1) (lv' := [(4, .int (nI (i + 1))), (5, .int (z_b (!tw_st w i D))), (0, .ref t), (1, .ref a), (2, .ref q), (3, .int sg)]) hb dX8_init_106 rfl (nI_1 i) (by rw [hN]; decide) rfl ?_
                refine z_goto (tgt := 23) hb dX8_init_109 (by decide) ?_
                refine z_lv [0, 2, 3, 4, 5] (lv' := [(4, .int (nI (i + 1))), (0, .ref t), (1, .ref a), (2, .ref q), (3, .int sg)]) rfl ?_
                exact z_bf (by omega) (by omega) (ih_23 (i + 1) n_47 h_48 (by omega) (by omega) (by omega) (z_kpW hD0 (by omega) eh_48 hKi) (z_frW hD0 (by omega) eh_48 hFi) k_57 (by rw [z_ch, if_neg (by simpa using c_77)]; exact (z_nxs eh_48)))
              rcases hs i (by omega) with ⟨q1, q9⟩ | ⟨q1, q9⟩ | ⟨q1, q9⟩ | ⟨q1, q2, q3, q9⟩ | ⟨q1, q2, q3, q9⟩ | ⟨q1, q2, q3, q9⟩ | ⟨q1, q2, q3, q9⟩
              · refine z_callN1 (b' := 8 - i - 1) (f' := 4 * (8 - i) - 4) (rest := [.int (nI i), .ref n]) (av := [.ref (sa i), .ref a, .ref q, .int sg, .ref t]) (z_siteU hb ho zc8 (hKi _ _ q9 (by simp [z_lnk])) q1239 q1241 (Or.inl q1240) q1276 q1275 ⟨by decide +kernel, by decide +kernel⟩ (by show _ = some 4; decide +kernel) dX8_init_98 : z_Site M _ _ _ _ _ ([.ref a, .ref q, .int sg, .ref t].reverse ++ .ref (sa i) :: [.int (nI i), .ref n]) [.int (nI i), .ref n] _) zk_X11_change q129 hrm (m_change (hL.kp hKi) hS8 hR4 hD6 hTi hEi (hKi _ _ hq9 (by simp [z_lnk])) hg (show i < S by omega) _ _ (hKi _ _ q9 (by simp [z_lnk])) _) (by omega) (by decide) (Nat.le_of_ble_eq_true rfl) (by omega) (by omega) (fun n_59 hn_59 => ?_)
                exact J_101 _ (by omega)
              · refine z_callN1 (b' := 8 - i - 1) (f' := 4 * (8 - i) - 4) (rest := [.int (nI i), .ref n]) (av := [.ref (sa i), .ref a, .ref q, .int sg, .ref t]) (z_siteU hb ho zc9 (hKi _ _ q9 (by simp [z_lnk])) q1239 q1241 (Or.inl q1240) q1253 q1252 ⟨by decide +kernel, by decide +kernel⟩ (by show _ = some 4; decide +kernel) dX8_init_98 : z_Site M _ _ _ _ _ ([.ref a, .ref q, .int sg, .ref t].reverse ++ .ref (sa i) :: [.int (nI i), .ref n]) [.int (nI i), .ref n] _) zk_X12_change q130 hrm (m_change (hL.kp hKi) hS8 hR4 hD6 hTi hEi (hKi _ _ hq9 (by simp [z_lnk])) hg (show i < S by omega) _ _ (hKi _ _ q9 (by simp [z_lnk])) _) (by omega) (by decide) (Nat.le_of_ble_eq_true rfl) (by omega) (by omega) (fun n_60 hn_60 => ?_)
                exact J_101 _ (by omega)
              · refine z_callN1 (b' := 8 - i - 1) (f' := 4 * (8 - i) - 4) (rest := [.int (nI i), .ref n]) (av := [.ref (sa i), .ref a, .ref q, .int sg, .ref t]) (z_siteU hb ho zc10 (hKi _ _ q9 (by simp [z_lnk])) q1239 q1241 (Or.inl q1240) q1260 q1259 ⟨by decide +kernel, by decide +kernel⟩ (by show _ = some 4; decide +kernel) dX8_init_98 : z_Site M _ _ _ _ _ ([.ref a, .ref q, .int sg, .ref t].reverse ++ .ref (sa i) :: [.int (nI i), .ref n]) [.int (nI i), .ref n] _) zk_X13_change q131 hrm (m_change (hL.kp hKi) hS8 hR4 hD6 hTi hEi (hKi _ _ hq9 (by simp [z_lnk])) hg (show i < S by omega) _ _ (hKi _ _ q9 (by simp [z_lnk])) _) (by omega) (by decide) (Nat.le_of_ble_eq_true rfl) (by omega) (by omega) (fun n_61 hn_61 => ?_)
                exact J_101 _ (by omega)
              · refine z_callN1 (b' := 8 - i - 1) (f' := 4 * (8 - i) - 4) (rest := [.int (nI i), .ref n]) (av := [.ref (sa i), .ref a, .ref q, .int sg, .ref t]) (z_siteU hb ho zc11 (hKi _ _ q9 (by simp [z_lnk])) q1239 q1241 (Or.inl q1240) q1268 q1267 ⟨by decide +kernel, by decide +kernel⟩ (by show _ = some 4; decide +kernel) dX8_init_98 : z_Site M _ _ _ _ _ ([.ref a, .ref q, .int sg, .ref t].reverse ++ .ref (sa i) :: [.int (nI i), .ref n]) [.int (nI i), .ref n] _) zk_X14_change q133 hrm (m_change (hL.kp hKi) hS8 hR4 hD6 hTi hEi (hKi _ _ hq9 (by simp [z_lnk])) hg (show i < S by omega) _ _ (hKi _ _ q9 (by simp [z_lnk])) _) (by omega) (by decide) (Nat.le_of_ble_eq_true rfl) (by omega) (by omega) (fun n_62 hn_62 => ?_)
                exact J_101 _ (by omega)
              · refine z_callN1 (b' := 8 - i - 1) (f' := 4 * (8 - i) - 4) (rest := [.int (nI i), .ref n]) (av := [.ref (sa i), .ref a, .ref q, .int sg, .ref t]) (z_siteU hb ho zc11 (hKi _ _ q9 (by simp [z_lnk])) q1239 q1241 (Or.inl q1240) q1268 q1267 ⟨by decide +kernel, by decide +kernel⟩ (by show _ = some 4; decide +kernel) dX8_init_98 : z_Site M _ _ _ _ _ ([.ref a, .ref q, .int sg, .ref t].reverse ++ .ref (sa i) :: [.int (nI i), .ref n]) [.int (nI i), .ref n] _) zk_X14_change q133 hrm (m_change (hL.kp hKi) hS8 hR4 hD6 hTi hEi (hKi _ _ hq9 (by simp [z_lnk])) hg (show i < S by omega) _ _ (hKi _ _ q9 (by simp [z_lnk])) _) (by omega) (by decide) (Nat.le_of_ble_eq_true rfl) (by omega) (by omega) (fun n_63 hn_63 => ?_)
                exact J_101 _ (by omega)
              · refine z_callN1 (b' := 8 - i - 1) (f' := 4 * (8 - i) - 4) (rest := [.int (nI i), .ref n]) (av := [.ref (sa i), .ref a, .ref q, .int sg, .ref t]) (z_siteU hb ho zc12 (hKi _ _ q9 (by simp [z_lnk])) q1239 q1241 (Or.inl q1240) q1272 q1271 ⟨by decide +kernel, by decide +kernel⟩ (by show _ = some 4; decide +kernel) dX8_init_98 : z_Site M _ _ _ _ _ ([.ref a, .ref q, .int sg, .ref t].reverse ++ .ref (sa i) :: [.int (nI i), .ref n]) [.int (nI i), .ref n] _) zk_X16_change q135 hrm (m_change (hL.kp hKi) hS8 hR4 hD6 hTi hEi (hKi _ _ hq9 (by simp [z_lnk])) hg (show i < S by omega) _ _ (hKi _ _ q9 (by simp [z_lnk])) _) (by omega) (by decide) (Nat.le_of_ble_eq_true rfl) (by omega) (by omega) (fun n_64 hn_64 => ?_)
                exact J_101 _ (by omega)
              · refine z_callN1 (b' := 8 - i - 1) (f' := 4 * (8 - i) - 4) (rest := [.int (nI i), .ref n]) (av := [.ref (sa i), .ref a, .ref q, .int sg, .ref t]) (z_siteU hb ho zc13 (hKi _ _ q9 (by simp [z_lnk])) q1239 q1241 (Or.inl q1240) q1243 q1242 ⟨by decide +kernel, by decide +kernel⟩ (by show _ = some 4; decide +kernel) dX8_init_98 : z_Site M _ _ _ _ _ ([.ref a, .ref q, .int sg, .ref t].reverse ++ .ref (sa i) :: [.int (nI i), .ref n]) [.int (nI i), .ref n] _) zk_X17_change q136 hrm (m_change (hL.kp hKi) hS8 hR4 hD6 hTi hEi (hKi _ _ hq9 (by simp [z_lnk])) hg (show i < S by omega) _ _ (hKi _ _ q9 (by simp [z_lnk])) _) (by omega) (by decide) (Nat.le_of_ble_eq_true rfl) (by omega) (by omega) (fun n_65 hn_65 => ?_)
                exact J_101 _ (by omega)
            rcases hs i (by omega) with ⟨q1, q9⟩ | ⟨q1, q9⟩ | ⟨q1, q9⟩ | ⟨q1, q2, q3, q9⟩ | ⟨q1, q2, q3, q9⟩ | ⟨q1, q2, q3, q9⟩ | ⟨q1, q2, q3, q9⟩
            · exact z_cast hb ho zc8 (hKi _ _ q9 (by simp [z_lnk])) q1238 (Or.inr q3300) dX8_init_91 J_94
            · exact z_cast hb ho zc9 (hKi _ _ q9 (by simp [z_lnk])) q1238 (Or.inr q3296) dX8_init_91 J_94
            · exact z_cast hb ho zc10 (hKi _ _ q9 (by simp [z_lnk])) q1238 (Or.inr q3297) dX8_init_91 J_94
            · exact z_cast hb ho zc11 (hKi _ _ q9 (by simp [z_lnk])) q1238 (Or.inr q3298) dX8_init_91 J_94
            · exact z_cast hb ho zc11 (hKi _ _ q9 (by simp [z_lnk])) q1238 (Or.inr q3298) dX8_init_91 J_94
            · exact z_cast hb ho zc12 (hKi _ _ q9 (by simp [z_lnk])) q1238 (Or.inr q3299) dX8_init_91 J_94
            · exact z_cast hb ho zc13 (hKi _ _ q9 (by simp [z_lnk])) q1238 (Or.inr q3295) dX8_init_91 J_94
        refine z_ifb_ne (tgt := 66) hb dX8_init_59 (by decide) (fun c_59 => ?_) (fun c_59 => ?_)
        · refine z_iconst (x := nI 0) hb dX8_init_66 (by decide) ?_
          refine z_toI (y := z_b (!tw_st w i D)) (by rw [c_59]; rfl) ?_
          exact J_67
        · refine z_iconst (x := nI 1) hb dX8_init_62 (by decide) ?_
          refine z_goto (tgt := 67) hb dX8_init_63 (by decide) ?_
          refine z_toI (y := z_b (!tw_st w i D)) (by rw [c_59]; rfl) ?_
          exact J_67
  refine z_lv [0, 1, 2, 3, 4] (lv' := [(4, .int (nI 0)), (0, .ref t), (1, .ref a), (2, .ref q), (3, .int sg)]) rfl ?_
  exact z_bf (by omega) (by omega) (lp_23 _ 0 (n + 1) h_22 (Nat.lt_succ_self _) (Nat.zero_le _) (by omega) (((z_exN z_ex_r hD_1 eh_2).kp.t (z_kp_up k_10 (by simp [z_lnk]) eh_12)).t (z_kp_up (z_nxs eh_12) (by simp [z_lnk]) eh_22)) (((z_exN z_ex_r hD_1 eh_2).fr.t (z_fr_up (P := (fun y => y = t)) rfl eh_12)).t (z_fr_up (P := (fun y => y = t)) rfl eh_22)) (z_nxs eh_22) k_31)

def z_cr (v c : Nat → Int64) (D g : Nat) : Nat → (Nat → Int64)
  | 0 => v
  | k + 1 => va_up (z_cr v c D g k) (5 * (7 * k + D) + g) (z_cr v c D g k (5 * (7 * k + D) + g) + c k)

set_option maxHeartbeats 1000000 in
theorem m_X2_carry {l : Launch} {G : zG} {h : zH} {n : Nat} {b0 : Nat} {w : Nat → Int32} {v : Nat → Int64} {R S D a lr er ls es lv ev : Nat} {ra sa va na ba : Nat → Nat} {q g : Nat} {nu am sg : Int32} (hDr : z_Dr G h b0 w v R S D a lr er ls es lv ev ra sa va na ba) (hb0 : z_n0 G ≤ b0) (hR4 : R ≤ 40) (hS8 : S ≤ 8) (hD6 : D ≤ 6) (hq9 : h q = some (.inr (6, [.int nu, .int (nI D), .int (nI g), .int am]))) (hg : g < 5) : z_C l G yX2_carry 30 11 46 [.ref a, .ref q, .int sg] h n (z_q0 (fun h' n' => z_Dr G h' b0 w (z_cr v (z_ch w v R D g am sg S) D g S) R S D a lr er ls es lv ev ra sa va na ba ∧ z_fr (z_VA na ba S) h h')) := by
  refine z_start zk_X2_carry zpl_RX2 (Nat.le_of_ble_eq_true rfl) ?_
  intro hn0 M hl hG ho hb hN hr hm hH hrm hQ
  subst hl hG
  have ho : zm_o M = RX2 := ho
  obtain ⟨⟨ha0, h1⟩, ⟨lr0, lr1, N0, m0, f0, r1, r2, r3, r4, r4b, r5⟩, ⟨ls0, ls1, N, m9, f, h3, h4, h5, h6, h6b, h7⟩, ⟨lv0, lv1, Nv, mv, fv, v1, v2, v3, v4, v4b, v5⟩, hne, hse, h9, hs, hvx, hi, hrI, hna, hba⟩ := id hDr
  have r4N := r4.le
  have h6N := h6.le
  have v4N := v4.le
  show z_V M h n 11 46 0 [(0, .ref a), (1, .ref q), (2, .int sg)] []
  refine z_dom (fun hD0 => ?_)
  refine z_dom (fun hD_1 => ?_)
  refine z_new (N0 := 2) (b' := 10) (f' := 44) (fs := [.null, .null]) (C := RX8) (T := TX8) (N := 2) hb ho zc7 in_X8 tyX8_ok q1227 q1228 q123 dX2_carry_0 (zdf_X8) (by omega) (by omega) ?_
  refine z_hn (fun h_2 eh_2 => ?_)
  have eh_2 : h_2 = z_up h n (.inr (7, [.null, .null])) := eh_2
  have k_3 : h_2 a = some (.inr (1, [.ref lr, .ref ls, .ref lv, .int (nI D), .int (w 2), .int (w 4), .int (w 5), .int (w 6)])) := z_nx eh_2 (Nat.ne_of_lt (hD_1 _ _ h1)) h1
  have k_4 : h_2 lr = some (.inr (20, [.int m0, .ref er, .int (nI R)])) := z_nx eh_2 (Nat.ne_of_lt (hD_1 _ _ r1)) r1
  have k_5 : h_2 er = some (.inl ((zm_G M).2.1 5, N0, .inr (.inr (.inr (.inr f0))))) := z_nx eh_2 (Nat.ne_of_lt (hD_1 _ _ r2)) r2
  have k_6 : h_2 ls = some (.inr (20, [.int m9, .ref es, .int (nI S)])) := z_nx eh_2 (Nat.ne_of_lt (hD_1 _ _ h3)) h3
  have k_7 : h_2 es = some (.inl ((zm_G M).2.1 5, N, .inr (.inr (.inr (.inr f))))) := z_nx eh_2 (Nat.ne_of_lt (hD_1 _ _ h4)) h4
  have k_8 : h_2 lv = some (.inr (20, [.int mv, .ref ev, .int (nI S)])) := z_nx eh_2 (Nat.ne_of_lt (hD_1 _ _ v1)) v1
  have k_9 : h_2 ev = some (.inl ((zm_G M).2.1 5, Nv, .inr (.inr (.inr (.inr fv))))) := z_nx eh_2 (Nat.ne_of_lt (hD_1 _ _ v2)) v2
  have k_10 : h_2 q = some (.inr (6, [.int nu, .int (nI D), .int (nI g), .int am])) := z_nx eh_2 (Nat.ne_of_lt (hD_1 _ _ hq9)) hq9
  refine z_dup hb dX2_carry_3 rfl ?_
  refine z_aload_n hb dX2_carry_4 rfl ?_
  refine z_aload_n hb dX2_carry_5 rfl ?_
  refine z_iload_n hb dX2_carry_6 rfl ?_
  refine z_callQ0 (b' := 1) (f' := 4) (rest := [.ref n]) (av := [.ref n, .ref a, .ref q, .int sg]) (z_siteI hb ho q1229 q1230 q1231 rfl zy_X8_init zl_X8_init dX2_carry_7 : z_Site M _ _ _ _ _ ([.ref a, .ref q, .int sg].reverse ++ .ref n :: [.ref n]) [.ref n] _) zk_X8_init q123 hrm (m_X8_init (hDr.kp (z_exN z_ex_r hD_1 eh_2).kp).ln hS8 hR4 hD6 (z_nxs eh_2) (by omega) (Nat.lt_succ_self _) k_10 hg) (by omega) (by decide) (Nat.le_of_ble_eq_true rfl) (by omega) (by omega) (fun h_12 n_13 hq_11 hn_13 => ?_)
  obtain ⟨ec, hct, hce, hle, hfr⟩ := hq_11
  have k_14 : h_12 a = some (.inr (1, [.ref lr, .ref ls, .ref lv, .int (nI D), .int (w 2), .int (w 4), .int (w 5), .int (w 6)])) := hfr _ _ k_3 (Nat.ne_of_lt (hD_1 _ _ h1))
  have k_15 : h_12 lr = some (.inr (20, [.int m0, .ref er, .int (nI R)])) := hfr _ _ k_4 (Nat.ne_of_lt (hD_1 _ _ r1))
  have k_16 : h_12 er = some (.inl ((zm_G M).2.1 5, N0, .inr (.inr (.inr (.inr f0))))) := hfr _ _ k_5 (Nat.ne_of_lt (hD_1 _ _ r2))
  have k_17 : h_12 ls = some (.inr (20, [.int m9, .ref es, .int (nI S)])) := hfr _ _ k_6 (Nat.ne_of_lt (hD_1 _ _ h3))
  have k_18 : h_12 es = some (.inl ((zm_G M).2.1 5, N, .inr (.inr (.inr (.inr f))))) := hfr _ _ k_7 (Nat.ne_of_lt (hD_1 _ _ h4))
  have k_19 : h_12 lv = some (.inr (20, [.int mv, .ref ev, .int (nI S)])) := hfr _ _ k_8 (Nat.ne_of_lt (hD_1 _ _ v1))
  have k_20 : h_12 ev = some (.inl ((zm_G M).2.1 5, Nv, .inr (.inr (.inr (.inr fv))))) := hfr _ _ k_9 (Nat.ne_of_lt (hD_1 _ _ v2))
  have k_21 : h_12 q = some (.inr (6, [.int nu, .int (nI D), .int (nI g), .int am])) := hfr _ _ k_10 (Nat.ne_of_lt (hD_1 _ _ hq9))
  have hnVA : ¬ (z_VA na ba S) ec := hDr.nY hD0 (by omega)
  refine z_astore_n (lv' := [(3, .ref n), (0, .ref a), (1, .ref q), (2, .int sg)]) hb dX2_carry_10 (by rw [hN]; decide) rfl ?_
  refine z_aload_n hb dX2_carry_11 rfl ?_
  refine z_get (k := 1) (C := RX2) (T := TX2) (N := 8) hb ho zc1 in_X2 (zf_RX2_18 _) dX2_carry_12 k_14 (by decide) rfl ?_
  refine z_dom (fun hD_22 => ?_)
  refine z_call1 (b' := 0) (f' := 0) (rest := []) (av := [.ref ls]) (z_siteF hb ho zc20 k_17 q340 zx1 q343 q345 q346 q344 q321 zxl1 dX2_carry_15 : z_Site M _ _ _ _ _ ([].reverse ++ .ref ls :: []) [] _) zk_J2_iterator q98 hrm (m_J2_iterator k_17 (hD_22 _ _ k_17)) (by omega) (by decide) (Nat.le_of_ble_eq_true rfl) (by omega) (by omega) ?_
  refine z_hn (fun h_23 eh_23 => ?_)
  have eh_23 : h_23 = z_up h_12 n_13 (.inr (24, [.int (nI 0), .int (-1), .int m9, .ref ls])) := eh_23
  have k_24 : h_23 a = some (.inr (1, [.ref lr, .ref ls, .ref lv, .int (nI D), .int (w 2), .int (w 4), .int (w 5), .int (w 6)])) := z_nx eh_23 (Nat.ne_of_lt (hD_22 _ _ k_14)) k_14
  have k_25 : h_23 lr = some (.inr (20, [.int m0, .ref er, .int (nI R)])) := z_nx eh_23 (Nat.ne_of_lt (hD_22 _ _ k_15)) k_15
  have k_26 : h_23 er = some (.inl ((zm_G M).2.1 5, N0, .inr (.inr (.inr (.inr f0))))) := z_nx eh_23 (Nat.ne_of_lt (hD_22 _ _ k_16)) k_16
  have k_27 : h_23 ls = some (.inr (20, [.int m9, .ref es, .int (nI S)])) := z_nx eh_23 (Nat.ne_of_lt (hD_22 _ _ k_17)) k_17
  have k_28 : h_23 es = some (.inl ((zm_G M).2.1 5, N, .inr (.inr (.inr (.inr f))))) := z_nx eh_23 (Nat.ne_of_lt (hD_22 _ _ k_18)) k_18
  have k_29 : h_23 lv = some (.inr (20, [.int mv, .ref ev, .int (nI S)])) := z_nx eh_23 (Nat.ne_of_lt (hD_22 _ _ k_19)) k_19
  have k_30 : h_23 ev = some (.inl ((zm_G M).2.1 5, Nv, .inr (.inr (.inr (.inr fv))))) := z_nx eh_23 (Nat.ne_of_lt (hD_22 _ _ k_20)) k_20
  have k_31 : h_23 q = some (.inr (6, [.int nu, .int (nI D), .int (nI g), .int am])) := z_nx eh_23 (Nat.ne_of_lt (hD_22 _ _ k_21)) k_21
  have k_32 : h_23 n = some (.inr (7, [.ref ls, .ref ec])) := z_nx eh_23 (Nat.ne_of_lt (hD_22 _ _ hct)) hct
  have k_33 : h_23 ec = some (.inl ((zm_G M).2.1 1, 8, .inr (.inl (z_ch w v R D g am sg S)))) := z_nx eh_23 (Nat.ne_of_lt (hD_22 _ _ hce)) hce
  refine z_astore (lv' := [(4, .ref n_13), (3, .ref n), (0, .ref a), (1, .ref q), (2, .int sg)]) hb dX2_carry_20 (by rw [hN]; decide) rfl ?_
  have lp_22 : ∀ (k9_22 : Nat) (j : Nat) (lr9j : Int32) (nnj : Nat) (hhj : zH), S + 1 - j < k9_22 → (j ≤ S) → (n_13 < nnj) → (z_Dr (zm_G M) hhj b0 w (z_cr v (z_ch w v R D g am sg S) D g j) R S D a lr er ls es lv ev ra sa va na ba) → (z_fr (z_VA na ba S) h_12 hhj) → (hhj n_13 = some (.inr (24, [.int (nI j), .int lr9j, .int m9, .ref ls]))) → z_V M hhj nnj 0 0 22 [(4, .ref n_13), (3, .ref n), (0, .ref a), (1, .ref q), (2, .int sg)] [] := by
    intro k9_22
    induction k9_22 with
    | zero => intro j lr9j nnj hhj hk9_22; exact absurd hk9_22 (Nat.not_lt_zero _)
    | succ k9_22 ih_22 =>
      intro j lr9j nnj hhj hk9_22 hj hnnj hDrj hFrj hTj
      refine z_aload hb dX2_carry_22 rfl ?_
      refine z_call1 (b' := 0) (f' := 0) (rest := []) (av := [.ref n_13]) (z_siteF hb ho zc24 hTj q368 zx2 q372 q374 q375 q373 q371 zxl2 dX2_carry_24 : z_Site M _ _ _ _ _ ([].reverse ++ .ref n_13 :: []) [] _) zk_J8_hasNext q105 hrm (m_J8_hasNext hTj (hFrj _ _ k_17 (((hDr.kp (z_exN z_ex_r hD_1 eh_2).kp).kp (z_kp_fr (z_nxs eh_2) (by simp [z_lnk]) hfr)).nO k_17)) (by omega) (by omega)) (by omega) (by decide) (Nat.le_of_ble_eq_true rfl) (by omega) (by omega) ?_
      refine z_ifb_eq (tgt := 77) hb dX2_carry_29 (by decide) (fun c_29 => ?_) (fun c_29 => ?_)
      · have hx_j : j = S := by simpa using c_29
        refine z_vret hb hr dX2_carry_77 ?_
        rw [hQ]
        rw [hx_j] at hDrj
        exact ⟨rfl, hDrj, ((z_frT hD0 (by omega) (z_exN z_ex_r hD_1 eh_2).fr hfr).t hFrj)⟩
      · have hl_j : j < S := Nat.lt_of_le_of_ne hj (by simpa using c_29)
        refine z_aload hb dX2_carry_32 rfl ?_
        refine z_call1 (b' := 0) (f' := 0) (rest := []) (av := [.ref n_13]) (z_siteF hb ho zc24 hTj q378 zx3 q381 q383 q384 q382 q371 zxl3 dX2_carry_34 : z_Site M _ _ _ _ _ ([].reverse ++ .ref n_13 :: []) [] _) zk_J8_next q105 hrm (m_J8_next hTj (hFrj _ _ k_17 (((hDr.kp (z_exN z_ex_r hD_1 eh_2).kp).kp (z_kp_fr (z_nxs eh_2) (by simp [z_lnk]) hfr)).nO k_17)) (hFrj _ _ k_18 (((hDr.kp (z_exN z_ex_r hD_1 eh_2).kp).kp (z_kp_fr (z_nxs eh_2) (by simp [z_lnk]) hfr)).nA k_18)) (by omega) (by omega) h7 (by omega) (by omega)) (by omega) (by decide) (Nat.le_of_ble_eq_true rfl) (by omega) (by omega) ?_
        refine z_hn (fun h_34 eh_34 => ?_)
        have eh_34 : h_34 = z_up hhj n_13 (.inr (24, [.int (nI (j + 1)), .int (nI j), .int m9, .ref ls])) := eh_34
        have k_35 : h_34 a = some (.inr (1, [.ref lr, .ref ls, .ref lv, .int (nI D), .int (w 2), .int (w 4), .int (w 5), .int (w 6)])) := z_nx eh_34 (Nat.ne_of_lt (hD_22 _ _ k_14)) (hFrj _ _ k_14 (((hDr.kp (z_exN z_ex_r hD_1 eh_2).kp).kp (z_kp_fr (z_nxs eh_2) (by simp [z_lnk]) hfr)).nO k_14))
        have k_36 : h_34 lr = some (.inr (20, [.int m0, .ref er, .int (nI R)])) := z_nx eh_34 (Nat.ne_of_lt (hD_22 _ _ k_15)) (hFrj _ _ k_15 (((hDr.kp (z_exN z_ex_r hD_1 eh_2).kp).kp (z_kp_fr (z_nxs eh_2) (by simp [z_lnk]) hfr)).nO k_15))
        have k_37 : h_34 er = some (.inl ((zm_G M).2.1 5, N0, .inr (.inr (.inr (.inr f0))))) := z_nx eh_34 (Nat.ne_of_lt (hD_22 _ _ k_16)) (hFrj _ _ k_16 (((hDr.kp (z_exN z_ex_r hD_1 eh_2).kp).kp (z_kp_fr (z_nxs eh_2) (by simp [z_lnk]) hfr)).nA k_16))
        have k_38 : h_34 ls = some (.inr (20, [.int m9, .ref es, .int (nI S)])) := z_nx eh_34 (Nat.ne_of_lt (hD_22 _ _ k_17)) (hFrj _ _ k_17 (((hDr.kp (z_exN z_ex_r hD_1 eh_2).kp).kp (z_kp_fr (z_nxs eh_2) (by simp [z_lnk]) hfr)).nO k_17))
        have k_39 : h_34 es = some (.inl ((zm_G M).2.1 5, N, .inr (.inr (.inr (.inr f))))) := z_nx eh_34 (Nat.ne_of_lt (hD_22 _ _ k_18)) (hFrj _ _ k_18 (((hDr.kp (z_exN z_ex_r hD_1 eh_2).kp).kp (z_kp_fr (z_nxs eh_2) (by simp [z_lnk]) hfr)).nA k_18))
        have k_40 : h_34 lv = some (.inr (20, [.int mv, .ref ev, .int (nI S)])) := z_nx eh_34 (Nat.ne_of_lt (hD_22 _ _ k_19)) (hFrj _ _ k_19 (((hDr.kp (z_exN z_ex_r hD_1 eh_2).kp).kp (z_kp_fr (z_nxs eh_2) (by simp [z_lnk]) hfr)).nO k_19))
        have k_41 : h_34 ev = some (.inl ((zm_G M).2.1 5, Nv, .inr (.inr (.inr (.inr fv))))) := z_nx eh_34 (Nat.ne_of_lt (hD_22 _ _ k_20)) (hFrj _ _ k_20 (((hDr.kp (z_exN z_ex_r hD_1 eh_2).kp).kp (z_kp_fr (z_nxs eh_2) (by simp [z_lnk]) hfr)).nA k_20))
        have k_42 : h_34 q = some (.inr (6, [.int nu, .int (nI D), .int (nI g), .int am])) := z_nx eh_34 (Nat.ne_of_lt (hD_22 _ _ k_21)) (hFrj _ _ k_21 (((hDr.kp (z_exN z_ex_r hD_1 eh_2).kp).kp (z_kp_fr (z_nxs eh_2) (by simp [z_lnk]) hfr)).nO k_21))
        have k_43 : h_34 n = some (.inr (7, [.ref ls, .ref ec])) := z_nx eh_34 (Nat.ne_of_lt (hD_22 _ _ hct)) (hFrj _ _ hct (((hDr.kp (z_exN z_ex_r hD_1 eh_2).kp).kp (z_kp_fr (z_nxs eh_2) (by simp [z_lnk]) hfr)).nO hct))
        have k_44 : h_34 ec = some (.inl ((zm_G M).2.1 1, 8, .inr (.inl (z_ch w v R D g am sg S)))) := z_nx eh_34 (Nat.ne_of_lt (hD_22 _ _ hce)) (hFrj _ _ hce hnVA)
        have J_42 : z_V M h_34 nnj 0 0 42 [(4, .ref n_13), (3, .ref n), (0, .ref a), (1, .ref q), (2, .int sg)] [.ref (sa j)] := by
          refine z_astore (lv' := [(5, .ref (sa j)), (4, .ref n_13), (3, .ref n), (0, .ref a), (1, .ref q), (2, .int sg)]) hb dX2_carry_42 (by rw [hN]; decide) rfl ?_
          refine z_aload_n hb dX2_carry_44 rfl ?_
          refine z_aload hb dX2_carry_45 rfl ?_
          refine z_callN1 (b' := 0) (f' := 0) (rest := []) (av := [.ref a, .ref (sa j)]) (z_siteV hb ho zc1 k_35 q596 q597 q598 ⟨_, _, _, _, zk_X2_viewOf⟩ zy_X2_viewOf zl_X2_viewOf dX2_carry_47 : z_Site M _ _ _ _ _ ([.ref (sa j)].reverse ++ .ref a :: []) [] _) zk_X2_viewOf q95 hrm (z_C.rn (m_X2_viewOf (hDrj.kp (z_kp_up hTj (by simp [z_lnk]) eh_34)).ln hl_j hS8)) (by omega) (by decide) (Nat.le_of_ble_eq_true rfl) (by omega) (by omega) (fun n_45 hn_45 => ?_)
          have k_46 := (hDrj.kp (z_kp_up hTj (by simp [z_lnk]) eh_34)).ob hl_j
          refine z_get (k := 0) (C := RX4) (T := TX4) (N := 2) hb ho zc3 in_X4 (zf_RX2_93 _) dX2_carry_50 k_46 (by decide) rfl ?_
          refine z_aload_n hb dX2_carry_53 rfl ?_
          refine z_get (k := 1) (C := RX7) (T := TX7) (N := 4) hb ho zc6 in_X7 (zf_RX2_148 _) dX2_carry_54 k_42 (by decide) rfl ?_
          refine z_aload_n hb dX2_carry_57 rfl ?_
          refine z_get (k := 2) (C := RX7) (T := TX7) (N := 4) hb ho zc6 in_X7 (zf_RX2_151 _) dX2_carry_58 k_42 (by decide) rfl ?_
          refine z_call1 (b' := 0) (f' := 0) (rest := [.ref (na j)]) (av := [.int (nI D), .int (nI g)]) (z_siteSN hb ho q678 q679 q94 ⟨_, _, _, _, zk_X1_place⟩ zy_X1_place zl_X1_place dX2_carry_61 : z_Site M _ _ _ _ _ ([.int (nI D), .int (nI g)].reverse ++ [.ref (na j)]) [.ref (na j)] _) zk_X1_place q94 hrm (m_X1_place D g) (by omega) (by decide) (Nat.le_of_ble_eq_true rfl) (by omega) (by omega) ?_
          obtain ⟨hbv46, hbn46, hbb46, hvo46, F46, Z46, hF46, hZ46, hFv46, hZv46, hZb46⟩ := (hDrj.kp (z_kp_up hTj (by simp [z_lnk]) eh_34)).vx hl_j
          refine z_dup2_11 hb dX2_carry_64 rfl rfl ?_
          refine z_lald (j := 5 * D + g) hb dX2_carry_65 hF46 rfl (by omega) (by omega) ?_
          refine z_toL (y := z_cr v (z_ch w v R D g am sg S) D g j (5 * (7 * j + D) + g)) (hFv46 D (Nat.le_refl _) g hg) ?_
          refine z_aload_n hb dX2_carry_66 rfl ?_
          refine z_aload hb dX2_carry_67 rfl ?_
          refine z_dom (fun hD_48 => ?_)
          refine z_callN1 (b' := 0) (f' := 0) (rest := [.long (z_cr v (z_ch w v R D g am sg S) D g j (5 * (7 * j + D) + g)), .int (nI (5 * D + g)), .ref (na j)]) (av := [.ref n, .ref (sa j)]) (z_siteV hb ho zc7 k_43 q1288 q1247 q1248 ⟨_, _, _, _, zk_X8_of⟩ zy_X8_of zl_X8_of dX2_carry_69 : z_Site M _ _ _ _ _ ([.ref (sa j)].reverse ++ .ref n :: [.long (z_cr v (z_ch w v R D g am sg S) D g j (5 * (7 * j + D) + g)), .int (nI (5 * D + g)), .ref (na j)]) [.long (z_cr v (z_ch w v R D g am sg S) D g j (5 * (7 * j + D) + g)), .int (nI (5 * D + g)), .ref (na j)] _) zk_X8_of q123 hrm (m_X8_of (hDrj.kp (z_kp_up hTj (by simp [z_lnk]) eh_34)).ln hS8 hR4 hD6 k_43 k_44 hl_j) (by omega) (by decide) (Nat.le_of_ble_eq_true rfl) (by omega) (by omega) (fun n_49 hn_49 => ?_)
          refine z_ladd hb dX2_carry_72 ?_
          refine z_last (j := 5 * D + g) hb dX2_carry_73 hF46 (Nat.le_trans hb0 hbn46) rfl (by omega) (by omega) ?_
          refine z_hn (fun h_50 eh_50 => ?_)
          have eh_50 : h_50 = z_up h_34 (na j) (.inl ((zm_G M).2.1 1, 35, .inr (.inl (va_up F46 (5 * D + g) ((z_cr v (z_ch w v R D g am sg S) D g j (5 * (7 * j + D) + g)) + ((z_ch w v R D g am sg S) j)))))) := eh_50
          have k_51 : h_50 a = some (.inr (1, [.ref lr, .ref ls, .ref lv, .int (nI D), .int (w 2), .int (w 4), .int (w 5), .int (w 6)])) := z_nx eh_50 (z_neA k_35 hF46) k_35
          have k_52 : h_50 lr = some (.inr (20, [.int m0, .ref er, .int (nI R)])) := z_nx eh_50 (z_neA k_36 hF46) k_36
          have k_53 : h_50 er = some (.inl ((zm_G M).2.1 5, N0, .inr (.inr (.inr (.inr f0))))) := z_nx eh_50 (z_neXol k_37 hF46) k_37
          have k_54 : h_50 ls = some (.inr (20, [.int m9, .ref es, .int (nI S)])) := z_nx eh_50 (z_neA k_38 hF46) k_38
          have k_55 : h_50 es = some (.inl ((zm_G M).2.1 5, N, .inr (.inr (.inr (.inr f))))) := z_nx eh_50 (z_neXol k_39 hF46) k_39
          have k_56 : h_50 lv = some (.inr (20, [.int mv, .ref ev, .int (nI S)])) := z_nx eh_50 (z_neA k_40 hF46) k_40
          have k_57 : h_50 ev = some (.inl ((zm_G M).2.1 5, Nv, .inr (.inr (.inr (.inr fv))))) := z_nx eh_50 (z_neXol k_41 hF46) k_41
          have k_58 : h_50 q = some (.inr (6, [.int nu, .int (nI D), .int (nI g), .int am])) := z_nx eh_50 (z_neA k_42 hF46) k_42
          have k_59 : h_50 n = some (.inr (7, [.ref ls, .ref ec])) := z_nx eh_50 (z_neA k_43 hF46) k_43
          have k_60 : h_50 ec = some (.inl ((zm_G M).2.1 1, 8, .inr (.inl (z_ch w v R D g am sg S)))) := z_nx eh_50 (fun z => hnVA ⟨j, hl_j, Or.inl z⟩) k_44
          have k_61 : h_50 n_13 = some (.inr (24, [.int (nI (j + 1)), .int (nI j), .int m9, .ref ls])) := z_nx eh_50 (z_neA (z_nxs eh_34) hF46) (z_nxs eh_34)
          have k_62 : h_50 (va j) = some (.inr (3, [.ref (na j), .ref (ba j)])) := z_nx eh_50 (z_neA k_46 hF46) k_46
          have hq_63 := (hDrj.kp (z_kp_up hTj (by simp [z_lnk]) eh_34)).num hR4 hS8 hD6 hl_j (Nat.le_refl _) hg hF46 eh_50
          refine z_goto (tgt := 22) hb dX2_carry_74 (by decide) ?_
          refine z_lv [1, 2, 3, 4, 5] (lv' := [(4, .ref n_13), (3, .ref n), (0, .ref a), (1, .ref q), (2, .int sg)]) rfl ?_
          exact ih_22 (j + 1) _ n_49 h_50  (by omega) (by omega) (by omega) hq_63.1 ((z_frW hD_22 (by omega) eh_34 hFrj).t hq_63.2) k_61 
        rcases (hDrj.kp (z_kp_up hTj (by simp [z_lnk]) eh_34)).sp j (by omega) with ⟨q1, q9⟩ | ⟨q1, q9⟩ | ⟨q1, q9⟩ | ⟨q1, q2, q3, q9⟩ | ⟨q1, q2, q3, q9⟩ | ⟨q1, q2, q3, q9⟩ | ⟨q1, q2, q3, q9⟩
        · exact z_cast hb ho zc8 q9 q560 (Or.inr q3300) dX2_carry_39 J_42
        · exact z_cast hb ho zc9 q9 q560 (Or.inr q3296) dX2_carry_39 J_42
        · exact z_cast hb ho zc10 q9 q560 (Or.inr q3297) dX2_carry_39 J_42
        · exact z_cast hb ho zc11 q9 q560 (Or.inr q3298) dX2_carry_39 J_42
        · exact z_cast hb ho zc11 q9 q560 (Or.inr q3298) dX2_carry_39 J_42
        · exact z_cast hb ho zc12 q9 q560 (Or.inr q3299) dX2_carry_39 J_42
        · exact z_cast hb ho zc13 q9 q560 (Or.inr q3295) dX2_carry_39 J_42
  refine z_lv [0, 1, 2, 3, 4] (lv' := [(4, .ref n_13), (3, .ref n), (0, .ref a), (1, .ref q), (2, .int sg)]) rfl ?_
  exact lp_22 _ 0 (-1) (n_13 + 1) h_23  (Nat.lt_succ_self _) (Nat.zero_le _) (by omega) (((hDr.kp (z_exN z_ex_r hD_1 eh_2).kp).kp (z_kp_fr (z_nxs eh_2) (by simp [z_lnk]) hfr)).kp (z_exN z_ex_r hD_22 eh_23).kp) (z_exN z_ex_r hD_22 eh_23).fr (z_nxs eh_23) 

