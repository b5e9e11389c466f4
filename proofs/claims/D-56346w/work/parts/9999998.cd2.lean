theorem z_ns_le {cs : List Nat} {p : Nat} (h : p ≤ cs.length) : (z_ns cs p).1 ≤ cs.length := by
  unfold z_ns
  cases h1 : z_at cs p z_spc
  · exact h
  · exact z_nm_le (z_at_lt h1)

set_option maxHeartbeats 1000000 in
theorem m_X22_command {l : Launch} {G : zG} {h : zH} {n : Nat} {t x bu e cd p : Nat} {cs : List Nat} {x0 x1 x3 x4 x5 x6 : Value} (hp : h t = some (.inr (18, [.int (nI p), .ref x]))) (hX : h x = some (.inr (0, [x0, x1, .ref bu, x3, x4, x5, x6]))) (hBF : z_BF G h bu e cd cs) (hT : cs.length ≤ 60) (hpT : p ≤ cs.length) (hKS : z_KS G h) (ht0 : z_n0 G ≤ t) : z_C l G yX22_command 12 150 26400 [.ref t] h n (z_cq9 G t x n h cs p) := by
  refine z_start zk_X22_command zpl_RX22 (Nat.le_of_ble_eq_true rfl) ?_
  intro hn0 M hl hG ho hb hN hr hm hH hrm hQ
  subst hl hG
  have ho : zm_o M = RX22 := ho
  refine z_dom (fun hdm0 => ?_)
  obtain ⟨fsb, hob⟩ := z_BF.o hBF
  have hc16 := z_BF.c16 hBF
  have hcp := hc16 p
  show z_V M h n 150 26400 0 [(0, .ref t)] []
  refine z_dom (fun hD0 => ?_)
  refine z_aload_n hb dX22_command_0 rfl ?_
  refine z_call (b' := 10) (f' := 400) (rest := []) (av := [.ref t]) (z_siteV hb ho zc18 hp q2280 q2282 qs23 ⟨_, _, _, _, zk_X22_word⟩ zy_X22_word zl_X22_word dX22_command_1 : z_Site M _ _ _ _ _ ([].reverse ++ .ref t :: []) [] _) zk_X22_word q146 hrm (m_X22_word hp hX hBF hT hpT hKS ht0) (by omega) (by decide) (Nat.le_of_ble_eq_true rfl) (by omega) (by omega) (fun v1 h1 n1 hq1 hn1 => ?_) (fun q1 h1 n1 hq1 hn1 => ?_)
  · obtain ⟨kd, ws, hkd, hlp, hv1, hns1, hsn1, hws, hp1, hfr1⟩ := z_wq9_r hq1
    subst hv1
    refine z_dom (fun hdd1 => ?_)
    have hX1 := hfr1 _ _ hX (z_x_t hp hX)
    have hBF1 := hBF.frc hp (by decide) hfr1
    have hle1 := hlp.2.1
    rcases (show kd = 0 ∨ kd = 1 ∨ kd = 2 ∨ kd = 3 ∨ kd = 4 ∨ kd = 5 ∨ kd = 6 ∨ kd = 7 ∨ kd = 8 by omega) with rfl | rfl | rfl | rfl | rfl | rfl | rfl | rfl | rfl
    · have hle1 : (p + 3) ≤ cs.length := hle1
      have hp1 : h1 t = some (.inr (18, [.int (nI (p + 3)), .ref x])) := hp1
      obtain ⟨ew1, how1⟩ := hws.o
      obtain ⟨fsb1, hob1⟩ := z_BF.o hBF1
      refine z_astore_n (lv' := [(1, .ref ws), (0, .ref t)]) hb dX22_command_4 (by rw [hN]; decide) rfl ?_
      refine z_aload_n hb dX22_command_5 rfl ?_
      refine z_ldcS (i := 31) hb ho rfl rfl rfl dX22_command_6 ?_
      refine z_callN1 (b' := 10) (f' := 400) (rest := []) (av := [.ref ws, .ref ((zm_G M).2.2.1 31)]) (z_siteV hb ho zc23 how1 q2381 q647 q3284 ⟨_, _, _, _, zk_J6_equals⟩ zy_J6_equals zl_J6_equals dX22_command_8 : z_Site M _ _ _ _ _ ([.ref ((zm_G M).2.2.1 31)].reverse ++ .ref ws :: []) [] _) zk_J6_equals q102 hrm (m_J6_equals hws.sg ((hKS.frx hp (by decide) hfr1) 31 (by decide))) (by omega) (by decide) (Nat.le_of_ble_eq_true rfl) (by omega) (by omega) (fun n_1 hn_1 => ?_)
      refine z_toI (y := z_b false) (by decide) ?_
      refine z_ifb_eq (tgt := 27) hb dX22_command_11 (by decide) (fun c_11 => ?_) (fun c_11 => ?_)
      · refine z_aload_n hb dX22_command_27 rfl ?_
        refine z_ldcS (i := 28) hb ho rfl rfl rfl dX22_command_28 ?_
        refine z_call (b' := 9) (f' := 390) (rest := []) (av := [.ref t, .ref ((zm_G M).2.2.1 28)]) (z_siteV hb ho zc18 hp1 q2349 q2351 qs25 ⟨_, _, _, _, zk_X22_take⟩ zy_X22_take zl_X22_take dX22_command_30 : z_Site M _ _ _ _ _ ([.ref ((zm_G M).2.2.1 28)].reverse ++ .ref t :: []) [] _) zk_X22_take q146 hrm (m_X22_take hp1 hX1 hBF1 hT hle1 ((hKS.frx hp (by decide) hfr1) 28 (by decide)) ht0) (by omega) (by decide) (Nat.le_of_ble_eq_true rfl) (by omega) (by omega) (fun v2 h2 n2 hq2 hn2 => ?_) (fun q2 h2 n2 hq2 hn2 => ?_)
        · obtain ⟨hok2, hv2, hp2, hfr2⟩ := z_ps_r hq2
          subst hv2
          refine z_dom (fun hdd2 => ?_)
          have hpos2 : (z_tk cs (p + 3) z_spc).1 = ((p + 3) + 1) := (by rw [z_tk_t (z_tk2f hok2)])
          rw [hpos2] at hp2
          have hX2 := hfr2 _ _ hX1 (z_x_t hp1 hX1)
          have hBF2 := hBF1.frc hp1 (by decide) hfr2
          have hle2 : ((p + 3) + 1) ≤ cs.length := z_at_lt (z_tk2f hok2)
          obtain ⟨fsb2, hob2⟩ := z_BF.o hBF2
          have ky_2 := hfr2 _ _ how1 (z_ne_cc hp1 how1 (by decide))
          have hws2 := hws.frx hp1 (by decide) hfr2
          refine z_istore_n (lv' := [(2, .int (nI (cs.getD (p + 3) 0))), (1, .ref ws), (0, .ref t)]) hb dX22_command_33 (by rw [hN]; decide) rfl ?_
          refine z_aload_n hb dX22_command_34 rfl ?_
          refine z_astore_n (lv' := [(3, .ref ws), (2, .int (nI (cs.getD (p + 3) 0))), (1, .ref ws), (0, .ref t)]) hb dX22_command_35 (by rw [hN]; decide) rfl ?_
          refine z_iconst (x := (-1)) hb dX22_command_36 (by decide) ?_
          refine z_istore (lv' := [(4, .int (-1)), (3, .ref ws), (2, .int (nI (cs.getD (p + 3) 0))), (1, .ref ws), (0, .ref t)]) hb dX22_command_37 (by rw [hN]; decide) rfl ?_
          refine z_aload_n hb dX22_command_39 rfl ?_
          refine z_callQ1 (b' := 9) (f' := 390) (rest := []) (av := [.ref ws]) (z_siteV hb ho zc23 ky_2 q2384 q841 q842 ⟨_, _, _, _, zk_J6_hashCode⟩ zy_J6_hashCode zl_J6_hashCode dX22_command_40 : z_Site M _ _ _ _ _ ([].reverse ++ .ref ws :: []) [] _) zk_J6_hashCode q102 hrm (m_J6_hashCode_0 (hs9 := 0) hws2 (by omega) (by decide) (by decide +kernel)) (by omega) (by decide) (Nat.le_of_ble_eq_true rfl) (by omega) (by omega) (fun rhq6 h6 n6 hq6 hn6 => ?_)
          obtain ⟨rfl, hq6⟩ := hq6
          obtain ⟨hws6, hfr6, -⟩ := hq6
          obtain ⟨ew6, how6⟩ := hws6.o
          have ky_3 : h6 t = some (.inr (18, [.int (nI ((p + 3) + 1)), .ref x])) := hfr6 _ _ hp2 (z_ne_cc ky_2 hp2 (by decide))
          have ky_4 : h6 x = some (.inr (0, [x0, x1, .ref bu, x3, x4, x5, x6])) := hfr6 _ _ hX2 (z_ne_cc ky_2 hX2 (by decide))
          have ky_5 : h6 bu = some (.inr (22, fsb2)) := hfr6 _ _ hob2 (z_ne_cc ky_2 hob2 (by decide))
          refine z_dom (fun hdd6 => ?_)
          refine z_lookup (off := 49) (tgt := 92) hb dX22_command_43 (by decide) (by decide +kernel) (by decide) ?_
          refine z_aload_n hb dX22_command_92 rfl ?_
          refine z_ldcS (i := 32) hb ho rfl rfl rfl dX22_command_93 ?_
          refine z_callN1 (b' := 9) (f' := 390) (rest := []) (av := [.ref ws, .ref ((zm_G M).2.2.1 32)]) (z_siteV hb ho zc23 how6 q2381 q647 q3284 ⟨_, _, _, _, zk_J6_equals⟩ zy_J6_equals zl_J6_equals dX22_command_95 : z_Site M _ _ _ _ _ ([.ref ((zm_G M).2.2.1 32)].reverse ++ .ref ws :: []) [] _) zk_J6_equals q102 hrm (m_J6_equals hws6.sg ((hKS.frx hp (by decide) (z_frT hdm0 (by omega) (hfr1.t hfr2) hfr6)) 32 (by decide))) (by omega) (by decide) (Nat.le_of_ble_eq_true rfl) (by omega) (by omega) (fun n_6 hn_6 => ?_)
          refine z_toI (y := z_b true) (by decide) ?_
          refine z_ifb_eq (tgt := 164) hb dX22_command_98 (by decide) (fun c_98 => ?_) (fun c_98 => ?_)
          · cases c_98
          · refine z_iconst (x := nI 0) hb dX22_command_101 (by decide) ?_
            refine z_istore (lv' := [(4, .int (nI 0)), (3, .ref ws), (2, .int (nI (cs.getD (p + 3) 0))), (1, .ref ws), (0, .ref t)]) hb dX22_command_102 (by rw [hN]; decide) rfl ?_
            refine z_goto (tgt := 164) hb dX22_command_104 (by decide) ?_
            refine z_iload hb dX22_command_164 rfl ?_
            refine z_tableIn (off := 34) (tgt := 200) hb dX22_command_166 (by decide) (by decide) rfl (by decide) ?_
            refine z_aload_n hb dX22_command_200 rfl ?_
            refine z_ldcS (i := 37) hb ho rfl rfl rfl dX22_command_201 ?_
            refine z_call (b' := 8) (f' := 380) (rest := []) (av := [.ref t, .ref ((zm_G M).2.2.1 37)]) (z_siteV hb ho zc18 ky_3 q2349 q2351 qs25 ⟨_, _, _, _, zk_X22_take⟩ zy_X22_take zl_X22_take dX22_command_203 : z_Site M _ _ _ _ _ ([.ref ((zm_G M).2.2.1 37)].reverse ++ .ref t :: []) [] _) zk_X22_take q146 hrm (m_X22_take ky_3 ky_4 (hBF2.frc ky_2 (by decide) hfr6) hT hle2 ((hKS.frx hp (by decide) (z_frT hdm0 (by omega) (hfr1.t hfr2) hfr6)) 37 (by decide)) ht0) (by omega) (by decide) (Nat.le_of_ble_eq_true rfl) (by omega) (by omega) (fun v3 h3 n3 hq3 hn3 => ?_) (fun q3 h3 n3 hq3 hn3 => ?_)
            · obtain ⟨hok3, hv3, hp3, hfr3⟩ := z_ps_r hq3
              subst hv3
              refine z_dom (fun hdd3 => ?_)
              have hpos3 : (z_tk cs ((p + 3) + 1) (z_lits.getD 37 [])).1 = (((p + 3) + 1) + 1) := (by rw [z_tk_t (z_tk2f hok3)])
              rw [hpos3] at hp3
              have hX3 := hfr3 _ _ ky_4 (z_x_t ky_3 ky_4)
              have hBF3 := (hBF2.frc ky_2 (by decide) hfr6).frc ky_3 (by decide) hfr3
              have hle3 : (((p + 3) + 1) + 1) ≤ cs.length := z_at_lt (z_tk2f hok3)
              obtain ⟨fsb3, hob3⟩ := z_BF.o hBF3
              have ky_7 := hfr3 _ _ how6 (z_ne_cc ky_3 how6 (by decide))
              have hws3 := hws6.frx ky_3 (by decide) hfr3
              refine z_istore (lv' := [(5, .int (nI (cs.getD ((p + 3) + 1) 0))), (4, .int (nI 0)), (3, .ref ws), (2, .int (nI (cs.getD (p + 3) 0))), (1, .ref ws), (0, .ref t)]) hb dX22_command_206 (by rw [hN]; decide) rfl ?_
              refine z_aload_n hb dX22_command_208 rfl ?_
              refine z_call (b' := 7) (f' := 370) (rest := []) (av := [.ref t]) (z_siteV hb ho zc18 hp3 q2391 q2393 qs26 ⟨_, _, _, _, zk_X22_digit⟩ zy_X22_digit zl_X22_digit dX22_command_209 : z_Site M _ _ _ _ _ ([].reverse ++ .ref t :: []) [] _) zk_X22_digit q146 hrm (m_X22_digit hp3 hX3 hBF3 hT hle3 (hKS.frx hp (by decide) ((z_frT hdm0 (by omega) (hfr1.t hfr2) hfr6).t hfr3)) ht0) (by omega) (by decide) (Nat.le_of_ble_eq_true rfl) (by omega) (by omega) (fun v5 h5 n5 hq5 hn5 => ?_) (fun q5 h5 n5 hq5 hn5 => ?_)
              · obtain ⟨hok5, hv5, hp5, hfr5⟩ := z_ps_r hq5
                subst hv5
                refine z_dom (fun hdd5 => ?_)
                have hpos5 : (z_tk cs (((p + 3) + 1) + 1) z_dig).1 = ((((p + 3) + 1) + 1) + 1) := (by rw [z_tk_t (z_tk2f hok5)])
                rw [hpos5] at hp5
                have hX5 := hfr5 _ _ hX3 (z_x_t hp3 hX3)
                have hBF5 := hBF3.frc hp3 (by decide) hfr5
                have hle5 : ((((p + 3) + 1) + 1) + 1) ≤ cs.length := z_at_lt (z_tk2f hok5)
                obtain ⟨fsb5, hob5⟩ := z_BF.o hBF5
                have ky_8 := hfr5 _ _ ky_7 (z_ne_cc hp3 ky_7 (by decide))
                have hws5 := hws3.frx hp3 (by decide) hfr5
                refine z_istore (lv' := [(6, .int (nI (cs.getD (((p + 3) + 1) + 1) 0) - nI 48)), (5, .int (nI (cs.getD ((p + 3) + 1) 0))), (4, .int (nI 0)), (3, .ref ws), (2, .int (nI (cs.getD (p + 3) 0))), (1, .ref ws), (0, .ref t)]) hb dX22_command_212 (by rw [hN]; decide) rfl ?_
                refine z_dom (fun hD_9 => ?_)
                refine z_new (N0 := 4) (b' := 6) (f' := 366) (fs := [.null, .int (nI 0), .int (nI 0), .int (nI 0)]) (C := RX5) (T := TX5) (N := 4) hb ho zc4 in_X5 tyX5_ok q2382 q818 q115 dX22_command_214 (zdf_X5) (by omega) (by omega) ?_
                refine z_hn (fun h_10 eh_10 => ?_)
                have eh_10 : h_10 = z_up h5 n5 (.inr (4, [.null, .int (nI 0), .int (nI 0), .int (nI 0)])) := eh_10
                have k_11 : h_10 t = some (.inr (18, [.int (nI ((((p + 3) + 1) + 1) + 1)), .ref x])) := z_nx eh_10 (Nat.ne_of_lt (hD_9 _ _ hp5)) hp5
                have k_12 : h_10 x = some (.inr (0, [x0, x1, .ref bu, x3, x4, x5, x6])) := z_nx eh_10 (Nat.ne_of_lt (hD_9 _ _ hX5)) hX5
                have k_13 : h_10 bu = some (.inr (22, fsb5)) := z_nx eh_10 (Nat.ne_of_lt (hD_9 _ _ hob5)) hob5
                have k_14 : h_10 ws = some (.inr (23, [.ref ew6, .int (nI 0), .int (z_hs (z_wd 0)), .int (nI 0)])) := z_nx eh_10 (Nat.ne_of_lt (hD_9 _ _ ky_8)) ky_8
                refine z_dup hb dX22_command_217 rfl ?_
                refine z_aload_n hb dX22_command_218 rfl ?_
                refine z_iload hb dX22_command_219 rfl ?_
                refine z_iload hb dX22_command_221 rfl ?_
                refine z_aload_n hb dX22_command_223 rfl ?_
                refine z_call (b' := 1) (f' := 306) (rest := [.int (nI (cs.getD (((p + 3) + 1) + 1) 0) - nI 48), .int (nI (cs.getD ((p + 3) + 1) 0)), .ref ws, .ref n5, .ref n5]) (av := [.ref t]) (z_siteV hb ho zc18 k_11 q2396 q2398 qs27 ⟨_, _, _, _, zk_X22_numberAfterSpace⟩ zy_X22_numberAfterSpace zl_X22_numberAfterSpace dX22_command_224 : z_Site M _ _ _ _ _ ([].reverse ++ .ref t :: [.int (nI (cs.getD (((p + 3) + 1) + 1) 0) - nI 48), .int (nI (cs.getD ((p + 3) + 1) 0)), .ref ws, .ref n5, .ref n5]) [.int (nI (cs.getD (((p + 3) + 1) + 1) 0) - nI 48), .int (nI (cs.getD ((p + 3) + 1) 0)), .ref ws, .ref n5, .ref n5] _) zk_X22_numberAfterSpace q146 hrm (m_X22_numberAfterSpace k_11 k_12 (hBF5.exx (z_exN z_ex_r hD_9 eh_10)) hT hle5 (hKS.frx hp (by decide) ((((z_frT hdm0 (by omega) (hfr1.t hfr2) hfr6).t hfr3).t hfr5).t (z_exN z_ex_r hD_9 eh_10).fr)) ht0) (by omega) (by decide) (Nat.le_of_ble_eq_true rfl) (by omega) (by omega) (fun v4 h4 n4 hq4 hn4 => ?_) (fun q4 h4 n4 hq4 hn4 => ?_)
                · obtain ⟨hok4, hv4, hp4, hfr4⟩ := z_ps_r hq4
                  subst hv4
                  refine z_dom (fun hdd4 => ?_)
                  have hX4 := hfr4 _ _ k_12 (z_x_t k_11 k_12)
                  have hBF4 := (hBF5.exx (z_exN z_ex_r hD_9 eh_10)).frc k_11 (by decide) hfr4
                  have hle4 : (z_ns cs ((((p + 3) + 1) + 1) + 1)).1 ≤ cs.length := z_ns_le hle5
                  obtain ⟨fsb4, hob4⟩ := z_BF.o hBF4
                  have ky_15 := hfr4 _ _ k_14 (z_ne_cc k_11 k_14 (by decide))
                  have ky_16 := hfr4 _ _ (z_nxs eh_10) (z_ne_cc k_11 (z_nxs eh_10) (by decide))
                  have hws4 := (hws5.ex (z_exN z_ex_r hD_9 eh_10)).frx k_11 (by decide) hfr4
                  refine z_call0 (b' := 1) (f' := 306) (rest := [.ref n5]) (av := [.ref n5, .ref ws, .int (nI (cs.getD ((p + 3) + 1) 0)), .int (nI (cs.getD (((p + 3) + 1) + 1) 0) - nI 48), .int (z_nv cs (((((p + 3) + 1) + 1) + 1) + 1))]) (z_siteI hb ho q2383 q820 q821 rfl zy_X5_init zl_X5_init dX22_command_227 : z_Site M _ _ _ _ _ ([.ref ws, .int (nI (cs.getD ((p + 3) + 1) 0)), .int (nI (cs.getD (((p + 3) + 1) + 1) 0) - nI 48), .int (z_nv cs (((((p + 3) + 1) + 1) + 1) + 1))].reverse ++ .ref n5 :: [.ref n5]) [.ref n5] _) zk_X5_init q115 hrm (m_X5_init ky_16 (by omega) (by first | decide | exact hc16 _)) (by omega) (by decide) (Nat.le_of_ble_eq_true rfl) (by omega) (by omega) ?_
                  refine z_hn (fun h_17 eh_17 => ?_)
                  have eh_17 : h_17 = z_up h4 n5 (.inr (4, [.ref ws, .int (nI (cs.getD ((p + 3) + 1) 0)), .int (nI (cs.getD (((p + 3) + 1) + 1) 0) - nI 48), .int (z_nv cs (((((p + 3) + 1) + 1) + 1) + 1))])) := eh_17
                  have k_18 : h_17 t = some (.inr (18, [.int (nI ((z_ns cs ((((p + 3) + 1) + 1) + 1)).1)), .ref x])) := z_nx eh_17 (z_neO hp4 ky_16 rfl) hp4
                  have k_19 : h_17 x = some (.inr (0, [x0, x1, .ref bu, x3, x4, x5, x6])) := z_nx eh_17 (z_neO hX4 ky_16 rfl) hX4
                  have k_20 : h_17 bu = some (.inr (22, fsb4)) := z_nx eh_17 (z_neO hob4 ky_16 rfl) hob4
                  have k_21 : h_17 ws = some (.inr (23, [.ref ew6, .int (nI 0), .int (z_hs (z_wd 0)), .int (nI 0)])) := z_nx eh_17 (z_neO ky_15 ky_16 rfl) ky_15
                  have hrr9 : z_rr cs 0 (p + 3) = z_ns cs ((((p + 3) + 1) + 1) + 1) := by simp only [z_rr, z_tk, z_tk2f hok2, z_tk2f hok3, z_tk2f hok5, ↓reduceIte, Bool.false_eq_true]
                  refine z_aret hb hr (Or.inl ⟨_, rfl⟩) (Or.inr ⟨_, rfl⟩) dX22_command_230 ?_
                  rw [hQ]
                  exact Or.inl ⟨0, ws, n5, by decide, hlp, (by show (z_rr cs 0 (p + 3)).2 = false; rw [hrr9]; exact hok4), rfl, by omega, by omega, (by show z_Sf _ _ _ (z_wd 0) (z_hs (z_wd 0)); exact (hws4.frx ky_16 (by decide) (z_fr_up (P := fun y => y = n5) rfl eh_17))), (z_nxs eh_17), (by show _ = some (Sum.inr (18, [Value.int (nI (z_rr cs 0 (p + 3)).1), Value.ref x])); rw [hrr9]; exact k_18), (by show (z_rr cs 0 (p + 3)).1 ≤ _; rw [hrr9]; exact hle4), (z_frT hdm0 (by omega) (((((z_frT hdm0 (by omega) (hfr1.t hfr2) hfr6).t hfr3).t hfr5).t (z_exN z_ex_r hD_9 eh_10).fr).t hfr4) (z_fr_up (P := fun y => y = n5) rfl eh_17))⟩
                · obtain ⟨b14, b24, b34, b44⟩ := z_ps_t hq4
                  have hbe4 : z_rr cs 0 (p + 3) = z_ns cs ((((p + 3) + 1) + 1) + 1) := by simp only [z_rr, z_tk, z_tk2f hok2, z_tk2f hok3, z_tk2f hok5, ↓reduceIte, Bool.false_eq_true]
                  exact z_out ho hH zc19 b34 (by omega) (fun _ h => nomatch h) (by rw [hQ]; exact Or.inr ⟨_, _, rfl, by omega, Or.inr ⟨0, by decide, hlp, by show (z_rr cs 0 (p + 3)).2 = true; rw [hbe4]; exact b14, rfl⟩, (by show _ = some (Sum.inr (19, z_sf (z_rr cs 0 (p + 3)).1)); rw [hbe4]; exact b34), ((((z_frT hdm0 (by omega) (hfr1.t hfr2) hfr6).t hfr3).t hfr5).t (z_exN z_ex_r hD_9 eh_10).fr).t b44⟩)
              · obtain ⟨b15, b25, b35, b45⟩ := z_ps_t hq5
                have hbe5 : z_rr cs 0 (p + 3) = z_tk cs (((p + 3) + 1) + 1) z_dig := by simp only [z_rr, z_tk, z_tk2f hok2, z_tk2f hok3, z_tk2t b15, ↓reduceIte, Bool.false_eq_true]
                exact z_out ho hH zc19 b35 (by omega) (fun _ h => nomatch h) (by rw [hQ]; exact Or.inr ⟨_, _, rfl, by omega, Or.inr ⟨0, by decide, hlp, by show (z_rr cs 0 (p + 3)).2 = true; rw [hbe5]; exact b15, rfl⟩, (by show _ = some (Sum.inr (19, z_sf (z_rr cs 0 (p + 3)).1)); rw [hbe5]; exact b35), ((z_frT hdm0 (by omega) (hfr1.t hfr2) hfr6).t hfr3).t b45⟩)
            · obtain ⟨b13, b23, b33, b43⟩ := z_ps_t hq3
              have hbe3 : z_rr cs 0 (p + 3) = z_tk cs ((p + 3) + 1) (z_lits.getD 37 []) := by simp only [z_rr, z_tk, z_tk2f hok2, z_tk2t b13, ↓reduceIte, Bool.false_eq_true]
              exact z_out ho hH zc19 b33 (by omega) (fun _ h => nomatch h) (by rw [hQ]; exact Or.inr ⟨_, _, rfl, by omega, Or.inr ⟨0, by decide, hlp, by show (z_rr cs 0 (p + 3)).2 = true; rw [hbe3]; exact b13, rfl⟩, (by show _ = some (Sum.inr (19, z_sf (z_rr cs 0 (p + 3)).1)); rw [hbe3]; exact b33), (z_frT hdm0 (by omega) (hfr1.t hfr2) hfr6).t b43⟩)
        · obtain ⟨b12, b22, b32, b42⟩ := z_ps_t hq2
          have hbe2 : z_rr cs 0 (p + 3) = z_tk cs (p + 3) z_spc := by simp only [z_rr, z_tk, z_tk2t b12, ↓reduceIte, Bool.false_eq_true]
          exact z_out ho hH zc19 b32 (by omega) (fun _ h => nomatch h) (by rw [hQ]; exact Or.inr ⟨_, _, rfl, by omega, Or.inr ⟨0, by decide, hlp, by show (z_rr cs 0 (p + 3)).2 = true; rw [hbe2]; exact b12, rfl⟩, (by show _ = some (Sum.inr (19, z_sf (z_rr cs 0 (p + 3)).1)); rw [hbe2]; exact b32), hfr1.t b42⟩)
      · cases c_11
    · have hle1 : (p + 4) ≤ cs.length := hle1
      have hp1 : h1 t = some (.inr (18, [.int (nI (p + 4)), .ref x])) := hp1
      obtain ⟨ew1, how1⟩ := hws.o
      obtain ⟨fsb1, hob1⟩ := z_BF.o hBF1
      refine z_astore_n (lv' := [(1, .ref ws), (0, .ref t)]) hb dX22_command_4 (by rw [hN]; decide) rfl ?_
      refine z_aload_n hb dX22_command_5 rfl ?_
      refine z_ldcS (i := 31) hb ho rfl rfl rfl dX22_command_6 ?_
      refine z_callN1 (b' := 10) (f' := 400) (rest := []) (av := [.ref ws, .ref ((zm_G M).2.2.1 31)]) (z_siteV hb ho zc23 how1 q2381 q647 q3284 ⟨_, _, _, _, zk_J6_equals⟩ zy_J6_equals zl_J6_equals dX22_command_8 : z_Site M _ _ _ _ _ ([.ref ((zm_G M).2.2.1 31)].reverse ++ .ref ws :: []) [] _) zk_J6_equals q102 hrm (m_J6_equals hws.sg ((hKS.frx hp (by decide) hfr1) 31 (by decide))) (by omega) (by decide) (Nat.le_of_ble_eq_true rfl) (by omega) (by omega) (fun n_22 hn_22 => ?_)
      refine z_toI (y := z_b false) (by decide) ?_
      refine z_ifb_eq (tgt := 27) hb dX22_command_11 (by decide) (fun c_11 => ?_) (fun c_11 => ?_)
      · refine z_aload_n hb dX22_command_27 rfl ?_
        refine z_ldcS (i := 28) hb ho rfl rfl rfl dX22_command_28 ?_
        refine z_call (b' := 9) (f' := 390) (rest := []) (av := [.ref t, .ref ((zm_G M).2.2.1 28)]) (z_siteV hb ho zc18 hp1 q2349 q2351 qs25 ⟨_, _, _, _, zk_X22_take⟩ zy_X22_take zl_X22_take dX22_command_30 : z_Site M _ _ _ _ _ ([.ref ((zm_G M).2.2.1 28)].reverse ++ .ref t :: []) [] _) zk_X22_take q146 hrm (m_X22_take hp1 hX1 hBF1 hT hle1 ((hKS.frx hp (by decide) hfr1) 28 (by decide)) ht0) (by omega) (by decide) (Nat.le_of_ble_eq_true rfl) (by omega) (by omega) (fun v2 h2 n2 hq2 hn2 => ?_) (fun q2 h2 n2 hq2 hn2 => ?_)
        · obtain ⟨hok2, hv2, hp2, hfr2⟩ := z_ps_r hq2
          subst hv2
          refine z_dom (fun hdd2 => ?_)
          have hpos2 : (z_tk cs (p + 4) z_spc).1 = ((p + 4) + 1) := (by rw [z_tk_t (z_tk2f hok2)])
          rw [hpos2] at hp2
          have hX2 := hfr2 _ _ hX1 (z_x_t hp1 hX1)
          have hBF2 := hBF1.frc hp1 (by decide) hfr2
          have hle2 : ((p + 4) + 1) ≤ cs.length := z_at_lt (z_tk2f hok2)
          obtain ⟨fsb2, hob2⟩ := z_BF.o hBF2
          have ky_23 := hfr2 _ _ how1 (z_ne_cc hp1 how1 (by decide))
          have hws2 := hws.frx hp1 (by decide) hfr2
          refine z_istore_n (lv' := [(2, .int (nI (cs.getD (p + 4) 0))), (1, .ref ws), (0, .ref t)]) hb dX22_command_33 (by rw [hN]; decide) rfl ?_
          refine z_aload_n hb dX22_command_34 rfl ?_
          refine z_astore_n (lv' := [(3, .ref ws), (2, .int (nI (cs.getD (p + 4) 0))), (1, .ref ws), (0, .ref t)]) hb dX22_command_35 (by rw [hN]; decide) rfl ?_
          refine z_iconst (x := (-1)) hb dX22_command_36 (by decide) ?_
          refine z_istore (lv' := [(4, .int (-1)), (3, .ref ws), (2, .int (nI (cs.getD (p + 4) 0))), (1, .ref ws), (0, .ref t)]) hb dX22_command_37 (by rw [hN]; decide) rfl ?_
          refine z_aload_n hb dX22_command_39 rfl ?_
          refine z_callQ1 (b' := 9) (f' := 390) (rest := []) (av := [.ref ws]) (z_siteV hb ho zc23 ky_23 q2384 q841 q842 ⟨_, _, _, _, zk_J6_hashCode⟩ zy_J6_hashCode zl_J6_hashCode dX22_command_40 : z_Site M _ _ _ _ _ ([].reverse ++ .ref ws :: []) [] _) zk_J6_hashCode q102 hrm (m_J6_hashCode_0 (hs9 := 0) hws2 (by omega) (by decide) (by decide +kernel)) (by omega) (by decide) (Nat.le_of_ble_eq_true rfl) (by omega) (by omega) (fun rhq6 h6 n6 hq6 hn6 => ?_)
          obtain ⟨rfl, hq6⟩ := hq6
          obtain ⟨hws6, hfr6, -⟩ := hq6
          obtain ⟨ew6, how6⟩ := hws6.o
          have ky_24 : h6 t = some (.inr (18, [.int (nI ((p + 4) + 1)), .ref x])) := hfr6 _ _ hp2 (z_ne_cc ky_23 hp2 (by decide))
          have ky_25 : h6 x = some (.inr (0, [x0, x1, .ref bu, x3, x4, x5, x6])) := hfr6 _ _ hX2 (z_ne_cc ky_23 hX2 (by decide))
          have ky_26 : h6 bu = some (.inr (22, fsb2)) := hfr6 _ _ hob2 (z_ne_cc ky_23 hob2 (by decide))
          refine z_dom (fun hdd6 => ?_)
          refine z_lookup (off := 64) (tgt := 107) hb dX22_command_43 (by decide) (by decide +kernel) (by decide) ?_
          refine z_aload_n hb dX22_command_107 rfl ?_
          refine z_ldcS (i := 33) hb ho rfl rfl rfl dX22_command_108 ?_
          refine z_callN1 (b' := 9) (f' := 390) (rest := []) (av := [.ref ws, .ref ((zm_G M).2.2.1 33)]) (z_siteV hb ho zc23 how6 q2381 q647 q3284 ⟨_, _, _, _, zk_J6_equals⟩ zy_J6_equals zl_J6_equals dX22_command_110 : z_Site M _ _ _ _ _ ([.ref ((zm_G M).2.2.1 33)].reverse ++ .ref ws :: []) [] _) zk_J6_equals q102 hrm (m_J6_equals hws6.sg ((hKS.frx hp (by decide) (z_frT hdm0 (by omega) (hfr1.t hfr2) hfr6)) 33 (by decide))) (by omega) (by decide) (Nat.le_of_ble_eq_true rfl) (by omega) (by omega) (fun n_27 hn_27 => ?_)
          refine z_toI (y := z_b true) (by decide) ?_
          refine z_ifb_eq (tgt := 164) hb dX22_command_113 (by decide) (fun c_113 => ?_) (fun c_113 => ?_)
          · cases c_113
          · refine z_iconst (x := nI 1) hb dX22_command_116 (by decide) ?_
            refine z_istore (lv' := [(4, .int (nI 1)), (3, .ref ws), (2, .int (nI (cs.getD (p + 4) 0))), (1, .ref ws), (0, .ref t)]) hb dX22_command_117 (by rw [hN]; decide) rfl ?_
            refine z_goto (tgt := 164) hb dX22_command_119 (by decide) ?_
            refine z_iload hb dX22_command_164 rfl ?_
            refine z_tableIn (off := 65) (tgt := 231) hb dX22_command_166 (by decide) (by decide) rfl (by decide) ?_
            refine z_dom (fun hD_28 => ?_)
            refine z_new (N0 := 4) (b' := 8) (f' := 386) (fs := [.null, .int (nI 0), .int (nI 0), .int (nI 0)]) (C := RX5) (T := TX5) (N := 4) hb ho zc4 in_X5 tyX5_ok q2382 q818 q115 dX22_command_231 (zdf_X5) (by omega) (by omega) ?_
            refine z_hn (fun h_29 eh_29 => ?_)
            have eh_29 : h_29 = z_up h6 n_27 (.inr (4, [.null, .int (nI 0), .int (nI 0), .int (nI 0)])) := eh_29
            have k_30 : h_29 t = some (.inr (18, [.int (nI ((p + 4) + 1)), .ref x])) := z_nx eh_29 (Nat.ne_of_lt (hD_28 _ _ ky_24)) ky_24
            have k_31 : h_29 x = some (.inr (0, [x0, x1, .ref bu, x3, x4, x5, x6])) := z_nx eh_29 (Nat.ne_of_lt (hD_28 _ _ ky_25)) ky_25
            have k_32 : h_29 bu = some (.inr (22, fsb2)) := z_nx eh_29 (Nat.ne_of_lt (hD_28 _ _ ky_26)) ky_26
            have k_33 : h_29 ws = some (.inr (23, [.ref ew6, .int (nI 0), .int (z_hs (z_wd 1)), .int (nI 0)])) := z_nx eh_29 (Nat.ne_of_lt (hD_28 _ _ how6)) how6
            refine z_dup hb dX22_command_234 rfl ?_
            refine z_aload_n hb dX22_command_235 rfl ?_
            refine z_bipush (x := nI 32) hb dX22_command_236 (by decide) ?_
            refine z_aload_n hb dX22_command_238 rfl ?_
            refine z_call (b' := 5) (f' := 346) (rest := [.int (nI 32), .ref ws, .ref n_27, .ref n_27]) (av := [.ref t]) (z_siteV hb ho zc18 k_30 q2400 q2402 qs28 ⟨_, _, _, _, zk_X22_number⟩ zy_X22_number zl_X22_number dX22_command_239 : z_Site M _ _ _ _ _ ([].reverse ++ .ref t :: [.int (nI 32), .ref ws, .ref n_27, .ref n_27]) [.int (nI 32), .ref ws, .ref n_27, .ref n_27] _) zk_X22_number q146 hrm (m_X22_number k_30 k_31 ((hBF2.frc ky_23 (by decide) hfr6).exx (z_exN z_ex_r hD_28 eh_29)) hT hle2 (hKS.frx hp (by decide) ((z_frT hdm0 (by omega) (hfr1.t hfr2) hfr6).t (z_exN z_ex_r hD_28 eh_29).fr)) ht0) (by omega) (by decide) (Nat.le_of_ble_eq_true rfl) (by omega) (by omega) (fun v3 h3 n3 hq3 hn3 => ?_) (fun q3 h3 n3 hq3 hn3 => ?_)
            · obtain ⟨hok3, hv3, hp3, hfr3⟩ := z_ps_r hq3
              subst hv3
              refine z_dom (fun hdd3 => ?_)
              have hX3 := hfr3 _ _ k_31 (z_x_t k_30 k_31)
              have hBF3 := ((hBF2.frc ky_23 (by decide) hfr6).exx (z_exN z_ex_r hD_28 eh_29)).frc k_30 (by decide) hfr3
              have hle3 : (z_nm cs ((p + 4) + 1)).1 ≤ cs.length := z_nm_le hle2
              obtain ⟨fsb3, hob3⟩ := z_BF.o hBF3
              have ky_34 := hfr3 _ _ k_33 (z_ne_cc k_30 k_33 (by decide))
              have ky_35 := hfr3 _ _ (z_nxs eh_29) (z_ne_cc k_30 (z_nxs eh_29) (by decide))
              have hws3 := (hws6.ex (z_exN z_ex_r hD_28 eh_29)).frx k_30 (by decide) hfr3
              refine z_iconst (x := nI 0) hb dX22_command_242 (by decide) ?_
              refine z_call0 (b' := 5) (f' := 346) (rest := [.ref n_27]) (av := [.ref n_27, .ref ws, .int (nI 32), .int (z_nv cs ((p + 4) + 1)), .int (nI 0)]) (z_siteI hb ho q2383 q820 q821 rfl zy_X5_init zl_X5_init dX22_command_243 : z_Site M _ _ _ _ _ ([.ref ws, .int (nI 32), .int (z_nv cs ((p + 4) + 1)), .int (nI 0)].reverse ++ .ref n_27 :: [.ref n_27]) [.ref n_27] _) zk_X5_init q115 hrm (m_X5_init ky_35 (by omega) (by first | decide | exact hc16 _)) (by omega) (by decide) (Nat.le_of_ble_eq_true rfl) (by omega) (by omega) ?_
              refine z_hn (fun h_36 eh_36 => ?_)
              have eh_36 : h_36 = z_up h3 n_27 (.inr (4, [.ref ws, .int (nI 32), .int (z_nv cs ((p + 4) + 1)), .int (nI 0)])) := eh_36
              have k_37 : h_36 t = some (.inr (18, [.int (nI ((z_nm cs ((p + 4) + 1)).1)), .ref x])) := z_nx eh_36 (z_neO hp3 ky_35 rfl) hp3
              have k_38 : h_36 x = some (.inr (0, [x0, x1, .ref bu, x3, x4, x5, x6])) := z_nx eh_36 (z_neO hX3 ky_35 rfl) hX3
              have k_39 : h_36 bu = some (.inr (22, fsb3)) := z_nx eh_36 (z_neO hob3 ky_35 rfl) hob3
              have k_40 : h_36 ws = some (.inr (23, [.ref ew6, .int (nI 0), .int (z_hs (z_wd 1)), .int (nI 0)])) := z_nx eh_36 (z_neO ky_34 ky_35 rfl) ky_34
              have hrr9 : z_rr cs 1 (p + 4) = z_nm cs ((p + 4) + 1) := by simp only [z_rr, z_tk, z_tk2f hok2, ↓reduceIte, Bool.false_eq_true]
              refine z_aret hb hr (Or.inl ⟨_, rfl⟩) (Or.inr ⟨_, rfl⟩) dX22_command_246 ?_
              rw [hQ]
              exact Or.inl ⟨1, ws, n_27, by decide, hlp, (by show (z_rr cs 1 (p + 4)).2 = false; rw [hrr9]; exact hok3), rfl, by omega, by omega, (by show z_Sf _ _ _ (z_wd 1) (z_hs (z_wd 1)); exact (hws3.frx ky_35 (by decide) (z_fr_up (P := fun y => y = n_27) rfl eh_36))), (z_nxs eh_36), (by show _ = some (Sum.inr (18, [Value.int (nI (z_rr cs 1 (p + 4)).1), Value.ref x])); rw [hrr9]; exact k_37), (by show (z_rr cs 1 (p + 4)).1 ≤ _; rw [hrr9]; exact hle3), (z_frT hdm0 (by omega) (((z_frT hdm0 (by omega) (hfr1.t hfr2) hfr6).t (z_exN z_ex_r hD_28 eh_29).fr).t hfr3) (z_fr_up (P := fun y => y = n_27) rfl eh_36))⟩
            · obtain ⟨b13, b23, b33, b43⟩ := z_ps_t hq3
              have hbe3 : z_rr cs 1 (p + 4) = z_nm cs ((p + 4) + 1) := by simp only [z_rr, z_tk, z_tk2f hok2, ↓reduceIte, Bool.false_eq_true]
              exact z_out ho hH zc19 b33 (by omega) (fun _ h => nomatch h) (by rw [hQ]; exact Or.inr ⟨_, _, rfl, by omega, Or.inr ⟨1, by decide, hlp, by show (z_rr cs 1 (p + 4)).2 = true; rw [hbe3]; exact b13, rfl⟩, (by show _ = some (Sum.inr (19, z_sf (z_rr cs 1 (p + 4)).1)); rw [hbe3]; exact b33), ((z_frT hdm0 (by omega) (hfr1.t hfr2) hfr6).t (z_exN z_ex_r hD_28 eh_29).fr).t b43⟩)
        · obtain ⟨b12, b22, b32, b42⟩ := z_ps_t hq2
          have hbe2 : z_rr cs 1 (p + 4) = z_tk cs (p + 4) z_spc := by simp only [z_rr, z_tk, z_tk2t b12, ↓reduceIte, Bool.false_eq_true]
          exact z_out ho hH zc19 b32 (by omega) (fun _ h => nomatch h) (by rw [hQ]; exact Or.inr ⟨_, _, rfl, by omega, Or.inr ⟨1, by decide, hlp, by show (z_rr cs 1 (p + 4)).2 = true; rw [hbe2]; exact b12, rfl⟩, (by show _ = some (Sum.inr (19, z_sf (z_rr cs 1 (p + 4)).1)); rw [hbe2]; exact b32), hfr1.t b42⟩)
      · cases c_11
    · have hle1 : (p + 4) ≤ cs.length := hle1
      have hp1 : h1 t = some (.inr (18, [.int (nI (p + 4)), .ref x])) := hp1
      obtain ⟨ew1, how1⟩ := hws.o
      obtain ⟨fsb1, hob1⟩ := z_BF.o hBF1
      refine z_astore_n (lv' := [(1, .ref ws), (0, .ref t)]) hb dX22_command_4 (by rw [hN]; decide) rfl ?_
      refine z_aload_n hb dX22_command_5 rfl ?_
      refine z_ldcS (i := 31) hb ho rfl rfl rfl dX22_command_6 ?_
      refine z_callN1 (b' := 10) (f' := 400) (rest := []) (av := [.ref ws, .ref ((zm_G M).2.2.1 31)]) (z_siteV hb ho zc23 how1 q2381 q647 q3284 ⟨_, _, _, _, zk_J6_equals⟩ zy_J6_equals zl_J6_equals dX22_command_8 : z_Site M _ _ _ _ _ ([.ref ((zm_G M).2.2.1 31)].reverse ++ .ref ws :: []) [] _) zk_J6_equals q102 hrm (m_J6_equals hws.sg ((hKS.frx hp (by decide) hfr1) 31 (by decide))) (by omega) (by decide) (Nat.le_of_ble_eq_true rfl) (by omega) (by omega) (fun n_41 hn_41 => ?_)
      refine z_toI (y := z_b true) (by decide) ?_
      refine z_ifb_eq (tgt := 27) hb dX22_command_11 (by decide) (fun c_11 => ?_) (fun c_11 => ?_)
      · cases c_11
      · refine z_dom (fun hD_42 => ?_)
        refine z_new (N0 := 4) (b' := 9) (f' := 396) (fs := [.null, .int (nI 0), .int (nI 0), .int (nI 0)]) (C := RX5) (T := TX5) (N := 4) hb ho zc4 in_X5 tyX5_ok q2382 q818 q115 dX22_command_14 (zdf_X5) (by omega) (by omega) ?_
        refine z_hn (fun h_43 eh_43 => ?_)
        have eh_43 : h_43 = z_up h1 n_41 (.inr (4, [.null, .int (nI 0), .int (nI 0), .int (nI 0)])) := eh_43
        have k_44 : h_43 t = some (.inr (18, [.int (nI (p + 4)), .ref x])) := z_nx eh_43 (Nat.ne_of_lt (hD_42 _ _ hp1)) hp1
        have k_45 : h_43 x = some (.inr (0, [x0, x1, .ref bu, x3, x4, x5, x6])) := z_nx eh_43 (Nat.ne_of_lt (hD_42 _ _ hX1)) hX1
        have k_46 : h_43 bu = some (.inr (22, fsb1)) := z_nx eh_43 (Nat.ne_of_lt (hD_42 _ _ hob1)) hob1
        have k_47 : h_43 ws = some (.inr (23, [.ref ew1, .int (nI 0), .int (nI 0), .int (nI 0)])) := z_nx eh_43 (Nat.ne_of_lt (hD_42 _ _ how1)) how1
        refine z_dup hb dX22_command_17 rfl ?_
        refine z_aload_n hb dX22_command_18 rfl ?_
        refine z_bipush (x := nI 32) hb dX22_command_19 (by decide) ?_
        refine z_iconst (x := nI 0) hb dX22_command_21 (by decide) ?_
        refine z_iconst (x := nI 0) hb dX22_command_22 (by decide) ?_
        refine z_call0 (b' := 9) (f' := 396) (rest := [.ref n_41]) (av := [.ref n_41, .ref ws, .int (nI 32), .int (nI 0), .int (nI 0)]) (z_siteI hb ho q2383 q820 q821 rfl zy_X5_init zl_X5_init dX22_command_23 : z_Site M _ _ _ _ _ ([.ref ws, .int (nI 32), .int (nI 0), .int (nI 0)].reverse ++ .ref n_41 :: [.ref n_41]) [.ref n_41] _) zk_X5_init q115 hrm (m_X5_init (z_nxs eh_43) (by omega) (by first | decide | exact hc16 _)) (by omega) (by decide) (Nat.le_of_ble_eq_true rfl) (by omega) (by omega) ?_
        refine z_hn (fun h_48 eh_48 => ?_)
        have eh_48 : h_48 = z_up h_43 n_41 (.inr (4, [.ref ws, .int (nI 32), .int (nI 0), .int (nI 0)])) := eh_48
        have k_49 : h_48 t = some (.inr (18, [.int (nI (p + 4)), .ref x])) := z_nx eh_48 (Nat.ne_of_lt (hD_42 _ _ hp1)) k_44
        have k_50 : h_48 x = some (.inr (0, [x0, x1, .ref bu, x3, x4, x5, x6])) := z_nx eh_48 (Nat.ne_of_lt (hD_42 _ _ hX1)) k_45
        have k_51 : h_48 bu = some (.inr (22, fsb1)) := z_nx eh_48 (Nat.ne_of_lt (hD_42 _ _ hob1)) k_46
        have k_52 : h_48 ws = some (.inr (23, [.ref ew1, .int (nI 0), .int (nI 0), .int (nI 0)])) := z_nx eh_48 (Nat.ne_of_lt (hD_42 _ _ how1)) k_47
        have hrr9 : z_rr cs 2 (p + 4) = ((p + 4), false) := rfl
        refine z_aret hb hr (Or.inl ⟨_, rfl⟩) (Or.inr ⟨_, rfl⟩) dX22_command_26 ?_
        rw [hQ]
        exact Or.inl ⟨2, ws, n_41, by decide, hlp, (by show (z_rr cs 2 (p + 4)).2 = false; rw [hrr9]), rfl, by omega, by omega, (by show z_Sf _ _ _ (z_wd 2) (nI 0); exact ((hws.ex (z_exN z_ex_r hD_42 eh_43)).frx (z_nxs eh_43) (by decide) (z_fr_up (P := fun y => y = n_41) rfl eh_48))), (z_nxs eh_48), (by show _ = some (Sum.inr (18, [Value.int (nI (z_rr cs 2 (p + 4)).1), Value.ref x])); rw [hrr9]; exact k_49), (by show (z_rr cs 2 (p + 4)).1 ≤ _; rw [hrr9]; exact hle1), (z_frT hdm0 (by omega) (hfr1.t (z_exN z_ex_r hD_42 eh_43).fr) (z_fr_up (P := fun y => y = n_41) rfl eh_48))⟩
    · have hle1 : (p + 4) ≤ cs.length := hle1
      have hp1 : h1 t = some (.inr (18, [.int (nI (p + 4)), .ref x])) := hp1
      obtain ⟨ew1, how1⟩ := hws.o
      obtain ⟨fsb1, hob1⟩ := z_BF.o hBF1
      refine z_astore_n (lv' := [(1, .ref ws), (0, .ref t)]) hb dX22_command_4 (by rw [hN]; decide) rfl ?_
      refine z_aload_n hb dX22_command_5 rfl ?_
      refine z_ldcS (i := 31) hb ho rfl rfl rfl dX22_command_6 ?_
      refine z_callN1 (b' := 10) (f' := 400) (rest := []) (av := [.ref ws, .ref ((zm_G M).2.2.1 31)]) (z_siteV hb ho zc23 how1 q2381 q647 q3284 ⟨_, _, _, _, zk_J6_equals⟩ zy_J6_equals zl_J6_equals dX22_command_8 : z_Site M _ _ _ _ _ ([.ref ((zm_G M).2.2.1 31)].reverse ++ .ref ws :: []) [] _) zk_J6_equals q102 hrm (m_J6_equals hws.sg ((hKS.frx hp (by decide) hfr1) 31 (by decide))) (by omega) (by decide) (Nat.le_of_ble_eq_true rfl) (by omega) (by omega) (fun n_53 hn_53 => ?_)
      refine z_toI (y := z_b false) (by decide) ?_
      refine z_ifb_eq (tgt := 27) hb dX22_command_11 (by decide) (fun c_11 => ?_) (fun c_11 => ?_)
      · refine z_aload_n hb dX22_command_27 rfl ?_
        refine z_ldcS (i := 28) hb ho rfl rfl rfl dX22_command_28 ?_
        refine z_call (b' := 9) (f' := 390) (rest := []) (av := [.ref t, .ref ((zm_G M).2.2.1 28)]) (z_siteV hb ho zc18 hp1 q2349 q2351 qs25 ⟨_, _, _, _, zk_X22_take⟩ zy_X22_take zl_X22_take dX22_command_30 : z_Site M _ _ _ _ _ ([.ref ((zm_G M).2.2.1 28)].reverse ++ .ref t :: []) [] _) zk_X22_take q146 hrm (m_X22_take hp1 hX1 hBF1 hT hle1 ((hKS.frx hp (by decide) hfr1) 28 (by decide)) ht0) (by omega) (by decide) (Nat.le_of_ble_eq_true rfl) (by omega) (by omega) (fun v2 h2 n2 hq2 hn2 => ?_) (fun q2 h2 n2 hq2 hn2 => ?_)
        · obtain ⟨hok2, hv2, hp2, hfr2⟩ := z_ps_r hq2
          subst hv2
          refine z_dom (fun hdd2 => ?_)
          have hpos2 : (z_tk cs (p + 4) z_spc).1 = ((p + 4) + 1) := (by rw [z_tk_t (z_tk2f hok2)])
          rw [hpos2] at hp2
          have hX2 := hfr2 _ _ hX1 (z_x_t hp1 hX1)
          have hBF2 := hBF1.frc hp1 (by decide) hfr2
          have hle2 : ((p + 4) + 1) ≤ cs.length := z_at_lt (z_tk2f hok2)
          obtain ⟨fsb2, hob2⟩ := z_BF.o hBF2
          have ky_54 := hfr2 _ _ how1 (z_ne_cc hp1 how1 (by decide))
          have hws2 := hws.frx hp1 (by decide) hfr2
          refine z_istore_n (lv' := [(2, .int (nI (cs.getD (p + 4) 0))), (1, .ref ws), (0, .ref t)]) hb dX22_command_33 (by rw [hN]; decide) rfl ?_
          refine z_aload_n hb dX22_command_34 rfl ?_
          refine z_astore_n (lv' := [(3, .ref ws), (2, .int (nI (cs.getD (p + 4) 0))), (1, .ref ws), (0, .ref t)]) hb dX22_command_35 (by rw [hN]; decide) rfl ?_
          refine z_iconst (x := (-1)) hb dX22_command_36 (by decide) ?_
          refine z_istore (lv' := [(4, .int (-1)), (3, .ref ws), (2, .int (nI (cs.getD (p + 4) 0))), (1, .ref ws), (0, .ref t)]) hb dX22_command_37 (by rw [hN]; decide) rfl ?_
          refine z_aload_n hb dX22_command_39 rfl ?_
          refine z_callQ1 (b' := 9) (f' := 390) (rest := []) (av := [.ref ws]) (z_siteV hb ho zc23 ky_54 q2384 q841 q842 ⟨_, _, _, _, zk_J6_hashCode⟩ zy_J6_hashCode zl_J6_hashCode dX22_command_40 : z_Site M _ _ _ _ _ ([].reverse ++ .ref ws :: []) [] _) zk_J6_hashCode q102 hrm (m_J6_hashCode_0 (hs9 := 0) hws2 (by omega) (by decide) (by decide +kernel)) (by omega) (by decide) (Nat.le_of_ble_eq_true rfl) (by omega) (by omega) (fun rhq6 h6 n6 hq6 hn6 => ?_)
          obtain ⟨rfl, hq6⟩ := hq6
          obtain ⟨hws6, hfr6, -⟩ := hq6
          obtain ⟨ew6, how6⟩ := hws6.o
          have ky_55 : h6 t = some (.inr (18, [.int (nI ((p + 4) + 1)), .ref x])) := hfr6 _ _ hp2 (z_ne_cc ky_54 hp2 (by decide))
          have ky_56 : h6 x = some (.inr (0, [x0, x1, .ref bu, x3, x4, x5, x6])) := hfr6 _ _ hX2 (z_ne_cc ky_54 hX2 (by decide))
          have ky_57 : h6 bu = some (.inr (22, fsb2)) := hfr6 _ _ hob2 (z_ne_cc ky_54 hob2 (by decide))
          refine z_dom (fun hdd6 => ?_)
          refine z_lookup (off := 79) (tgt := 122) hb dX22_command_43 (by decide) (by decide +kernel) (by decide) ?_
          refine z_aload_n hb dX22_command_122 rfl ?_
          refine z_ldcS (i := 34) hb ho rfl rfl rfl dX22_command_123 ?_
          refine z_callN1 (b' := 9) (f' := 390) (rest := []) (av := [.ref ws, .ref ((zm_G M).2.2.1 34)]) (z_siteV hb ho zc23 how6 q2381 q647 q3284 ⟨_, _, _, _, zk_J6_equals⟩ zy_J6_equals zl_J6_equals dX22_command_125 : z_Site M _ _ _ _ _ ([.ref ((zm_G M).2.2.1 34)].reverse ++ .ref ws :: []) [] _) zk_J6_equals q102 hrm (m_J6_equals hws6.sg ((hKS.frx hp (by decide) (z_frT hdm0 (by omega) (hfr1.t hfr2) hfr6)) 34 (by decide))) (by omega) (by decide) (Nat.le_of_ble_eq_true rfl) (by omega) (by omega) (fun n_58 hn_58 => ?_)
          refine z_toI (y := z_b true) (by decide) ?_
          refine z_ifb_eq (tgt := 164) hb dX22_command_128 (by decide) (fun c_128 => ?_) (fun c_128 => ?_)
          · cases c_128
          · refine z_iconst (x := nI 2) hb dX22_command_131 (by decide) ?_
            refine z_istore (lv' := [(4, .int (nI 2)), (3, .ref ws), (2, .int (nI (cs.getD (p + 4) 0))), (1, .ref ws), (0, .ref t)]) hb dX22_command_132 (by rw [hN]; decide) rfl ?_
            refine z_goto (tgt := 164) hb dX22_command_134 (by decide) ?_
            refine z_iload hb dX22_command_164 rfl ?_
            refine z_tableIn (off := 81) (tgt := 247) hb dX22_command_166 (by decide) (by decide) rfl (by decide) ?_
            refine z_aload_n hb dX22_command_247 rfl ?_
            refine z_ldcS (i := 39) hb ho rfl rfl rfl dX22_command_248 ?_
            refine z_call (b' := 8) (f' := 380) (rest := []) (av := [.ref t, .ref ((zm_G M).2.2.1 39)]) (z_siteV hb ho zc18 ky_55 q2349 q2351 qs25 ⟨_, _, _, _, zk_X22_take⟩ zy_X22_take zl_X22_take dX22_command_250 : z_Site M _ _ _ _ _ ([.ref ((zm_G M).2.2.1 39)].reverse ++ .ref t :: []) [] _) zk_X22_take q146 hrm (m_X22_take ky_55 ky_56 (hBF2.frc ky_54 (by decide) hfr6) hT hle2 ((hKS.frx hp (by decide) (z_frT hdm0 (by omega) (hfr1.t hfr2) hfr6)) 39 (by decide)) ht0) (by omega) (by decide) (Nat.le_of_ble_eq_true rfl) (by omega) (by omega) (fun v3 h3 n3 hq3 hn3 => ?_) (fun q3 h3 n3 hq3 hn3 => ?_)
            · obtain ⟨hok3, hv3, hp3, hfr3⟩ := z_ps_r hq3
              subst hv3
              refine z_dom (fun hdd3 => ?_)
              have hpos3 : (z_tk cs ((p + 4) + 1) (z_lits.getD 39 [])).1 = (((p + 4) + 1) + 1) := (by rw [z_tk_t (z_tk2f hok3)])
              rw [hpos3] at hp3
              have hX3 := hfr3 _ _ ky_56 (z_x_t ky_55 ky_56)
              have hBF3 := (hBF2.frc ky_54 (by decide) hfr6).frc ky_55 (by decide) hfr3
              have hle3 : (((p + 4) + 1) + 1) ≤ cs.length := z_at_lt (z_tk2f hok3)
              obtain ⟨fsb3, hob3⟩ := z_BF.o hBF3
              have ky_59 := hfr3 _ _ how6 (z_ne_cc ky_55 how6 (by decide))
              have hws3 := hws6.frx ky_55 (by decide) hfr3
              refine z_istore (lv' := [(5, .int (nI (cs.getD ((p + 4) + 1) 0))), (4, .int (nI 2)), (3, .ref ws), (2, .int (nI (cs.getD (p + 4) 0))), (1, .ref ws), (0, .ref t)]) hb dX22_command_253 (by rw [hN]; decide) rfl ?_
              refine z_dom (fun hD_60 => ?_)
              refine z_new (N0 := 4) (b' := 7) (f' := 376) (fs := [.null, .int (nI 0), .int (nI 0), .int (nI 0)]) (C := RX5) (T := TX5) (N := 4) hb ho zc4 in_X5 tyX5_ok q2382 q818 q115 dX22_command_255 (zdf_X5) (by omega) (by omega) ?_
              refine z_hn (fun h_61 eh_61 => ?_)
              have eh_61 : h_61 = z_up h3 n3 (.inr (4, [.null, .int (nI 0), .int (nI 0), .int (nI 0)])) := eh_61
              have k_62 : h_61 t = some (.inr (18, [.int (nI (((p + 4) + 1) + 1)), .ref x])) := z_nx eh_61 (Nat.ne_of_lt (hD_60 _ _ hp3)) hp3
              have k_63 : h_61 x = some (.inr (0, [x0, x1, .ref bu, x3, x4, x5, x6])) := z_nx eh_61 (Nat.ne_of_lt (hD_60 _ _ hX3)) hX3
              have k_64 : h_61 bu = some (.inr (22, fsb3)) := z_nx eh_61 (Nat.ne_of_lt (hD_60 _ _ hob3)) hob3
              have k_65 : h_61 ws = some (.inr (23, [.ref ew6, .int (nI 0), .int (z_hs (z_wd 3)), .int (nI 0)])) := z_nx eh_61 (Nat.ne_of_lt (hD_60 _ _ ky_59)) ky_59
              refine z_dup hb dX22_command_258 rfl ?_
              refine z_aload_n hb dX22_command_259 rfl ?_
              refine z_iload hb dX22_command_260 rfl ?_
              refine z_aload_n hb dX22_command_262 rfl ?_
              refine z_call (b' := 4) (f' := 336) (rest := [.int (nI (cs.getD ((p + 4) + 1) 0)), .ref ws, .ref n3, .ref n3]) (av := [.ref t]) (z_siteV hb ho zc18 k_62 q2400 q2402 qs28 ⟨_, _, _, _, zk_X22_number⟩ zy_X22_number zl_X22_number dX22_command_263 : z_Site M _ _ _ _ _ ([].reverse ++ .ref t :: [.int (nI (cs.getD ((p + 4) + 1) 0)), .ref ws, .ref n3, .ref n3]) [.int (nI (cs.getD ((p + 4) + 1) 0)), .ref ws, .ref n3, .ref n3] _) zk_X22_number q146 hrm (m_X22_number k_62 k_63 (hBF3.exx (z_exN z_ex_r hD_60 eh_61)) hT hle3 (hKS.frx hp (by decide) (((z_frT hdm0 (by omega) (hfr1.t hfr2) hfr6).t hfr3).t (z_exN z_ex_r hD_60 eh_61).fr)) ht0) (by omega) (by decide) (Nat.le_of_ble_eq_true rfl) (by omega) (by omega) (fun v4 h4 n4 hq4 hn4 => ?_) (fun q4 h4 n4 hq4 hn4 => ?_)
              · obtain ⟨hok4, hv4, hp4, hfr4⟩ := z_ps_r hq4
                subst hv4
                refine z_dom (fun hdd4 => ?_)
                have hX4 := hfr4 _ _ k_63 (z_x_t k_62 k_63)
                have hBF4 := (hBF3.exx (z_exN z_ex_r hD_60 eh_61)).frc k_62 (by decide) hfr4
                have hle4 : (z_nm cs (((p + 4) + 1) + 1)).1 ≤ cs.length := z_nm_le hle3
                obtain ⟨fsb4, hob4⟩ := z_BF.o hBF4
                have ky_66 := hfr4 _ _ k_65 (z_ne_cc k_62 k_65 (by decide))
                have ky_67 := hfr4 _ _ (z_nxs eh_61) (z_ne_cc k_62 (z_nxs eh_61) (by decide))
                have hws4 := (hws3.ex (z_exN z_ex_r hD_60 eh_61)).frx k_62 (by decide) hfr4
                refine z_iconst (x := nI 0) hb dX22_command_266 (by decide) ?_
                refine z_call0 (b' := 4) (f' := 336) (rest := [.ref n3]) (av := [.ref n3, .ref ws, .int (nI (cs.getD ((p + 4) + 1) 0)), .int (z_nv cs (((p + 4) + 1) + 1)), .int (nI 0)]) (z_siteI hb ho q2383 q820 q821 rfl zy_X5_init zl_X5_init dX22_command_267 : z_Site M _ _ _ _ _ ([.ref ws, .int (nI (cs.getD ((p + 4) + 1) 0)), .int (z_nv cs (((p + 4) + 1) + 1)), .int (nI 0)].reverse ++ .ref n3 :: [.ref n3]) [.ref n3] _) zk_X5_init q115 hrm (m_X5_init ky_67 (by omega) (by first | decide | exact hc16 _)) (by omega) (by decide) (Nat.le_of_ble_eq_true rfl) (by omega) (by omega) ?_
                refine z_hn (fun h_68 eh_68 => ?_)
                have eh_68 : h_68 = z_up h4 n3 (.inr (4, [.ref ws, .int (nI (cs.getD ((p + 4) + 1) 0)), .int (z_nv cs (((p + 4) + 1) + 1)), .int (nI 0)])) := eh_68
                have k_69 : h_68 t = some (.inr (18, [.int (nI ((z_nm cs (((p + 4) + 1) + 1)).1)), .ref x])) := z_nx eh_68 (z_neO hp4 ky_67 rfl) hp4
                have k_70 : h_68 x = some (.inr (0, [x0, x1, .ref bu, x3, x4, x5, x6])) := z_nx eh_68 (z_neO hX4 ky_67 rfl) hX4
                have k_71 : h_68 bu = some (.inr (22, fsb4)) := z_nx eh_68 (z_neO hob4 ky_67 rfl) hob4
                have k_72 : h_68 ws = some (.inr (23, [.ref ew6, .int (nI 0), .int (z_hs (z_wd 3)), .int (nI 0)])) := z_nx eh_68 (z_neO ky_66 ky_67 rfl) ky_66
                have hrr9 : z_rr cs 3 (p + 4) = z_nm cs (((p + 4) + 1) + 1) := by simp only [z_rr, z_tk, z_tk2f hok2, z_tk2f hok3, ↓reduceIte, Bool.false_eq_true]
                refine z_aret hb hr (Or.inl ⟨_, rfl⟩) (Or.inr ⟨_, rfl⟩) dX22_command_270 ?_
                rw [hQ]
                exact Or.inl ⟨3, ws, n3, by decide, hlp, (by show (z_rr cs 3 (p + 4)).2 = false; rw [hrr9]; exact hok4), rfl, by omega, by omega, (by show z_Sf _ _ _ (z_wd 3) (z_hs (z_wd 3)); exact (hws4.frx ky_67 (by decide) (z_fr_up (P := fun y => y = n3) rfl eh_68))), (z_nxs eh_68), (by show _ = some (Sum.inr (18, [Value.int (nI (z_rr cs 3 (p + 4)).1), Value.ref x])); rw [hrr9]; exact k_69), (by show (z_rr cs 3 (p + 4)).1 ≤ _; rw [hrr9]; exact hle4), (z_frT hdm0 (by omega) ((((z_frT hdm0 (by omega) (hfr1.t hfr2) hfr6).t hfr3).t (z_exN z_ex_r hD_60 eh_61).fr).t hfr4) (z_fr_up (P := fun y => y = n3) rfl eh_68))⟩
              · obtain ⟨b14, b24, b34, b44⟩ := z_ps_t hq4
                have hbe4 : z_rr cs 3 (p + 4) = z_nm cs (((p + 4) + 1) + 1) := by simp only [z_rr, z_tk, z_tk2f hok2, z_tk2f hok3, ↓reduceIte, Bool.false_eq_true]
                exact z_out ho hH zc19 b34 (by omega) (fun _ h => nomatch h) (by rw [hQ]; exact Or.inr ⟨_, _, rfl, by omega, Or.inr ⟨3, by decide, hlp, by show (z_rr cs 3 (p + 4)).2 = true; rw [hbe4]; exact b14, rfl⟩, (by show _ = some (Sum.inr (19, z_sf (z_rr cs 3 (p + 4)).1)); rw [hbe4]; exact b34), (((z_frT hdm0 (by omega) (hfr1.t hfr2) hfr6).t hfr3).t (z_exN z_ex_r hD_60 eh_61).fr).t b44⟩)
            · obtain ⟨b13, b23, b33, b43⟩ := z_ps_t hq3
              have hbe3 : z_rr cs 3 (p + 4) = z_tk cs ((p + 4) + 1) (z_lits.getD 39 []) := by simp only [z_rr, z_tk, z_tk2f hok2, z_tk2t b13, ↓reduceIte, Bool.false_eq_true]
              exact z_out ho hH zc19 b33 (by omega) (fun _ h => nomatch h) (by rw [hQ]; exact Or.inr ⟨_, _, rfl, by omega, Or.inr ⟨3, by decide, hlp, by show (z_rr cs 3 (p + 4)).2 = true; rw [hbe3]; exact b13, rfl⟩, (by show _ = some (Sum.inr (19, z_sf (z_rr cs 3 (p + 4)).1)); rw [hbe3]; exact b33), (z_frT hdm0 (by omega) (hfr1.t hfr2) hfr6).t b43⟩)
        · obtain ⟨b12, b22, b32, b42⟩ := z_ps_t hq2
          have hbe2 : z_rr cs 3 (p + 4) = z_tk cs (p + 4) z_spc := by simp only [z_rr, z_tk, z_tk2t b12, ↓reduceIte, Bool.false_eq_true]
          exact z_out ho hH zc19 b32 (by omega) (fun _ h => nomatch h) (by rw [hQ]; exact Or.inr ⟨_, _, rfl, by omega, Or.inr ⟨3, by decide, hlp, by show (z_rr cs 3 (p + 4)).2 = true; rw [hbe2]; exact b12, rfl⟩, (by show _ = some (Sum.inr (19, z_sf (z_rr cs 3 (p + 4)).1)); rw [hbe2]; exact b32), hfr1.t b42⟩)
      · cases c_11
    · have hle1 : (p + 4) ≤ cs.length := hle1
      have hp1 : h1 t = some (.inr (18, [.int (nI (p + 4)), .ref x])) := hp1
      obtain ⟨ew1, how1⟩ := hws.o
      obtain ⟨fsb1, hob1⟩ := z_BF.o hBF1
      refine z_astore_n (lv' := [(1, .ref ws), (0, .ref t)]) hb dX22_command_4 (by rw [hN]; decide) rfl ?_
      refine z_aload_n hb dX22_command_5 rfl ?_
      refine z_ldcS (i := 31) hb ho rfl rfl rfl dX22_command_6 ?_
      refine z_callN1 (b' := 10) (f' := 400) (rest := []) (av := [.ref ws, .ref ((zm_G M).2.2.1 31)]) (z_siteV hb ho zc23 how1 q2381 q647 q3284 ⟨_, _, _, _, zk_J6_equals⟩ zy_J6_equals zl_J6_equals dX22_command_8 : z_Site M _ _ _ _ _ ([.ref ((zm_G M).2.2.1 31)].reverse ++ .ref ws :: []) [] _) zk_J6_equals q102 hrm (m_J6_equals hws.sg ((hKS.frx hp (by decide) hfr1) 31 (by decide))) (by omega) (by decide) (Nat.le_of_ble_eq_true rfl) (by omega) (by omega) (fun n_73 hn_73 => ?_)
      refine z_toI (y := z_b false) (by decide) ?_
      refine z_ifb_eq (tgt := 27) hb dX22_command_11 (by decide) (fun c_11 => ?_) (fun c_11 => ?_)
      · refine z_aload_n hb dX22_command_27 rfl ?_
        refine z_ldcS (i := 28) hb ho rfl rfl rfl dX22_command_28 ?_
        refine z_call (b' := 9) (f' := 390) (rest := []) (av := [.ref t, .ref ((zm_G M).2.2.1 28)]) (z_siteV hb ho zc18 hp1 q2349 q2351 qs25 ⟨_, _, _, _, zk_X22_take⟩ zy_X22_take zl_X22_take dX22_command_30 : z_Site M _ _ _ _ _ ([.ref ((zm_G M).2.2.1 28)].reverse ++ .ref t :: []) [] _) zk_X22_take q146 hrm (m_X22_take hp1 hX1 hBF1 hT hle1 ((hKS.frx hp (by decide) hfr1) 28 (by decide)) ht0) (by omega) (by decide) (Nat.le_of_ble_eq_true rfl) (by omega) (by omega) (fun v2 h2 n2 hq2 hn2 => ?_) (fun q2 h2 n2 hq2 hn2 => ?_)
        · obtain ⟨hok2, hv2, hp2, hfr2⟩ := z_ps_r hq2
          subst hv2
          refine z_dom (fun hdd2 => ?_)
          have hpos2 : (z_tk cs (p + 4) z_spc).1 = ((p + 4) + 1) := (by rw [z_tk_t (z_tk2f hok2)])
          rw [hpos2] at hp2
          have hX2 := hfr2 _ _ hX1 (z_x_t hp1 hX1)
          have hBF2 := hBF1.frc hp1 (by decide) hfr2
          have hle2 : ((p + 4) + 1) ≤ cs.length := z_at_lt (z_tk2f hok2)
          obtain ⟨fsb2, hob2⟩ := z_BF.o hBF2
          have ky_74 := hfr2 _ _ how1 (z_ne_cc hp1 how1 (by decide))
          have hws2 := hws.frx hp1 (by decide) hfr2
          refine z_istore_n (lv' := [(2, .int (nI (cs.getD (p + 4) 0))), (1, .ref ws), (0, .ref t)]) hb dX22_command_33 (by rw [hN]; decide) rfl ?_
          refine z_aload_n hb dX22_command_34 rfl ?_
          refine z_astore_n (lv' := [(3, .ref ws), (2, .int (nI (cs.getD (p + 4) 0))), (1, .ref ws), (0, .ref t)]) hb dX22_command_35 (by rw [hN]; decide) rfl ?_
          refine z_iconst (x := (-1)) hb dX22_command_36 (by decide) ?_
          refine z_istore (lv' := [(4, .int (-1)), (3, .ref ws), (2, .int (nI (cs.getD (p + 4) 0))), (1, .ref ws), (0, .ref t)]) hb dX22_command_37 (by rw [hN]; decide) rfl ?_
          refine z_aload_n hb dX22_command_39 rfl ?_
          refine z_callQ1 (b' := 9) (f' := 390) (rest := []) (av := [.ref ws]) (z_siteV hb ho zc23 ky_74 q2384 q841 q842 ⟨_, _, _, _, zk_J6_hashCode⟩ zy_J6_hashCode zl_J6_hashCode dX22_command_40 : z_Site M _ _ _ _ _ ([].reverse ++ .ref ws :: []) [] _) zk_J6_hashCode q102 hrm (m_J6_hashCode_0 (hs9 := 0) hws2 (by omega) (by decide) (by decide +kernel)) (by omega) (by decide) (Nat.le_of_ble_eq_true rfl) (by omega) (by omega) (fun rhq6 h6 n6 hq6 hn6 => ?_)
          obtain ⟨rfl, hq6⟩ := hq6
          obtain ⟨hws6, hfr6, -⟩ := hq6
          obtain ⟨ew6, how6⟩ := hws6.o
          have ky_75 : h6 t = some (.inr (18, [.int (nI ((p + 4) + 1)), .ref x])) := hfr6 _ _ hp2 (z_ne_cc ky_74 hp2 (by decide))
          have ky_76 : h6 x = some (.inr (0, [x0, x1, .ref bu, x3, x4, x5, x6])) := hfr6 _ _ hX2 (z_ne_cc ky_74 hX2 (by decide))
          have ky_77 : h6 bu = some (.inr (22, fsb2)) := hfr6 _ _ hob2 (z_ne_cc ky_74 hob2 (by decide))
          refine z_dom (fun hdd6 => ?_)
          refine z_lookup (off := 94) (tgt := 137) hb dX22_command_43 (by decide) (by decide +kernel) (by decide) ?_
          refine z_aload_n hb dX22_command_137 rfl ?_
          refine z_ldcS (i := 35) hb ho rfl rfl rfl dX22_command_138 ?_
          refine z_callN1 (b' := 9) (f' := 390) (rest := []) (av := [.ref ws, .ref ((zm_G M).2.2.1 35)]) (z_siteV hb ho zc23 how6 q2381 q647 q3284 ⟨_, _, _, _, zk_J6_equals⟩ zy_J6_equals zl_J6_equals dX22_command_140 : z_Site M _ _ _ _ _ ([.ref ((zm_G M).2.2.1 35)].reverse ++ .ref ws :: []) [] _) zk_J6_equals q102 hrm (m_J6_equals hws6.sg ((hKS.frx hp (by decide) (z_frT hdm0 (by omega) (hfr1.t hfr2) hfr6)) 35 (by decide))) (by omega) (by decide) (Nat.le_of_ble_eq_true rfl) (by omega) (by omega) (fun n_78 hn_78 => ?_)
          refine z_toI (y := z_b true) (by decide) ?_
          refine z_ifb_eq (tgt := 164) hb dX22_command_143 (by decide) (fun c_143 => ?_) (fun c_143 => ?_)
          · cases c_143
          · refine z_iconst (x := nI 3) hb dX22_command_146 (by decide) ?_
            refine z_istore (lv' := [(4, .int (nI 3)), (3, .ref ws), (2, .int (nI (cs.getD (p + 4) 0))), (1, .ref ws), (0, .ref t)]) hb dX22_command_147 (by rw [hN]; decide) rfl ?_
            refine z_goto (tgt := 164) hb dX22_command_149 (by decide) ?_
            refine z_iload hb dX22_command_164 rfl ?_
            refine z_tableIn (off := 105) (tgt := 271) hb dX22_command_166 (by decide) (by decide) rfl (by decide) ?_
            refine z_aload_n hb dX22_command_271 rfl ?_
            refine z_call (b' := 8) (f' := 380) (rest := []) (av := [.ref t]) (z_siteV hb ho zc18 ky_75 q2391 q2393 qs26 ⟨_, _, _, _, zk_X22_digit⟩ zy_X22_digit zl_X22_digit dX22_command_272 : z_Site M _ _ _ _ _ ([].reverse ++ .ref t :: []) [] _) zk_X22_digit q146 hrm (m_X22_digit ky_75 ky_76 (hBF2.frc ky_74 (by decide) hfr6) hT hle2 (hKS.frx hp (by decide) (z_frT hdm0 (by omega) (hfr1.t hfr2) hfr6)) ht0) (by omega) (by decide) (Nat.le_of_ble_eq_true rfl) (by omega) (by omega) (fun v3 h3 n3 hq3 hn3 => ?_) (fun q3 h3 n3 hq3 hn3 => ?_)
            · obtain ⟨hok3, hv3, hp3, hfr3⟩ := z_ps_r hq3
              subst hv3
              refine z_dom (fun hdd3 => ?_)
              have hpos3 : (z_tk cs ((p + 4) + 1) z_dig).1 = (((p + 4) + 1) + 1) := (by rw [z_tk_t (z_tk2f hok3)])
              rw [hpos3] at hp3
              have hX3 := hfr3 _ _ ky_76 (z_x_t ky_75 ky_76)
              have hBF3 := (hBF2.frc ky_74 (by decide) hfr6).frc ky_75 (by decide) hfr3
              have hle3 : (((p + 4) + 1) + 1) ≤ cs.length := z_at_lt (z_tk2f hok3)
              obtain ⟨fsb3, hob3⟩ := z_BF.o hBF3
              have ky_79 := hfr3 _ _ how6 (z_ne_cc ky_75 how6 (by decide))
              have hws3 := hws6.frx ky_75 (by decide) hfr3
              refine z_istore (lv' := [(5, .int (nI (cs.getD ((p + 4) + 1) 0) - nI 48)), (4, .int (nI 3)), (3, .ref ws), (2, .int (nI (cs.getD (p + 4) 0))), (1, .ref ws), (0, .ref t)]) hb dX22_command_275 (by rw [hN]; decide) rfl ?_
              refine z_aload_n hb dX22_command_277 rfl ?_
              refine z_ldcS (i := 40) hb ho rfl rfl rfl dX22_command_278 ?_
              refine z_call (b' := 7) (f' := 370) (rest := []) (av := [.ref t, .ref ((zm_G M).2.2.1 40)]) (z_siteV hb ho zc18 hp3 q2349 q2351 qs25 ⟨_, _, _, _, zk_X22_take⟩ zy_X22_take zl_X22_take dX22_command_280 : z_Site M _ _ _ _ _ ([.ref ((zm_G M).2.2.1 40)].reverse ++ .ref t :: []) [] _) zk_X22_take q146 hrm (m_X22_take hp3 hX3 hBF3 hT hle3 ((hKS.frx hp (by decide) ((z_frT hdm0 (by omega) (hfr1.t hfr2) hfr6).t hfr3)) 40 (by decide)) ht0) (by omega) (by decide) (Nat.le_of_ble_eq_true rfl) (by omega) (by omega) (fun v4 h4 n4 hq4 hn4 => ?_) (fun q4 h4 n4 hq4 hn4 => ?_)
              · obtain ⟨hok4, hv4, hp4, hfr4⟩ := z_ps_r hq4
                subst hv4
                refine z_dom (fun hdd4 => ?_)
                have hpos4 : (z_tk cs (((p + 4) + 1) + 1) (z_lits.getD 40 [])).1 = ((((p + 4) + 1) + 1) + 1) := (by rw [z_tk_t (z_tk2f hok4)])
                rw [hpos4] at hp4
                have hX4 := hfr4 _ _ hX3 (z_x_t hp3 hX3)
                have hBF4 := hBF3.frc hp3 (by decide) hfr4
                have hle4 : ((((p + 4) + 1) + 1) + 1) ≤ cs.length := z_at_lt (z_tk2f hok4)
                obtain ⟨fsb4, hob4⟩ := z_BF.o hBF4
                have ky_80 := hfr4 _ _ ky_79 (z_ne_cc hp3 ky_79 (by decide))
                have hws4 := hws3.frx hp3 (by decide) hfr4
                refine z_istore (lv' := [(6, .int (nI (cs.getD (((p + 4) + 1) + 1) 0))), (5, .int (nI (cs.getD ((p + 4) + 1) 0) - nI 48)), (4, .int (nI 3)), (3, .ref ws), (2, .int (nI (cs.getD (p + 4) 0))), (1, .ref ws), (0, .ref t)]) hb dX22_command_283 (by rw [hN]; decide) rfl ?_
                refine z_dom (fun hD_81 => ?_)
                refine z_new (N0 := 4) (b' := 6) (f' := 366) (fs := [.null, .int (nI 0), .int (nI 0), .int (nI 0)]) (C := RX5) (T := TX5) (N := 4) hb ho zc4 in_X5 tyX5_ok q2382 q818 q115 dX22_command_285 (zdf_X5) (by omega) (by omega) ?_
                refine z_hn (fun h_82 eh_82 => ?_)
                have eh_82 : h_82 = z_up h4 n4 (.inr (4, [.null, .int (nI 0), .int (nI 0), .int (nI 0)])) := eh_82
                have k_83 : h_82 t = some (.inr (18, [.int (nI ((((p + 4) + 1) + 1) + 1)), .ref x])) := z_nx eh_82 (Nat.ne_of_lt (hD_81 _ _ hp4)) hp4
                have k_84 : h_82 x = some (.inr (0, [x0, x1, .ref bu, x3, x4, x5, x6])) := z_nx eh_82 (Nat.ne_of_lt (hD_81 _ _ hX4)) hX4
                have k_85 : h_82 bu = some (.inr (22, fsb4)) := z_nx eh_82 (Nat.ne_of_lt (hD_81 _ _ hob4)) hob4
                have k_86 : h_82 ws = some (.inr (23, [.ref ew6, .int (nI 0), .int (z_hs (z_wd 4)), .int (nI 0)])) := z_nx eh_82 (Nat.ne_of_lt (hD_81 _ _ ky_80)) ky_80
                refine z_dup hb dX22_command_288 rfl ?_
                refine z_aload_n hb dX22_command_289 rfl ?_
                refine z_iload hb dX22_command_290 rfl ?_
                refine z_iload hb dX22_command_292 rfl ?_
                refine z_aload_n hb dX22_command_294 rfl ?_
                refine z_call (b' := 5) (f' := 356) (rest := [.int (nI (cs.getD ((p + 4) + 1) 0) - nI 48), .int (nI (cs.getD (((p + 4) + 1) + 1) 0)), .ref ws, .ref n4, .ref n4]) (av := [.ref t]) (z_siteV hb ho zc18 k_83 q2391 q2393 qs26 ⟨_, _, _, _, zk_X22_digit⟩ zy_X22_digit zl_X22_digit dX22_command_295 : z_Site M _ _ _ _ _ ([].reverse ++ .ref t :: [.int (nI (cs.getD ((p + 4) + 1) 0) - nI 48), .int (nI (cs.getD (((p + 4) + 1) + 1) 0)), .ref ws, .ref n4, .ref n4]) [.int (nI (cs.getD ((p + 4) + 1) 0) - nI 48), .int (nI (cs.getD (((p + 4) + 1) + 1) 0)), .ref ws, .ref n4, .ref n4] _) zk_X22_digit q146 hrm (m_X22_digit k_83 k_84 (hBF4.exx (z_exN z_ex_r hD_81 eh_82)) hT hle4 (hKS.frx hp (by decide) ((((z_frT hdm0 (by omega) (hfr1.t hfr2) hfr6).t hfr3).t hfr4).t (z_exN z_ex_r hD_81 eh_82).fr)) ht0) (by omega) (by decide) (Nat.le_of_ble_eq_true rfl) (by omega) (by omega) (fun v5 h5 n5 hq5 hn5 => ?_) (fun q5 h5 n5 hq5 hn5 => ?_)
                · obtain ⟨hok5, hv5, hp5, hfr5⟩ := z_ps_r hq5
                  subst hv5
                  refine z_dom (fun hdd5 => ?_)
                  have hpos5 : (z_tk cs ((((p + 4) + 1) + 1) + 1) z_dig).1 = (((((p + 4) + 1) + 1) + 1) + 1) := (by rw [z_tk_t (z_tk2f hok5)])
                  rw [hpos5] at hp5
                  have hX5 := hfr5 _ _ k_84 (z_x_t k_83 k_84)
                  have hBF5 := (hBF4.exx (z_exN z_ex_r hD_81 eh_82)).frc k_83 (by decide) hfr5
                  have hle5 : (((((p + 4) + 1) + 1) + 1) + 1) ≤ cs.length := z_at_lt (z_tk2f hok5)
                  obtain ⟨fsb5, hob5⟩ := z_BF.o hBF5
                  have ky_87 := hfr5 _ _ k_86 (z_ne_cc k_83 k_86 (by decide))
                  have ky_88 := hfr5 _ _ (z_nxs eh_82) (z_ne_cc k_83 (z_nxs eh_82) (by decide))
                  have hws5 := (hws4.ex (z_exN z_ex_r hD_81 eh_82)).frx k_83 (by decide) hfr5
                  refine z_call0 (b' := 5) (f' := 356) (rest := [.ref n4]) (av := [.ref n4, .ref ws, .int (nI (cs.getD (((p + 4) + 1) + 1) 0)), .int (nI (cs.getD ((p + 4) + 1) 0) - nI 48), .int (nI (cs.getD ((((p + 4) + 1) + 1) + 1) 0) - nI 48)]) (z_siteI hb ho q2383 q820 q821 rfl zy_X5_init zl_X5_init dX22_command_298 : z_Site M _ _ _ _ _ ([.ref ws, .int (nI (cs.getD (((p + 4) + 1) + 1) 0)), .int (nI (cs.getD ((p + 4) + 1) 0) - nI 48), .int (nI (cs.getD ((((p + 4) + 1) + 1) + 1) 0) - nI 48)].reverse ++ .ref n4 :: [.ref n4]) [.ref n4] _) zk_X5_init q115 hrm (m_X5_init ky_88 (by omega) (by first | decide | exact hc16 _)) (by omega) (by decide) (Nat.le_of_ble_eq_true rfl) (by omega) (by omega) ?_
                  refine z_hn (fun h_89 eh_89 => ?_)
                  have eh_89 : h_89 = z_up h5 n4 (.inr (4, [.ref ws, .int (nI (cs.getD (((p + 4) + 1) + 1) 0)), .int (nI (cs.getD ((p + 4) + 1) 0) - nI 48), .int (nI (cs.getD ((((p + 4) + 1) + 1) + 1) 0) - nI 48)])) := eh_89
                  have k_90 : h_89 t = some (.inr (18, [.int (nI (((((p + 4) + 1) + 1) + 1) + 1)), .ref x])) := z_nx eh_89 (z_neO hp5 ky_88 rfl) hp5
                  have k_91 : h_89 x = some (.inr (0, [x0, x1, .ref bu, x3, x4, x5, x6])) := z_nx eh_89 (z_neO hX5 ky_88 rfl) hX5
                  have k_92 : h_89 bu = some (.inr (22, fsb5)) := z_nx eh_89 (z_neO hob5 ky_88 rfl) hob5
                  have k_93 : h_89 ws = some (.inr (23, [.ref ew6, .int (nI 0), .int (z_hs (z_wd 4)), .int (nI 0)])) := z_nx eh_89 (z_neO ky_87 ky_88 rfl) ky_87
                  have hrr9 : z_rr cs 4 (p + 4) = z_tk cs ((((p + 4) + 1) + 1) + 1) z_dig := by simp only [z_rr, z_tk, z_tk2f hok2, z_tk2f hok3, z_tk2f hok4, z_tk2f hok5, ↓reduceIte, Bool.false_eq_true]
                  refine z_aret hb hr (Or.inl ⟨_, rfl⟩) (Or.inr ⟨_, rfl⟩) dX22_command_301 ?_
                  rw [hQ]
                  exact Or.inl ⟨4, ws, n4, by decide, hlp, (by show (z_rr cs 4 (p + 4)).2 = false; rw [hrr9]; exact hok5), rfl, by omega, by omega, (by show z_Sf _ _ _ (z_wd 4) (z_hs (z_wd 4)); exact (hws5.frx ky_88 (by decide) (z_fr_up (P := fun y => y = n4) rfl eh_89))), (z_nxs eh_89), (by show _ = some (Sum.inr (18, [Value.int (nI (z_rr cs 4 (p + 4)).1), Value.ref x])); rw [hrr9]; rw [hpos5]; exact k_90), (by show (z_rr cs 4 (p + 4)).1 ≤ _; rw [hrr9]; rw [hpos5]; exact hle5), (z_frT hdm0 (by omega) (((((z_frT hdm0 (by omega) (hfr1.t hfr2) hfr6).t hfr3).t hfr4).t (z_exN z_ex_r hD_81 eh_82).fr).t hfr5) (z_fr_up (P := fun y => y = n4) rfl eh_89))⟩
                · obtain ⟨b15, b25, b35, b45⟩ := z_ps_t hq5
                  have hbe5 : z_rr cs 4 (p + 4) = z_tk cs ((((p + 4) + 1) + 1) + 1) z_dig := by simp only [z_rr, z_tk, z_tk2f hok2, z_tk2f hok3, z_tk2f hok4, z_tk2t b15, ↓reduceIte, Bool.false_eq_true]
                  exact z_out ho hH zc19 b35 (by omega) (fun _ h => nomatch h) (by rw [hQ]; exact Or.inr ⟨_, _, rfl, by omega, Or.inr ⟨4, by decide, hlp, by show (z_rr cs 4 (p + 4)).2 = true; rw [hbe5]; exact b15, rfl⟩, (by show _ = some (Sum.inr (19, z_sf (z_rr cs 4 (p + 4)).1)); rw [hbe5]; exact b35), ((((z_frT hdm0 (by omega) (hfr1.t hfr2) hfr6).t hfr3).t hfr4).t (z_exN z_ex_r hD_81 eh_82).fr).t b45⟩)
              · obtain ⟨b14, b24, b34, b44⟩ := z_ps_t hq4
                have hbe4 : z_rr cs 4 (p + 4) = z_tk cs (((p + 4) + 1) + 1) (z_lits.getD 40 []) := by simp only [z_rr, z_tk, z_tk2f hok2, z_tk2f hok3, z_tk2t b14, ↓reduceIte, Bool.false_eq_true]
                exact z_out ho hH zc19 b34 (by omega) (fun _ h => nomatch h) (by rw [hQ]; exact Or.inr ⟨_, _, rfl, by omega, Or.inr ⟨4, by decide, hlp, by show (z_rr cs 4 (p + 4)).2 = true; rw [hbe4]; exact b14, rfl⟩, (by show _ = some (Sum.inr (19, z_sf (z_rr cs 4 (p + 4)).1)); rw [hbe4]; exact b34), ((z_frT hdm0 (by omega) (hfr1.t hfr2) hfr6).t hfr3).t b44⟩)
            · obtain ⟨b13, b23, b33, b43⟩ := z_ps_t hq3
              have hbe3 : z_rr cs 4 (p + 4) = z_tk cs ((p + 4) + 1) z_dig := by simp only [z_rr, z_tk, z_tk2f hok2, z_tk2t b13, ↓reduceIte, Bool.false_eq_true]
              exact z_out ho hH zc19 b33 (by omega) (fun _ h => nomatch h) (by rw [hQ]; exact Or.inr ⟨_, _, rfl, by omega, Or.inr ⟨4, by decide, hlp, by show (z_rr cs 4 (p + 4)).2 = true; rw [hbe3]; exact b13, rfl⟩, (by show _ = some (Sum.inr (19, z_sf (z_rr cs 4 (p + 4)).1)); rw [hbe3]; exact b33), (z_frT hdm0 (by omega) (hfr1.t hfr2) hfr6).t b43⟩)
        · obtain ⟨b12, b22, b32, b42⟩ := z_ps_t hq2
          have hbe2 : z_rr cs 4 (p + 4) = z_tk cs (p + 4) z_spc := by simp only [z_rr, z_tk, z_tk2t b12, ↓reduceIte, Bool.false_eq_true]
          exact z_out ho hH zc19 b32 (by omega) (fun _ h => nomatch h) (by rw [hQ]; exact Or.inr ⟨_, _, rfl, by omega, Or.inr ⟨4, by decide, hlp, by show (z_rr cs 4 (p + 4)).2 = true; rw [hbe2]; exact b12, rfl⟩, (by show _ = some (Sum.inr (19, z_sf (z_rr cs 4 (p + 4)).1)); rw [hbe2]; exact b32), hfr1.t b42⟩)
      · cases c_11
    · have hle1 : (p + 3) ≤ cs.length := hle1
      have hp1 : h1 t = some (.inr (18, [.int (nI (p + 3)), .ref x])) := hp1
      obtain ⟨ew1, how1⟩ := hws.o
      obtain ⟨fsb1, hob1⟩ := z_BF.o hBF1
      refine z_astore_n (lv' := [(1, .ref ws), (0, .ref t)]) hb dX22_command_4 (by rw [hN]; decide) rfl ?_
      refine z_aload_n hb dX22_command_5 rfl ?_
      refine z_ldcS (i := 31) hb ho rfl rfl rfl dX22_command_6 ?_
      refine z_callN1 (b' := 10) (f' := 400) (rest := []) (av := [.ref ws, .ref ((zm_G M).2.2.1 31)]) (z_siteV hb ho zc23 how1 q2381 q647 q3284 ⟨_, _, _, _, zk_J6_equals⟩ zy_J6_equals zl_J6_equals dX22_command_8 : z_Site M _ _ _ _ _ ([.ref ((zm_G M).2.2.1 31)].reverse ++ .ref ws :: []) [] _) zk_J6_equals q102 hrm (m_J6_equals hws.sg ((hKS.frx hp (by decide) hfr1) 31 (by decide))) (by omega) (by decide) (Nat.le_of_ble_eq_true rfl) (by omega) (by omega) (fun n_94 hn_94 => ?_)
      refine z_toI (y := z_b false) (by decide) ?_
      refine z_ifb_eq (tgt := 27) hb dX22_command_11 (by decide) (fun c_11 => ?_) (fun c_11 => ?_)
      · refine z_aload_n hb dX22_command_27 rfl ?_
        refine z_ldcS (i := 28) hb ho rfl rfl rfl dX22_command_28 ?_
        refine z_call (b' := 9) (f' := 390) (rest := []) (av := [.ref t, .ref ((zm_G M).2.2.1 28)]) (z_siteV hb ho zc18 hp1 q2349 q2351 qs25 ⟨_, _, _, _, zk_X22_take⟩ zy_X22_take zl_X22_take dX22_command_30 : z_Site M _ _ _ _ _ ([.ref ((zm_G M).2.2.1 28)].reverse ++ .ref t :: []) [] _) zk_X22_take q146 hrm (m_X22_take hp1 hX1 hBF1 hT hle1 ((hKS.frx hp (by decide) hfr1) 28 (by decide)) ht0) (by omega) (by decide) (Nat.le_of_ble_eq_true rfl) (by omega) (by omega) (fun v2 h2 n2 hq2 hn2 => ?_) (fun q2 h2 n2 hq2 hn2 => ?_)
        · obtain ⟨hok2, hv2, hp2, hfr2⟩ := z_ps_r hq2
          subst hv2
          refine z_dom (fun hdd2 => ?_)
          have hpos2 : (z_tk cs (p + 3) z_spc).1 = ((p + 3) + 1) := (by rw [z_tk_t (z_tk2f hok2)])
          rw [hpos2] at hp2
          have hX2 := hfr2 _ _ hX1 (z_x_t hp1 hX1)
          have hBF2 := hBF1.frc hp1 (by decide) hfr2
          have hle2 : ((p + 3) + 1) ≤ cs.length := z_at_lt (z_tk2f hok2)
          obtain ⟨fsb2, hob2⟩ := z_BF.o hBF2
          have ky_95 := hfr2 _ _ how1 (z_ne_cc hp1 how1 (by decide))
          have hws2 := hws.frx hp1 (by decide) hfr2
          refine z_istore_n (lv' := [(2, .int (nI (cs.getD (p + 3) 0))), (1, .ref ws), (0, .ref t)]) hb dX22_command_33 (by rw [hN]; decide) rfl ?_
          refine z_aload_n hb dX22_command_34 rfl ?_
          refine z_astore_n (lv' := [(3, .ref ws), (2, .int (nI (cs.getD (p + 3) 0))), (1, .ref ws), (0, .ref t)]) hb dX22_command_35 (by rw [hN]; decide) rfl ?_
          refine z_iconst (x := (-1)) hb dX22_command_36 (by decide) ?_
          refine z_istore (lv' := [(4, .int (-1)), (3, .ref ws), (2, .int (nI (cs.getD (p + 3) 0))), (1, .ref ws), (0, .ref t)]) hb dX22_command_37 (by rw [hN]; decide) rfl ?_
          refine z_aload_n hb dX22_command_39 rfl ?_
          refine z_callQ1 (b' := 9) (f' := 390) (rest := []) (av := [.ref ws]) (z_siteV hb ho zc23 ky_95 q2384 q841 q842 ⟨_, _, _, _, zk_J6_hashCode⟩ zy_J6_hashCode zl_J6_hashCode dX22_command_40 : z_Site M _ _ _ _ _ ([].reverse ++ .ref ws :: []) [] _) zk_J6_hashCode q102 hrm (m_J6_hashCode_0 (hs9 := 0) hws2 (by omega) (by decide) (by decide +kernel)) (by omega) (by decide) (Nat.le_of_ble_eq_true rfl) (by omega) (by omega) (fun rhq6 h6 n6 hq6 hn6 => ?_)
          obtain ⟨rfl, hq6⟩ := hq6
          obtain ⟨hws6, hfr6, -⟩ := hq6
          obtain ⟨ew6, how6⟩ := hws6.o
          have ky_96 : h6 t = some (.inr (18, [.int (nI ((p + 3) + 1)), .ref x])) := hfr6 _ _ hp2 (z_ne_cc ky_95 hp2 (by decide))
          have ky_97 : h6 x = some (.inr (0, [x0, x1, .ref bu, x3, x4, x5, x6])) := hfr6 _ _ hX2 (z_ne_cc ky_95 hX2 (by decide))
          have ky_98 : h6 bu = some (.inr (22, fsb2)) := hfr6 _ _ hob2 (z_ne_cc ky_95 hob2 (by decide))
          refine z_dom (fun hdd6 => ?_)
          refine z_lookup (off := 121) (tgt := 164) hb dX22_command_43 (by decide) (by decide +kernel) (by decide) ?_
          refine z_iload hb dX22_command_164 rfl ?_
          refine z_tableOut (tgt := 325) hb dX22_command_166 (Or.inl (by decide)) (by decide) ?_
          refine z_dom (fun hD_99 => ?_)
          refine z_new (N0 := 4) (b' := 8) (f' := 386) (fs := [.null, .int (nI 0), .int (nI 0), .int (nI 0)]) (C := RX5) (T := TX5) (N := 4) hb ho zc4 in_X5 tyX5_ok q2382 q818 q115 dX22_command_325 (zdf_X5) (by omega) (by omega) ?_
          refine z_hn (fun h_100 eh_100 => ?_)
          have eh_100 : h_100 = z_up h6 n6 (.inr (4, [.null, .int (nI 0), .int (nI 0), .int (nI 0)])) := eh_100
          have k_101 : h_100 t = some (.inr (18, [.int (nI ((p + 3) + 1)), .ref x])) := z_nx eh_100 (Nat.ne_of_lt (hD_99 _ _ ky_96)) ky_96
          have k_102 : h_100 x = some (.inr (0, [x0, x1, .ref bu, x3, x4, x5, x6])) := z_nx eh_100 (Nat.ne_of_lt (hD_99 _ _ ky_97)) ky_97
          have k_103 : h_100 bu = some (.inr (22, fsb2)) := z_nx eh_100 (Nat.ne_of_lt (hD_99 _ _ ky_98)) ky_98
          have k_104 : h_100 ws = some (.inr (23, [.ref ew6, .int (nI 0), .int (z_hs (z_wd 5)), .int (nI 0)])) := z_nx eh_100 (Nat.ne_of_lt (hD_99 _ _ how6)) how6
          refine z_dup hb dX22_command_328 rfl ?_
          refine z_aload_n hb dX22_command_329 rfl ?_
          refine z_bipush (x := nI 32) hb dX22_command_330 (by decide) ?_
          refine z_aload_n hb dX22_command_332 rfl ?_
          refine z_call (b' := 7) (f' := 376) (rest := [.int (nI 32), .ref ws, .ref n6, .ref n6]) (av := [.ref t]) (z_siteV hb ho zc18 k_101 q2391 q2393 qs26 ⟨_, _, _, _, zk_X22_digit⟩ zy_X22_digit zl_X22_digit dX22_command_333 : z_Site M _ _ _ _ _ ([].reverse ++ .ref t :: [.int (nI 32), .ref ws, .ref n6, .ref n6]) [.int (nI 32), .ref ws, .ref n6, .ref n6] _) zk_X22_digit q146 hrm (m_X22_digit k_101 k_102 ((hBF2.frc ky_95 (by decide) hfr6).exx (z_exN z_ex_r hD_99 eh_100)) hT hle2 (hKS.frx hp (by decide) ((z_frT hdm0 (by omega) (hfr1.t hfr2) hfr6).t (z_exN z_ex_r hD_99 eh_100).fr)) ht0) (by omega) (by decide) (Nat.le_of_ble_eq_true rfl) (by omega) (by omega) (fun v3 h3 n3 hq3 hn3 => ?_) (fun q3 h3 n3 hq3 hn3 => ?_)
          · obtain ⟨hok3, hv3, hp3, hfr3⟩ := z_ps_r hq3
            subst hv3
            refine z_dom (fun hdd3 => ?_)
            have hpos3 : (z_tk cs ((p + 3) + 1) z_dig).1 = (((p + 3) + 1) + 1) := (by rw [z_tk_t (z_tk2f hok3)])
            rw [hpos3] at hp3
            have hX3 := hfr3 _ _ k_102 (z_x_t k_101 k_102)
            have hBF3 := ((hBF2.frc ky_95 (by decide) hfr6).exx (z_exN z_ex_r hD_99 eh_100)).frc k_101 (by decide) hfr3
            have hle3 : (((p + 3) + 1) + 1) ≤ cs.length := z_at_lt (z_tk2f hok3)
            obtain ⟨fsb3, hob3⟩ := z_BF.o hBF3
            have ky_105 := hfr3 _ _ k_104 (z_ne_cc k_101 k_104 (by decide))
            have ky_106 := hfr3 _ _ (z_nxs eh_100) (z_ne_cc k_101 (z_nxs eh_100) (by decide))
            have hws3 := (hws6.ex (z_exN z_ex_r hD_99 eh_100)).frx k_101 (by decide) hfr3
            refine z_iconst (x := nI 0) hb dX22_command_336 (by decide) ?_
            refine z_call0 (b' := 7) (f' := 376) (rest := [.ref n6]) (av := [.ref n6, .ref ws, .int (nI 32), .int (nI (cs.getD ((p + 3) + 1) 0) - nI 48), .int (nI 0)]) (z_siteI hb ho q2383 q820 q821 rfl zy_X5_init zl_X5_init dX22_command_337 : z_Site M _ _ _ _ _ ([.ref ws, .int (nI 32), .int (nI (cs.getD ((p + 3) + 1) 0) - nI 48), .int (nI 0)].reverse ++ .ref n6 :: [.ref n6]) [.ref n6] _) zk_X5_init q115 hrm (m_X5_init ky_106 (by omega) (by first | decide | exact hc16 _)) (by omega) (by decide) (Nat.le_of_ble_eq_true rfl) (by omega) (by omega) ?_
            refine z_hn (fun h_107 eh_107 => ?_)
            have eh_107 : h_107 = z_up h3 n6 (.inr (4, [.ref ws, .int (nI 32), .int (nI (cs.getD ((p + 3) + 1) 0) - nI 48), .int (nI 0)])) := eh_107
            have k_108 : h_107 t = some (.inr (18, [.int (nI (((p + 3) + 1) + 1)), .ref x])) := z_nx eh_107 (z_neO hp3 ky_106 rfl) hp3
            have k_109 : h_107 x = some (.inr (0, [x0, x1, .ref bu, x3, x4, x5, x6])) := z_nx eh_107 (z_neO hX3 ky_106 rfl) hX3
            have k_110 : h_107 bu = some (.inr (22, fsb3)) := z_nx eh_107 (z_neO hob3 ky_106 rfl) hob3
            have k_111 : h_107 ws = some (.inr (23, [.ref ew6, .int (nI 0), .int (z_hs (z_wd 5)), .int (nI 0)])) := z_nx eh_107 (z_neO ky_105 ky_106 rfl) ky_105
            have hrr9 : z_rr cs 5 (p + 3) = z_tk cs ((p + 3) + 1) z_dig := by simp only [z_rr, z_tk, z_tk2f hok2, z_tk2f hok3, ↓reduceIte, Bool.false_eq_true]
            refine z_aret hb hr (Or.inl ⟨_, rfl⟩) (Or.inr ⟨_, rfl⟩) dX22_command_340 ?_
            rw [hQ]
            exact Or.inl ⟨5, ws, n6, by decide, hlp, (by show (z_rr cs 5 (p + 3)).2 = false; rw [hrr9]; exact hok3), rfl, by omega, by omega, (by show z_Sf _ _ _ (z_wd 5) (z_hs (z_wd 5)); exact (hws3.frx ky_106 (by decide) (z_fr_up (P := fun y => y = n6) rfl eh_107))), (z_nxs eh_107), (by show _ = some (Sum.inr (18, [Value.int (nI (z_rr cs 5 (p + 3)).1), Value.ref x])); rw [hrr9]; rw [hpos3]; exact k_108), (by show (z_rr cs 5 (p + 3)).1 ≤ _; rw [hrr9]; rw [hpos3]; exact hle3), (z_frT hdm0 (by omega) (((z_frT hdm0 (by omega) (hfr1.t hfr2) hfr6).t (z_exN z_ex_r hD_99 eh_100).fr).t hfr3) (z_fr_up (P := fun y => y = n6) rfl eh_107))⟩
          · obtain ⟨b13, b23, b33, b43⟩ := z_ps_t hq3
            have hbe3 : z_rr cs 5 (p + 3) = z_tk cs ((p + 3) + 1) z_dig := by simp only [z_rr, z_tk, z_tk2f hok2, z_tk2t b13, ↓reduceIte, Bool.false_eq_true]
            exact z_out ho hH zc19 b33 (by omega) (fun _ h => nomatch h) (by rw [hQ]; exact Or.inr ⟨_, _, rfl, by omega, Or.inr ⟨5, by decide, hlp, by show (z_rr cs 5 (p + 3)).2 = true; rw [hbe3]; exact b13, rfl⟩, (by show _ = some (Sum.inr (19, z_sf (z_rr cs 5 (p + 3)).1)); rw [hbe3]; exact b33), ((z_frT hdm0 (by omega) (hfr1.t hfr2) hfr6).t (z_exN z_ex_r hD_99 eh_100).fr).t b43⟩)
        · obtain ⟨b12, b22, b32, b42⟩ := z_ps_t hq2
          have hbe2 : z_rr cs 5 (p + 3) = z_tk cs (p + 3) z_spc := by simp only [z_rr, z_tk, z_tk2t b12, ↓reduceIte, Bool.false_eq_true]
          exact z_out ho hH zc19 b32 (by omega) (fun _ h => nomatch h) (by rw [hQ]; exact Or.inr ⟨_, _, rfl, by omega, Or.inr ⟨5, by decide, hlp, by show (z_rr cs 5 (p + 3)).2 = true; rw [hbe2]; exact b12, rfl⟩, (by show _ = some (Sum.inr (19, z_sf (z_rr cs 5 (p + 3)).1)); rw [hbe2]; exact b32), hfr1.t b42⟩)
      · cases c_11
    · have hle1 : (p + 4) ≤ cs.length := hle1
      have hp1 : h1 t = some (.inr (18, [.int (nI (p + 4)), .ref x])) := hp1
      obtain ⟨ew1, how1⟩ := hws.o
      obtain ⟨fsb1, hob1⟩ := z_BF.o hBF1
      refine z_astore_n (lv' := [(1, .ref ws), (0, .ref t)]) hb dX22_command_4 (by rw [hN]; decide) rfl ?_
      refine z_aload_n hb dX22_command_5 rfl ?_
      refine z_ldcS (i := 31) hb ho rfl rfl rfl dX22_command_6 ?_
      refine z_callN1 (b' := 10) (f' := 400) (rest := []) (av := [.ref ws, .ref ((zm_G M).2.2.1 31)]) (z_siteV hb ho zc23 how1 q2381 q647 q3284 ⟨_, _, _, _, zk_J6_equals⟩ zy_J6_equals zl_J6_equals dX22_command_8 : z_Site M _ _ _ _ _ ([.ref ((zm_G M).2.2.1 31)].reverse ++ .ref ws :: []) [] _) zk_J6_equals q102 hrm (m_J6_equals hws.sg ((hKS.frx hp (by decide) hfr1) 31 (by decide))) (by omega) (by decide) (Nat.le_of_ble_eq_true rfl) (by omega) (by omega) (fun n_112 hn_112 => ?_)
      refine z_toI (y := z_b false) (by decide) ?_
      refine z_ifb_eq (tgt := 27) hb dX22_command_11 (by decide) (fun c_11 => ?_) (fun c_11 => ?_)
      · refine z_aload_n hb dX22_command_27 rfl ?_
        refine z_ldcS (i := 28) hb ho rfl rfl rfl dX22_command_28 ?_
        refine z_call (b' := 9) (f' := 390) (rest := []) (av := [.ref t, .ref ((zm_G M).2.2.1 28)]) (z_siteV hb ho zc18 hp1 q2349 q2351 qs25 ⟨_, _, _, _, zk_X22_take⟩ zy_X22_take zl_X22_take dX22_command_30 : z_Site M _ _ _ _ _ ([.ref ((zm_G M).2.2.1 28)].reverse ++ .ref t :: []) [] _) zk_X22_take q146 hrm (m_X22_take hp1 hX1 hBF1 hT hle1 ((hKS.frx hp (by decide) hfr1) 28 (by decide)) ht0) (by omega) (by decide) (Nat.le_of_ble_eq_true rfl) (by omega) (by omega) (fun v2 h2 n2 hq2 hn2 => ?_) (fun q2 h2 n2 hq2 hn2 => ?_)
        · obtain ⟨hok2, hv2, hp2, hfr2⟩ := z_ps_r hq2
          subst hv2
          refine z_dom (fun hdd2 => ?_)
          have hpos2 : (z_tk cs (p + 4) z_spc).1 = ((p + 4) + 1) := (by rw [z_tk_t (z_tk2f hok2)])
          rw [hpos2] at hp2
          have hX2 := hfr2 _ _ hX1 (z_x_t hp1 hX1)
          have hBF2 := hBF1.frc hp1 (by decide) hfr2
          have hle2 : ((p + 4) + 1) ≤ cs.length := z_at_lt (z_tk2f hok2)
          obtain ⟨fsb2, hob2⟩ := z_BF.o hBF2
          have ky_113 := hfr2 _ _ how1 (z_ne_cc hp1 how1 (by decide))
          have hws2 := hws.frx hp1 (by decide) hfr2
          refine z_istore_n (lv' := [(2, .int (nI (cs.getD (p + 4) 0))), (1, .ref ws), (0, .ref t)]) hb dX22_command_33 (by rw [hN]; decide) rfl ?_
          refine z_aload_n hb dX22_command_34 rfl ?_
          refine z_astore_n (lv' := [(3, .ref ws), (2, .int (nI (cs.getD (p + 4) 0))), (1, .ref ws), (0, .ref t)]) hb dX22_command_35 (by rw [hN]; decide) rfl ?_
          refine z_iconst (x := (-1)) hb dX22_command_36 (by decide) ?_
          refine z_istore (lv' := [(4, .int (-1)), (3, .ref ws), (2, .int (nI (cs.getD (p + 4) 0))), (1, .ref ws), (0, .ref t)]) hb dX22_command_37 (by rw [hN]; decide) rfl ?_
          refine z_aload_n hb dX22_command_39 rfl ?_
          refine z_callQ1 (b' := 9) (f' := 390) (rest := []) (av := [.ref ws]) (z_siteV hb ho zc23 ky_113 q2384 q841 q842 ⟨_, _, _, _, zk_J6_hashCode⟩ zy_J6_hashCode zl_J6_hashCode dX22_command_40 : z_Site M _ _ _ _ _ ([].reverse ++ .ref ws :: []) [] _) zk_J6_hashCode q102 hrm (m_J6_hashCode_0 (hs9 := 0) hws2 (by omega) (by decide) (by decide +kernel)) (by omega) (by decide) (Nat.le_of_ble_eq_true rfl) (by omega) (by omega) (fun rhq6 h6 n6 hq6 hn6 => ?_)
          obtain ⟨rfl, hq6⟩ := hq6
          obtain ⟨hws6, hfr6, -⟩ := hq6
          obtain ⟨ew6, how6⟩ := hws6.o
          have ky_114 : h6 t = some (.inr (18, [.int (nI ((p + 4) + 1)), .ref x])) := hfr6 _ _ hp2 (z_ne_cc ky_113 hp2 (by decide))
          have ky_115 : h6 x = some (.inr (0, [x0, x1, .ref bu, x3, x4, x5, x6])) := hfr6 _ _ hX2 (z_ne_cc ky_113 hX2 (by decide))
          have ky_116 : h6 bu = some (.inr (22, fsb2)) := hfr6 _ _ hob2 (z_ne_cc ky_113 hob2 (by decide))
          refine z_dom (fun hdd6 => ?_)
          refine z_lookup (off := 109) (tgt := 152) hb dX22_command_43 (by decide) (by decide +kernel) (by decide) ?_
          refine z_aload_n hb dX22_command_152 rfl ?_
          refine z_ldcS (i := 36) hb ho rfl rfl rfl dX22_command_153 ?_
          refine z_callN1 (b' := 9) (f' := 390) (rest := []) (av := [.ref ws, .ref ((zm_G M).2.2.1 36)]) (z_siteV hb ho zc23 how6 q2381 q647 q3284 ⟨_, _, _, _, zk_J6_equals⟩ zy_J6_equals zl_J6_equals dX22_command_155 : z_Site M _ _ _ _ _ ([.ref ((zm_G M).2.2.1 36)].reverse ++ .ref ws :: []) [] _) zk_J6_equals q102 hrm (m_J6_equals hws6.sg ((hKS.frx hp (by decide) (z_frT hdm0 (by omega) (hfr1.t hfr2) hfr6)) 36 (by decide))) (by omega) (by decide) (Nat.le_of_ble_eq_true rfl) (by omega) (by omega) (fun n_117 hn_117 => ?_)
          refine z_toI (y := z_b true) (by decide) ?_
          refine z_ifb_eq (tgt := 164) hb dX22_command_158 (by decide) (fun c_158 => ?_) (fun c_158 => ?_)
          · cases c_158
          · refine z_iconst (x := nI 4) hb dX22_command_161 (by decide) ?_
            refine z_istore (lv' := [(4, .int (nI 4)), (3, .ref ws), (2, .int (nI (cs.getD (p + 4) 0))), (1, .ref ws), (0, .ref t)]) hb dX22_command_162 (by rw [hN]; decide) rfl ?_
            refine z_iload hb dX22_command_164 rfl ?_
            refine z_tableIn (off := 136) (tgt := 302) hb dX22_command_166 (by decide) (by decide) rfl (by decide) ?_
            refine z_aload_n hb dX22_command_302 rfl ?_
            refine z_call (b' := 8) (f' := 380) (rest := []) (av := [.ref t]) (z_siteV hb ho zc18 ky_114 q2391 q2393 qs26 ⟨_, _, _, _, zk_X22_digit⟩ zy_X22_digit zl_X22_digit dX22_command_303 : z_Site M _ _ _ _ _ ([].reverse ++ .ref t :: []) [] _) zk_X22_digit q146 hrm (m_X22_digit ky_114 ky_115 (hBF2.frc ky_113 (by decide) hfr6) hT hle2 (hKS.frx hp (by decide) (z_frT hdm0 (by omega) (hfr1.t hfr2) hfr6)) ht0) (by omega) (by decide) (Nat.le_of_ble_eq_true rfl) (by omega) (by omega) (fun v3 h3 n3 hq3 hn3 => ?_) (fun q3 h3 n3 hq3 hn3 => ?_)
            · obtain ⟨hok3, hv3, hp3, hfr3⟩ := z_ps_r hq3
              subst hv3
              refine z_dom (fun hdd3 => ?_)
              have hpos3 : (z_tk cs ((p + 4) + 1) z_dig).1 = (((p + 4) + 1) + 1) := (by rw [z_tk_t (z_tk2f hok3)])
              rw [hpos3] at hp3
              have hX3 := hfr3 _ _ ky_115 (z_x_t ky_114 ky_115)
              have hBF3 := (hBF2.frc ky_113 (by decide) hfr6).frc ky_114 (by decide) hfr3
              have hle3 : (((p + 4) + 1) + 1) ≤ cs.length := z_at_lt (z_tk2f hok3)
              obtain ⟨fsb3, hob3⟩ := z_BF.o hBF3
              have ky_118 := hfr3 _ _ how6 (z_ne_cc ky_114 how6 (by decide))
              have hws3 := hws6.frx ky_114 (by decide) hfr3
              refine z_istore (lv' := [(5, .int (nI (cs.getD ((p + 4) + 1) 0) - nI 48)), (4, .int (nI 4)), (3, .ref ws), (2, .int (nI (cs.getD (p + 4) 0))), (1, .ref ws), (0, .ref t)]) hb dX22_command_306 (by rw [hN]; decide) rfl ?_
              refine z_dom (fun hD_119 => ?_)
              refine z_new (N0 := 4) (b' := 7) (f' := 376) (fs := [.null, .int (nI 0), .int (nI 0), .int (nI 0)]) (C := RX5) (T := TX5) (N := 4) hb ho zc4 in_X5 tyX5_ok q2382 q818 q115 dX22_command_308 (zdf_X5) (by omega) (by omega) ?_
              refine z_hn (fun h_120 eh_120 => ?_)
              have eh_120 : h_120 = z_up h3 n3 (.inr (4, [.null, .int (nI 0), .int (nI 0), .int (nI 0)])) := eh_120
              have k_121 : h_120 t = some (.inr (18, [.int (nI (((p + 4) + 1) + 1)), .ref x])) := z_nx eh_120 (Nat.ne_of_lt (hD_119 _ _ hp3)) hp3
              have k_122 : h_120 x = some (.inr (0, [x0, x1, .ref bu, x3, x4, x5, x6])) := z_nx eh_120 (Nat.ne_of_lt (hD_119 _ _ hX3)) hX3
              have k_123 : h_120 bu = some (.inr (22, fsb3)) := z_nx eh_120 (Nat.ne_of_lt (hD_119 _ _ hob3)) hob3
              have k_124 : h_120 ws = some (.inr (23, [.ref ew6, .int (nI 0), .int (z_hs (z_wd 6)), .int (nI 0)])) := z_nx eh_120 (Nat.ne_of_lt (hD_119 _ _ ky_118)) ky_118
              refine z_dup hb dX22_command_311 rfl ?_
              refine z_aload_n hb dX22_command_312 rfl ?_
              refine z_bipush (x := nI 32) hb dX22_command_313 (by decide) ?_
              refine z_iload hb dX22_command_315 rfl ?_
              refine z_aload_n hb dX22_command_317 rfl ?_
              refine z_call (b' := 2) (f' := 316) (rest := [.int (nI (cs.getD ((p + 4) + 1) 0) - nI 48), .int (nI 32), .ref ws, .ref n3, .ref n3]) (av := [.ref t]) (z_siteV hb ho zc18 k_121 q2396 q2398 qs27 ⟨_, _, _, _, zk_X22_numberAfterSpace⟩ zy_X22_numberAfterSpace zl_X22_numberAfterSpace dX22_command_318 : z_Site M _ _ _ _ _ ([].reverse ++ .ref t :: [.int (nI (cs.getD ((p + 4) + 1) 0) - nI 48), .int (nI 32), .ref ws, .ref n3, .ref n3]) [.int (nI (cs.getD ((p + 4) + 1) 0) - nI 48), .int (nI 32), .ref ws, .ref n3, .ref n3] _) zk_X22_numberAfterSpace q146 hrm (m_X22_numberAfterSpace k_121 k_122 (hBF3.exx (z_exN z_ex_r hD_119 eh_120)) hT hle3 (hKS.frx hp (by decide) (((z_frT hdm0 (by omega) (hfr1.t hfr2) hfr6).t hfr3).t (z_exN z_ex_r hD_119 eh_120).fr)) ht0) (by omega) (by decide) (Nat.le_of_ble_eq_true rfl) (by omega) (by omega) (fun v4 h4 n4 hq4 hn4 => ?_) (fun q4 h4 n4 hq4 hn4 => ?_)
              · obtain ⟨hok4, hv4, hp4, hfr4⟩ := z_ps_r hq4
                subst hv4
                refine z_dom (fun hdd4 => ?_)
                have hX4 := hfr4 _ _ k_122 (z_x_t k_121 k_122)
                have hBF4 := (hBF3.exx (z_exN z_ex_r hD_119 eh_120)).frc k_121 (by decide) hfr4
                have hle4 : (z_ns cs (((p + 4) + 1) + 1)).1 ≤ cs.length := z_ns_le hle3
                obtain ⟨fsb4, hob4⟩ := z_BF.o hBF4
                have ky_125 := hfr4 _ _ k_124 (z_ne_cc k_121 k_124 (by decide))
                have ky_126 := hfr4 _ _ (z_nxs eh_120) (z_ne_cc k_121 (z_nxs eh_120) (by decide))
                have hws4 := (hws3.ex (z_exN z_ex_r hD_119 eh_120)).frx k_121 (by decide) hfr4
                refine z_call0 (b' := 2) (f' := 316) (rest := [.ref n3]) (av := [.ref n3, .ref ws, .int (nI 32), .int (nI (cs.getD ((p + 4) + 1) 0) - nI 48), .int (z_nv cs ((((p + 4) + 1) + 1) + 1))]) (z_siteI hb ho q2383 q820 q821 rfl zy_X5_init zl_X5_init dX22_command_321 : z_Site M _ _ _ _ _ ([.ref ws, .int (nI 32), .int (nI (cs.getD ((p + 4) + 1) 0) - nI 48), .int (z_nv cs ((((p + 4) + 1) + 1) + 1))].reverse ++ .ref n3 :: [.ref n3]) [.ref n3] _) zk_X5_init q115 hrm (m_X5_init ky_126 (by omega) (by first | decide | exact hc16 _)) (by omega) (by decide) (Nat.le_of_ble_eq_true rfl) (by omega) (by omega) ?_
                refine z_hn (fun h_127 eh_127 => ?_)
                have eh_127 : h_127 = z_up h4 n3 (.inr (4, [.ref ws, .int (nI 32), .int (nI (cs.getD ((p + 4) + 1) 0) - nI 48), .int (z_nv cs ((((p + 4) + 1) + 1) + 1))])) := eh_127
                have k_128 : h_127 t = some (.inr (18, [.int (nI ((z_ns cs (((p + 4) + 1) + 1)).1)), .ref x])) := z_nx eh_127 (z_neO hp4 ky_126 rfl) hp4
                have k_129 : h_127 x = some (.inr (0, [x0, x1, .ref bu, x3, x4, x5, x6])) := z_nx eh_127 (z_neO hX4 ky_126 rfl) hX4
                have k_130 : h_127 bu = some (.inr (22, fsb4)) := z_nx eh_127 (z_neO hob4 ky_126 rfl) hob4
                have k_131 : h_127 ws = some (.inr (23, [.ref ew6, .int (nI 0), .int (z_hs (z_wd 6)), .int (nI 0)])) := z_nx eh_127 (z_neO ky_125 ky_126 rfl) ky_125
                have hrr9 : z_rr cs 6 (p + 4) = z_ns cs (((p + 4) + 1) + 1) := by simp only [z_rr, z_tk, z_tk2f hok2, z_tk2f hok3, ↓reduceIte, Bool.false_eq_true]
                refine z_aret hb hr (Or.inl ⟨_, rfl⟩) (Or.inr ⟨_, rfl⟩) dX22_command_324 ?_
                rw [hQ]
                exact Or.inl ⟨6, ws, n3, by decide, hlp, (by show (z_rr cs 6 (p + 4)).2 = false; rw [hrr9]; exact hok4), rfl, by omega, by omega, (by show z_Sf _ _ _ (z_wd 6) (z_hs (z_wd 6)); exact (hws4.frx ky_126 (by decide) (z_fr_up (P := fun y => y = n3) rfl eh_127))), (z_nxs eh_127), (by show _ = some (Sum.inr (18, [Value.int (nI (z_rr cs 6 (p + 4)).1), Value.ref x])); rw [hrr9]; exact k_128), (by show (z_rr cs 6 (p + 4)).1 ≤ _; rw [hrr9]; exact hle4), (z_frT hdm0 (by omega) ((((z_frT hdm0 (by omega) (hfr1.t hfr2) hfr6).t hfr3).t (z_exN z_ex_r hD_119 eh_120).fr).t hfr4) (z_fr_up (P := fun y => y = n3) rfl eh_127))⟩
              · obtain ⟨b14, b24, b34, b44⟩ := z_ps_t hq4
                have hbe4 : z_rr cs 6 (p + 4) = z_ns cs (((p + 4) + 1) + 1) := by simp only [z_rr, z_tk, z_tk2f hok2, z_tk2f hok3, ↓reduceIte, Bool.false_eq_true]
                exact z_out ho hH zc19 b34 (by omega) (fun _ h => nomatch h) (by rw [hQ]; exact Or.inr ⟨_, _, rfl, by omega, Or.inr ⟨6, by decide, hlp, by show (z_rr cs 6 (p + 4)).2 = true; rw [hbe4]; exact b14, rfl⟩, (by show _ = some (Sum.inr (19, z_sf (z_rr cs 6 (p + 4)).1)); rw [hbe4]; exact b34), (((z_frT hdm0 (by omega) (hfr1.t hfr2) hfr6).t hfr3).t (z_exN z_ex_r hD_119 eh_120).fr).t b44⟩)
            · obtain ⟨b13, b23, b33, b43⟩ := z_ps_t hq3
              have hbe3 : z_rr cs 6 (p + 4) = z_tk cs ((p + 4) + 1) z_dig := by simp only [z_rr, z_tk, z_tk2f hok2, z_tk2t b13, ↓reduceIte, Bool.false_eq_true]
              exact z_out ho hH zc19 b33 (by omega) (fun _ h => nomatch h) (by rw [hQ]; exact Or.inr ⟨_, _, rfl, by omega, Or.inr ⟨6, by decide, hlp, by show (z_rr cs 6 (p + 4)).2 = true; rw [hbe3]; exact b13, rfl⟩, (by show _ = some (Sum.inr (19, z_sf (z_rr cs 6 (p + 4)).1)); rw [hbe3]; exact b33), (z_frT hdm0 (by omega) (hfr1.t hfr2) hfr6).t b43⟩)
        · obtain ⟨b12, b22, b32, b42⟩ := z_ps_t hq2
          have hbe2 : z_rr cs 6 (p + 4) = z_tk cs (p + 4) z_spc := by simp only [z_rr, z_tk, z_tk2t b12, ↓reduceIte, Bool.false_eq_true]
          exact z_out ho hH zc19 b32 (by omega) (fun _ h => nomatch h) (by rw [hQ]; exact Or.inr ⟨_, _, rfl, by omega, Or.inr ⟨6, by decide, hlp, by show (z_rr cs 6 (p + 4)).2 = true; rw [hbe2]; exact b12, rfl⟩, (by show _ = some (Sum.inr (19, z_sf (z_rr cs 6 (p + 4)).1)); rw [hbe2]; exact b32), hfr1.t b42⟩)
      · cases c_11
    · have hle1 : (p + 3) ≤ cs.length := hle1
      have hp1 : h1 t = some (.inr (18, [.int (nI (p + 3)), .ref x])) := hp1
      obtain ⟨ew1, how1⟩ := hws.o
      obtain ⟨fsb1, hob1⟩ := z_BF.o hBF1
      refine z_astore_n (lv' := [(1, .ref ws), (0, .ref t)]) hb dX22_command_4 (by rw [hN]; decide) rfl ?_
      refine z_aload_n hb dX22_command_5 rfl ?_
      refine z_ldcS (i := 31) hb ho rfl rfl rfl dX22_command_6 ?_
      refine z_callN1 (b' := 10) (f' := 400) (rest := []) (av := [.ref ws, .ref ((zm_G M).2.2.1 31)]) (z_siteV hb ho zc23 how1 q2381 q647 q3284 ⟨_, _, _, _, zk_J6_equals⟩ zy_J6_equals zl_J6_equals dX22_command_8 : z_Site M _ _ _ _ _ ([.ref ((zm_G M).2.2.1 31)].reverse ++ .ref ws :: []) [] _) zk_J6_equals q102 hrm (m_J6_equals hws.sg ((hKS.frx hp (by decide) hfr1) 31 (by decide))) (by omega) (by decide) (Nat.le_of_ble_eq_true rfl) (by omega) (by omega) (fun n_132 hn_132 => ?_)
      refine z_toI (y := z_b false) (by decide) ?_
      refine z_ifb_eq (tgt := 27) hb dX22_command_11 (by decide) (fun c_11 => ?_) (fun c_11 => ?_)
      · refine z_aload_n hb dX22_command_27 rfl ?_
        refine z_ldcS (i := 28) hb ho rfl rfl rfl dX22_command_28 ?_
        refine z_call (b' := 9) (f' := 390) (rest := []) (av := [.ref t, .ref ((zm_G M).2.2.1 28)]) (z_siteV hb ho zc18 hp1 q2349 q2351 qs25 ⟨_, _, _, _, zk_X22_take⟩ zy_X22_take zl_X22_take dX22_command_30 : z_Site M _ _ _ _ _ ([.ref ((zm_G M).2.2.1 28)].reverse ++ .ref t :: []) [] _) zk_X22_take q146 hrm (m_X22_take hp1 hX1 hBF1 hT hle1 ((hKS.frx hp (by decide) hfr1) 28 (by decide)) ht0) (by omega) (by decide) (Nat.le_of_ble_eq_true rfl) (by omega) (by omega) (fun v2 h2 n2 hq2 hn2 => ?_) (fun q2 h2 n2 hq2 hn2 => ?_)
        · obtain ⟨hok2, hv2, hp2, hfr2⟩ := z_ps_r hq2
          subst hv2
          refine z_dom (fun hdd2 => ?_)
          have hpos2 : (z_tk cs (p + 3) z_spc).1 = ((p + 3) + 1) := (by rw [z_tk_t (z_tk2f hok2)])
          rw [hpos2] at hp2
          have hX2 := hfr2 _ _ hX1 (z_x_t hp1 hX1)
          have hBF2 := hBF1.frc hp1 (by decide) hfr2
          have hle2 : ((p + 3) + 1) ≤ cs.length := z_at_lt (z_tk2f hok2)
          obtain ⟨fsb2, hob2⟩ := z_BF.o hBF2
          have ky_133 := hfr2 _ _ how1 (z_ne_cc hp1 how1 (by decide))
          have hws2 := hws.frx hp1 (by decide) hfr2
          refine z_istore_n (lv' := [(2, .int (nI (cs.getD (p + 3) 0))), (1, .ref ws), (0, .ref t)]) hb dX22_command_33 (by rw [hN]; decide) rfl ?_
          refine z_aload_n hb dX22_command_34 rfl ?_
          refine z_astore_n (lv' := [(3, .ref ws), (2, .int (nI (cs.getD (p + 3) 0))), (1, .ref ws), (0, .ref t)]) hb dX22_command_35 (by rw [hN]; decide) rfl ?_
          refine z_iconst (x := (-1)) hb dX22_command_36 (by decide) ?_
          refine z_istore (lv' := [(4, .int (-1)), (3, .ref ws), (2, .int (nI (cs.getD (p + 3) 0))), (1, .ref ws), (0, .ref t)]) hb dX22_command_37 (by rw [hN]; decide) rfl ?_
          refine z_aload_n hb dX22_command_39 rfl ?_
          refine z_callQ1 (b' := 9) (f' := 390) (rest := []) (av := [.ref ws]) (z_siteV hb ho zc23 ky_133 q2384 q841 q842 ⟨_, _, _, _, zk_J6_hashCode⟩ zy_J6_hashCode zl_J6_hashCode dX22_command_40 : z_Site M _ _ _ _ _ ([].reverse ++ .ref ws :: []) [] _) zk_J6_hashCode q102 hrm (m_J6_hashCode_0 (hs9 := 0) hws2 (by omega) (by decide) (by decide +kernel)) (by omega) (by decide) (Nat.le_of_ble_eq_true rfl) (by omega) (by omega) (fun rhq6 h6 n6 hq6 hn6 => ?_)
          obtain ⟨rfl, hq6⟩ := hq6
          obtain ⟨hws6, hfr6, -⟩ := hq6
          obtain ⟨ew6, how6⟩ := hws6.o
          have ky_134 : h6 t = some (.inr (18, [.int (nI ((p + 3) + 1)), .ref x])) := hfr6 _ _ hp2 (z_ne_cc ky_133 hp2 (by decide))
          have ky_135 : h6 x = some (.inr (0, [x0, x1, .ref bu, x3, x4, x5, x6])) := hfr6 _ _ hX2 (z_ne_cc ky_133 hX2 (by decide))
          have ky_136 : h6 bu = some (.inr (22, fsb2)) := hfr6 _ _ hob2 (z_ne_cc ky_133 hob2 (by decide))
          refine z_dom (fun hdd6 => ?_)
          refine z_lookup (off := 121) (tgt := 164) hb dX22_command_43 (by decide) (by decide +kernel) (by decide) ?_
          refine z_iload hb dX22_command_164 rfl ?_
          refine z_tableOut (tgt := 325) hb dX22_command_166 (Or.inl (by decide)) (by decide) ?_
          refine z_dom (fun hD_137 => ?_)
          refine z_new (N0 := 4) (b' := 8) (f' := 386) (fs := [.null, .int (nI 0), .int (nI 0), .int (nI 0)]) (C := RX5) (T := TX5) (N := 4) hb ho zc4 in_X5 tyX5_ok q2382 q818 q115 dX22_command_325 (zdf_X5) (by omega) (by omega) ?_
          refine z_hn (fun h_138 eh_138 => ?_)
          have eh_138 : h_138 = z_up h6 n6 (.inr (4, [.null, .int (nI 0), .int (nI 0), .int (nI 0)])) := eh_138
          have k_139 : h_138 t = some (.inr (18, [.int (nI ((p + 3) + 1)), .ref x])) := z_nx eh_138 (Nat.ne_of_lt (hD_137 _ _ ky_134)) ky_134
          have k_140 : h_138 x = some (.inr (0, [x0, x1, .ref bu, x3, x4, x5, x6])) := z_nx eh_138 (Nat.ne_of_lt (hD_137 _ _ ky_135)) ky_135
          have k_141 : h_138 bu = some (.inr (22, fsb2)) := z_nx eh_138 (Nat.ne_of_lt (hD_137 _ _ ky_136)) ky_136
          have k_142 : h_138 ws = some (.inr (23, [.ref ew6, .int (nI 0), .int (z_hs (z_wd 7)), .int (nI 0)])) := z_nx eh_138 (Nat.ne_of_lt (hD_137 _ _ how6)) how6
          refine z_dup hb dX22_command_328 rfl ?_
          refine z_aload_n hb dX22_command_329 rfl ?_
          refine z_bipush (x := nI 32) hb dX22_command_330 (by decide) ?_
          refine z_aload_n hb dX22_command_332 rfl ?_
          refine z_call (b' := 7) (f' := 376) (rest := [.int (nI 32), .ref ws, .ref n6, .ref n6]) (av := [.ref t]) (z_siteV hb ho zc18 k_139 q2391 q2393 qs26 ⟨_, _, _, _, zk_X22_digit⟩ zy_X22_digit zl_X22_digit dX22_command_333 : z_Site M _ _ _ _ _ ([].reverse ++ .ref t :: [.int (nI 32), .ref ws, .ref n6, .ref n6]) [.int (nI 32), .ref ws, .ref n6, .ref n6] _) zk_X22_digit q146 hrm (m_X22_digit k_139 k_140 ((hBF2.frc ky_133 (by decide) hfr6).exx (z_exN z_ex_r hD_137 eh_138)) hT hle2 (hKS.frx hp (by decide) ((z_frT hdm0 (by omega) (hfr1.t hfr2) hfr6).t (z_exN z_ex_r hD_137 eh_138).fr)) ht0) (by omega) (by decide) (Nat.le_of_ble_eq_true rfl) (by omega) (by omega) (fun v3 h3 n3 hq3 hn3 => ?_) (fun q3 h3 n3 hq3 hn3 => ?_)
          · obtain ⟨hok3, hv3, hp3, hfr3⟩ := z_ps_r hq3
            subst hv3
            refine z_dom (fun hdd3 => ?_)
            have hpos3 : (z_tk cs ((p + 3) + 1) z_dig).1 = (((p + 3) + 1) + 1) := (by rw [z_tk_t (z_tk2f hok3)])
            rw [hpos3] at hp3
            have hX3 := hfr3 _ _ k_140 (z_x_t k_139 k_140)
            have hBF3 := ((hBF2.frc ky_133 (by decide) hfr6).exx (z_exN z_ex_r hD_137 eh_138)).frc k_139 (by decide) hfr3
            have hle3 : (((p + 3) + 1) + 1) ≤ cs.length := z_at_lt (z_tk2f hok3)
            obtain ⟨fsb3, hob3⟩ := z_BF.o hBF3
            have ky_143 := hfr3 _ _ k_142 (z_ne_cc k_139 k_142 (by decide))
            have ky_144 := hfr3 _ _ (z_nxs eh_138) (z_ne_cc k_139 (z_nxs eh_138) (by decide))
            have hws3 := (hws6.ex (z_exN z_ex_r hD_137 eh_138)).frx k_139 (by decide) hfr3
            refine z_iconst (x := nI 0) hb dX22_command_336 (by decide) ?_
            refine z_call0 (b' := 7) (f' := 376) (rest := [.ref n6]) (av := [.ref n6, .ref ws, .int (nI 32), .int (nI (cs.getD ((p + 3) + 1) 0) - nI 48), .int (nI 0)]) (z_siteI hb ho q2383 q820 q821 rfl zy_X5_init zl_X5_init dX22_command_337 : z_Site M _ _ _ _ _ ([.ref ws, .int (nI 32), .int (nI (cs.getD ((p + 3) + 1) 0) - nI 48), .int (nI 0)].reverse ++ .ref n6 :: [.ref n6]) [.ref n6] _) zk_X5_init q115 hrm (m_X5_init ky_144 (by omega) (by first | decide | exact hc16 _)) (by omega) (by decide) (Nat.le_of_ble_eq_true rfl) (by omega) (by omega) ?_
            refine z_hn (fun h_145 eh_145 => ?_)
            have eh_145 : h_145 = z_up h3 n6 (.inr (4, [.ref ws, .int (nI 32), .int (nI (cs.getD ((p + 3) + 1) 0) - nI 48), .int (nI 0)])) := eh_145
            have k_146 : h_145 t = some (.inr (18, [.int (nI (((p + 3) + 1) + 1)), .ref x])) := z_nx eh_145 (z_neO hp3 ky_144 rfl) hp3
            have k_147 : h_145 x = some (.inr (0, [x0, x1, .ref bu, x3, x4, x5, x6])) := z_nx eh_145 (z_neO hX3 ky_144 rfl) hX3
            have k_148 : h_145 bu = some (.inr (22, fsb3)) := z_nx eh_145 (z_neO hob3 ky_144 rfl) hob3
            have k_149 : h_145 ws = some (.inr (23, [.ref ew6, .int (nI 0), .int (z_hs (z_wd 7)), .int (nI 0)])) := z_nx eh_145 (z_neO ky_143 ky_144 rfl) ky_143
            have hrr9 : z_rr cs 7 (p + 3) = z_tk cs ((p + 3) + 1) z_dig := by simp only [z_rr, z_tk, z_tk2f hok2, z_tk2f hok3, ↓reduceIte, Bool.false_eq_true]
            refine z_aret hb hr (Or.inl ⟨_, rfl⟩) (Or.inr ⟨_, rfl⟩) dX22_command_340 ?_
            rw [hQ]
            exact Or.inl ⟨7, ws, n6, by decide, hlp, (by show (z_rr cs 7 (p + 3)).2 = false; rw [hrr9]; exact hok3), rfl, by omega, by omega, (by show z_Sf _ _ _ (z_wd 7) (z_hs (z_wd 7)); exact (hws3.frx ky_144 (by decide) (z_fr_up (P := fun y => y = n6) rfl eh_145))), (z_nxs eh_145), (by show _ = some (Sum.inr (18, [Value.int (nI (z_rr cs 7 (p + 3)).1), Value.ref x])); rw [hrr9]; rw [hpos3]; exact k_146), (by show (z_rr cs 7 (p + 3)).1 ≤ _; rw [hrr9]; rw [hpos3]; exact hle3), (z_frT hdm0 (by omega) (((z_frT hdm0 (by omega) (hfr1.t hfr2) hfr6).t (z_exN z_ex_r hD_137 eh_138).fr).t hfr3) (z_fr_up (P := fun y => y = n6) rfl eh_145))⟩
          · obtain ⟨b13, b23, b33, b43⟩ := z_ps_t hq3
            have hbe3 : z_rr cs 7 (p + 3) = z_tk cs ((p + 3) + 1) z_dig := by simp only [z_rr, z_tk, z_tk2f hok2, z_tk2t b13, ↓reduceIte, Bool.false_eq_true]
            exact z_out ho hH zc19 b33 (by omega) (fun _ h => nomatch h) (by rw [hQ]; exact Or.inr ⟨_, _, rfl, by omega, Or.inr ⟨7, by decide, hlp, by show (z_rr cs 7 (p + 3)).2 = true; rw [hbe3]; exact b13, rfl⟩, (by show _ = some (Sum.inr (19, z_sf (z_rr cs 7 (p + 3)).1)); rw [hbe3]; exact b33), ((z_frT hdm0 (by omega) (hfr1.t hfr2) hfr6).t (z_exN z_ex_r hD_137 eh_138).fr).t b43⟩)
        · obtain ⟨b12, b22, b32, b42⟩ := z_ps_t hq2
          have hbe2 : z_rr cs 7 (p + 3) = z_tk cs (p + 3) z_spc := by simp only [z_rr, z_tk, z_tk2t b12, ↓reduceIte, Bool.false_eq_true]
          exact z_out ho hH zc19 b32 (by omega) (fun _ h => nomatch h) (by rw [hQ]; exact Or.inr ⟨_, _, rfl, by omega, Or.inr ⟨7, by decide, hlp, by show (z_rr cs 7 (p + 3)).2 = true; rw [hbe2]; exact b12, rfl⟩, (by show _ = some (Sum.inr (19, z_sf (z_rr cs 7 (p + 3)).1)); rw [hbe2]; exact b32), hfr1.t b42⟩)
      · cases c_11
    · have hle1 : (p + 6) ≤ cs.length := hle1
      have hp1 : h1 t = some (.inr (18, [.int (nI (p + 6)), .ref x])) := hp1
      obtain ⟨ew1, how1⟩ := hws.o
      obtain ⟨fsb1, hob1⟩ := z_BF.o hBF1
      refine z_astore_n (lv' := [(1, .ref ws), (0, .ref t)]) hb dX22_command_4 (by rw [hN]; decide) rfl ?_
      refine z_aload_n hb dX22_command_5 rfl ?_
      refine z_ldcS (i := 31) hb ho rfl rfl rfl dX22_command_6 ?_
      refine z_callN1 (b' := 10) (f' := 400) (rest := []) (av := [.ref ws, .ref ((zm_G M).2.2.1 31)]) (z_siteV hb ho zc23 how1 q2381 q647 q3284 ⟨_, _, _, _, zk_J6_equals⟩ zy_J6_equals zl_J6_equals dX22_command_8 : z_Site M _ _ _ _ _ ([.ref ((zm_G M).2.2.1 31)].reverse ++ .ref ws :: []) [] _) zk_J6_equals q102 hrm (m_J6_equals hws.sg ((hKS.frx hp (by decide) hfr1) 31 (by decide))) (by omega) (by decide) (Nat.le_of_ble_eq_true rfl) (by omega) (by omega) (fun n_150 hn_150 => ?_)
      refine z_toI (y := z_b false) (by decide) ?_
      refine z_ifb_eq (tgt := 27) hb dX22_command_11 (by decide) (fun c_11 => ?_) (fun c_11 => ?_)
      · refine z_aload_n hb dX22_command_27 rfl ?_
        refine z_ldcS (i := 28) hb ho rfl rfl rfl dX22_command_28 ?_
        refine z_call (b' := 9) (f' := 390) (rest := []) (av := [.ref t, .ref ((zm_G M).2.2.1 28)]) (z_siteV hb ho zc18 hp1 q2349 q2351 qs25 ⟨_, _, _, _, zk_X22_take⟩ zy_X22_take zl_X22_take dX22_command_30 : z_Site M _ _ _ _ _ ([.ref ((zm_G M).2.2.1 28)].reverse ++ .ref t :: []) [] _) zk_X22_take q146 hrm (m_X22_take hp1 hX1 hBF1 hT hle1 ((hKS.frx hp (by decide) hfr1) 28 (by decide)) ht0) (by omega) (by decide) (Nat.le_of_ble_eq_true rfl) (by omega) (by omega) (fun v2 h2 n2 hq2 hn2 => ?_) (fun q2 h2 n2 hq2 hn2 => ?_)
        · obtain ⟨hok2, hv2, hp2, hfr2⟩ := z_ps_r hq2
          subst hv2
          refine z_dom (fun hdd2 => ?_)
          have hpos2 : (z_tk cs (p + 6) z_spc).1 = ((p + 6) + 1) := (by rw [z_tk_t (z_tk2f hok2)])
          rw [hpos2] at hp2
          have hX2 := hfr2 _ _ hX1 (z_x_t hp1 hX1)
          have hBF2 := hBF1.frc hp1 (by decide) hfr2
          have hle2 : ((p + 6) + 1) ≤ cs.length := z_at_lt (z_tk2f hok2)
          obtain ⟨fsb2, hob2⟩ := z_BF.o hBF2
          have ky_151 := hfr2 _ _ how1 (z_ne_cc hp1 how1 (by decide))
          have hws2 := hws.frx hp1 (by decide) hfr2
          refine z_istore_n (lv' := [(2, .int (nI (cs.getD (p + 6) 0))), (1, .ref ws), (0, .ref t)]) hb dX22_command_33 (by rw [hN]; decide) rfl ?_
          refine z_aload_n hb dX22_command_34 rfl ?_
          refine z_astore_n (lv' := [(3, .ref ws), (2, .int (nI (cs.getD (p + 6) 0))), (1, .ref ws), (0, .ref t)]) hb dX22_command_35 (by rw [hN]; decide) rfl ?_
          refine z_iconst (x := (-1)) hb dX22_command_36 (by decide) ?_
          refine z_istore (lv' := [(4, .int (-1)), (3, .ref ws), (2, .int (nI (cs.getD (p + 6) 0))), (1, .ref ws), (0, .ref t)]) hb dX22_command_37 (by rw [hN]; decide) rfl ?_
          refine z_aload_n hb dX22_command_39 rfl ?_
          refine z_callQ1 (b' := 9) (f' := 390) (rest := []) (av := [.ref ws]) (z_siteV hb ho zc23 ky_151 q2384 q841 q842 ⟨_, _, _, _, zk_J6_hashCode⟩ zy_J6_hashCode zl_J6_hashCode dX22_command_40 : z_Site M _ _ _ _ _ ([].reverse ++ .ref ws :: []) [] _) zk_J6_hashCode q102 hrm (m_J6_hashCode_0 (hs9 := 0) hws2 (by omega) (by decide) (by decide +kernel)) (by omega) (by decide) (Nat.le_of_ble_eq_true rfl) (by omega) (by omega) (fun rhq6 h6 n6 hq6 hn6 => ?_)
          obtain ⟨rfl, hq6⟩ := hq6
          obtain ⟨hws6, hfr6, -⟩ := hq6
          obtain ⟨ew6, how6⟩ := hws6.o
          have ky_152 : h6 t = some (.inr (18, [.int (nI ((p + 6) + 1)), .ref x])) := hfr6 _ _ hp2 (z_ne_cc ky_151 hp2 (by decide))
          have ky_153 : h6 x = some (.inr (0, [x0, x1, .ref bu, x3, x4, x5, x6])) := hfr6 _ _ hX2 (z_ne_cc ky_151 hX2 (by decide))
          have ky_154 : h6 bu = some (.inr (22, fsb2)) := hfr6 _ _ hob2 (z_ne_cc ky_151 hob2 (by decide))
          refine z_dom (fun hdd6 => ?_)
          refine z_lookup (off := 121) (tgt := 164) hb dX22_command_43 (by decide) (by decide +kernel) (by decide) ?_
          refine z_iload hb dX22_command_164 rfl ?_
          refine z_tableOut (tgt := 325) hb dX22_command_166 (Or.inl (by decide)) (by decide) ?_
          refine z_dom (fun hD_155 => ?_)
          refine z_new (N0 := 4) (b' := 8) (f' := 386) (fs := [.null, .int (nI 0), .int (nI 0), .int (nI 0)]) (C := RX5) (T := TX5) (N := 4) hb ho zc4 in_X5 tyX5_ok q2382 q818 q115 dX22_command_325 (zdf_X5) (by omega) (by omega) ?_
          refine z_hn (fun h_156 eh_156 => ?_)
          have eh_156 : h_156 = z_up h6 n6 (.inr (4, [.null, .int (nI 0), .int (nI 0), .int (nI 0)])) := eh_156
          have k_157 : h_156 t = some (.inr (18, [.int (nI ((p + 6) + 1)), .ref x])) := z_nx eh_156 (Nat.ne_of_lt (hD_155 _ _ ky_152)) ky_152
          have k_158 : h_156 x = some (.inr (0, [x0, x1, .ref bu, x3, x4, x5, x6])) := z_nx eh_156 (Nat.ne_of_lt (hD_155 _ _ ky_153)) ky_153
          have k_159 : h_156 bu = some (.inr (22, fsb2)) := z_nx eh_156 (Nat.ne_of_lt (hD_155 _ _ ky_154)) ky_154
          have k_160 : h_156 ws = some (.inr (23, [.ref ew6, .int (nI 0), .int (z_hs (z_wd 8)), .int (nI 0)])) := z_nx eh_156 (Nat.ne_of_lt (hD_155 _ _ how6)) how6
          refine z_dup hb dX22_command_328 rfl ?_
          refine z_aload_n hb dX22_command_329 rfl ?_
          refine z_bipush (x := nI 32) hb dX22_command_330 (by decide) ?_
          refine z_aload_n hb dX22_command_332 rfl ?_
          refine z_call (b' := 7) (f' := 376) (rest := [.int (nI 32), .ref ws, .ref n6, .ref n6]) (av := [.ref t]) (z_siteV hb ho zc18 k_157 q2391 q2393 qs26 ⟨_, _, _, _, zk_X22_digit⟩ zy_X22_digit zl_X22_digit dX22_command_333 : z_Site M _ _ _ _ _ ([].reverse ++ .ref t :: [.int (nI 32), .ref ws, .ref n6, .ref n6]) [.int (nI 32), .ref ws, .ref n6, .ref n6] _) zk_X22_digit q146 hrm (m_X22_digit k_157 k_158 ((hBF2.frc ky_151 (by decide) hfr6).exx (z_exN z_ex_r hD_155 eh_156)) hT hle2 (hKS.frx hp (by decide) ((z_frT hdm0 (by omega) (hfr1.t hfr2) hfr6).t (z_exN z_ex_r hD_155 eh_156).fr)) ht0) (by omega) (by decide) (Nat.le_of_ble_eq_true rfl) (by omega) (by omega) (fun v3 h3 n3 hq3 hn3 => ?_) (fun q3 h3 n3 hq3 hn3 => ?_)
          · obtain ⟨hok3, hv3, hp3, hfr3⟩ := z_ps_r hq3
            subst hv3
            refine z_dom (fun hdd3 => ?_)
            have hpos3 : (z_tk cs ((p + 6) + 1) z_dig).1 = (((p + 6) + 1) + 1) := (by rw [z_tk_t (z_tk2f hok3)])
            rw [hpos3] at hp3
            have hX3 := hfr3 _ _ k_158 (z_x_t k_157 k_158)
            have hBF3 := ((hBF2.frc ky_151 (by decide) hfr6).exx (z_exN z_ex_r hD_155 eh_156)).frc k_157 (by decide) hfr3
            have hle3 : (((p + 6) + 1) + 1) ≤ cs.length := z_at_lt (z_tk2f hok3)
            obtain ⟨fsb3, hob3⟩ := z_BF.o hBF3
            have ky_161 := hfr3 _ _ k_160 (z_ne_cc k_157 k_160 (by decide))
            have ky_162 := hfr3 _ _ (z_nxs eh_156) (z_ne_cc k_157 (z_nxs eh_156) (by decide))
            have hws3 := (hws6.ex (z_exN z_ex_r hD_155 eh_156)).frx k_157 (by decide) hfr3
            refine z_iconst (x := nI 0) hb dX22_command_336 (by decide) ?_
            refine z_call0 (b' := 7) (f' := 376) (rest := [.ref n6]) (av := [.ref n6, .ref ws, .int (nI 32), .int (nI (cs.getD ((p + 6) + 1) 0) - nI 48), .int (nI 0)]) (z_siteI hb ho q2383 q820 q821 rfl zy_X5_init zl_X5_init dX22_command_337 : z_Site M _ _ _ _ _ ([.ref ws, .int (nI 32), .int (nI (cs.getD ((p + 6) + 1) 0) - nI 48), .int (nI 0)].reverse ++ .ref n6 :: [.ref n6]) [.ref n6] _) zk_X5_init q115 hrm (m_X5_init ky_162 (by omega) (by first | decide | exact hc16 _)) (by omega) (by decide) (Nat.le_of_ble_eq_true rfl) (by omega) (by omega) ?_
            refine z_hn (fun h_163 eh_163 => ?_)
            have eh_163 : h_163 = z_up h3 n6 (.inr (4, [.ref ws, .int (nI 32), .int (nI (cs.getD ((p + 6) + 1) 0) - nI 48), .int (nI 0)])) := eh_163
            have k_164 : h_163 t = some (.inr (18, [.int (nI (((p + 6) + 1) + 1)), .ref x])) := z_nx eh_163 (z_neO hp3 ky_162 rfl) hp3
            have k_165 : h_163 x = some (.inr (0, [x0, x1, .ref bu, x3, x4, x5, x6])) := z_nx eh_163 (z_neO hX3 ky_162 rfl) hX3
            have k_166 : h_163 bu = some (.inr (22, fsb3)) := z_nx eh_163 (z_neO hob3 ky_162 rfl) hob3
            have k_167 : h_163 ws = some (.inr (23, [.ref ew6, .int (nI 0), .int (z_hs (z_wd 8)), .int (nI 0)])) := z_nx eh_163 (z_neO ky_161 ky_162 rfl) ky_161
            have hrr9 : z_rr cs 8 (p + 6) = z_tk cs ((p + 6) + 1) z_dig := by simp only [z_rr, z_tk, z_tk2f hok2, z_tk2f hok3, ↓reduceIte, Bool.false_eq_true]
            refine z_aret hb hr (Or.inl ⟨_, rfl⟩) (Or.inr ⟨_, rfl⟩) dX22_command_340 ?_
            rw [hQ]
            exact Or.inl ⟨8, ws, n6, by decide, hlp, (by show (z_rr cs 8 (p + 6)).2 = false; rw [hrr9]; exact hok3), rfl, by omega, by omega, (by show z_Sf _ _ _ (z_wd 8) (z_hs (z_wd 8)); exact (hws3.frx ky_162 (by decide) (z_fr_up (P := fun y => y = n6) rfl eh_163))), (z_nxs eh_163), (by show _ = some (Sum.inr (18, [Value.int (nI (z_rr cs 8 (p + 6)).1), Value.ref x])); rw [hrr9]; rw [hpos3]; exact k_164), (by show (z_rr cs 8 (p + 6)).1 ≤ _; rw [hrr9]; rw [hpos3]; exact hle3), (z_frT hdm0 (by omega) (((z_frT hdm0 (by omega) (hfr1.t hfr2) hfr6).t (z_exN z_ex_r hD_155 eh_156).fr).t hfr3) (z_fr_up (P := fun y => y = n6) rfl eh_163))⟩
          · obtain ⟨b13, b23, b33, b43⟩ := z_ps_t hq3
            have hbe3 : z_rr cs 8 (p + 6) = z_tk cs ((p + 6) + 1) z_dig := by simp only [z_rr, z_tk, z_tk2f hok2, z_tk2t b13, ↓reduceIte, Bool.false_eq_true]
            exact z_out ho hH zc19 b33 (by omega) (fun _ h => nomatch h) (by rw [hQ]; exact Or.inr ⟨_, _, rfl, by omega, Or.inr ⟨8, by decide, hlp, by show (z_rr cs 8 (p + 6)).2 = true; rw [hbe3]; exact b13, rfl⟩, (by show _ = some (Sum.inr (19, z_sf (z_rr cs 8 (p + 6)).1)); rw [hbe3]; exact b33), ((z_frT hdm0 (by omega) (hfr1.t hfr2) hfr6).t (z_exN z_ex_r hD_155 eh_156).fr).t b43⟩)
        · obtain ⟨b12, b22, b32, b42⟩ := z_ps_t hq2
          have hbe2 : z_rr cs 8 (p + 6) = z_tk cs (p + 6) z_spc := by simp only [z_rr, z_tk, z_tk2t b12, ↓reduceIte, Bool.false_eq_true]
          exact z_out ho hH zc19 b32 (by omega) (fun _ h => nomatch h) (by rw [hQ]; exact Or.inr ⟨_, _, rfl, by omega, Or.inr ⟨8, by decide, hlp, by show (z_rr cs 8 (p + 6)).2 = true; rw [hbe2]; exact b12, rfl⟩, (by show _ = some (Sum.inr (19, z_sf (z_rr cs 8 (p + 6)).1)); rw [hbe2]; exact b32), hfr1.t b42⟩)
      · cases c_11
  · obtain ⟨m, hwf, b21, b31, b41⟩ := z_wq9_t hq1
    exact z_out ho hH zc19 b31 (by omega) (fun _ h => nomatch h) (by rw [hQ]; exact Or.inr ⟨_, _, rfl, by omega, Or.inl ⟨m, hwf, rfl⟩, b31, b41⟩)

