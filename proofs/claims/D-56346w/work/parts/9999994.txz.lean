theorem z_BF.frc {G : zG} {h h2 : zH} {x b e cd ci : Nat} {cs : List Nat} {fs : List Value} (q : z_BF G h b e cd cs) (hx : h x = some (.inr (ci, fs))) (hc : ci ≠ 22) (f : z_fr (fun y => y = x) h h2) : z_BF G h2 b e cd cs := by
  obtain ⟨N, g, ml, q1, q2, q3⟩ := q
  exact ⟨N, g, ml, f _ _ q1 (fun z => by rw [z, hx] at q1; cases q1; exact hc rfl), f _ _ q2 (fun z => by rw [z, hx] at q2; cases q2), q3⟩
def z_tk (cs : List Nat) (p : Nat) (L : List Nat) : Nat × Bool := if z_at cs p L then (p + 1, false) else (p, true)
theorem z_tk_t {cs : List Nat} {p : Nat} {L : List Nat} (h : z_at cs p L = true) : z_tk cs p L = (p + 1, false) := by unfold z_tk; rw [h]; rfl
theorem z_tk_f {cs : List Nat} {p : Nat} {L : List Nat} (h : z_at cs p L = false) : z_tk cs p L = (p, true) := by unfold z_tk; rw [h]; rfl
theorem z_at_lt {cs : List Nat} {p : Nat} {L : List Nat} (h : z_at cs p L = true) : p < cs.length := (of_decide_eq_true h).1
theorem z_x_t {h : zH} {t x p : Nat} {fs : List Value} (h1 : h t = some (.inr (18, [.int (nI p), .ref x]))) (h2 : h x = some (.inr (0, fs))) : x ≠ t := fun z => by rw [z, h1] at h2; cases h2

set_option maxHeartbeats 1000000 in
theorem m_X22_take {l : Launch} {G : zG} {h : zH} {n : Nat} {t x bu e cd p : Nat} {cs : List Nat} {x0 x1 x3 x4 x5 x6 : Value} {s : Nat} {L : List Nat} {hs9 : Int32} (hp : h t = some (.inr (18, [.int (nI p), .ref x]))) (hX : h x = some (.inr (0, [x0, x1, .ref bu, x3, x4, x5, x6]))) (hBF : z_BF G h bu e cd cs) (hT : cs.length ≤ 60) (hpT : p ≤ cs.length) (hSg : z_Sg G h s L hs9) (ht0 : z_n0 G ≤ t) : z_C l G yX22_take 7 1 10 [.ref t, .ref s] h n (z_ps t x n h (z_tk cs p L) (.int (nI (cs.getD p 0)))) := by
  refine z_start zk_X22_take zpl_RX22 (Nat.le_of_ble_eq_true rfl) ?_
  intro hn0 M hl hG ho hb hN hr hm hH hrm hQ
  subst hl hG
  have ho : zm_o M = RX22 := ho
  refine z_dom (fun hdm => ?_)
  obtain ⟨fsb, hob⟩ := z_BF.o hBF
  have hc16 := z_BF.c16 hBF
  obtain ⟨es, hz, a1, a2, a3, a4⟩ := id hSg
  have htn := hdm _ _ hp
  have hxn := hdm _ _ hX
  have hbn := hdm _ _ hob
  have hsn := hdm _ _ a1
  have hcp := hc16 p
  show z_V M h n 1 10 0 [(0, .ref t), (1, .ref s)] []
  refine z_aload_n hb dX22_take_0 rfl ?_
  refine z_aload_n hb dX22_take_1 rfl ?_
  refine z_callN1 (b' := 1) (f' := 10) (rest := []) (av := [.ref t, .ref s]) (z_siteV hb ho zc18 hp q2313 q2315 qs24 ⟨_, _, _, _, zk_X22_isAt⟩ zy_X22_isAt zl_X22_isAt dX22_take_2 : z_Site M _ _ _ _ _ ([.ref s].reverse ++ .ref t :: []) [] _) zk_X22_isAt q146 hrm (m_X22_isAt hp hX hBF hT hpT hSg) (by omega) (by decide) (Nat.le_of_ble_eq_true rfl) (by omega) (by omega) (fun n_1 hn_1 => ?_)
  refine z_ifb_ne (tgt := 20) hb dX22_take_5 (by decide) (fun c_5 => ?_) (fun c_5 => ?_)
  · have hpl9 := z_at_lt c_5
    refine z_aload_n hb dX22_take_20 rfl ?_
    refine z_dup hb dX22_take_21 rfl ?_
    refine z_get (k := 0) (C := RX22) (T := TX22) (N := 2) hb ho zc18 in_X22 (zf_RX22_13 _) dX22_take_22 hp (by decide) rfl ?_
    refine z_iconst (x := nI 1) hb dX22_take_25 (by decide) ?_
    refine z_iadd hb dX22_take_26 ?_
    refine z_toI (y := nI (p + 1)) (nI_add p 1) ?_
    refine z_put (k := 0) (C := RX22) (T := TX22) (N := 2) hb ho zc18 in_X22 tyX22_ok nmX22 (zf_RX22_13 _) dX22_take_27 hp ht0 (by decide) (Or.inl rfl) rfl rfl rfl (Nat.le_of_ble_eq_true rfl) ?_
    refine z_hn (fun h_2 eh_2 => ?_)
    have eh_2 : h_2 = z_up h t (.inr (18, [.int (nI (p + 1)), .ref x])) := eh_2
    have k_3 : h_2 x = some (.inr (0, [x0, x1, .ref bu, x3, x4, x5, x6])) := z_nx eh_2 (z_neO hX hp rfl) hX
    have k_4 : h_2 bu = some (.inr (22, fsb)) := z_nx eh_2 (z_neO hob hp rfl) hob
    have k_5 : h_2 s = some (.inr (23, [.ref es, .int (nI 0), .int hs9, .int hz])) := z_nx eh_2 (z_neO a1 hp rfl) a1
    refine z_aload_n hb dX22_take_30 rfl ?_
    refine z_get (k := 1) (C := RX22) (T := TX22) (N := 2) hb ho zc18 in_X22 (zf_RX22_1 _) dX22_take_31 (z_nxs eh_2) (by decide) rfl ?_
    refine z_get (k := 2) (C := RX1) (T := TX1) (N := 7) hb ho zc0 in_X1 (zf_RX22_17 _) dX22_take_34 k_3 (by decide) rfl ?_
    refine z_aload_n hb dX22_take_37 rfl ?_
    refine z_get (k := 0) (C := RX22) (T := TX22) (N := 2) hb ho zc18 in_X22 (zf_RX22_13 _) dX22_take_38 (z_nxs eh_2) (by decide) rfl ?_
    refine z_iconst (x := nI 1) hb dX22_take_41 (by decide) ?_
    refine z_isub hb dX22_take_42 ?_
    refine z_toI (y := nI p) ((pk_sub (by omega)).trans (congrArg nI (by omega))) ?_
    refine z_call1 (b' := 1) (f' := 10) (rest := []) (av := [.ref bu, .int (nI p)]) (z_siteV hb ho zc22 k_4 q2318 q2319 q2320 ⟨_, _, _, _, zk_J5_charAt⟩ zy_J5_charAt zl_J5_charAt dX22_take_43 : z_Site M _ _ _ _ _ ([.int (nI p)].reverse ++ .ref bu :: []) [] _) zk_J5_charAt q101 hrm (m_J5_charAt (hBF.frc hp (by decide) (z_fr_up (P := fun y => y = t) rfl eh_2)) (z_at_lt c_5) (hc16 _)) (by omega) (by decide) (Nat.le_of_ble_eq_true rfl) (by omega) (by omega) ?_
    refine z_zret hb hr (pk_charN (by omega)).1 dX22_take_46 ?_
    rw [hQ]
    exact Or.inl ⟨by rw [z_tk_t c_5], rfl, (by rw [z_tk_t c_5]; exact (z_nxs eh_2)), z_fr_up (P := fun y => y = t) rfl eh_2⟩
  · refine z_new (N0 := 7) (b' := 0) (f' := 3) (fs := [.null, .null, .null, .null, .null, .int (nI 0), .int (nI 0)]) (C := RX23) (T := TX23) (N := 7) hb ho zc19 in_X23 tyX23_ok q2330 q2331 q147 dX22_take_8 (zdf_X23) (by omega) (by omega) ?_
    refine z_hn (fun h_6 eh_6 => ?_)
    have eh_6 : h_6 = z_up h n_1 (.inr (19, [.null, .null, .null, .null, .null, .int (nI 0), .int (nI 0)])) := eh_6
    have k_7 : h_6 t = some (.inr (18, [.int (nI p), .ref x])) := z_nx eh_6 (Nat.ne_of_lt (by omega)) hp
    have k_8 : h_6 x = some (.inr (0, [x0, x1, .ref bu, x3, x4, x5, x6])) := z_nx eh_6 (Nat.ne_of_lt (by omega)) hX
    have k_9 : h_6 bu = some (.inr (22, fsb)) := z_nx eh_6 (Nat.ne_of_lt (by omega)) hob
    have k_10 : h_6 s = some (.inr (23, [.ref es, .int (nI 0), .int hs9, .int hz])) := z_nx eh_6 (Nat.ne_of_lt (by omega)) a1
    refine z_dup hb dX22_take_11 rfl ?_
    refine z_aload_n hb dX22_take_12 rfl ?_
    refine z_get (k := 0) (C := RX22) (T := TX22) (N := 2) hb ho zc18 in_X22 (zf_RX22_13 _) dX22_take_13 k_7 (by decide) rfl ?_
    refine z_call0 (b' := 0) (f' := 3) (rest := [.ref n_1]) (av := [.ref n_1, .int (nI p)]) (z_siteI hb ho q2339 q2340 q2341 rfl zy_X23_init zl_X23_init dX22_take_16 : z_Site M _ _ _ _ _ ([.int (nI p)].reverse ++ .ref n_1 :: [.ref n_1]) [.ref n_1] _) zk_X23_init q147 hrm (m_X23_init (nI p) (z_nxs eh_6) (by omega)) (by omega) (by decide) (Nat.le_of_ble_eq_true rfl) (by omega) (by omega) ?_
    refine z_hn (fun h_11 eh_11 => ?_)
    have eh_11 : h_11 = z_up h_6 n_1 (.inr (19, [.null, .null, .null, .null, .null, .int (nI 0), .int (nI p)])) := eh_11
    have k_12 : h_11 t = some (.inr (18, [.int (nI p), .ref x])) := z_nx eh_11 (z_neO k_7 (z_nxs eh_6) rfl) k_7
    have k_13 : h_11 x = some (.inr (0, [x0, x1, .ref bu, x3, x4, x5, x6])) := z_nx eh_11 (z_neO k_8 (z_nxs eh_6) rfl) k_8
    have k_14 : h_11 bu = some (.inr (22, fsb)) := z_nx eh_11 (z_neO k_9 (z_nxs eh_6) rfl) k_9
    have k_15 : h_11 s = some (.inr (23, [.ref es, .int (nI 0), .int hs9, .int hz])) := z_nx eh_11 (z_neO k_10 (z_nxs eh_6) rfl) k_10
    refine z_athrow hb dX22_take_19 ?_
    exact z_out ho hH zc19 (z_nxs eh_11) (by omega) (fun _ h => nomatch h) (by rw [hQ]; exact Or.inr ⟨by rw [z_tk_f c_5], _, rfl, by omega, (by rw [z_tk_f c_5]; exact (z_nxs eh_11)), (z_exW hdm (by omega) eh_11 (z_exW hdm (by omega) eh_6 z_ex_r)).fr⟩)

theorem z_tk2 {cs : List Nat} {p : Nat} {L : List Nat} : (z_tk cs p L).2 = !(z_at cs p L) := by unfold z_tk; cases z_at cs p L <;> rfl
theorem z_tk2t {cs : List Nat} {p : Nat} {L : List Nat} (h : (z_tk cs p L).2 = true) : z_at cs p L = false := by rw [z_tk2] at h; simpa using h
theorem z_tk2f {cs : List Nat} {p : Nat} {L : List Nat} (h : (z_tk cs p L).2 = false) : z_at cs p L = true := by rw [z_tk2] at h; simpa using h
abbrev z_dig : List Nat := z_lits.getD 38 []
abbrev z_spc : List Nat := z_lits.getD 28 []
def z_nm (cs : List Nat) (p : Nat) : Nat × Bool := if z_at cs p z_dig then (if z_at cs (p + 1) z_dig then (p + 2, false) else (p + 1, false)) else (p, true)
def z_nv (cs : List Nat) (p : Nat) : Int32 := if z_at cs (p + 1) z_dig then nI 10 * (nI (cs.getD p 0) - nI 48) + (nI (cs.getD (p + 1) 0) - nI 48) else nI (cs.getD p 0) - nI 48
def z_ns (cs : List Nat) (p : Nat) : Nat × Bool := if z_at cs p z_spc then z_nm cs (p + 1) else (p, true)
theorem z_nm_f {cs : List Nat} {p : Nat} (h : z_at cs p z_dig = false) : z_nm cs p = (p, true) := by unfold z_nm; rw [h]; rfl
theorem z_nm_1 {cs : List Nat} {p : Nat} (h : z_at cs p z_dig = true) (h2 : z_at cs (p + 1) z_dig = false) : z_nm cs p = (p + 1, false) := by unfold z_nm; rw [h, h2]; rfl
theorem z_nm_2 {cs : List Nat} {p : Nat} (h : z_at cs p z_dig = true) (h2 : z_at cs (p + 1) z_dig = true) : z_nm cs p = (p + 2, false) := by unfold z_nm; rw [h, h2]; rfl
theorem z_nv_1 {cs : List Nat} {p : Nat} (h2 : z_at cs (p + 1) z_dig = false) : z_nv cs p = nI (cs.getD p 0) - nI 48 := by unfold z_nv; rw [h2]; rfl
theorem z_nv_2 {cs : List Nat} {p : Nat} (h2 : z_at cs (p + 1) z_dig = true) : z_nv cs p = nI 10 * (nI (cs.getD p 0) - nI 48) + (nI (cs.getD (p + 1) 0) - nI 48) := by unfold z_nv; rw [h2]; rfl
theorem z_ns_f {cs : List Nat} {p : Nat} (h : z_at cs p z_spc = false) : z_ns cs p = (p, true) := by unfold z_ns; rw [h]; rfl
theorem z_ns_t {cs : List Nat} {p : Nat} (h : z_at cs p z_spc = true) : z_ns cs p = z_nm cs (p + 1) := by unfold z_ns; rw [h]; rfl
theorem z_nm_le {cs : List Nat} {p : Nat} (h : p ≤ cs.length) : (z_nm cs p).1 ≤ cs.length := by
  unfold z_nm
  cases h1 : z_at cs p z_dig
  · exact h
  · have := z_at_lt h1
    cases h2 : z_at cs (p + 1) z_dig
    · exact this
    · exact z_at_lt h2

theorem z_KS.frx {G : zG} {h h2 : zH} {t ci : Nat} {fs : List Value} (q : z_KS G h) (ht : h t = some (.inr (ci, fs))) (hc : ci ≠ 23) (f : z_fr (fun y => y = t) h h2) : z_KS G h2 := fun i hi => (q i hi).frx ht hc f

set_option maxHeartbeats 1000000 in
theorem m_X22_digit {l : Launch} {G : zG} {h : zH} {n : Nat} {t x bu e cd p : Nat} {cs : List Nat} {x0 x1 x3 x4 x5 x6 : Value} (hp : h t = some (.inr (18, [.int (nI p), .ref x]))) (hX : h x = some (.inr (0, [x0, x1, .ref bu, x3, x4, x5, x6]))) (hBF : z_BF G h bu e cd cs) (hT : cs.length ≤ 60) (hpT : p ≤ cs.length) (hKS : z_KS G h) (ht0 : z_n0 G ≤ t) : z_C l G yX22_digit 8 1 10 [.ref t] h n (z_ps t x n h (z_tk cs p z_dig) (.int (nI (cs.getD p 0) - nI 48))) := by
  refine z_start zk_X22_digit zpl_RX22 (Nat.le_of_ble_eq_true rfl) ?_
  intro hn0 M hl hG ho hb hN hr hm hH hrm hQ
  subst hl hG
  have ho : zm_o M = RX22 := ho
  obtain ⟨fsb, hob⟩ := z_BF.o hBF
  have hc16 := z_BF.c16 hBF
  have hcp := hc16 p
  show z_V M h n 1 10 0 [(0, .ref t)] []
  refine z_aload_n hb dX22_digit_0 rfl ?_
  refine z_ldcS (i := 38) hb ho rfl rfl rfl dX22_digit_1 ?_
  refine z_call (b' := 0) (f' := 0) (rest := []) (av := [.ref t, .ref ((zm_G M).2.2.1 38)]) (z_siteV hb ho zc18 hp q2349 q2351 qs25 ⟨_, _, _, _, zk_X22_take⟩ zy_X22_take zl_X22_take dX22_digit_3 : z_Site M _ _ _ _ _ ([.ref ((zm_G M).2.2.1 38)].reverse ++ .ref t :: []) [] _) zk_X22_take q146 hrm (m_X22_take hp hX hBF hT hpT (hKS 38 (by decide)) ht0) (by omega) (by decide) (Nat.le_of_ble_eq_true rfl) (by omega) (by omega) (fun v1 h1 n1 hq1 hn1 => ?_) (fun q1 h1 n1 hq1 hn1 => ?_)
  · obtain ⟨hok1, hv1, hp1, hfr1⟩ := z_ps_r hq1
    subst hv1
    have hpos1 : (z_tk cs p z_dig).1 = (p + 1) := (by rw [z_tk_t (z_tk2f hok1)])
    rw [hpos1] at hp1
    have hX1 := hfr1 _ _ hX (z_x_t hp hX)
    have hBF1 := hBF.frc hp (by decide) hfr1
    have hle1 : (p + 1) ≤ cs.length := z_at_lt (z_tk2f hok1)
    obtain ⟨fsb1, hob1⟩ := z_BF.o hBF1
    refine z_bipush (x := nI 48) hb dX22_digit_6 (by decide) ?_
    refine z_isub hb dX22_digit_8 ?_
    refine z_iret hb hr dX22_digit_9 ?_
    rw [hQ]
    exact Or.inl ⟨hok1, rfl, by rw [hpos1]; exact hp1, hfr1⟩
  · obtain ⟨b11, b21, b31, b41⟩ := z_ps_t hq1
    have hbe1 := (rfl : z_tk cs p z_dig = z_tk cs p z_dig)
    exact z_out ho hH zc19 b31 (by omega) (fun _ h => nomatch h) (by rw [hQ]; exact Or.inr ⟨by rw [hbe1]; exact b11, _, rfl, by omega, by rw [hbe1]; exact b31, b41⟩)

set_option maxHeartbeats 1000000 in
theorem m_X22_number {l : Launch} {G : zG} {h : zH} {n : Nat} {t x bu e cd p : Nat} {cs : List Nat} {x0 x1 x3 x4 x5 x6 : Value} (hp : h t = some (.inr (18, [.int (nI p), .ref x]))) (hX : h x = some (.inr (0, [x0, x1, .ref bu, x3, x4, x5, x6]))) (hBF : z_BF G h bu e cd cs) (hT : cs.length ≤ 60) (hpT : p ≤ cs.length) (hKS : z_KS G h) (ht0 : z_n0 G ≤ t) : z_C l G yX22_number 9 3 40 [.ref t] h n (z_ps t x n h (z_nm cs p) (.int (z_nv cs p))) := by
  refine z_start zk_X22_number zpl_RX22 (Nat.le_of_ble_eq_true rfl) ?_
  intro hn0 M hl hG ho hb hN hr hm hH hrm hQ
  subst hl hG
  have ho : zm_o M = RX22 := ho
  obtain ⟨fsb, hob⟩ := z_BF.o hBF
  have hc16 := z_BF.c16 hBF
  have hcp := hc16 p
  show z_V M h n 3 40 0 [(0, .ref t)] []
  refine z_aload_n hb dX22_number_0 rfl ?_
  refine z_call (b' := 2) (f' := 30) (rest := []) (av := [.ref t]) (z_siteV hb ho zc18 hp q2391 q2393 qs26 ⟨_, _, _, _, zk_X22_digit⟩ zy_X22_digit zl_X22_digit dX22_number_1 : z_Site M _ _ _ _ _ ([].reverse ++ .ref t :: []) [] _) zk_X22_digit q146 hrm (m_X22_digit hp hX hBF hT hpT hKS ht0) (by omega) (by decide) (Nat.le_of_ble_eq_true rfl) (by omega) (by omega) (fun v1 h1 n1 hq1 hn1 => ?_) (fun q1 h1 n1 hq1 hn1 => ?_)
  · obtain ⟨hok1, hv1, hp1, hfr1⟩ := z_ps_r hq1
    subst hv1
    have hpos1 : (z_tk cs p z_dig).1 = (p + 1) := (by rw [z_tk_t (z_tk2f hok1)])
    rw [hpos1] at hp1
    have hX1 := hfr1 _ _ hX (z_x_t hp hX)
    have hBF1 := hBF.frc hp (by decide) hfr1
    have hle1 : (p + 1) ≤ cs.length := z_at_lt (z_tk2f hok1)
    obtain ⟨fsb1, hob1⟩ := z_BF.o hBF1
    refine z_istore_n (lv' := [(1, .int (nI (cs.getD p 0) - nI 48)), (0, .ref t)]) hb dX22_number_4 (by rw [hN]; decide) rfl ?_
    refine z_aload_n hb dX22_number_5 rfl ?_
    refine z_ldcS (i := 38) hb ho rfl rfl rfl dX22_number_6 ?_
    refine z_callN1 (b' := 2) (f' := 30) (rest := []) (av := [.ref t, .ref ((zm_G M).2.2.1 38)]) (z_siteV hb ho zc18 hp1 q2313 q2315 qs24 ⟨_, _, _, _, zk_X22_isAt⟩ zy_X22_isAt zl_X22_isAt dX22_number_8 : z_Site M _ _ _ _ _ ([.ref ((zm_G M).2.2.1 38)].reverse ++ .ref t :: []) [] _) zk_X22_isAt q146 hrm (m_X22_isAt hp1 hX1 hBF1 hT hle1 ((hKS.frx hp (by decide) hfr1) 38 (by decide))) (by omega) (by decide) (Nat.le_of_ble_eq_true rfl) (by omega) (by omega) (fun n_1 hn_1 => ?_)
    refine z_ifb_eq (tgt := 26) hb dX22_number_11 (by decide) (fun c_11 => ?_) (fun c_11 => ?_)
    · refine z_iload_n hb dX22_number_26 rfl ?_
      refine z_iret hb hr dX22_number_27 ?_
      rw [hQ]
      exact Or.inl ⟨by rw [z_nm_1 (z_tk2f hok1) c_11], by rw [z_nv_1 c_11], by rw [z_nm_1 (z_tk2f hok1) c_11]; exact hp1, hfr1⟩
    · refine z_bipush (x := nI 10) hb dX22_number_14 (by decide) ?_
      refine z_iload_n hb dX22_number_16 rfl ?_
      refine z_imul hb dX22_number_17 ?_
      refine z_aload_n hb dX22_number_18 rfl ?_
      refine z_call (b' := 1) (f' := 20) (rest := [.int ((nI 10) * (nI (cs.getD p 0) - nI 48))]) (av := [.ref t]) (z_siteV hb ho zc18 hp1 q2391 q2393 qs26 ⟨_, _, _, _, zk_X22_digit⟩ zy_X22_digit zl_X22_digit dX22_number_19 : z_Site M _ _ _ _ _ ([].reverse ++ .ref t :: [.int ((nI 10) * (nI (cs.getD p 0) - nI 48))]) [.int ((nI 10) * (nI (cs.getD p 0) - nI 48))] _) zk_X22_digit q146 hrm (m_X22_digit hp1 hX1 hBF1 hT hle1 (hKS.frx hp (by decide) hfr1) ht0) (by omega) (by decide) (Nat.le_of_ble_eq_true rfl) (by omega) (by omega) (fun v2 h2 n2 hq2 hn2 => ?_) (fun q2 h2 n2 hq2 hn2 => ?_)
      · obtain ⟨hok2, hv2, hp2, hfr2⟩ := z_ps_r hq2
        subst hv2
        have hpos2 : (z_tk cs (p + 1) z_dig).1 = ((p + 1) + 1) := (by rw [z_tk_t (z_tk2f hok2)])
        rw [hpos2] at hp2
        have hX2 := hfr2 _ _ hX1 (z_x_t hp1 hX1)
        have hBF2 := hBF1.frc hp1 (by decide) hfr2
        have hle2 : ((p + 1) + 1) ≤ cs.length := z_at_lt (z_tk2f hok2)
        obtain ⟨fsb2, hob2⟩ := z_BF.o hBF2
        refine z_iadd hb dX22_number_22 ?_
        refine z_goto (tgt := 27) hb dX22_number_23 (by decide) ?_
        refine z_iret hb hr dX22_number_27 ?_
        rw [hQ]
        exact Or.inl ⟨by rw [z_nm_2 (z_tk2f hok1) (z_tk2f hok2)], by rw [z_nv_2 (z_tk2f hok2)], by rw [z_nm_2 (z_tk2f hok1) (z_tk2f hok2)]; exact hp2, hfr1.t hfr2⟩
      · obtain ⟨b12, b22, b32, b42⟩ := z_ps_t hq2
        exact absurd (c_11.symm.trans (z_tk2t b12)) (by decide)
  · obtain ⟨b11, b21, b31, b41⟩ := z_ps_t hq1
    have hbe1 := (show z_nm cs p = z_tk cs p z_dig by rw [z_nm_f (z_tk2t b11), z_tk_f (z_tk2t b11)])
    exact z_out ho hH zc19 b31 (by omega) (fun _ h => nomatch h) (by rw [hQ]; exact Or.inr ⟨by rw [hbe1]; exact b11, _, rfl, by omega, by rw [hbe1]; exact b31, b41⟩)

set_option maxHeartbeats 1000000 in
theorem m_X22_numberAfterSpace {l : Launch} {G : zG} {h : zH} {n : Nat} {t x bu e cd p : Nat} {cs : List Nat} {x0 x1 x3 x4 x5 x6 : Value} (hp : h t = some (.inr (18, [.int (nI p), .ref x]))) (hX : h x = some (.inr (0, [x0, x1, .ref bu, x3, x4, x5, x6]))) (hBF : z_BF G h bu e cd cs) (hT : cs.length ≤ 60) (hpT : p ≤ cs.length) (hKS : z_KS G h) (ht0 : z_n0 G ≤ t) : z_C l G yX22_numberAfterSpace 10 5 60 [.ref t] h n (z_ps t x n h (z_ns cs p) (.int (z_nv cs (p + 1)))) := by
  refine z_start zk_X22_numberAfterSpace zpl_RX22 (Nat.le_of_ble_eq_true rfl) ?_
  intro hn0 M hl hG ho hb hN hr hm hH hrm hQ
  subst hl hG
  have ho : zm_o M = RX22 := ho
  obtain ⟨fsb, hob⟩ := z_BF.o hBF
  have hc16 := z_BF.c16 hBF
  have hcp := hc16 p
  show z_V M h n 5 60 0 [(0, .ref t)] []
  refine z_aload_n hb dX22_numberAfterSpace_0 rfl ?_
  refine z_ldcS (i := 28) hb ho rfl rfl rfl dX22_numberAfterSpace_1 ?_
  refine z_call (b' := 4) (f' := 50) (rest := []) (av := [.ref t, .ref ((zm_G M).2.2.1 28)]) (z_siteV hb ho zc18 hp q2349 q2351 qs25 ⟨_, _, _, _, zk_X22_take⟩ zy_X22_take zl_X22_take dX22_numberAfterSpace_3 : z_Site M _ _ _ _ _ ([.ref ((zm_G M).2.2.1 28)].reverse ++ .ref t :: []) [] _) zk_X22_take q146 hrm (m_X22_take hp hX hBF hT hpT (hKS 28 (by decide)) ht0) (by omega) (by decide) (Nat.le_of_ble_eq_true rfl) (by omega) (by omega) (fun v1 h1 n1 hq1 hn1 => ?_) (fun q1 h1 n1 hq1 hn1 => ?_)
  · obtain ⟨hok1, hv1, hp1, hfr1⟩ := z_ps_r hq1
    subst hv1
    have hpos1 : (z_tk cs p z_spc).1 = (p + 1) := (by rw [z_tk_t (z_tk2f hok1)])
    rw [hpos1] at hp1
    have hX1 := hfr1 _ _ hX (z_x_t hp hX)
    have hBF1 := hBF.frc hp (by decide) hfr1
    have hle1 : (p + 1) ≤ cs.length := z_at_lt (z_tk2f hok1)
    obtain ⟨fsb1, hob1⟩ := z_BF.o hBF1
    refine z_istore_n (lv' := [(1, .int (nI (cs.getD p 0))), (0, .ref t)]) hb dX22_numberAfterSpace_6 (by rw [hN]; decide) rfl ?_
    refine z_aload_n hb dX22_numberAfterSpace_7 rfl ?_
    refine z_call (b' := 1) (f' := 10) (rest := []) (av := [.ref t]) (z_siteV hb ho zc18 hp1 q2400 q2402 qs28 ⟨_, _, _, _, zk_X22_number⟩ zy_X22_number zl_X22_number dX22_numberAfterSpace_8 : z_Site M _ _ _ _ _ ([].reverse ++ .ref t :: []) [] _) zk_X22_number q146 hrm (m_X22_number hp1 hX1 hBF1 hT hle1 (hKS.frx hp (by decide) hfr1) ht0) (by omega) (by decide) (Nat.le_of_ble_eq_true rfl) (by omega) (by omega) (fun v2 h2 n2 hq2 hn2 => ?_) (fun q2 h2 n2 hq2 hn2 => ?_)
    · obtain ⟨hok2, hv2, hp2, hfr2⟩ := z_ps_r hq2
      subst hv2
      have hX2 := hfr2 _ _ hX1 (z_x_t hp1 hX1)
      have hBF2 := hBF1.frc hp1 (by decide) hfr2
      have hle2 : (z_nm cs (p + 1)).1 ≤ cs.length := z_nm_le hle1
      obtain ⟨fsb2, hob2⟩ := z_BF.o hBF2
      refine z_iret hb hr dX22_numberAfterSpace_11 ?_
      rw [hQ]
      exact Or.inl ⟨by rw [z_ns_t (z_tk2f hok1)]; exact hok2, rfl, by rw [z_ns_t (z_tk2f hok1)]; exact hp2, hfr1.t hfr2⟩
    · obtain ⟨b12, b22, b32, b42⟩ := z_ps_t hq2
      have hbe2 := (z_ns_t (z_tk2f hok1))
      exact z_out ho hH zc19 b32 (by omega) (fun _ h => nomatch h) (by rw [hQ]; exact Or.inr ⟨by rw [hbe2]; exact b12, _, rfl, by omega, by rw [hbe2]; exact b32, (hfr1.t b42)⟩)
  · obtain ⟨b11, b21, b31, b41⟩ := z_ps_t hq1
    have hbe1 := (show z_ns cs p = z_tk cs p z_spc by rw [z_ns_f (z_tk2t b11), z_tk_f (z_tk2t b11)])
    exact z_out ho hH zc19 b31 (by omega) (fun _ h => nomatch h) (by rw [hQ]; exact Or.inr ⟨by rw [hbe1]; exact b11, _, rfl, by omega, by rw [hbe1]; exact b31, b41⟩)

