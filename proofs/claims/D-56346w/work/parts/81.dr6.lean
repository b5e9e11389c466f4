theorem z_kpW {h h1 h2 : zH} {n0 b : Nat} {c : va_E} (d : z_dm h n0) (hb : n0 ≤ b) (e : h2 = z_up h1 b c) (a : z_kp h h1) : z_kp h h2 := fun x y q l => by
  have q1 := a x y q l
  have := d x y q
  rw [e, z_up_n (by omega)]
  exact q1
theorem z_kp_fr {h h2 : zH} {t ci : Nat} {fs : List Value} (ht : h t = some (.inr (ci, fs))) (hc : ¬ z_lnk (.inr (ci, fs))) (f : z_fr (fun y => y = t) h h2) : z_kp h h2 := fun y c q l => f y c q fun z => by
  rw [z, ht] at q
  cases q
  exact hc l
theorem z_frT {P : Nat → Prop} {h0 h1 h2 : zH} {n0 t : Nat} (d : z_dm h0 n0) (hb : n0 ≤ t) (a : z_fr P h0 h1) (b : z_fr (fun y => y = t) h1 h2) : z_fr P h0 h2 := fun y c q l => b y c (a y c q l) fun z => by
  have := d y c q
  omega
theorem z_Dr.nY {G : zG} {h : zH} {b0 : Nat} {w : Nat → Int32} {v : Nat → Int64} {R S D a lr er ls es lv ev : Nat} {ra sa va na ba : Nat → Nat} (q : z_Dr G h b0 w v R S D a lr er ls es lv ev ra sa va na ba) {n0 y : Nat} (d : z_dm h n0) (hy : n0 ≤ y) : ¬ z_VA na ba S y := by
  rintro ⟨k, hk, e⟩
  obtain ⟨-, -, -, -, F, Z, q5, q6, -⟩ := q.2.2.2.2.2.2.2.2.1 k hk
  have h1 := d _ _ q5
  have h2 := d _ _ q6
  omega
theorem m_lsIndexOf {l : Launch} {G : zG} {h : zH} {n : Nat} {w : Nat → Int32} {v : Nat → Int64} {R S D a lr ls lv : Nat} {ra sa va : Nat → Nat} (hL : z_Ln G h w v R S D a lr ls lv ra sa va) {k : Nat} (hk : k < S) : z_C l G yJ2_indexOf 3 0 0 [.ref ls, .ref (sa k)] h n (z_rn (.int (nI k)) h) := by
  obtain ⟨h1, h2, ⟨e, N, m9, f, h3, h4, h5, ⟨h6, h6n⟩, h7⟩, h8, h9, hs, hv, hi, hr⟩ := hL
  have hne : ∀ j, j < k → sa j ≠ sa k := fun j hj q => absurd (hi j k (by omega) hk q) (by omega)
  rcases hs k hk with ⟨-, q⟩ | ⟨-, q⟩ | ⟨-, q⟩ | ⟨-, -, -, q⟩ | ⟨-, -, -, q⟩ | ⟨-, -, -, q⟩ | ⟨-, -, -, q⟩
  · exact z_C.rn (m_J2_indexOf_8 h3 h4 h5 h6 h7 q hk rfl hne)
  · exact z_C.rn (m_J2_indexOf_9 h3 h4 h5 h6 h7 q hk rfl hne)
  · exact z_C.rn (m_J2_indexOf_10 h3 h4 h5 h6 h7 q hk rfl hne)
  · exact z_C.rn (m_J2_indexOf_11 h3 h4 h5 h6 h7 q hk rfl hne)
  · exact z_C.rn (m_J2_indexOf_11 h3 h4 h5 h6 h7 q hk rfl hne)
  · exact z_C.rn (m_J2_indexOf_12 h3 h4 h5 h6 h7 q hk rfl hne)
  · exact z_C.rn (m_J2_indexOf_13 h3 h4 h5 h6 h7 q hk rfl hne)
/-- by how much a step's number changes, if those of its inputs change by c -/
def z_chg (w : Nat → Int32) (v : Nat → Int64) (R k D g : Nat) (am sg : Int32) (c : Nat → Int64) : Int64 :=
  if w (176 + 4 * k) = nI 115 then (if w (176 + 4 * k + 1) ≤ am then (sg * am).toInt64 else 0) else
  if w (176 + 4 * k) = nI 110 then (if w (176 + 4 * k + 1) ≤ am then sg.toInt64 else 0) else
  if w (176 + 4 * k) = nI 120 then tw_of w k (nI D) (nI g) R - v (5 * (7 * k + D) + g) else
  if w (176 + 4 * k) = nI 43 then c (tw_f w k) + c (tw_s w k) else
  if w (176 + 4 * k) = nI 45 then c (tw_f w k) - c (tw_s w k) else
  if w (176 + 4 * k) = nI 114 then c (tw_f w k) else
  (if (w (176 + 4 * k + 1)).toInt64 ≤ v (5 * (7 * tw_f w k + D) + g) + c (tw_f w k) then v (5 * (7 * tw_f w k + D) + g) + c (tw_f w k) else 0) - (if (w (176 + 4 * k + 1)).toInt64 ≤ v (5 * (7 * tw_f w k + D) + g) then v (5 * (7 * tw_f w k + D) + g) else 0)
def z_ch (w : Nat → Int32) (v : Nat → Int64) (R D g : Nat) (am sg : Int32) : Nat → (Nat → Int64)
  | 0 => fun _ => 0
  | k + 1 => va_up (z_ch w v R D g am sg k) k (if tw_st w k D then 0 else z_chg w v R k D g am sg (z_ch w v R D g am sg k))
theorem z_chg_s {w : Nat → Int32} {v : Nat → Int64} {R k D g : Nat} {am sg : Int32} {c : Nat → Int64} (h : w (176 + 4 * k) = nI 115) : z_chg w v R k D g am sg c = if w (176 + 4 * k + 1) ≤ am then (sg * am).toInt64 else 0 := by unfold z_chg; rw [h, if_pos rfl]
theorem z_chg_n {w : Nat → Int32} {v : Nat → Int64} {R k D g : Nat} {am sg : Int32} {c : Nat → Int64} (h : w (176 + 4 * k) = nI 110) : z_chg w v R k D g am sg c = if w (176 + 4 * k + 1) ≤ am then sg.toInt64 else 0 := by unfold z_chg; rw [h, if_neg (by decide), if_pos rfl]
theorem z_chg_x {w : Nat → Int32} {v : Nat → Int64} {R k D g : Nat} {am sg : Int32} {c : Nat → Int64} (h : w (176 + 4 * k) = nI 120) : z_chg w v R k D g am sg c = tw_of w k (nI D) (nI g) R - v (5 * (7 * k + D) + g) := by unfold z_chg; rw [h, if_neg (by decide), if_neg (by decide), if_pos rfl]
theorem z_chg_p {w : Nat → Int32} {v : Nat → Int64} {R k D g : Nat} {am sg : Int32} {c : Nat → Int64} (h : w (176 + 4 * k) = nI 43) : z_chg w v R k D g am sg c = c (tw_f w k) + c (tw_s w k) := by unfold z_chg; rw [h, if_neg (by decide), if_neg (by decide), if_neg (by decide), if_pos rfl]
theorem z_chg_m {w : Nat → Int32} {v : Nat → Int64} {R k D g : Nat} {am sg : Int32} {c : Nat → Int64} (h : w (176 + 4 * k) = nI 45) : z_chg w v R k D g am sg c = c (tw_f w k) - c (tw_s w k) := by unfold z_chg; rw [h, if_neg (by decide), if_neg (by decide), if_neg (by decide), if_neg (by decide), if_pos rfl]
theorem z_chg_r {w : Nat → Int32} {v : Nat → Int64} {R k D g : Nat} {am sg : Int32} {c : Nat → Int64} (h : w (176 + 4 * k) = nI 114) : z_chg w v R k D g am sg c = c (tw_f w k) := by unfold z_chg; rw [h, if_neg (by decide), if_neg (by decide), if_neg (by decide), if_neg (by decide), if_neg (by decide), if_pos rfl]
theorem z_chg_k {w : Nat → Int32} {v : Nat → Int64} {R k D g : Nat} {am sg : Int32} {c : Nat → Int64} (h : w (176 + 4 * k) = nI 107) : z_chg w v R k D g am sg c = (if (w (176 + 4 * k + 1)).toInt64 ≤ v (5 * (7 * tw_f w k + D) + g) + c (tw_f w k) then v (5 * (7 * tw_f w k + D) + g) + c (tw_f w k) else 0) - (if (w (176 + 4 * k + 1)).toInt64 ≤ v (5 * (7 * tw_f w k + D) + g) then v (5 * (7 * tw_f w k + D) + g) else 0) := by unfold z_chg; rw [h, if_neg (by decide), if_neg (by decide), if_neg (by decide), if_neg (by decide), if_neg (by decide), if_neg (by decide)]

set_option maxHeartbeats 1000000 in
theorem m_X8_of {l : Launch} {G : zG} {h : zH} {n : Nat} {w : Nat → Int32} {v : Nat → Int64} {R S D a lr ls lv : Nat} {ra sa va : Nat → Nat} {t ec k : Nat} {C : Nat → Int64} (hL : z_Ln G h w v R S D a lr ls lv ra sa va) (hS8 : S ≤ 8) (hR4 : R ≤ 40) (hD6 : D ≤ 6) (htc : h t = some (.inr (7, [.ref ls, .ref ec]))) (hec : h ec = some (z_al G 8 C)) (hk : k < S) : z_C l G yX8_of 4 0 0 [.ref t, .ref (sa k)] h n (z_rn (.long (C k)) h) := by
  refine z_start zk_X8_of zpl_RX8 (Nat.le_of_ble_eq_true rfl) ?_
  intro hn0 M hl hG ho hb hN hr hm hH hrm hQ
  subst hl hG
  have ho : zm_o M = RX8 := ho
  obtain ⟨h1, ⟨e0, N0, m0, f0, r1, r2, r3, ⟨r4, r4n⟩, r5⟩, ⟨e, N, m9, f, h3, h4, h5, ⟨h6, h6n⟩, h7⟩, ⟨ev, Nv, mv, fv, v1, v2, v3, ⟨v4, v4n⟩, v5⟩, h9, hs, hv, hi, hrI⟩ := id hL
  show z_V M h n 0 0 0 [(0, .ref t), (1, .ref (sa k))] []
  refine z_dom (fun hD0 => ?_)
  refine z_aload_n hb dX8_of_0 rfl ?_
  refine z_get (k := 1) (C := RX8) (T := TX8) (N := 2) hb ho zc7 in_X8 (zf_RX8_9 _) dX8_of_1 htc (by decide) rfl ?_
  refine z_aload_n hb dX8_of_4 rfl ?_
  refine z_get (k := 0) (C := RX8) (T := TX8) (N := 2) hb ho zc7 in_X8 (zf_RX8_21 _) dX8_of_5 htc (by decide) rfl ?_
  refine z_aload_n hb dX8_of_8 rfl ?_
  refine z_callN1 (b' := 0) (f' := 0) (rest := [.ref ec]) (av := [.ref ls, .ref (sa k)]) (z_siteF hb ho zc20 h3 q1251 zx5 q608 q610 q611 q609 q321 zxl5 dX8_of_9 : z_Site M _ _ _ _ _ ([.ref (sa k)].reverse ++ .ref ls :: [.ref ec]) [.ref ec] _) zk_J2_indexOf q98 hrm (m_lsIndexOf hL hk) (by omega) (by decide) (Nat.le_of_ble_eq_true rfl) (by omega) (by omega) (fun n_1 hn_1 => ?_)
  refine z_lald (j := k) hb dX8_of_14 hec rfl (by omega) (by omega) ?_
  refine z_lret hb hr dX8_of_15 ?_
  rw [hQ]
  exact ⟨rfl, rfl⟩

set_option maxHeartbeats 1000000 in
theorem m_X11_change {l : Launch} {G : zG} {h : zH} {n : Nat} {w : Nat → Int32} {v : Nat → Int64} {R S D a lr ls lv : Nat} {ra sa va : Nat → Nat} {t ec q k g : Nat} {C : Nat → Int64} {nu am sg : Int32} (hL : z_Ln G h w v R S D a lr ls lv ra sa va) (hS8 : S ≤ 8) (hR4 : R ≤ 40) (hD6 : D ≤ 6) (htc : h t = some (.inr (7, [.ref ls, .ref ec]))) (hec : h ec = some (z_al G 8 C)) (hq9 : h q = some (.inr (6, [.int nu, .int (nI D), .int (nI g), .int am]))) (hg : g < 5) (hx : h (sa k) = some (.inr (8, [.int (w (176 + 4 * k + 1)), .int (nI 115)]))) (hkd : w (176 + 4 * k) = nI 115) : z_C l G yX11_change 9 1 4 [.ref (sa k), .ref a, .ref q, .int sg, .ref t] h n (z_rn (.long (z_chg w v R k D g am sg C)) h) := by
  refine z_start zk_X11_change zpl_RX11 (Nat.le_of_ble_eq_true rfl) ?_
  intro hn0 M hl hG ho hb hN hr hm hH hrm hQ
  subst hl hG
  have ho : zm_o M = RX11 := ho
  obtain ⟨h1, ⟨e0, N0, m0, f0, r1, r2, r3, ⟨r4, r4n⟩, r5⟩, ⟨e, N, m9, f, h3, h4, h5, ⟨h6, h6n⟩, h7⟩, ⟨ev, Nv, mv, fv, v1, v2, v3, ⟨v4, v4n⟩, v5⟩, h9, hs, hv, hi, hrI⟩ := id hL
  show z_V M h n 1 4 0 [(0, .ref (sa k)), (1, .ref a), (2, .ref q), (3, .int sg), (4, .ref t)] []
  refine z_dom (fun hD0 => ?_)
  refine z_aload_n hb dX11_change_0 rfl ?_
  refine z_aload_n hb dX11_change_1 rfl ?_
  refine z_call1 (b' := 1) (f' := 4) (rest := []) (av := [.ref (sa k), .ref q]) (z_siteU hb ho zc8 hx q1278 q1279 (Or.inl q1257) q718 q1280 ⟨by decide +kernel, by decide +kernel⟩ (by show _ = some 1; decide +kernel) dX11_change_2 : z_Site M _ _ _ _ _ ([.ref q].reverse ++ .ref (sa k) :: []) [] _) zk_X10_takes q128 hrm (m_X10_takes_8 hx hq9) (by omega) (by decide) (Nat.le_of_ble_eq_true rfl) (by omega) (by omega) ?_
  refine z_ifb_eq (tgt := 18) hb dX11_change_5 (by decide) (fun c_5 => ?_) (fun c_5 => ?_)
  · refine z_lconst (x := 0) hb dX11_change_18 rfl ?_
    refine z_lret hb hr dX11_change_19 ?_
    rw [hQ]
    exact z_rn_e (by rw [z_chg_s hkd, if_neg (of_decide_eq_false c_5)])
  · refine z_iload_n hb dX11_change_8 rfl ?_
    refine z_aload_n hb dX11_change_9 rfl ?_
    refine z_get (k := 3) (C := RX7) (T := TX7) (N := 4) hb ho zc6 in_X7 (zf_RX11_7 _) dX11_change_10 hq9 (by decide) rfl ?_
    refine z_imul hb dX11_change_13 ?_
    refine z_i2l (v := (sg * am).toInt64) hb dX11_change_14 rfl ?_
    refine z_goto (tgt := 19) hb dX11_change_15 (by decide) ?_
    refine z_lret hb hr dX11_change_19 ?_
    rw [hQ]
    exact z_rn_e (by rw [z_chg_s hkd, if_pos (of_decide_eq_true c_5)])

set_option maxHeartbeats 1000000 in
theorem m_X12_change {l : Launch} {G : zG} {h : zH} {n : Nat} {w : Nat → Int32} {v : Nat → Int64} {R S D a lr ls lv : Nat} {ra sa va : Nat → Nat} {t ec q k g : Nat} {C : Nat → Int64} {nu am sg : Int32} (hL : z_Ln G h w v R S D a lr ls lv ra sa va) (hS8 : S ≤ 8) (hR4 : R ≤ 40) (hD6 : D ≤ 6) (htc : h t = some (.inr (7, [.ref ls, .ref ec]))) (hec : h ec = some (z_al G 8 C)) (hq9 : h q = some (.inr (6, [.int nu, .int (nI D), .int (nI g), .int am]))) (hg : g < 5) (hx : h (sa k) = some (.inr (9, [.int (w (176 + 4 * k + 1)), .int (nI 110)]))) (hkd : w (176 + 4 * k) = nI 110) : z_C l G yX12_change 9 1 4 [.ref (sa k), .ref a, .ref q, .int sg, .ref t] h n (z_rn (.long (z_chg w v R k D g am sg C)) h) := by
  refine z_start zk_X12_change zpl_RX12 (Nat.le_of_ble_eq_true rfl) ?_
  intro hn0 M hl hG ho hb hN hr hm hH hrm hQ
  subst hl hG
  have ho : zm_o M = RX12 := ho
  obtain ⟨h1, ⟨e0, N0, m0, f0, r1, r2, r3, ⟨r4, r4n⟩, r5⟩, ⟨e, N, m9, f, h3, h4, h5, ⟨h6, h6n⟩, h7⟩, ⟨ev, Nv, mv, fv, v1, v2, v3, ⟨v4, v4n⟩, v5⟩, h9, hs, hv, hi, hrI⟩ := id hL
  show z_V M h n 1 4 0 [(0, .ref (sa k)), (1, .ref a), (2, .ref q), (3, .int sg), (4, .ref t)] []
  refine z_dom (fun hD0 => ?_)
  refine z_aload_n hb dX12_change_0 rfl ?_
  refine z_aload_n hb dX12_change_1 rfl ?_
  refine z_call1 (b' := 1) (f' := 4) (rest := []) (av := [.ref (sa k), .ref q]) (z_siteU hb ho zc9 hx q1255 q1256 (Or.inl q1257) q718 q1258 ⟨by decide +kernel, by decide +kernel⟩ (by show _ = some 1; decide +kernel) dX12_change_2 : z_Site M _ _ _ _ _ ([.ref q].reverse ++ .ref (sa k) :: []) [] _) zk_X10_takes q128 hrm (m_X10_takes_9 hx hq9) (by omega) (by decide) (Nat.le_of_ble_eq_true rfl) (by omega) (by omega) ?_
  refine z_ifb_eq (tgt := 13) hb dX12_change_5 (by decide) (fun c_5 => ?_) (fun c_5 => ?_)
  · refine z_lconst (x := 0) hb dX12_change_13 rfl ?_
    refine z_lret hb hr dX12_change_14 ?_
    rw [hQ]
    exact z_rn_e (by rw [z_chg_n hkd, if_neg (of_decide_eq_false c_5)])
  · refine z_iload_n hb dX12_change_8 rfl ?_
    refine z_i2l (v := sg.toInt64) hb dX12_change_9 rfl ?_
    refine z_goto (tgt := 14) hb dX12_change_10 (by decide) ?_
    refine z_lret hb hr dX12_change_14 ?_
    rw [hQ]
    exact z_rn_e (by rw [z_chg_n hkd, if_pos (of_decide_eq_true c_5)])

set_option maxHeartbeats 1000000 in
theorem m_X13_change {l : Launch} {G : zG} {h : zH} {n : Nat} {w : Nat → Int32} {v : Nat → Int64} {R S D a lr ls lv : Nat} {ra sa va : Nat → Nat} {t ec q k g : Nat} {C : Nat → Int64} {nu am sg : Int32} (hL : z_Ln G h w v R S D a lr ls lv ra sa va) (hS8 : S ≤ 8) (hR4 : R ≤ 40) (hD6 : D ≤ 6) (htc : h t = some (.inr (7, [.ref ls, .ref ec]))) (hec : h ec = some (z_al G 8 C)) (hq9 : h q = some (.inr (6, [.int nu, .int (nI D), .int (nI g), .int am]))) (hg : g < 5) (hk : k < S) (hx : h (sa k) = some (.inr (10, [.int (w (176 + 4 * k + 1)), .int (nI 120)]))) (hkd : w (176 + 4 * k) = nI 120) : z_C l G yX13_change 9 1 4 [.ref (sa k), .ref a, .ref q, .int sg, .ref t] h n (z_rn (.long (z_chg w v R k D g am sg C)) h) := by
  refine z_start zk_X13_change zpl_RX13 (Nat.le_of_ble_eq_true rfl) ?_
  intro hn0 M hl hG ho hb hN hr hm hH hrm hQ
  subst hl hG
  have ho : zm_o M = RX13 := ho
  obtain ⟨h1, ⟨e0, N0, m0, f0, r1, r2, r3, ⟨r4, r4n⟩, r5⟩, ⟨e, N, m9, f, h3, h4, h5, ⟨h6, h6n⟩, h7⟩, ⟨ev, Nv, mv, fv, v1, v2, v3, ⟨v4, v4n⟩, v5⟩, h9, hs, hv, hi, hrI⟩ := id hL
  show z_V M h n 1 4 0 [(0, .ref (sa k)), (1, .ref a), (2, .ref q), (3, .int sg), (4, .ref t)] []
  refine z_dom (fun hD0 => ?_)
  refine z_aload_n hb dX13_change_0 rfl ?_
  refine z_aload_n hb dX13_change_1 rfl ?_
  refine z_get (k := 0) (C := RX2) (T := TX2) (N := 8) hb ho zc1 in_X2 (zf_RX13_19 _) dX13_change_2 h1 (by decide) rfl ?_
  refine z_aload_n hb dX13_change_5 rfl ?_
  refine z_aload_n hb dX13_change_6 rfl ?_
  refine z_get (k := 1) (C := RX7) (T := TX7) (N := 4) hb ho zc6 in_X7 (zf_RX13_25 _) dX13_change_7 hq9 (by decide) rfl ?_
  refine z_aload_n hb dX13_change_10 rfl ?_
  refine z_get (k := 2) (C := RX7) (T := TX7) (N := 4) hb ho zc6 in_X7 (zf_RX13_28 _) dX13_change_11 hq9 (by decide) rfl ?_
  refine z_callN1 (b' := 0) (f' := 0) (rest := []) (av := [.ref (sa k), .ref lr, .ref a, .int (nI D), .int (nI g)]) (z_siteU hb ho zc10 hx q1262 q1263 (Or.inl q1264) q704 q1265 ⟨by decide +kernel, by decide +kernel⟩ (by show _ = some 4; decide +kernel) dX13_change_14 : z_Site M _ _ _ _ _ ([.ref lr, .ref a, .int (nI D), .int (nI g)].reverse ++ .ref (sa k) :: []) [] _) zk_X10_compute q128 hrm (m_X10_compute_10 (nb := _) (u := v) (F := fun _ _ => 0) (rN := fun _ => 0) (fsn := []) (B := 1) (rc := 8) hL hR4 (Nat.le_refl _) (by decide) hx hkd) (by omega) (by decide) (Nat.le_of_ble_eq_true rfl) (by omega) (by omega) (fun n_1 hn_1 => ?_)
  refine z_aload_n hb dX13_change_17 rfl ?_
  refine z_aload_n hb dX13_change_18 rfl ?_
  refine z_aload_n hb dX13_change_19 rfl ?_
  refine z_get (k := 1) (C := RX7) (T := TX7) (N := 4) hb ho zc6 in_X7 (zf_RX13_25 _) dX13_change_20 hq9 (by decide) rfl ?_
  refine z_aload_n hb dX13_change_23 rfl ?_
  refine z_get (k := 2) (C := RX7) (T := TX7) (N := 4) hb ho zc6 in_X7 (zf_RX13_28 _) dX13_change_24 hq9 (by decide) rfl ?_
  refine z_callN1 (b' := 0) (f' := 0) (rest := [.long (tw_of w k (nI D) (nI g) R)]) (av := [.ref a, .ref (sa k), .int (nI D), .int (nI g)]) (z_siteV hb ho zc1 h1 q1266 q746 q3285 ⟨_, _, _, _, zk_X2_number⟩ zy_X2_number zl_X2_number dX13_change_27 : z_Site M _ _ _ _ _ ([.ref (sa k), .int (nI D), .int (nI g)].reverse ++ .ref a :: [.long (tw_of w k (nI D) (nI g) R)]) [.long (tw_of w k (nI D) (nI g) R)] _) zk_X2_number q95 hrm (z_C.rn (m_X2_number hL hk hS8 hD6 (Nat.le_refl _) hg)) (by omega) (by decide) (Nat.le_of_ble_eq_true rfl) (by omega) (by omega) (fun n_2 hn_2 => ?_)
  refine z_lsub hb dX13_change_30 ?_
  refine z_lret hb hr dX13_change_31 ?_
  rw [hQ]
  exact z_rn_e (by rw [z_chg_x hkd])

set_option maxHeartbeats 1000000 in
theorem m_X14_change_p {l : Launch} {G : zG} {h : zH} {n : Nat} {w : Nat → Int32} {v : Nat → Int64} {R S D a lr ls lv : Nat} {ra sa va : Nat → Nat} {t ec q k g : Nat} {C : Nat → Int64} {nu am sg : Int32} (hL : z_Ln G h w v R S D a lr ls lv ra sa va) (hS8 : S ≤ 8) (hR4 : R ≤ 40) (hD6 : D ≤ 6) (htc : h t = some (.inr (7, [.ref ls, .ref ec]))) (hec : h ec = some (z_al G 8 C)) (hq9 : h q = some (.inr (6, [.int nu, .int (nI D), .int (nI g), .int am]))) (hg : g < 5) (hk : k < S) (hf : tw_f w k < k) (hs2 : tw_s w k < k) (hx : h (sa k) = some (.inr (11, [.int (nI 43), .ref (sa (tw_f w k)), .ref (sa (tw_s w k)), .int (nI 1)]))) (hkd : w (176 + 4 * k) = nI 43) : z_C l G yX14_change 9 1 4 [.ref (sa k), .ref a, .ref q, .int sg, .ref t] h n (z_rn (.long (z_chg w v R k D g am sg C)) h) := by
  refine z_start zk_X14_change zpl_RX14 (Nat.le_of_ble_eq_true rfl) ?_
  intro hn0 M hl hG ho hb hN hr hm hH hrm hQ
  subst hl hG
  have ho : zm_o M = RX14 := ho
  obtain ⟨h1, ⟨e0, N0, m0, f0, r1, r2, r3, ⟨r4, r4n⟩, r5⟩, ⟨e, N, m9, f, h3, h4, h5, ⟨h6, h6n⟩, h7⟩, ⟨ev, Nv, mv, fv, v1, v2, v3, ⟨v4, v4n⟩, v5⟩, h9, hs, hv, hi, hrI⟩ := id hL
  show z_V M h n 1 4 0 [(0, .ref (sa k)), (1, .ref a), (2, .ref q), (3, .int sg), (4, .ref t)] []
  refine z_dom (fun hD0 => ?_)
  refine z_aload hb dX14_change_0 rfl ?_
  refine z_aload_n hb dX14_change_2 rfl ?_
  refine z_get (k := 1) (C := RX14) (T := TX14) (N := 4) hb ho zc11 in_X14 (zf_RX14_7 _) dX14_change_3 hx (by decide) rfl ?_
  refine z_dom (fun hD_1 => ?_)
  refine z_callN1 (b' := 1) (f' := 4) (rest := []) (av := [.ref t, .ref (sa (tw_f w k))]) (z_siteV hb ho zc7 htc q1270 q1247 q1248 ⟨_, _, _, _, zk_X8_of⟩ zy_X8_of zl_X8_of dX14_change_6 : z_Site M _ _ _ _ _ ([.ref (sa (tw_f w k))].reverse ++ .ref t :: []) [] _) zk_X8_of q123 hrm (m_X8_of hL hS8 hR4 hD6 htc hec (show tw_f w k < S by omega)) (by omega) (by decide) (Nat.le_of_ble_eq_true rfl) (by omega) (by omega) (fun n_2 hn_2 => ?_)
  refine z_aload_n hb dX14_change_9 rfl ?_
  refine z_get (k := 3) (C := RX14) (T := TX14) (N := 4) hb ho zc11 in_X14 (zf_RX14_16 _) dX14_change_10 hx (by decide) rfl ?_
  refine z_i2l (v := (nI 1).toInt64) hb dX14_change_13 rfl ?_
  refine z_aload hb dX14_change_14 rfl ?_
  refine z_aload_n hb dX14_change_16 rfl ?_
  refine z_get (k := 2) (C := RX14) (T := TX14) (N := 4) hb ho zc11 in_X14 (zf_RX14_13 _) dX14_change_17 hx (by decide) rfl ?_
  refine z_dom (fun hD_3 => ?_)
  refine z_callN1 (b' := 1) (f' := 4) (rest := [.long ((nI 1).toInt64), .long (C (tw_f w k))]) (av := [.ref t, .ref (sa (tw_s w k))]) (z_siteV hb ho zc7 htc q1270 q1247 q1248 ⟨_, _, _, _, zk_X8_of⟩ zy_X8_of zl_X8_of dX14_change_20 : z_Site M _ _ _ _ _ ([.ref (sa (tw_s w k))].reverse ++ .ref t :: [.long ((nI 1).toInt64), .long (C (tw_f w k))]) [.long ((nI 1).toInt64), .long (C (tw_f w k))] _) zk_X8_of q123 hrm (m_X8_of hL hS8 hR4 hD6 htc hec (show tw_s w k < S by omega)) (by omega) (by decide) (Nat.le_of_ble_eq_true rfl) (by omega) (by omega) (fun n_4 hn_4 => ?_)
  refine z_lmul hb dX14_change_23 ?_
  refine z_ladd hb dX14_change_24 ?_
  refine z_lret hb hr dX14_change_25 ?_
  rw [hQ]
  exact z_rn_e (by rw [z_chg_p hkd, show (nI 1).toInt64 = 1 from rfl, Int64.one_mul])

set_option maxHeartbeats 1000000 in
theorem m_X14_change_m {l : Launch} {G : zG} {h : zH} {n : Nat} {w : Nat → Int32} {v : Nat → Int64} {R S D a lr ls lv : Nat} {ra sa va : Nat → Nat} {t ec q k g : Nat} {C : Nat → Int64} {nu am sg : Int32} (hL : z_Ln G h w v R S D a lr ls lv ra sa va) (hS8 : S ≤ 8) (hR4 : R ≤ 40) (hD6 : D ≤ 6) (htc : h t = some (.inr (7, [.ref ls, .ref ec]))) (hec : h ec = some (z_al G 8 C)) (hq9 : h q = some (.inr (6, [.int nu, .int (nI D), .int (nI g), .int am]))) (hg : g < 5) (hk : k < S) (hf : tw_f w k < k) (hs2 : tw_s w k < k) (hx : h (sa k) = some (.inr (11, [.int (nI 45), .ref (sa (tw_f w k)), .ref (sa (tw_s w k)), .int ((-1 : Int32))]))) (hkd : w (176 + 4 * k) = nI 45) : z_C l G yX14_change 9 1 4 [.ref (sa k), .ref a, .ref q, .int sg, .ref t] h n (z_rn (.long (z_chg w v R k D g am sg C)) h) := by
  refine z_start zk_X14_change zpl_RX14 (Nat.le_of_ble_eq_true rfl) ?_
  intro hn0 M hl hG ho hb hN hr hm hH hrm hQ
  subst hl hG
  have ho : zm_o M = RX14 := ho
  obtain ⟨h1, ⟨e0, N0, m0, f0, r1, r2, r3, ⟨r4, r4n⟩, r5⟩, ⟨e, N, m9, f, h3, h4, h5, ⟨h6, h6n⟩, h7⟩, ⟨ev, Nv, mv, fv, v1, v2, v3, ⟨v4, v4n⟩, v5⟩, h9, hs, hv, hi, hrI⟩ := id hL
  show z_V M h n 1 4 0 [(0, .ref (sa k)), (1, .ref a), (2, .ref q), (3, .int sg), (4, .ref t)] []
  refine z_dom (fun hD0 => ?_)
  refine z_aload hb dX14_change_0 rfl ?_
  refine z_aload_n hb dX14_change_2 rfl ?_
  refine z_get (k := 1) (C := RX14) (T := TX14) (N := 4) hb ho zc11 in_X14 (zf_RX14_7 _) dX14_change_3 hx (by decide) rfl ?_
  refine z_dom (fun hD_1 => ?_)
  refine z_callN1 (b' := 1) (f' := 4) (rest := []) (av := [.ref t, .ref (sa (tw_f w k))]) (z_siteV hb ho zc7 htc q1270 q1247 q1248 ⟨_, _, _, _, zk_X8_of⟩ zy_X8_of zl_X8_of dX14_change_6 : z_Site M _ _ _ _ _ ([.ref (sa (tw_f w k))].reverse ++ .ref t :: []) [] _) zk_X8_of q123 hrm (m_X8_of hL hS8 hR4 hD6 htc hec (show tw_f w k < S by omega)) (by omega) (by decide) (Nat.le_of_ble_eq_true rfl) (by omega) (by omega) (fun n_2 hn_2 => ?_)
  refine z_aload_n hb dX14_change_9 rfl ?_
  refine z_get (k := 3) (C := RX14) (T := TX14) (N := 4) hb ho zc11 in_X14 (zf_RX14_16 _) dX14_change_10 hx (by decide) rfl ?_
  refine z_i2l (v := (-1 : Int32).toInt64) hb dX14_change_13 rfl ?_
  refine z_aload hb dX14_change_14 rfl ?_
  refine z_aload_n hb dX14_change_16 rfl ?_
  refine z_get (k := 2) (C := RX14) (T := TX14) (N := 4) hb ho zc11 in_X14 (zf_RX14_13 _) dX14_change_17 hx (by decide) rfl ?_
  refine z_dom (fun hD_3 => ?_)
  refine z_callN1 (b' := 1) (f' := 4) (rest := [.long ((-1 : Int32).toInt64), .long (C (tw_f w k))]) (av := [.ref t, .ref (sa (tw_s w k))]) (z_siteV hb ho zc7 htc q1270 q1247 q1248 ⟨_, _, _, _, zk_X8_of⟩ zy_X8_of zl_X8_of dX14_change_20 : z_Site M _ _ _ _ _ ([.ref (sa (tw_s w k))].reverse ++ .ref t :: [.long ((-1 : Int32).toInt64), .long (C (tw_f w k))]) [.long ((-1 : Int32).toInt64), .long (C (tw_f w k))] _) zk_X8_of q123 hrm (m_X8_of hL hS8 hR4 hD6 htc hec (show tw_s w k < S by omega)) (by omega) (by decide) (Nat.le_of_ble_eq_true rfl) (by omega) (by omega) (fun n_4 hn_4 => ?_)
  refine z_lmul hb dX14_change_23 ?_
  refine z_ladd hb dX14_change_24 ?_
  refine z_lret hb hr dX14_change_25 ?_
  rw [hQ]
  exact z_rn_e (by rw [z_chg_m hkd, show (-1 : Int32).toInt64 = -1 from rfl, Int64.neg_mul, Int64.one_mul, Int64.sub_eq_add_neg])

set_option maxHeartbeats 1000000 in
theorem m_X16_change {l : Launch} {G : zG} {h : zH} {n : Nat} {w : Nat → Int32} {v : Nat → Int64} {R S D a lr ls lv : Nat} {ra sa va : Nat → Nat} {t ec q k g : Nat} {C : Nat → Int64} {nu am sg : Int32} (hL : z_Ln G h w v R S D a lr ls lv ra sa va) (hS8 : S ≤ 8) (hR4 : R ≤ 40) (hD6 : D ≤ 6) (htc : h t = some (.inr (7, [.ref ls, .ref ec]))) (hec : h ec = some (z_al G 8 C)) (hq9 : h q = some (.inr (6, [.int nu, .int (nI D), .int (nI g), .int am]))) (hg : g < 5) (hk : k < S) (hf : tw_f w k < k) (hx : h (sa k) = some (.inr (12, [.ref (sa (tw_f w k)), .int (nI 114)]))) (hkd : w (176 + 4 * k) = nI 114) : z_C l G yX16_change 9 1 4 [.ref (sa k), .ref a, .ref q, .int sg, .ref t] h n (z_rn (.long (z_chg w v R k D g am sg C)) h) := by
  refine z_start zk_X16_change zpl_RX16 (Nat.le_of_ble_eq_true rfl) ?_
  intro hn0 M hl hG ho hb hN hr hm hH hrm hQ
  subst hl hG
  have ho : zm_o M = RX16 := ho
  obtain ⟨h1, ⟨e0, N0, m0, f0, r1, r2, r3, ⟨r4, r4n⟩, r5⟩, ⟨e, N, m9, f, h3, h4, h5, ⟨h6, h6n⟩, h7⟩, ⟨ev, Nv, mv, fv, v1, v2, v3, ⟨v4, v4n⟩, v5⟩, h9, hs, hv, hi, hrI⟩ := id hL
  show z_V M h n 1 4 0 [(0, .ref (sa k)), (1, .ref a), (2, .ref q), (3, .int sg), (4, .ref t)] []
  refine z_dom (fun hD0 => ?_)
  refine z_aload hb dX16_change_0 rfl ?_
  refine z_aload_n hb dX16_change_2 rfl ?_
  refine z_call1 (b' := 1) (f' := 4) (rest := [.ref t]) (av := [.ref (sa k)]) (z_siteU hb ho zc12 hx q751 q752 (Or.inl q689) q691 q753 ⟨by decide +kernel, by decide +kernel⟩ (by show _ = some 0; decide +kernel) dX16_change_3 : z_Site M _ _ _ _ _ ([].reverse ++ .ref (sa k) :: [.ref t]) [.ref t] _) zk_X15_input q134 hrm (m_X15_input_12 hx) (by omega) (by decide) (Nat.le_of_ble_eq_true rfl) (by omega) (by omega) ?_
  refine z_dom (fun hD_1 => ?_)
  refine z_callN1 (b' := 1) (f' := 4) (rest := []) (av := [.ref t, .ref (sa (tw_f w k))]) (z_siteV hb ho zc7 htc q1274 q1247 q1248 ⟨_, _, _, _, zk_X8_of⟩ zy_X8_of zl_X8_of dX16_change_6 : z_Site M _ _ _ _ _ ([.ref (sa (tw_f w k))].reverse ++ .ref t :: []) [] _) zk_X8_of q123 hrm (m_X8_of hL hS8 hR4 hD6 htc hec (show tw_f w k < S by omega)) (by omega) (by decide) (Nat.le_of_ble_eq_true rfl) (by omega) (by omega) (fun n_2 hn_2 => ?_)
  refine z_lret hb hr dX16_change_9 ?_
  rw [hQ]
  exact z_rn_e (by rw [z_chg_r hkd])

set_option maxHeartbeats 1000000 in
theorem m_X17_change {l : Launch} {G : zG} {h : zH} {n : Nat} {w : Nat → Int32} {v : Nat → Int64} {R S D a lr ls lv : Nat} {ra sa va : Nat → Nat} {t ec q k g : Nat} {C : Nat → Int64} {nu am sg : Int32} (hL : z_Ln G h w v R S D a lr ls lv ra sa va) (hS8 : S ≤ 8) (hR4 : R ≤ 40) (hD6 : D ≤ 6) (htc : h t = some (.inr (7, [.ref ls, .ref ec]))) (hec : h ec = some (z_al G 8 C)) (hq9 : h q = some (.inr (6, [.int nu, .int (nI D), .int (nI g), .int am]))) (hg : g < 5) (hk : k < S) (hf : tw_f w k < k) (hx : h (sa k) = some (.inr (13, [.ref (sa (tw_f w k)), .int (nI 107), .int (w (176 + 4 * k + 1))]))) (hkd : w (176 + 4 * k) = nI 107) : z_C l G yX17_change 9 1 4 [.ref (sa k), .ref a, .ref q, .int sg, .ref t] h n (z_rn (.long (z_chg w v R k D g am sg C)) h) := by
  refine z_start zk_X17_change zpl_RX17 (Nat.le_of_ble_eq_true rfl) ?_
  intro hn0 M hl hG ho hb hN hr hm hH hrm hQ
  subst hl hG
  have ho : zm_o M = RX17 := ho
  obtain ⟨h1, ⟨e0, N0, m0, f0, r1, r2, r3, ⟨r4, r4n⟩, r5⟩, ⟨e, N, m9, f, h3, h4, h5, ⟨h6, h6n⟩, h7⟩, ⟨ev, Nv, mv, fv, v1, v2, v3, ⟨v4, v4n⟩, v5⟩, h9, hs, hv, hi, hrI⟩ := id hL
  show z_V M h n 1 4 0 [(0, .ref (sa k)), (1, .ref a), (2, .ref q), (3, .int sg), (4, .ref t)] []
  refine z_dom (fun hD0 => ?_)
  refine z_aload_n hb dX17_change_0 rfl ?_
  refine z_aload_n hb dX17_change_1 rfl ?_
  refine z_call1 (b' := 1) (f' := 4) (rest := [.ref a]) (av := [.ref (sa k)]) (z_siteU hb ho zc13 hx q687 q688 (Or.inl q689) q691 q690 ⟨by decide +kernel, by decide +kernel⟩ (by show _ = some 0; decide +kernel) dX17_change_2 : z_Site M _ _ _ _ _ ([].reverse ++ .ref (sa k) :: [.ref a]) [.ref a] _) zk_X15_input q134 hrm (m_X15_input_13 hx) (by omega) (by decide) (Nat.le_of_ble_eq_true rfl) (by omega) (by omega) ?_
  refine z_aload_n hb dX17_change_5 rfl ?_
  refine z_get (k := 1) (C := RX7) (T := TX7) (N := 4) hb ho zc6 in_X7 (zf_RX17_27 _) dX17_change_6 hq9 (by decide) rfl ?_
  refine z_aload_n hb dX17_change_9 rfl ?_
  refine z_get (k := 2) (C := RX7) (T := TX7) (N := 4) hb ho zc6 in_X7 (zf_RX17_32 _) dX17_change_10 hq9 (by decide) rfl ?_
  refine z_callN1 (b' := 1) (f' := 4) (rest := []) (av := [.ref a, .ref (sa (tw_f w k)), .int (nI D), .int (nI g)]) (z_siteV hb ho zc1 h1 q1245 q746 q3285 ⟨_, _, _, _, zk_X2_number⟩ zy_X2_number zl_X2_number dX17_change_13 : z_Site M _ _ _ _ _ ([.ref (sa (tw_f w k)), .int (nI D), .int (nI g)].reverse ++ .ref a :: []) [] _) zk_X2_number q95 hrm (z_C.rn (m_X2_number hL (show tw_f w k < S by omega) hS8 hD6 (Nat.le_refl _) hg)) (by omega) (by decide) (Nat.le_of_ble_eq_true rfl) (by omega) (by omega) (fun n_1 hn_1 => ?_)
  refine z_lstore (lv' := [(5, .long (v (5 * (7 * tw_f w k + D) + g))), (0, .ref (sa k)), (1, .ref a), (2, .ref q), (3, .int sg), (4, .ref t)]) hb dX17_change_16 (by rw [hN]; decide) rfl ?_
  refine z_aload_n hb dX17_change_18 rfl ?_
  refine z_lload hb dX17_change_19 rfl ?_
  refine z_aload hb dX17_change_21 rfl ?_
  refine z_aload_n hb dX17_change_23 rfl ?_
  refine z_call1 (b' := 1) (f' := 4) (rest := [.ref t, .long (v (5 * (7 * tw_f w k + D) + g)), .ref (sa k)]) (av := [.ref (sa k)]) (z_siteU hb ho zc13 hx q687 q688 (Or.inl q689) q691 q690 ⟨by decide +kernel, by decide +kernel⟩ (by show _ = some 0; decide +kernel) dX17_change_24 : z_Site M _ _ _ _ _ ([].reverse ++ .ref (sa k) :: [.ref t, .long (v (5 * (7 * tw_f w k + D) + g)), .ref (sa k)]) [.ref t, .long (v (5 * (7 * tw_f w k + D) + g)), .ref (sa k)] _) zk_X15_input q134 hrm (m_X15_input_13 hx) (by omega) (by decide) (Nat.le_of_ble_eq_true rfl) (by omega) (by omega) ?_
  refine z_dom (fun hD_2 => ?_)
  refine z_callN1 (b' := 1) (f' := 4) (rest := [.long (v (5 * (7 * tw_f w k + D) + g)), .ref (sa k)]) (av := [.ref t, .ref (sa (tw_f w k))]) (z_siteV hb ho zc7 htc q1246 q1247 q1248 ⟨_, _, _, _, zk_X8_of⟩ zy_X8_of zl_X8_of dX17_change_27 : z_Site M _ _ _ _ _ ([.ref (sa (tw_f w k))].reverse ++ .ref t :: [.long (v (5 * (7 * tw_f w k + D) + g)), .ref (sa k)]) [.long (v (5 * (7 * tw_f w k + D) + g)), .ref (sa k)] _) zk_X8_of q123 hrm (m_X8_of hL hS8 hR4 hD6 htc hec (show tw_f w k < S by omega)) (by omega) (by decide) (Nat.le_of_ble_eq_true rfl) (by omega) (by omega) (fun n_3 hn_3 => ?_)
  refine z_ladd hb dX17_change_30 ?_
  refine z_callN1 (b' := 1) (f' := 4) (rest := []) (av := [.ref (sa k), .long ((v (5 * (7 * tw_f w k + D) + g)) + (C (tw_f w k)))]) (z_siteV hb ho zc13 hx q756 q758 qs6 ⟨_, _, _, _, zk_X17_bounded⟩ zy_X17_bounded zl_X17_bounded dX17_change_31 : z_Site M _ _ _ _ _ ([.long ((v (5 * (7 * tw_f w k + D) + g)) + (C (tw_f w k)))].reverse ++ .ref (sa k) :: []) [] _) zk_X17_bounded q136 hrm (m_X17_bounded hx) (by omega) (by decide) (Nat.le_of_ble_eq_true rfl) (by omega) (by omega) (fun n_4 hn_4 => ?_)
  refine z_aload_n hb dX17_change_34 rfl ?_
  refine z_lload hb dX17_change_35 rfl ?_
  refine z_callN1 (b' := 1) (f' := 4) (rest := [.long (if (w (176 + 4 * k + 1)).toInt64 ≤ ((v (5 * (7 * tw_f w k + D) + g)) + (C (tw_f w k))) then ((v (5 * (7 * tw_f w k + D) + g)) + (C (tw_f w k))) else 0)]) (av := [.ref (sa k), .long (v (5 * (7 * tw_f w k + D) + g))]) (z_siteV hb ho zc13 hx q756 q758 qs6 ⟨_, _, _, _, zk_X17_bounded⟩ zy_X17_bounded zl_X17_bounded dX17_change_37 : z_Site M _ _ _ _ _ ([.long (v (5 * (7 * tw_f w k + D) + g))].reverse ++ .ref (sa k) :: [.long (if (w (176 + 4 * k + 1)).toInt64 ≤ ((v (5 * (7 * tw_f w k + D) + g)) + (C (tw_f w k))) then ((v (5 * (7 * tw_f w k + D) + g)) + (C (tw_f w k))) else 0)]) [.long (if (w (176 + 4 * k + 1)).toInt64 ≤ ((v (5 * (7 * tw_f w k + D) + g)) + (C (tw_f w k))) then ((v (5 * (7 * tw_f w k + D) + g)) + (C (tw_f w k))) else 0)] _) zk_X17_bounded q136 hrm (m_X17_bounded hx) (by omega) (by decide) (Nat.le_of_ble_eq_true rfl) (by omega) (by omega) (fun n_5 hn_5 => ?_)
  refine z_lsub hb dX17_change_40 ?_
  refine z_lret hb hr dX17_change_41 ?_
  rw [hQ]
  exact z_rn_e (by rw [z_chg_k hkd])

def z_yg : Nat → MethodName
  | 8 => yX11_change
  | 9 => yX12_change
  | 10 => yX13_change
  | 11 => yX14_change
  | 12 => yX16_change
  | _ => yX17_change
theorem m_change {l : Launch} {G : zG} {h : zH} {w : Nat → Int32} {v : Nat → Int64} {R S D a lr ls lv : Nat} {ra sa va : Nat → Nat} {t ec q k g : Nat} {C : Nat → Int64} {nu am sg : Int32} (hL : z_Ln G h w v R S D a lr ls lv ra sa va) (hS8 : S ≤ 8) (hR4 : R ≤ 40) (hD6 : D ≤ 6) (htc : h t = some (.inr (7, [.ref ls, .ref ec]))) (hec : h ec = some (z_al G 8 C)) (hq9 : h q = some (.inr (6, [.int nu, .int (nI D), .int (nI g), .int am]))) (hg : g < 5) (hk : k < S) : ∀ ci fs, h (sa k) = some (.inr (ci, fs)) → ∀ n : Nat, z_C l G (z_yg ci) 9 1 4 [.ref (sa k), .ref a, .ref q, .int sg, .ref t] h n (z_rn (.long (z_chg w v R k D g am sg C)) h) := by
  intro ci fs hx n
  obtain ⟨-, -, -, -, -, hs, -⟩ := id hL
  rcases hs k hk with ⟨qk, q⟩ | ⟨qk, q⟩ | ⟨qk, q⟩ | ⟨qk, g1, g2, q⟩ | ⟨qk, g1, g2, q⟩ | ⟨qk, g1, g2, q⟩ | ⟨qk, g1, g2, q⟩
  all_goals obtain ⟨rfl, rfl⟩ := z_inj hx q
  · exact m_X11_change hL hS8 hR4 hD6 htc hec hq9 hg hx qk
  · exact m_X12_change hL hS8 hR4 hD6 htc hec hq9 hg hx qk
  · exact m_X13_change hL hS8 hR4 hD6 htc hec hq9 hg hk hx qk
  · exact m_X14_change_p hL hS8 hR4 hD6 htc hec hq9 hg hk g1 g2 hx qk
  · exact m_X14_change_m hL hS8 hR4 hD6 htc hec hq9 hg hk g1 g2 hx qk
  · exact m_X16_change hL hS8 hR4 hD6 htc hec hq9 hg hk g1 hx qk
  · exact m_X17_change hL hS8 hR4 hD6 htc hec hq9 hg hk g1 hx qk

