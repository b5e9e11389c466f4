theorem z_gone_lo {w : Nat → Int32} {R p : Nat} : tw_gone w R p 2 = w 2 ∧ tw_gone w R p 4 = w 4 + nI 1 ∧ tw_gone w R p 5 = w 5 ∧ tw_gone w R p 6 = w 6 := by
  unfold tw_gone
  rw [tw_shl_eq _ (by omega), tw_shl_eq _ (by omega), tw_shl_eq _ (by omega), tw_shl_eq _ (by omega), if_neg (by omega), if_neg (by omega), if_neg (by omega), if_neg (by omega)]
  unfold tw_gone0
  exact ⟨by rw [va_upn (by omega), va_upn (by omega)], va_ups, by rw [va_upn (by omega), va_upn (by omega)], by rw [va_upn (by omega), va_upn (by omega)]⟩

set_option maxHeartbeats 1000000 in
theorem m_X2_removeRow_now {l : Launch} {G : zG} {h : zH} {n : Nat} {b0 : Nat} {w : Nat → Int32} {v : Nat → Int64} {R S D a lr er ls es lv ev : Nat} {ra sa va na ba : Nat → Nat} {x : Int32} {p0 g c : Nat} (hDr : z_Dr G h b0 w v R S D a lr er ls es lv ev ra sa va na ba) (hb0 : z_n0 G ≤ b0) (hS8 : S ≤ 8) (hD6 : D ≤ 6) (hOE : h (G.2.2.1 1003) = some (.inr (25, [.null]))) (hR4 : R ≤ 40) (hp0 : p0 < R) (hx : w (16 + 4 * p0) = x) (hnd : ∀ p q, p < R → q < R → w (16 + 4 * p) = w (16 + 4 * q) → p = q) (hday : w (16 + 4 * p0 + 1) = nI D) (hgrp : w (16 + 4 * p0 + 2) = nI g) (ham : w (16 + 4 * p0 + 3) = nI c) (hg : g < 5) (hc9 : c ≤ 99) (hiW : z_inp w S) (hfrs : z_frs w v R S D) : z_C l G yX2_removeRow 33 60 96 [.ref a, .int x] h n (z_q1 (fun r9 h' n' => r9 = .int (nI c) ∧ z_DR G h' b0 (tw_gone w R p0) (tw_tt (tw_gone w R p0) (R - 1) D v S) (R - 1) S D a ∧ z_fb b0 h h')) := by
  refine z_start zk_X2_removeRow zpl_RX2 (Nat.le_of_ble_eq_true rfl) ?_
  intro hn0 M hl hG ho hb hN hr hm hH hrm hQ
  subst hl hG
  have ho : zm_o M = RX2 := ho
  obtain ⟨⟨ha0, h1⟩, ⟨lr0, lr1, N0, m0, f0, r1, r2, r3, r4, r4b, r5⟩, ⟨ls0, ls1, N, m9, f, h3, h4, h5, h6, h6b, h7⟩, ⟨lv0, lv1, Nv, mv, fv, v1, v2, v3, v4, v4b, v5⟩, hne, hse, h9, hs, hvx, hi, hrI, hna, hba⟩ := id hDr
  have r4N := r4.le
  have h6N := h6.le
  have v4N := v4.le
  show z_V M h n 60 96 0 [(0, .ref a), (1, .int x)] []
  refine z_dom (fun hD0 => ?_)
  refine z_aload_n hb dX2_removeRow_0 rfl ?_
  refine z_iload_n hb dX2_removeRow_1 rfl ?_
  refine z_callN1 (b' := 17) (f' := 46) (rest := []) (av := [.ref a, .int x]) (z_siteV hb ho zc1 h1 q1338 q1339 q1340 ⟨_, _, _, _, zk_X2_row⟩ zy_X2_row zl_X2_row dX2_removeRow_2 : z_Site M _ _ _ _ _ ([.int x].reverse ++ .ref a :: []) [] _) zk_X2_row q95 hrm (m_X2_row_ok hDr.ln hOE hR4 hp0 hx hnd) (by omega) (by decide) (Nat.le_of_ble_eq_true rfl) (by omega) (by omega) (fun n_1 hn_1 => ?_)
  have hrw_2 := hDr.2.2.2.2.2.2.1 p0 hp0
  unfold z_Rw at hrw_2
  rw [hday, hgrp, ham] at hrw_2
  refine z_astore_n (lv' := [(2, .ref (ra p0)), (0, .ref a), (1, .int x)]) hb dX2_removeRow_5 (by rw [hN]; decide) rfl ?_
  refine z_aload_n hb dX2_removeRow_6 rfl ?_
  refine z_get (k := 0) (C := RX2) (T := TX2) (N := 8) hb ho zc1 in_X2 (zf_RX2_12 _) dX2_removeRow_7 h1 (by decide) rfl ?_
  refine z_aload_n hb dX2_removeRow_10 rfl ?_
  refine z_dom (fun hD_6 => ?_)
  refine z_callQ1 (b' := 17) (f' := 46) (rest := []) (av := [.ref lr, .ref (ra p0)]) (z_siteF hb ho zc20 r1 q1383 zx9 q1386 q1388 q1389 q1387 q321 zxl9 dX2_removeRow_11 : z_Site M _ _ _ _ _ ([.ref (ra p0)].reverse ++ .ref lr :: []) [] _) zk_J2_remove q98 hrm (m_rem_6 hb0 hDr.2.1 (fun j hj => ⟨(hDr.2.2.2.2.2.2.1 j hj).o, z_neO (hDr.2.2.2.2.2.2.1 j hj) r1 rfl⟩) hrw_2 hp0 rfl (fun j hj e => absurd (hrI j p0 (by omega) hp0 e) (by omega))) (by omega) (by decide) (Nat.le_of_ble_eq_true rfl) (by omega) (by omega) (fun rhq_3 h_4 n_5 hq_3 hn_5 => ?_)
  obtain ⟨rfl, hq_3⟩ := hq_3
  obtain ⟨hlx, hfl⟩ := hq_3
  have k_7 : h_4 a = some (.inr (1, [.ref lr, .ref ls, .ref lv, .int (nI D), .int (w 2), .int (w 4), .int (w 5), .int (w 6)])) := hfl _ _ h1 (fun z => z.elim (z_neO h1 r1 rfl) (z_neA h1 r2))
  have k_8 : h_4 (ra p0) = some (.inr (6, [.int (w (16 + 4 * p0)), .int (nI D), .int (nI g), .int (nI c)])) := hfl _ _ hrw_2 (fun z => z.elim (z_neO hrw_2 r1 rfl) (z_neA hrw_2 r2))
  have hq_9 := z_Dr.remR hDr hp0 hR4 hD_6 hlx hfl
  have hbe : b0 ≤ er := by rcases lr1 with z | z <;> omega
  refine z_istore_n (lv' := [(3, .int (nI 1)), (2, .ref (ra p0)), (0, .ref a), (1, .int x)]) hb dX2_removeRow_16 (by rw [hN]; decide) rfl ?_
  refine z_aload_n hb dX2_removeRow_17 rfl ?_
  refine z_dup hb dX2_removeRow_18 rfl ?_
  refine z_get (k := 5) (C := RX2) (T := TX2) (N := 8) hb ho zc1 in_X2 (zf_RX2_61 _) dX2_removeRow_19 k_7 (by decide) rfl ?_
  refine z_iconst (x := nI 1) hb dX2_removeRow_22 (by decide) ?_
  refine z_iadd hb dX2_removeRow_23 ?_
  refine z_put (k := 5) (C := RX2) (T := TX2) (N := 8) hb ho zc1 in_X2 tyX2_ok nmX2 (zf_RX2_61 _) dX2_removeRow_24 k_7 (Nat.le_trans hb0 ha0) (by decide) (Or.inl rfl) rfl rfl rfl (Nat.le_of_ble_eq_true rfl) ?_
  refine z_hn (fun h_10 eh_10 => ?_)
  have eh_10 : h_10 = z_up h_4 a (.inr (1, [.ref lr, .ref ls, .ref lv, .int (nI D), .int (w 2), .int ((w 4) + (nI 1)), .int (w 5), .int (w 6)])) := eh_10
  have k_11 : h_10 (ra p0) = some (.inr (6, [.int (w (16 + 4 * p0)), .int (nI D), .int (nI g), .int (nI c)])) := z_nx eh_10 (z_neO k_8 k_7 rfl) k_8
  have hq_12 := hq_9.fld (h2 := h_10) (w' := (tw_gone w R p0)) (by omega) hS8 (fun j hj => (va_upn (by omega)).symm) (by rw [eh_10, z_gone_lo.1, z_gone_lo.2.1, z_gone_lo.2.2.1, z_gone_lo.2.2.2])
  refine z_aload_n hb dX2_removeRow_27 rfl ?_
  refine z_aload_n hb dX2_removeRow_28 rfl ?_
  refine z_iconst (x := (-1)) hb dX2_removeRow_29 (by decide) ?_
  refine z_callQ0 (b' := 6) (f' := 0) (rest := []) (av := [.ref a, .ref (ra p0), .int (-1)]) (z_siteV hb ho zc1 (z_nxs eh_10) q1219 q1221 qs8 ⟨_, _, _, _, zk_X2_follow⟩ zy_X2_follow zl_X2_follow dX2_removeRow_30 : z_Site M _ _ _ _ _ ([.ref (ra p0), .int (-1)].reverse ++ .ref a :: []) [] _) zk_X2_follow q95 hrm (m_X2_follow_now hq_12 hb0 (by omega) hS8 hD6 k_11 hg) (by omega) (by decide) (Nat.le_of_ble_eq_true rfl) (by omega) (by omega) (fun h_14 n_15 hq_13 hn_15 => ?_)
  have k_16 : h_14 (ra p0) = some (.inr (6, [.int (w (16 + 4 * p0)), .int (nI D), .int (nI g), .int (nI c)])) := hq_13.2 _ _ k_11 (fun z => z.elim (z_neO k_11 (z_nxs eh_10) rfl) (hq_12.nO k_11))
  refine z_aload_n hb dX2_removeRow_33 rfl ?_
  refine z_get (k := 3) (C := RX7) (T := TX7) (N := 4) hb ho zc6 in_X7 (zf_RX2_189 _) dX2_removeRow_34 k_16 (by decide) rfl ?_
  refine z_iret hb hr dX2_removeRow_37 ?_
  rw [hQ]
  exact ⟨_, rfl, rfl, (hq_13.1.cg (by omega) hS8 (fun _ _ _ => rfl) (fun k hk d hd => ⟨rfl, fun g' hg' => z_cr_tt hiW (by omega) hg (z_rch_gone hp0 hR4 (by omega) hg hday hgrp) (z_hof_gone hp0 hR4 hday hgrp ham hc9) hfrs k hk d hd g' hg'⟩)).dr, (((z_fbL2 r1 r2 r4N.2 lr0 hbe hfl).t (z_fb_up k_7 (Or.inl rfl) ha0 eh_10)).t (hq_12.cfb hq_13.2))⟩

set_option maxHeartbeats 1000000 in
theorem m_X2_removeRow_past {l : Launch} {G : zG} {h : zH} {n : Nat} {b0 : Nat} {w : Nat → Int32} {v : Nat → Int64} {R S D a lr er ls es lv ev : Nat} {ra sa va na ba : Nat → Nat} {x : Int32} {p0 g c d : Nat} (hDr : z_Dr G h b0 w v R S D a lr er ls es lv ev ra sa va na ba) (hb0 : z_n0 G ≤ b0) (hS8 : S ≤ 8) (hD6 : D ≤ 6) (hOE : h (G.2.2.1 1003) = some (.inr (25, [.null]))) (hR4 : R ≤ 40) (hp0 : p0 < R) (hx : w (16 + 4 * p0) = x) (hnd : ∀ p q, p < R → q < R → w (16 + 4 * p) = w (16 + 4 * q) → p = q) (hday : w (16 + 4 * p0 + 1) = nI d) (hgrp : w (16 + 4 * p0 + 2) = nI g) (ham : w (16 + 4 * p0 + 3) = nI c) (hg : g < 5) (hc9 : c ≤ 99) (hiW : z_inp w S) (hdD : d < D) : z_C l G yX2_removeRow 33 60 96 [.ref a, .int x] h n (z_q1 (fun r9 h' n' => r9 = .int (nI c) ∧ z_DR G h' b0 (tw_sp (va_up (tw_gone w R p0) 5 ((tw_gone w R p0) 5 + nI 1)) d D S) v (R - 1) S D a ∧ z_fb b0 h h')) := by
  refine z_start zk_X2_removeRow zpl_RX2 (Nat.le_of_ble_eq_true rfl) ?_
  intro hn0 M hl hG ho hb hN hr hm hH hrm hQ
  subst hl hG
  have ho : zm_o M = RX2 := ho
  obtain ⟨⟨ha0, h1⟩, ⟨lr0, lr1, N0, m0, f0, r1, r2, r3, r4, r4b, r5⟩, ⟨ls0, ls1, N, m9, f, h3, h4, h5, h6, h6b, h7⟩, ⟨lv0, lv1, Nv, mv, fv, v1, v2, v3, v4, v4b, v5⟩, hne, hse, h9, hs, hvx, hi, hrI, hna, hba⟩ := id hDr
  have r4N := r4.le
  have h6N := h6.le
  have v4N := v4.le
  show z_V M h n 60 96 0 [(0, .ref a), (1, .int x)] []
  refine z_dom (fun hD0 => ?_)
  refine z_aload_n hb dX2_removeRow_0 rfl ?_
  refine z_iload_n hb dX2_removeRow_1 rfl ?_
  refine z_callN1 (b' := 17) (f' := 46) (rest := []) (av := [.ref a, .int x]) (z_siteV hb ho zc1 h1 q1338 q1339 q1340 ⟨_, _, _, _, zk_X2_row⟩ zy_X2_row zl_X2_row dX2_removeRow_2 : z_Site M _ _ _ _ _ ([.int x].reverse ++ .ref a :: []) [] _) zk_X2_row q95 hrm (m_X2_row_ok hDr.ln hOE hR4 hp0 hx hnd) (by omega) (by decide) (Nat.le_of_ble_eq_true rfl) (by omega) (by omega) (fun n_1 hn_1 => ?_)
  have hrw_2 := hDr.2.2.2.2.2.2.1 p0 hp0
  unfold z_Rw at hrw_2
  rw [hday, hgrp, ham] at hrw_2
  refine z_astore_n (lv' := [(2, .ref (ra p0)), (0, .ref a), (1, .int x)]) hb dX2_removeRow_5 (by rw [hN]; decide) rfl ?_
  refine z_aload_n hb dX2_removeRow_6 rfl ?_
  refine z_get (k := 0) (C := RX2) (T := TX2) (N := 8) hb ho zc1 in_X2 (zf_RX2_12 _) dX2_removeRow_7 h1 (by decide) rfl ?_
  refine z_aload_n hb dX2_removeRow_10 rfl ?_
  refine z_dom (fun hD_6 => ?_)
  refine z_callQ1 (b' := 17) (f' := 46) (rest := []) (av := [.ref lr, .ref (ra p0)]) (z_siteF hb ho zc20 r1 q1383 zx9 q1386 q1388 q1389 q1387 q321 zxl9 dX2_removeRow_11 : z_Site M _ _ _ _ _ ([.ref (ra p0)].reverse ++ .ref lr :: []) [] _) zk_J2_remove q98 hrm (m_rem_6 hb0 hDr.2.1 (fun j hj => ⟨(hDr.2.2.2.2.2.2.1 j hj).o, z_neO (hDr.2.2.2.2.2.2.1 j hj) r1 rfl⟩) hrw_2 hp0 rfl (fun j hj e => absurd (hrI j p0 (by omega) hp0 e) (by omega))) (by omega) (by decide) (Nat.le_of_ble_eq_true rfl) (by omega) (by omega) (fun rhq_3 h_4 n_5 hq_3 hn_5 => ?_)
  obtain ⟨rfl, hq_3⟩ := hq_3
  obtain ⟨hlx, hfl⟩ := hq_3
  have k_7 : h_4 a = some (.inr (1, [.ref lr, .ref ls, .ref lv, .int (nI D), .int (w 2), .int (w 4), .int (w 5), .int (w 6)])) := hfl _ _ h1 (fun z => z.elim (z_neO h1 r1 rfl) (z_neA h1 r2))
  have k_8 : h_4 (ra p0) = some (.inr (6, [.int (w (16 + 4 * p0)), .int (nI d), .int (nI g), .int (nI c)])) := hfl _ _ hrw_2 (fun z => z.elim (z_neO hrw_2 r1 rfl) (z_neA hrw_2 r2))
  have hq_9 := z_Dr.remR hDr hp0 hR4 hD_6 hlx hfl
  have hbe : b0 ≤ er := by rcases lr1 with z | z <;> omega
  refine z_istore_n (lv' := [(3, .int (nI 1)), (2, .ref (ra p0)), (0, .ref a), (1, .int x)]) hb dX2_removeRow_16 (by rw [hN]; decide) rfl ?_
  refine z_aload_n hb dX2_removeRow_17 rfl ?_
  refine z_dup hb dX2_removeRow_18 rfl ?_
  refine z_get (k := 5) (C := RX2) (T := TX2) (N := 8) hb ho zc1 in_X2 (zf_RX2_61 _) dX2_removeRow_19 k_7 (by decide) rfl ?_
  refine z_iconst (x := nI 1) hb dX2_removeRow_22 (by decide) ?_
  refine z_iadd hb dX2_removeRow_23 ?_
  refine z_put (k := 5) (C := RX2) (T := TX2) (N := 8) hb ho zc1 in_X2 tyX2_ok nmX2 (zf_RX2_61 _) dX2_removeRow_24 k_7 (Nat.le_trans hb0 ha0) (by decide) (Or.inl rfl) rfl rfl rfl (Nat.le_of_ble_eq_true rfl) ?_
  refine z_hn (fun h_10 eh_10 => ?_)
  have eh_10 : h_10 = z_up h_4 a (.inr (1, [.ref lr, .ref ls, .ref lv, .int (nI D), .int (w 2), .int ((w 4) + (nI 1)), .int (w 5), .int (w 6)])) := eh_10
  have k_11 : h_10 (ra p0) = some (.inr (6, [.int (w (16 + 4 * p0)), .int (nI d), .int (nI g), .int (nI c)])) := z_nx eh_10 (z_neO k_8 k_7 rfl) k_8
  have hq_12 := hq_9.fld (h2 := h_10) (w' := (tw_gone w R p0)) (by omega) hS8 (fun j hj => (va_upn (by omega)).symm) (by rw [eh_10, z_gone_lo.1, z_gone_lo.2.1, z_gone_lo.2.2.1, z_gone_lo.2.2.2])
  refine z_aload_n hb dX2_removeRow_27 rfl ?_
  refine z_aload_n hb dX2_removeRow_28 rfl ?_
  refine z_iconst (x := (-1)) hb dX2_removeRow_29 (by decide) ?_
  refine z_callQ0 (b' := 6) (f' := 0) (rest := []) (av := [.ref a, .ref (ra p0), .int (-1)]) (z_siteV hb ho zc1 (z_nxs eh_10) q1219 q1221 qs8 ⟨_, _, _, _, zk_X2_follow⟩ zy_X2_follow zl_X2_follow dX2_removeRow_30 : z_Site M _ _ _ _ _ ([.ref (ra p0), .int (-1)].reverse ++ .ref a :: []) [] _) zk_X2_follow q95 hrm (m_X2_follow_past hq_12 hb0 (by omega) hS8 hD6 k_11 hdD (hiW.congr fun k hk => (fun o ho => by rw [tw_gone_at hp0 (by omega), if_neg (by omega)]))) (by omega) (by decide) (Nat.le_of_ble_eq_true rfl) (by omega) (by omega) (fun h_14 n_15 hq_13 hn_15 => ?_)
  have k_16 : h_14 (ra p0) = some (.inr (6, [.int (w (16 + 4 * p0)), .int (nI d), .int (nI g), .int (nI c)])) := hq_13.2 _ _ k_11 (fun z => z.elim (z_neO k_11 (z_nxs eh_10) rfl) (hq_12.nO k_11))
  refine z_aload_n hb dX2_removeRow_33 rfl ?_
  refine z_get (k := 3) (C := RX7) (T := TX7) (N := 4) hb ho zc6 in_X7 (zf_RX2_189 _) dX2_removeRow_34 k_16 (by decide) rfl ?_
  refine z_iret hb hr dX2_removeRow_37 ?_
  rw [hQ]
  exact ⟨_, rfl, rfl, hq_13.1.dr, (((z_fbL2 r1 r2 r4N.2 lr0 hbe hfl).t (z_fb_up k_7 (Or.inl rfl) ha0 eh_10)).t (hq_12.cfb hq_13.2))⟩

set_option maxHeartbeats 1000000 in
theorem m_X2_removeRow_no {l : Launch} {G : zG} {h : zH} {n : Nat} {w : Nat → Int32} {v : Nat → Int64} {R S D a lr ls lv : Nat} {ra sa va : Nat → Nat} {x : Int32} (hL : z_Ln G h w v R S D a lr ls lv ra sa va) (hOE : h (G.2.2.1 1003) = some (.inr (25, [.null]))) (hR4 : R ≤ 40) (hno : ∀ p, p < R → w (16 + 4 * p) ≠ x) : z_C l G yX2_removeRow 33 60 96 [.ref a, .int x] h n (z_tf 26 [] h n) := by
  refine z_start zk_X2_removeRow zpl_RX2 (Nat.le_of_ble_eq_true rfl) ?_
  intro hn0 M hl hG ho hb hN hr hm hH hrm hQ
  subst hl hG
  have ho : zm_o M = RX2 := ho
  obtain ⟨h1, ⟨e0, N0, m0, f0, r1, r2, r3, ⟨r4, r4n⟩, r5⟩, ⟨e, N, m9, f, h3, h4, h5, ⟨h6, h6n⟩, h7⟩, ⟨ev, Nv, mv, fv, v1, v2, v3, ⟨v4, v4n⟩, v5⟩, h9, hs, hv, hi, hrI⟩ := id hL
  show z_V M h n 60 96 0 [(0, .ref a), (1, .int x)] []
  refine z_dom (fun hD0 => ?_)
  refine z_aload_n hb dX2_removeRow_0 rfl ?_
  refine z_iload_n hb dX2_removeRow_1 rfl ?_
  refine z_callTf (b' := 17) (f' := 46) (rest := []) (av := [.ref a, .int x]) (z_siteV hb ho zc1 h1 q1338 q1339 q1340 ⟨_, _, _, _, zk_X2_row⟩ zy_X2_row zl_X2_row dX2_removeRow_2 : z_Site M _ _ _ _ _ ([.int x].reverse ++ .ref a :: []) [] _) zk_X2_row q95 hrm (m_X2_row_no hL hOE hR4 hno) (by omega) (by decide) (Nat.le_of_ble_eq_true rfl) (by omega) (by omega) (fun q_1 n_2 hq_1 hn_2 => ?_)
  exact z_out ho hH zc26 z_up_s (by omega) (fun _ h => nomatch h) (by rw [hQ]; exact ⟨_, rfl, by omega, by omega, rfl⟩)

set_option maxHeartbeats 1000000 in
theorem m_X2_addRow_no1 {l : Launch} {G : zG} {h : zH} {n : Nat} {w : Nat → Int32} {v : Nat → Int64} {R S D a lr ls lv : Nat} {ra sa va : Nat → Nat} {x y z : Int32} (hL : z_Ln G h w v R S D a lr ls lv ra sa va) (hx : decide (nI 97 ≤ x ∧ x ≤ nI 101) = false) : z_C l G yX2_addRow 33 20 250 [.ref a, .int x, .int y, .int z] h n (z_tf 27 [] h n) := by
  refine z_start zk_X2_addRow zpl_RX2 (Nat.le_of_ble_eq_true rfl) ?_
  intro hn0 M hl hG ho hb hN hr hm hH hrm hQ
  subst hl hG
  have ho : zm_o M = RX2 := ho
  obtain ⟨h1, ⟨e0, N0, m0, f0, r1, r2, r3, ⟨r4, r4n⟩, r5⟩, ⟨e, N, m9, f, h3, h4, h5, ⟨h6, h6n⟩, h7⟩, ⟨ev, Nv, mv, fv, v1, v2, v3, ⟨v4, v4n⟩, v5⟩, h9, hs, hv, hi, hrI⟩ := id hL
  show z_V M h n 20 250 0 [(0, .ref a), (1, .int x), (2, .int y), (3, .int z)] []
  refine z_dom (fun hD0 => ?_)
  refine z_iload_n hb dX2_addRow_0 rfl ?_
  refine z_callTf (b' := 19) (f' := 244) (rest := []) (av := [.int x]) (z_siteSN hb ho q1131 q1132 q94 ⟨_, _, _, _, zk_X1_groupNumber⟩ zy_X1_groupNumber zl_X1_groupNumber dX2_addRow_1 : z_Site M _ _ _ _ _ ([.int x].reverse ++ []) [] _) zk_X1_groupNumber q94 hrm (z_C.tf (m_X1_groupNumber_no hx)) (by omega) (by decide) (Nat.le_of_ble_eq_true rfl) (by omega) (by omega) (fun q_1 n_2 hq_1 hn_2 => ?_)
  exact z_out ho hH zc27 z_up_s (by omega) (fun _ h => nomatch h) (by rw [hQ]; exact ⟨_, rfl, by omega, by omega, rfl⟩)

set_option maxHeartbeats 1000000 in
theorem m_X2_addRow_no2 {l : Launch} {G : zG} {h : zH} {n : Nat} {w : Nat → Int32} {v : Nat → Int64} {R S D a lr ls lv : Nat} {ra sa va : Nat → Nat} {g : Nat} {y z : Int32} (hL : z_Ln G h w v R S D a lr ls lv ra sa va) (hg : g < 5) (hx : decide (nI 0 ≤ y ∧ y ≤ nI 6) = false) : z_C l G yX2_addRow 33 20 250 [.ref a, .int (nI (97 + g)), .int y, .int z] h n (z_tf 27 [] h n) := by
  refine z_start zk_X2_addRow zpl_RX2 (Nat.le_of_ble_eq_true rfl) ?_
  intro hn0 M hl hG ho hb hN hr hm hH hrm hQ
  subst hl hG
  have ho : zm_o M = RX2 := ho
  obtain ⟨h1, ⟨e0, N0, m0, f0, r1, r2, r3, ⟨r4, r4n⟩, r5⟩, ⟨e, N, m9, f, h3, h4, h5, ⟨h6, h6n⟩, h7⟩, ⟨ev, Nv, mv, fv, v1, v2, v3, ⟨v4, v4n⟩, v5⟩, h9, hs, hv, hi, hrI⟩ := id hL
  show z_V M h n 20 250 0 [(0, .ref a), (1, .int (nI (97 + g))), (2, .int y), (3, .int z)] []
  refine z_dom (fun hD0 => ?_)
  refine z_iload_n hb dX2_addRow_0 rfl ?_
  refine z_call1 (b' := 19) (f' := 244) (rest := []) (av := [.int (nI (97 + g))]) (z_siteSN hb ho q1131 q1132 q94 ⟨_, _, _, _, zk_X1_groupNumber⟩ zy_X1_groupNumber zl_X1_groupNumber dX2_addRow_1 : z_Site M _ _ _ _ _ ([.int (nI (97 + g))].reverse ++ []) [] _) zk_X1_groupNumber q94 hrm (m_X1_groupNumber_ok hg) (by omega) (by decide) (Nat.le_of_ble_eq_true rfl) (by omega) (by omega) ?_
  refine z_istore (lv' := [(4, .int (nI g)), (0, .ref a), (1, .int (nI (97 + g))), (2, .int y), (3, .int z)]) hb dX2_addRow_4 (by rw [hN]; decide) rfl ?_
  refine z_iload_n hb dX2_addRow_6 rfl ?_
  refine z_iconst (x := nI 0) hb dX2_addRow_7 (by decide) ?_
  refine z_bipush (x := nI 6) hb dX2_addRow_8 (by decide) ?_
  refine z_callC0 (b' := 18) (f' := 238) (rest := []) (av := [.int y, .int (nI 0), .int (nI 6)]) (z_siteSN hb ho q1148 q1135 q94 ⟨_, _, _, _, zk_X1_requireRange⟩ zy_X1_requireRange zl_X1_requireRange dX2_addRow_10 : z_Site M _ _ _ _ _ ([.int y, .int (nI 0), .int (nI 6)].reverse ++ []) [] _) zk_X1_requireRange q94 hrm (m_X1_requireRange y (nI 0) (nI 6)) (by omega) (by decide) (Nat.le_of_ble_eq_true rfl) (by omega) (by omega) (fun c_10 => ?_) (fun c_10 => ?_)
  · rw [hx] at c_10; cases c_10
  · exact z_out ho hH zc27 z_up_s (by omega) (fun _ h => nomatch h) (by rw [hQ]; exact ⟨_, rfl, by omega, Nat.lt_succ_self _, rfl⟩)

set_option maxHeartbeats 1000000 in
theorem m_X2_addRow_no3 {l : Launch} {G : zG} {h : zH} {n : Nat} {w : Nat → Int32} {v : Nat → Int64} {R S D a lr ls lv : Nat} {ra sa va : Nat → Nat} {g d : Nat} {z : Int32} (hL : z_Ln G h w v R S D a lr ls lv ra sa va) (hg : g < 5) (hd6 : d ≤ 6) (hx : decide (nI 0 ≤ z ∧ z ≤ nI 99) = false) : z_C l G yX2_addRow 33 20 250 [.ref a, .int (nI (97 + g)), .int (nI d), .int z] h n (z_tf 27 [] h n) := by
  refine z_start zk_X2_addRow zpl_RX2 (Nat.le_of_ble_eq_true rfl) ?_
  intro hn0 M hl hG ho hb hN hr hm hH hrm hQ
  subst hl hG
  have ho : zm_o M = RX2 := ho
  obtain ⟨h1, ⟨e0, N0, m0, f0, r1, r2, r3, ⟨r4, r4n⟩, r5⟩, ⟨e, N, m9, f, h3, h4, h5, ⟨h6, h6n⟩, h7⟩, ⟨ev, Nv, mv, fv, v1, v2, v3, ⟨v4, v4n⟩, v5⟩, h9, hs, hv, hi, hrI⟩ := id hL
  show z_V M h n 20 250 0 [(0, .ref a), (1, .int (nI (97 + g))), (2, .int (nI d)), (3, .int z)] []
  refine z_dom (fun hD0 => ?_)
  refine z_iload_n hb dX2_addRow_0 rfl ?_
  refine z_call1 (b' := 19) (f' := 244) (rest := []) (av := [.int (nI (97 + g))]) (z_siteSN hb ho q1131 q1132 q94 ⟨_, _, _, _, zk_X1_groupNumber⟩ zy_X1_groupNumber zl_X1_groupNumber dX2_addRow_1 : z_Site M _ _ _ _ _ ([.int (nI (97 + g))].reverse ++ []) [] _) zk_X1_groupNumber q94 hrm (m_X1_groupNumber_ok hg) (by omega) (by decide) (Nat.le_of_ble_eq_true rfl) (by omega) (by omega) ?_
  refine z_istore (lv' := [(4, .int (nI g)), (0, .ref a), (1, .int (nI (97 + g))), (2, .int (nI d)), (3, .int z)]) hb dX2_addRow_4 (by rw [hN]; decide) rfl ?_
  refine z_iload_n hb dX2_addRow_6 rfl ?_
  refine z_iconst (x := nI 0) hb dX2_addRow_7 (by decide) ?_
  refine z_bipush (x := nI 6) hb dX2_addRow_8 (by decide) ?_
  refine z_callC0 (b' := 18) (f' := 238) (rest := []) (av := [.int (nI d), .int (nI 0), .int (nI 6)]) (z_siteSN hb ho q1148 q1135 q94 ⟨_, _, _, _, zk_X1_requireRange⟩ zy_X1_requireRange zl_X1_requireRange dX2_addRow_10 : z_Site M _ _ _ _ _ ([.int (nI d), .int (nI 0), .int (nI 6)].reverse ++ []) [] _) zk_X1_requireRange q94 hrm (m_X1_requireRange (nI d) (nI 0) (nI 6)) (by omega) (by decide) (Nat.le_of_ble_eq_true rfl) (by omega) (by omega) (fun c_10 => ?_) (fun c_10 => ?_)
  · refine z_iload_n hb dX2_addRow_13 rfl ?_
    refine z_iconst (x := nI 0) hb dX2_addRow_14 (by decide) ?_
    refine z_bipush (x := nI 99) hb dX2_addRow_15 (by decide) ?_
    refine z_callC0 (b' := 17) (f' := 232) (rest := []) (av := [.int z, .int (nI 0), .int (nI 99)]) (z_siteSN hb ho q1148 q1135 q94 ⟨_, _, _, _, zk_X1_requireRange⟩ zy_X1_requireRange zl_X1_requireRange dX2_addRow_17 : z_Site M _ _ _ _ _ ([.int z, .int (nI 0), .int (nI 99)].reverse ++ []) [] _) zk_X1_requireRange q94 hrm (m_X1_requireRange z (nI 0) (nI 99)) (by omega) (by decide) (Nat.le_of_ble_eq_true rfl) (by omega) (by omega) (fun c_17 => ?_) (fun c_17 => ?_)
    · rw [hx] at c_17; cases c_17
    · exact z_out ho hH zc27 z_up_s (by omega) (fun _ h => nomatch h) (by rw [hQ]; exact ⟨_, rfl, by omega, Nat.lt_succ_self _, rfl⟩)
  · exact absurd c_10 (by rw [show decide (nI 0 ≤ nI d ∧ nI d ≤ nI 6) = true from z_inN (by omega) (by omega) (by omega)]; exact Bool.noConfusion)

set_option maxHeartbeats 1000000 in
theorem m_X2_addRow_no4 {l : Launch} {G : zG} {h : zH} {n : Nat} {w : Nat → Int32} {v : Nat → Int64} {R S D a lr ls lv : Nat} {ra sa va : Nat → Nat} {g d c : Nat} (hL : z_Ln G h w v R S D a lr ls lv ra sa va) (hD6 : D ≤ 6) (hg : g < 5) (hd6 : d ≤ 6) (hc9 : c ≤ 99) (hdD : D < d) : z_C l G yX2_addRow 33 20 250 [.ref a, .int (nI (97 + g)), .int (nI d), .int (nI c)] h n (z_tf 5 [.null, .null, .null, .null, .null, .int (nI 0), .int (nI 2), .int (nI D)] h n) := by
  refine z_start zk_X2_addRow zpl_RX2 (Nat.le_of_ble_eq_true rfl) ?_
  intro hn0 M hl hG ho hb hN hr hm hH hrm hQ
  subst hl hG
  have ho : zm_o M = RX2 := ho
  obtain ⟨h1, ⟨e0, N0, m0, f0, r1, r2, r3, ⟨r4, r4n⟩, r5⟩, ⟨e, N, m9, f, h3, h4, h5, ⟨h6, h6n⟩, h7⟩, ⟨ev, Nv, mv, fv, v1, v2, v3, ⟨v4, v4n⟩, v5⟩, h9, hs, hv, hi, hrI⟩ := id hL
  show z_V M h n 20 250 0 [(0, .ref a), (1, .int (nI (97 + g))), (2, .int (nI d)), (3, .int (nI c))] []
  refine z_dom (fun hD0 => ?_)
  refine z_iload_n hb dX2_addRow_0 rfl ?_
  refine z_call1 (b' := 19) (f' := 244) (rest := []) (av := [.int (nI (97 + g))]) (z_siteSN hb ho q1131 q1132 q94 ⟨_, _, _, _, zk_X1_groupNumber⟩ zy_X1_groupNumber zl_X1_groupNumber dX2_addRow_1 : z_Site M _ _ _ _ _ ([.int (nI (97 + g))].reverse ++ []) [] _) zk_X1_groupNumber q94 hrm (m_X1_groupNumber_ok hg) (by omega) (by decide) (Nat.le_of_ble_eq_true rfl) (by omega) (by omega) ?_
  refine z_istore (lv' := [(4, .int (nI g)), (0, .ref a), (1, .int (nI (97 + g))), (2, .int (nI d)), (3, .int (nI c))]) hb dX2_addRow_4 (by rw [hN]; decide) rfl ?_
  refine z_iload_n hb dX2_addRow_6 rfl ?_
  refine z_iconst (x := nI 0) hb dX2_addRow_7 (by decide) ?_
  refine z_bipush (x := nI 6) hb dX2_addRow_8 (by decide) ?_
  refine z_callC0 (b' := 18) (f' := 238) (rest := []) (av := [.int (nI d), .int (nI 0), .int (nI 6)]) (z_siteSN hb ho q1148 q1135 q94 ⟨_, _, _, _, zk_X1_requireRange⟩ zy_X1_requireRange zl_X1_requireRange dX2_addRow_10 : z_Site M _ _ _ _ _ ([.int (nI d), .int (nI 0), .int (nI 6)].reverse ++ []) [] _) zk_X1_requireRange q94 hrm (m_X1_requireRange (nI d) (nI 0) (nI 6)) (by omega) (by decide) (Nat.le_of_ble_eq_true rfl) (by omega) (by omega) (fun c_10 => ?_) (fun c_10 => ?_)
  · refine z_iload_n hb dX2_addRow_13 rfl ?_
    refine z_iconst (x := nI 0) hb dX2_addRow_14 (by decide) ?_
    refine z_bipush (x := nI 99) hb dX2_addRow_15 (by decide) ?_
    refine z_callC0 (b' := 17) (f' := 232) (rest := []) (av := [.int (nI c), .int (nI 0), .int (nI 99)]) (z_siteSN hb ho q1148 q1135 q94 ⟨_, _, _, _, zk_X1_requireRange⟩ zy_X1_requireRange zl_X1_requireRange dX2_addRow_17 : z_Site M _ _ _ _ _ ([.int (nI c), .int (nI 0), .int (nI 99)].reverse ++ []) [] _) zk_X1_requireRange q94 hrm (m_X1_requireRange (nI c) (nI 0) (nI 99)) (by omega) (by decide) (Nat.le_of_ble_eq_true rfl) (by omega) (by omega) (fun c_17 => ?_) (fun c_17 => ?_)
    · refine z_iload_n hb dX2_addRow_20 rfl ?_
      refine z_aload_n hb dX2_addRow_21 rfl ?_
      refine z_get (k := 3) (C := RX2) (T := TX2) (N := 8) hb ho zc1 in_X2 (zf_RX2_54 _) dX2_addRow_22 h1 (by decide) rfl ?_
      refine z_icmp_gtN (tgt := 32) hb dX2_addRow_25 (by decide) (by omega) (by omega) (fun c_25 => ?_) (fun c_25 => ?_)
      · refine z_iconst (x := nI 0) hb dX2_addRow_32 (by decide) ?_
        refine z_iconst (x := nI 2) hb dX2_addRow_33 (by decide) ?_
        refine z_aload_n hb dX2_addRow_34 rfl ?_
        refine z_get (k := 3) (C := RX2) (T := TX2) (N := 8) hb ho zc1 in_X2 (zf_RX2_54 _) dX2_addRow_35 h1 (by decide) rfl ?_
        refine z_callTf (b' := 16) (f' := 224) (rest := []) (av := [.int (nI 0), .int (nI 2), .int (nI D)]) (z_siteSN hb ho q1149 q1150 q94 ⟨_, _, _, _, zk_X1_denyUnless⟩ zy_X1_denyUnless zl_X1_denyUnless dX2_addRow_38 : z_Site M _ _ _ _ _ ([.int (nI 0), .int (nI 2), .int (nI D)].reverse ++ []) [] _) zk_X1_denyUnless q94 hrm (z_C.tf (m_X1_denyUnless_f (nI 2) (nI D))) (by omega) (by decide) (Nat.le_of_ble_eq_true rfl) (by omega) (by omega) (fun q_1 n_2 hq_1 hn_2 => ?_)
        exact z_out ho hH zc5 z_up_s (by omega) (fun _ h => nomatch h) (by rw [hQ]; exact ⟨_, rfl, by omega, by omega, rfl⟩)
      · exact absurd c_25 (by omega)
    · exact absurd c_17 (by rw [show decide (nI 0 ≤ nI c ∧ nI c ≤ nI 99) = true from z_inN (by omega) (by omega) (by omega)]; exact Bool.noConfusion)
  · exact absurd c_10 (by rw [show decide (nI 0 ≤ nI d ∧ nI d ≤ nI 6) = true from z_inN (by omega) (by omega) (by omega)]; exact Bool.noConfusion)

set_option maxHeartbeats 1000000 in
theorem m_X2_addRow_no5 {l : Launch} {G : zG} {h : zH} {n : Nat} {w : Nat → Int32} {v : Nat → Int64} {R S D a lr ls lv : Nat} {ra sa va : Nat → Nat} {g d c : Nat} (hL : z_Ln G h w v R S D a lr ls lv ra sa va) (hD6 : D ≤ 6) (hg : g < 5) (hdD : d ≤ D) (hc9 : c ≤ 99) (hR40 : R = 40) : z_C l G yX2_addRow 33 20 250 [.ref a, .int (nI (97 + g)), .int (nI d), .int (nI c)] h n (z_tf 5 [.null, .null, .null, .null, .null, .int (nI 0), .int (nI 1), .int (nI 40)] h n) := by
  refine z_start zk_X2_addRow zpl_RX2 (Nat.le_of_ble_eq_true rfl) ?_
  intro hn0 M hl hG ho hb hN hr hm hH hrm hQ
  subst hl hG
  have ho : zm_o M = RX2 := ho
  obtain ⟨h1, ⟨e0, N0, m0, f0, r1, r2, r3, ⟨r4, r4n⟩, r5⟩, ⟨e, N, m9, f, h3, h4, h5, ⟨h6, h6n⟩, h7⟩, ⟨ev, Nv, mv, fv, v1, v2, v3, ⟨v4, v4n⟩, v5⟩, h9, hs, hv, hi, hrI⟩ := id hL
  show z_V M h n 20 250 0 [(0, .ref a), (1, .int (nI (97 + g))), (2, .int (nI d)), (3, .int (nI c))] []
  refine z_dom (fun hD0 => ?_)
  refine z_iload_n hb dX2_addRow_0 rfl ?_
  refine z_call1 (b' := 19) (f' := 244) (rest := []) (av := [.int (nI (97 + g))]) (z_siteSN hb ho q1131 q1132 q94 ⟨_, _, _, _, zk_X1_groupNumber⟩ zy_X1_groupNumber zl_X1_groupNumber dX2_addRow_1 : z_Site M _ _ _ _ _ ([.int (nI (97 + g))].reverse ++ []) [] _) zk_X1_groupNumber q94 hrm (m_X1_groupNumber_ok hg) (by omega) (by decide) (Nat.le_of_ble_eq_true rfl) (by omega) (by omega) ?_
  refine z_istore (lv' := [(4, .int (nI g)), (0, .ref a), (1, .int (nI (97 + g))), (2, .int (nI d)), (3, .int (nI c))]) hb dX2_addRow_4 (by rw [hN]; decide) rfl ?_
  refine z_iload_n hb dX2_addRow_6 rfl ?_
  refine z_iconst (x := nI 0) hb dX2_addRow_7 (by decide) ?_
  refine z_bipush (x := nI 6) hb dX2_addRow_8 (by decide) ?_
  refine z_callC0 (b' := 18) (f' := 238) (rest := []) (av := [.int (nI d), .int (nI 0), .int (nI 6)]) (z_siteSN hb ho q1148 q1135 q94 ⟨_, _, _, _, zk_X1_requireRange⟩ zy_X1_requireRange zl_X1_requireRange dX2_addRow_10 : z_Site M _ _ _ _ _ ([.int (nI d), .int (nI 0), .int (nI 6)].reverse ++ []) [] _) zk_X1_requireRange q94 hrm (m_X1_requireRange (nI d) (nI 0) (nI 6)) (by omega) (by decide) (Nat.le_of_ble_eq_true rfl) (by omega) (by omega) (fun c_10 => ?_) (fun c_10 => ?_)
  · refine z_iload_n hb dX2_addRow_13 rfl ?_
    refine z_iconst (x := nI 0) hb dX2_addRow_14 (by decide) ?_
    refine z_bipush (x := nI 99) hb dX2_addRow_15 (by decide) ?_
    refine z_callC0 (b' := 17) (f' := 232) (rest := []) (av := [.int (nI c), .int (nI 0), .int (nI 99)]) (z_siteSN hb ho q1148 q1135 q94 ⟨_, _, _, _, zk_X1_requireRange⟩ zy_X1_requireRange zl_X1_requireRange dX2_addRow_17 : z_Site M _ _ _ _ _ ([.int (nI c), .int (nI 0), .int (nI 99)].reverse ++ []) [] _) zk_X1_requireRange q94 hrm (m_X1_requireRange (nI c) (nI 0) (nI 99)) (by omega) (by decide) (Nat.le_of_ble_eq_true rfl) (by omega) (by omega) (fun c_17 => ?_) (fun c_17 => ?_)
    · refine z_iload_n hb dX2_addRow_20 rfl ?_
      refine z_aload_n hb dX2_addRow_21 rfl ?_
      refine z_get (k := 3) (C := RX2) (T := TX2) (N := 8) hb ho zc1 in_X2 (zf_RX2_54 _) dX2_addRow_22 h1 (by decide) rfl ?_
      refine z_icmp_gtN (tgt := 32) hb dX2_addRow_25 (by decide) (by omega) (by omega) (fun c_25 => ?_) (fun c_25 => ?_)
      · exact absurd c_25 (by omega)
      · refine z_iconst (x := nI 1) hb dX2_addRow_28 (by decide) ?_
        refine z_goto (tgt := 33) hb dX2_addRow_29 (by decide) ?_
        refine z_iconst (x := nI 2) hb dX2_addRow_33 (by decide) ?_
        refine z_aload_n hb dX2_addRow_34 rfl ?_
        refine z_get (k := 3) (C := RX2) (T := TX2) (N := 8) hb ho zc1 in_X2 (zf_RX2_54 _) dX2_addRow_35 h1 (by decide) rfl ?_
        refine z_call0 (b' := 16) (f' := 224) (rest := []) (av := [.int (nI 1), .int (nI 2), .int (nI D)]) (z_siteSN hb ho q1149 q1150 q94 ⟨_, _, _, _, zk_X1_denyUnless⟩ zy_X1_denyUnless zl_X1_denyUnless dX2_addRow_38 : z_Site M _ _ _ _ _ ([.int (nI 1), .int (nI 2), .int (nI D)].reverse ++ []) [] _) zk_X1_denyUnless q94 hrm ((m_X1_denyUnless_t (nI 2) (nI D))) (by omega) (by decide) (Nat.le_of_ble_eq_true rfl) (by omega) (by omega) ?_
        refine z_aload_n hb dX2_addRow_41 rfl ?_
        refine z_get (k := 0) (C := RX2) (T := TX2) (N := 8) hb ho zc1 in_X2 (zf_RX2_12 _) dX2_addRow_42 h1 (by decide) rfl ?_
        refine z_call1 (b' := 16) (f' := 224) (rest := []) (av := [.ref lr]) (z_siteF hb ho zc20 r1 q1183 zx0 q322 q324 q325 q323 q321 zxl0 dX2_addRow_45 : z_Site M _ _ _ _ _ ([].reverse ++ .ref lr :: []) [] _) zk_J2_size q98 hrm (m_J2_size r1) (by omega) (by decide) (Nat.le_of_ble_eq_true rfl) (by omega) (by omega) ?_
        refine z_bipush (x := nI 40) hb dX2_addRow_50 (by decide) ?_
        refine z_icmp_geN (tgt := 59) hb dX2_addRow_52 (by decide) (by omega) (by omega) (fun c_52 => ?_) (fun c_52 => ?_)
        · refine z_iconst (x := nI 0) hb dX2_addRow_59 (by decide) ?_
          refine z_iconst (x := nI 1) hb dX2_addRow_60 (by decide) ?_
          refine z_bipush (x := nI 40) hb dX2_addRow_61 (by decide) ?_
          refine z_callTf (b' := 15) (f' := 216) (rest := []) (av := [.int (nI 0), .int (nI 1), .int (nI 40)]) (z_siteSN hb ho q1149 q1150 q94 ⟨_, _, _, _, zk_X1_denyUnless⟩ zy_X1_denyUnless zl_X1_denyUnless dX2_addRow_63 : z_Site M _ _ _ _ _ ([.int (nI 0), .int (nI 1), .int (nI 40)].reverse ++ []) [] _) zk_X1_denyUnless q94 hrm (z_C.tf (m_X1_denyUnless_f (nI 1) (nI 40))) (by omega) (by decide) (Nat.le_of_ble_eq_true rfl) (by omega) (by omega) (fun q_1 n_2 hq_1 hn_2 => ?_)
          exact z_out ho hH zc5 z_up_s (by omega) (fun _ h => nomatch h) (by rw [hQ]; exact ⟨_, rfl, by omega, by omega, rfl⟩)
        · exact absurd c_52 (by omega)
    · exact absurd c_17 (by rw [show decide (nI 0 ≤ nI c ∧ nI c ≤ nI 99) = true from z_inN (by omega) (by omega) (by omega)]; exact Bool.noConfusion)
  · exact absurd c_10 (by rw [show decide (nI 0 ≤ nI d ∧ nI d ≤ nI 6) = true from z_inN (by omega) (by omega) (by omega)]; exact Bool.noConfusion)

