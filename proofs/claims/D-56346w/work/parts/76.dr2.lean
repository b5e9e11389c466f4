theorem z_frW {P : Nat → Prop} {h h1 h2 : zH} {n0 b : Nat} {c : va_E} (d : z_dm h n0) (hb : n0 ≤ b) (e : h2 = z_up h1 b c) (a : z_fr P h h1) : z_fr P h h2 := fun x y q l => by
  have q1 := a x y q l
  have := d x y q
  rw [e, z_up_n (by omega)]
  exact q1
theorem z_neXol {G : zG} {h : zH} {x y n m : Nat} {F : Nat → Option Nat} {Z : Nat → Int64} (a : h x = some (z_ao G n F)) (b : h y = some (z_al G m Z)) : x ≠ y := fun z => by rw [z, b] at a; exact z_xLO a
theorem z_neXoz {G : zG} {h : zH} {x y n m : Nat} {F : Nat → Option Nat} {Z : Nat → Int32} (a : h x = some (z_ao G n F)) (b : h y = some (z_az G m Z)) : x ≠ y := fun z => by rw [z, b] at a; exact z_xZO a
theorem z_neXzl {G : zG} {h : zH} {x y n m : Nat} {F : Nat → Int32} {Z : Nat → Int64} (a : h x = some (z_az G n F)) (b : h y = some (z_al G m Z)) : x ≠ y := fun z => by rw [z, b] at a; exact z_xLZ a
theorem z_neXlz {G : zG} {h : zH} {x y n m : Nat} {F : Nat → Int64} {Z : Nat → Int32} (a : h x = some (z_al G n F)) (b : h y = some (z_az G m Z)) : x ≠ y := (z_neXzl b a).symm
theorem z_neXlo {G : zG} {h : zH} {x y n m : Nat} {Z : Nat → Option Nat} {F : Nat → Int64} (a : h x = some (z_al G n F)) (b : h y = some (z_ao G m Z)) : x ≠ y := (z_neXol b a).symm
theorem z_neXzo {G : zG} {h : zH} {x y n m : Nat} {Z : Nat → Option Nat} {F : Nat → Int32} (a : h x = some (z_az G n F)) (b : h y = some (z_ao G m Z)) : x ≠ y := (z_neXoz b a).symm
theorem z_Dr.sp {G : zG} {h : zH} {b0 : Nat} {w : Nat → Int32} {v : Nat → Int64} {R S D a lr er ls es lv ev : Nat} {ra sa va na ba : Nat → Nat} (q : z_Dr G h b0 w v R S D a lr er ls es lv ev ra sa va na ba) : ∀ k, k < S → z_Sp h w sa k := q.2.2.2.2.2.2.2.1
theorem z_Dr.vx {G : zG} {h : zH} {b0 : Nat} {w : Nat → Int32} {v : Nat → Int64} {R S D a lr er ls es lv ev : Nat} {ra sa va na ba : Nat → Nat} (q : z_Dr G h b0 w v R S D a lr er ls es lv ev ra sa va na ba) {k : Nat} (hk : k < S) : z_Vx G h b0 w v D va na ba k := q.2.2.2.2.2.2.2.2.1 k hk
theorem z_Dr.ob {G : zG} {h : zH} {b0 : Nat} {w : Nat → Int32} {v : Nat → Int64} {R S D a lr er ls es lv ev : Nat} {ra sa va na ba : Nat → Nat} (q : z_Dr G h b0 w v R S D a lr er ls es lv ev ra sa va na ba) {k : Nat} (hk : k < S) : h (va k) = some (.inr (3, [.ref (na k), .ref (ba k)])) := (q.vx hk).2.2.2.1

set_option maxHeartbeats 1000000 in
theorem m_X2_computePartition {l : Launch} {G : zG} {h : zH} {n : Nat} {b0 : Nat} {w : Nat → Int32} {v : Nat → Int64} {R S D a lr er ls es lv ev : Nat} {ra sa va na ba : Nat → Nat} {k d : Nat} (hDr : z_Dr G h b0 w v R S D a lr er ls es lv ev ra sa va na ba) (hb0 : z_n0 G ≤ b0) (hR4 : R ≤ 40) (hS8 : S ≤ 8) (hD6 : D ≤ 6) (hk : k < S) (hd : d ≤ D) : z_C l G yX2_computePartition 9 5 20 [.ref a, .ref (sa k), .int (nI d)] h n (z_q0 (fun h' n' => z_Dr G h' b0 w (tw_comp w R k d v 5) R S D a lr er ls es lv ev ra sa va na ba ∧ z_fr (z_VA na ba S) h h')) := by
  refine z_start zk_X2_computePartition zpl_RX2 (Nat.le_of_ble_eq_true rfl) ?_
  intro hn0 M hl hG ho hb hN hr hm hH hrm hQ
  subst hl hG
  have ho : zm_o M = RX2 := ho
  obtain ⟨⟨ha0, h1⟩, ⟨lr0, lr1, N0, m0, f0, r1, r2, r3, r4, r4b, r5⟩, ⟨ls0, ls1, N, m9, f, h3, h4, h5, h6, h6b, h7⟩, ⟨lv0, lv1, Nv, mv, fv, v1, v2, v3, v4, v4b, v5⟩, hne, hse, h9, hs, hvx, hi, hrI, hna, hba⟩ := id hDr
  have r4N := r4.le
  have h6N := h6.le
  have v4N := v4.le
  show z_V M h n 5 20 0 [(0, .ref a), (1, .ref (sa k)), (2, .int (nI d))] []
  refine z_dom (fun hD0 => ?_)
  refine z_aload_n hb dX2_computePartition_0 rfl ?_
  refine z_aload_n hb dX2_computePartition_1 rfl ?_
  refine z_callN1 (b' := 5) (f' := 20) (rest := []) (av := [.ref a, .ref (sa k)]) (z_siteV hb ho zc1 h1 q596 q597 q598 ⟨_, _, _, _, zk_X2_viewOf⟩ zy_X2_viewOf zl_X2_viewOf dX2_computePartition_2 : z_Site M _ _ _ _ _ ([.ref (sa k)].reverse ++ .ref a :: []) [] _) zk_X2_viewOf q95 hrm (z_C.rn (m_X2_viewOf hDr.ln hk hS8)) (by omega) (by decide) (Nat.le_of_ble_eq_true rfl) (by omega) (by omega) (fun n_1 hn_1 => ?_)
  have k_2 := hDr.ob hk
  refine z_astore_n (lv' := [(3, .ref (va k)), (0, .ref a), (1, .ref (sa k)), (2, .int (nI d))]) hb dX2_computePartition_5 (by rw [hN]; decide) rfl ?_
  refine z_iconst (x := nI 0) hb dX2_computePartition_6 (by decide) ?_
  refine z_istore (lv' := [(4, .int (nI 0)), (3, .ref (va k)), (0, .ref a), (1, .ref (sa k)), (2, .int (nI d))]) hb dX2_computePartition_7 (by rw [hN]; decide) rfl ?_
  have lp_9 : ∀ (k9_9 : Nat) (g : Nat) (nn : Nat) (hh : zH), 6 - g < k9_9 → (g ≤ 5) → (n_1 ≤ nn) → (z_Dr (zm_G M) hh b0 w (tw_comp w R k d v g) R S D a lr er ls es lv ev ra sa va na ba) → (z_fr (z_VA na ba S) h hh) → z_V M hh nn (5 - g) (4 * (5 - g)) 9 [(4, .int (nI g)), (3, .ref (va k)), (0, .ref a), (1, .ref (sa k)), (2, .int (nI d))] [] := by
    intro k9_9
    induction k9_9 with
    | zero => intro g nn hh hk9_9; exact absurd hk9_9 (Nat.not_lt_zero _)
    | succ k9_9 ih_9 =>
      intro g nn hh hk9_9 hg5 hnn hDj hFr
      refine z_iload hb dX2_computePartition_9 rfl ?_
      refine z_iconst (x := nI 5) hb dX2_computePartition_11 (by decide) ?_
      refine z_icmp_geN (tgt := 44) hb dX2_computePartition_12 (by decide) (by omega) (by omega) (fun c_12 => ?_) (fun c_12 => ?_)
      · refine z_vret hb hr dX2_computePartition_44 ?_
        rw [hQ]
        obtain rfl : g = 5 := by omega
        exact ⟨rfl, hDj, hFr⟩
      · refine z_aload_n hb dX2_computePartition_15 rfl ?_
        refine z_get (k := 0) (C := RX4) (T := TX4) (N := 2) hb ho zc3 in_X4 (zf_RX2_93 _) dX2_computePartition_16 (hFr _ _ k_2 (hDr.nO k_2)) (by decide) rfl ?_
        refine z_iload_n hb dX2_computePartition_19 rfl ?_
        refine z_iload hb dX2_computePartition_20 rfl ?_
        refine z_call1 (b' := 5 - g) (f' := 4 * (5 - g)) (rest := [.ref (na k)]) (av := [.int (nI d), .int (nI g)]) (z_siteSN hb ho q678 q679 q94 ⟨_, _, _, _, zk_X1_place⟩ zy_X1_place zl_X1_place dX2_computePartition_22 : z_Site M _ _ _ _ _ ([.int (nI d), .int (nI g)].reverse ++ [.ref (na k)]) [.ref (na k)] _) zk_X1_place q94 hrm (m_X1_place d g) (by omega) (by decide) (Nat.le_of_ble_eq_true rfl) (by omega) (by omega) ?_
        refine z_aload_n hb dX2_computePartition_25 rfl ?_
        refine z_aload_n hb dX2_computePartition_26 rfl ?_
        refine z_get (k := 0) (C := RX2) (T := TX2) (N := 8) hb ho zc1 in_X2 (zf_RX2_12 _) dX2_computePartition_27 (hFr _ _ h1 (hDr.nO h1)) (by decide) rfl ?_
        refine z_aload_n hb dX2_computePartition_30 rfl ?_
        refine z_iload_n hb dX2_computePartition_31 rfl ?_
        refine z_iload hb dX2_computePartition_32 rfl ?_
        have J_37 : ∀ n_3 : Nat, nn ≤ n_3 → z_V M hh n_3 ((5 - g) - 1) ((4 * (5 - g)) - 4) 37 [(4, .int (nI g)), (3, .ref (va k)), (0, .ref a), (1, .ref (sa k)), (2, .int (nI d))] [.long (tw_made w (tw_comp w R k d v g) R k d g), .int (nI (5 * d + g)), .ref (na k)] := by
          intro n_3 hn_3
          obtain ⟨hbv3, hbn3, hbb3, hvo3, F3, Z3, hF3, hZ3, hFv3, hZv3, hZb3⟩ := hDj.vx hk
          refine z_last (j := 5 * d + g) hb dX2_computePartition_37 hF3 (Nat.le_trans hb0 hbn3) rfl (by omega) (by omega) ?_
          refine z_hn (fun h_5 eh_5 => ?_)
          have eh_5 : h_5 = z_up hh (na k) (.inl ((zm_G M).2.1 1, 35, .inr (.inl (va_up F3 (5 * d + g) (tw_made w (tw_comp w R k d v g) R k d g))))) := eh_5
          have k_6 : h_5 a = some (.inr (1, [.ref lr, .ref ls, .ref lv, .int (nI D), .int (w 2), .int (w 4), .int (w 5), .int (w 6)])) := z_nx eh_5 (z_neA (hFr _ _ h1 (hDr.nO h1)) hF3) (hFr _ _ h1 (hDr.nO h1))
          have k_7 : h_5 lr = some (.inr (20, [.int m0, .ref er, .int (nI R)])) := z_nx eh_5 (z_neA (hFr _ _ r1 (hDr.nO r1)) hF3) (hFr _ _ r1 (hDr.nO r1))
          have k_8 : h_5 er = some (.inl ((zm_G M).2.1 5, N0, .inr (.inr (.inr (.inr f0))))) := z_nx eh_5 (z_neXol (hFr _ _ r2 (hDr.nA r2)) hF3) (hFr _ _ r2 (hDr.nA r2))
          have k_9 : h_5 ls = some (.inr (20, [.int m9, .ref es, .int (nI S)])) := z_nx eh_5 (z_neA (hFr _ _ h3 (hDr.nO h3)) hF3) (hFr _ _ h3 (hDr.nO h3))
          have k_10 : h_5 es = some (.inl ((zm_G M).2.1 5, N, .inr (.inr (.inr (.inr f))))) := z_nx eh_5 (z_neXol (hFr _ _ h4 (hDr.nA h4)) hF3) (hFr _ _ h4 (hDr.nA h4))
          have k_11 : h_5 lv = some (.inr (20, [.int mv, .ref ev, .int (nI S)])) := z_nx eh_5 (z_neA (hFr _ _ v1 (hDr.nO v1)) hF3) (hFr _ _ v1 (hDr.nO v1))
          have k_12 : h_5 ev = some (.inl ((zm_G M).2.1 5, Nv, .inr (.inr (.inr (.inr fv))))) := z_nx eh_5 (z_neXol (hFr _ _ v2 (hDr.nA v2)) hF3) (hFr _ _ v2 (hDr.nA v2))
          have k_13 : h_5 (va k) = some (.inr (3, [.ref (na k), .ref (ba k)])) := z_nx eh_5 (z_neA (hFr _ _ k_2 (hDr.nO k_2)) hF3) (hFr _ _ k_2 (hDr.nO k_2))
          have hq_14 := hDj.num hR4 hS8 hD6 hk hd (show g < 5 by omega) hF3 eh_5
          refine z_iinc (k0 := 0) (lv' := [(4, .int (nI (g + 1))), (3, .ref (va k)), (0, .ref a), (1, .ref (sa k)), (2, .int (nI d))]) hb dX2_computePartition_38 rfl (nI_1 g) (by rw [hN]; decide) rfl ?_
          refine z_goto (tgt := 9) hb dX2_computePartition_41 (by decide) ?_
          refine z_lv [0, 1, 2, 3, 4] (lv' := [(4, .int (nI (g + 1))), (3, .ref (va k)), (0, .ref a), (1, .ref (sa k)), (2, .int (nI d))]) rfl ?_
          exact z_bf (by omega) (by omega) (ih_9 (g + 1) n_3 h_5 (by omega) (by omega) (by omega) hq_14.1 (hFr.t hq_14.2))
        rcases hDj.sp k hk with ⟨q1, q9⟩ | ⟨q1, q9⟩ | ⟨q1, q9⟩ | ⟨q1, q2, q3, q9⟩ | ⟨q1, q2, q3, q9⟩ | ⟨q1, q2, q3, q9⟩ | ⟨q1, q2, q3, q9⟩
        · refine z_callN1 (b' := (5 - g) - 1) (f' := (4 * (5 - g)) - 4) (rest := [.int (nI (5 * d + g)), .ref (na k)]) (av := [.ref (sa k), .ref lr, .ref a, .int (nI d), .int (nI g)]) (z_siteU hb ho zc8 q9 q681 q683 (Or.inl q682) q704 q765 ⟨by decide +kernel, by decide +kernel⟩ (by show _ = some 4; decide +kernel) dX2_computePartition_34 : z_Site M _ _ _ _ _ ([.ref lr, .ref a, .int (nI d), .int (nI g)].reverse ++ .ref (sa k) :: [.int (nI (5 * d + g)), .ref (na k)]) [.int (nI (5 * d + g)), .ref (na k)] _) zk_X10_compute q128 hrm (m_compL hDj.ln hS8 hR4 hD6 hk hd (show g < 5 by omega) _ _ q9 _) (by omega) (by decide) (Nat.le_of_ble_eq_true rfl) (by omega) (by omega) (fun n_15 hn_15 => ?_)
          exact J_37 _ (by omega)
        · refine z_callN1 (b' := (5 - g) - 1) (f' := (4 * (5 - g)) - 4) (rest := [.int (nI (5 * d + g)), .ref (na k)]) (av := [.ref (sa k), .ref lr, .ref a, .int (nI d), .int (nI g)]) (z_siteU hb ho zc9 q9 q681 q683 (Or.inl q682) q704 q761 ⟨by decide +kernel, by decide +kernel⟩ (by show _ = some 4; decide +kernel) dX2_computePartition_34 : z_Site M _ _ _ _ _ ([.ref lr, .ref a, .int (nI d), .int (nI g)].reverse ++ .ref (sa k) :: [.int (nI (5 * d + g)), .ref (na k)]) [.int (nI (5 * d + g)), .ref (na k)] _) zk_X10_compute q128 hrm (m_compL hDj.ln hS8 hR4 hD6 hk hd (show g < 5 by omega) _ _ q9 _) (by omega) (by decide) (Nat.le_of_ble_eq_true rfl) (by omega) (by omega) (fun n_16 hn_16 => ?_)
          exact J_37 _ (by omega)
        · refine z_callN1 (b' := (5 - g) - 1) (f' := (4 * (5 - g)) - 4) (rest := [.int (nI (5 * d + g)), .ref (na k)]) (av := [.ref (sa k), .ref lr, .ref a, .int (nI d), .int (nI g)]) (z_siteU hb ho zc10 q9 q681 q683 (Or.inl q682) q704 q762 ⟨by decide +kernel, by decide +kernel⟩ (by show _ = some 4; decide +kernel) dX2_computePartition_34 : z_Site M _ _ _ _ _ ([.ref lr, .ref a, .int (nI d), .int (nI g)].reverse ++ .ref (sa k) :: [.int (nI (5 * d + g)), .ref (na k)]) [.int (nI (5 * d + g)), .ref (na k)] _) zk_X10_compute q128 hrm (m_compL hDj.ln hS8 hR4 hD6 hk hd (show g < 5 by omega) _ _ q9 _) (by omega) (by decide) (Nat.le_of_ble_eq_true rfl) (by omega) (by omega) (fun n_17 hn_17 => ?_)
          exact J_37 _ (by omega)
        · refine z_callN1 (b' := (5 - g) - 1) (f' := (4 * (5 - g)) - 4) (rest := [.int (nI (5 * d + g)), .ref (na k)]) (av := [.ref (sa k), .ref lr, .ref a, .int (nI d), .int (nI g)]) (z_siteU hb ho zc11 q9 q681 q683 (Or.inl q682) q739 q763 ⟨by decide +kernel, by decide +kernel⟩ (by show _ = some 4; decide +kernel) dX2_computePartition_34 : z_Site M _ _ _ _ _ ([.ref lr, .ref a, .int (nI d), .int (nI g)].reverse ++ .ref (sa k) :: [.int (nI (5 * d + g)), .ref (na k)]) [.int (nI (5 * d + g)), .ref (na k)] _) zk_X14_compute q133 hrm (m_compL hDj.ln hS8 hR4 hD6 hk hd (show g < 5 by omega) _ _ q9 _) (by omega) (by decide) (Nat.le_of_ble_eq_true rfl) (by omega) (by omega) (fun n_18 hn_18 => ?_)
          exact J_37 _ (by omega)
        · refine z_callN1 (b' := (5 - g) - 1) (f' := (4 * (5 - g)) - 4) (rest := [.int (nI (5 * d + g)), .ref (na k)]) (av := [.ref (sa k), .ref lr, .ref a, .int (nI d), .int (nI g)]) (z_siteU hb ho zc11 q9 q681 q683 (Or.inl q682) q739 q763 ⟨by decide +kernel, by decide +kernel⟩ (by show _ = some 4; decide +kernel) dX2_computePartition_34 : z_Site M _ _ _ _ _ ([.ref lr, .ref a, .int (nI d), .int (nI g)].reverse ++ .ref (sa k) :: [.int (nI (5 * d + g)), .ref (na k)]) [.int (nI (5 * d + g)), .ref (na k)] _) zk_X14_compute q133 hrm (m_compL hDj.ln hS8 hR4 hD6 hk hd (show g < 5 by omega) _ _ q9 _) (by omega) (by decide) (Nat.le_of_ble_eq_true rfl) (by omega) (by omega) (fun n_19 hn_19 => ?_)
          exact J_37 _ (by omega)
        · refine z_callN1 (b' := (5 - g) - 1) (f' := (4 * (5 - g)) - 4) (rest := [.int (nI (5 * d + g)), .ref (na k)]) (av := [.ref (sa k), .ref lr, .ref a, .int (nI d), .int (nI g)]) (z_siteU hb ho zc12 q9 q681 q683 (Or.inl q682) q749 q764 ⟨by decide +kernel, by decide +kernel⟩ (by show _ = some 4; decide +kernel) dX2_computePartition_34 : z_Site M _ _ _ _ _ ([.ref lr, .ref a, .int (nI d), .int (nI g)].reverse ++ .ref (sa k) :: [.int (nI (5 * d + g)), .ref (na k)]) [.int (nI (5 * d + g)), .ref (na k)] _) zk_X16_compute q135 hrm (m_compL hDj.ln hS8 hR4 hD6 hk hd (show g < 5 by omega) _ _ q9 _) (by omega) (by decide) (Nat.le_of_ble_eq_true rfl) (by omega) (by omega) (fun n_20 hn_20 => ?_)
          exact J_37 _ (by omega)
        · refine z_callN1 (b' := (5 - g) - 1) (f' := (4 * (5 - g)) - 4) (rest := [.int (nI (5 * d + g)), .ref (na k)]) (av := [.ref (sa k), .ref lr, .ref a, .int (nI d), .int (nI g)]) (z_siteU hb ho zc13 q9 q681 q683 (Or.inl q682) q685 q684 ⟨by decide +kernel, by decide +kernel⟩ (by show _ = some 4; decide +kernel) dX2_computePartition_34 : z_Site M _ _ _ _ _ ([.ref lr, .ref a, .int (nI d), .int (nI g)].reverse ++ .ref (sa k) :: [.int (nI (5 * d + g)), .ref (na k)]) [.int (nI (5 * d + g)), .ref (na k)] _) zk_X17_compute q136 hrm (m_compL hDj.ln hS8 hR4 hD6 hk hd (show g < 5 by omega) _ _ q9 _) (by omega) (by decide) (Nat.le_of_ble_eq_true rfl) (by omega) (by omega) (fun n_21 hn_21 => ?_)
          exact J_37 _ (by omega)
  refine z_lv [0, 1, 2, 3, 4] (lv' := [(4, .int (nI 0)), (3, .ref (va k)), (0, .ref a), (1, .ref (sa k)), (2, .int (nI d))]) rfl ?_
  exact z_bf (by omega) (by omega) (lp_9 _ 0 n_1 h (Nat.lt_succ_self _) (Nat.zero_le _) (by omega) hDr z_fr_r)

set_option maxHeartbeats 1000000 in
theorem m_X2_beginPartition {l : Launch} {G : zG} {h : zH} {n : Nat} {b0 : Nat} {w : Nat → Int32} {v : Nat → Int64} {R S D a lr er ls es lv ev : Nat} {ra sa va na ba : Nat → Nat} {k d : Nat} (hDr : z_Dr G h b0 w v R S D a lr er ls es lv ev ra sa va na ba) (hb0 : z_n0 G ≤ b0) (hR4 : R ≤ 40) (hS8 : S ≤ 8) (hD6 : D ≤ 6) (hk : k < S) (hd : d ≤ D) : z_C l G yX2_beginPartition 10 5 20 [.ref a, .ref (sa k), .int (nI d)] h n (z_q0 (fun h' n' => z_Dr G h' b0 (tw_j0 w k d) (tw_comp w R k d v 5) R S D a lr er ls es lv ev ra sa va na ba ∧ z_fr (z_VA na ba S) h h')) := by
  refine z_start zk_X2_beginPartition zpl_RX2 (Nat.le_of_ble_eq_true rfl) ?_
  intro hn0 M hl hG ho hb hN hr hm hH hrm hQ
  subst hl hG
  have ho : zm_o M = RX2 := ho
  obtain ⟨⟨ha0, h1⟩, ⟨lr0, lr1, N0, m0, f0, r1, r2, r3, r4, r4b, r5⟩, ⟨ls0, ls1, N, m9, f, h3, h4, h5, h6, h6b, h7⟩, ⟨lv0, lv1, Nv, mv, fv, v1, v2, v3, v4, v4b, v5⟩, hne, hse, h9, hs, hvx, hi, hrI, hna, hba⟩ := id hDr
  have r4N := r4.le
  have h6N := h6.le
  have v4N := v4.le
  show z_V M h n 5 20 0 [(0, .ref a), (1, .ref (sa k)), (2, .int (nI d))] []
  refine z_dom (fun hD0 => ?_)
  refine z_aload_n hb dX2_beginPartition_0 rfl ?_
  refine z_aload_n hb dX2_beginPartition_1 rfl ?_
  refine z_iload_n hb dX2_beginPartition_2 rfl ?_
  refine z_callQ0 (b' := 0) (f' := 0) (rest := []) (av := [.ref a, .ref (sa k), .int (nI d)]) (z_siteV hb ho zc1 h1 q1404 q594 qs5 ⟨_, _, _, _, zk_X2_computePartition⟩ zy_X2_computePartition zl_X2_computePartition dX2_beginPartition_3 : z_Site M _ _ _ _ _ ([.ref (sa k), .int (nI d)].reverse ++ .ref a :: []) [] _) zk_X2_computePartition q95 hrm (m_X2_computePartition hDr hb0 hR4 hS8 hD6 hk hd) (by omega) (by decide) (Nat.le_of_ble_eq_true rfl) (by omega) (by omega) (fun h_2 n_3 hq_1 hn_3 => ?_)
  have k_4 : h_2 a = some (.inr (1, [.ref lr, .ref ls, .ref lv, .int (nI D), .int (w 2), .int (w 4), .int (w 5), .int (w 6)])) := (hq_1.2 _ _ h1 (hDr.nO h1))
  have k_5 : h_2 lr = some (.inr (20, [.int m0, .ref er, .int (nI R)])) := (hq_1.2 _ _ r1 (hDr.nO r1))
  have k_6 : h_2 er = some (.inl ((zm_G M).2.1 5, N0, .inr (.inr (.inr (.inr f0))))) := (hq_1.2 _ _ r2 (hDr.nA r2))
  have k_7 : h_2 ls = some (.inr (20, [.int m9, .ref es, .int (nI S)])) := (hq_1.2 _ _ h3 (hDr.nO h3))
  have k_8 : h_2 es = some (.inl ((zm_G M).2.1 5, N, .inr (.inr (.inr (.inr f))))) := (hq_1.2 _ _ h4 (hDr.nA h4))
  have k_9 : h_2 lv = some (.inr (20, [.int mv, .ref ev, .int (nI S)])) := (hq_1.2 _ _ v1 (hDr.nO v1))
  have k_10 : h_2 ev = some (.inl ((zm_G M).2.1 5, Nv, .inr (.inr (.inr (.inr fv))))) := (hq_1.2 _ _ v2 (hDr.nA v2))
  refine z_aload_n hb dX2_beginPartition_6 rfl ?_
  refine z_aload_n hb dX2_beginPartition_7 rfl ?_
  refine z_callN1 (b' := 0) (f' := 0) (rest := []) (av := [.ref a, .ref (sa k)]) (z_siteV hb ho zc1 k_4 q596 q597 q598 ⟨_, _, _, _, zk_X2_viewOf⟩ zy_X2_viewOf zl_X2_viewOf dX2_beginPartition_8 : z_Site M _ _ _ _ _ ([.ref (sa k)].reverse ++ .ref a :: []) [] _) zk_X2_viewOf q95 hrm (z_C.rn (m_X2_viewOf hq_1.1.ln hk hS8)) (by omega) (by decide) (Nat.le_of_ble_eq_true rfl) (by omega) (by omega) (fun n_11 hn_11 => ?_)
  have k_12 := hq_1.1.ob hk
  refine z_get (k := 1) (C := RX4) (T := TX4) (N := 2) hb ho zc3 in_X4 (zf_RX2_101 _) dX2_beginPartition_11 k_12 (by decide) rfl ?_
  refine z_iload_n hb dX2_beginPartition_14 rfl ?_
  refine z_aload_n hb dX2_beginPartition_15 rfl ?_
  refine z_aload_n hb dX2_beginPartition_16 rfl ?_
  refine z_iload_n hb dX2_beginPartition_17 rfl ?_
  have J_21 : ∀ n_13 : Nat, n_11 ≤ n_13 → z_V M h_2 n_13 0 0 21 [(0, .ref a), (1, .ref (sa k)), (2, .int (nI d))] [.int (z_b (tw_from w k d)), .int (nI d), .ref (ba k)] := by
    intro n_13 hn_13
    obtain ⟨hbv13, hbn13, hbb13, hvo13, F13, Z13, hF13, hZ13, hFv13, hZv13, hZb13⟩ := hq_1.1.vx hk
    refine z_zast (j := d) (v := (z_b (tw_from w k d))) hb dX2_beginPartition_21 hZ13 (Nat.le_trans hb0 hbb13) rfl (by omega) (by omega) (z_bnar _) ?_
    refine z_hn (fun h_15 eh_15 => ?_)
    have eh_15 : h_15 = z_up h_2 (ba k) (.inl ((zm_G M).2.1 2, 7, .inl (va_up Z13 d (z_b (tw_from w k d))))) := eh_15
    have k_16 : h_15 a = some (.inr (1, [.ref lr, .ref ls, .ref lv, .int (nI D), .int (w 2), .int (w 4), .int (w 5), .int (w 6)])) := z_nx eh_15 (z_neA k_4 hZ13) k_4
    have k_17 : h_15 lr = some (.inr (20, [.int m0, .ref er, .int (nI R)])) := z_nx eh_15 (z_neA k_5 hZ13) k_5
    have k_18 : h_15 er = some (.inl ((zm_G M).2.1 5, N0, .inr (.inr (.inr (.inr f0))))) := z_nx eh_15 (z_neXoz k_6 hZ13) k_6
    have k_19 : h_15 ls = some (.inr (20, [.int m9, .ref es, .int (nI S)])) := z_nx eh_15 (z_neA k_7 hZ13) k_7
    have k_20 : h_15 es = some (.inl ((zm_G M).2.1 5, N, .inr (.inr (.inr (.inr f))))) := z_nx eh_15 (z_neXoz k_8 hZ13) k_8
    have k_21 : h_15 lv = some (.inr (20, [.int mv, .ref ev, .int (nI S)])) := z_nx eh_15 (z_neA k_9 hZ13) k_9
    have k_22 : h_15 ev = some (.inl ((zm_G M).2.1 5, Nv, .inr (.inr (.inr (.inr fv))))) := z_nx eh_15 (z_neXoz k_10 hZ13) k_10
    have k_23 : h_15 (va k) = some (.inr (3, [.ref (na k), .ref (ba k)])) := z_nx eh_15 (z_neA k_12 hZ13) k_12
    have hq_24 := hq_1.1.flag hR4 hS8 hD6 hk hd hZ13 eh_15
    refine z_vret hb hr dX2_beginPartition_22 ?_
    rw [hQ]
    exact ⟨rfl, hq_24.1, (hq_1.2.t hq_24.2)⟩
  rcases hq_1.1.sp k hk with ⟨q1, q9⟩ | ⟨q1, q9⟩ | ⟨q1, q9⟩ | ⟨q1, q2, q3, q9⟩ | ⟨q1, q2, q3, q9⟩ | ⟨q1, q2, q3, q9⟩ | ⟨q1, q2, q3, q9⟩
  · refine z_callN1 (b' := 0) (f' := 0) (rest := [.int (nI d), .ref (ba k)]) (av := [.ref (sa k), .ref a, .int (nI d)]) (z_siteU hb ho zc8 q9 q1311 q1313 (Or.inl q1312) q1322 q1333 ⟨by decide +kernel, by decide +kernel⟩ (by show _ = some 2; decide +kernel) dX2_beginPartition_18 : z_Site M _ _ _ _ _ ([.ref a, .int (nI d)].reverse ++ .ref (sa k) :: [.int (nI d), .ref (ba k)]) [.int (nI d), .ref (ba k)] _) zk_X10_isFromStale q128 hrm (m_isFrom hq_1.1.ln hS8 hD6 hk hd _ _ q9 _) (by omega) (by decide) (Nat.le_of_ble_eq_true rfl) (by omega) (by omega) (fun n_25 hn_25 => ?_)
    exact J_21 _ (by omega)
  · refine z_callN1 (b' := 0) (f' := 0) (rest := [.int (nI d), .ref (ba k)]) (av := [.ref (sa k), .ref a, .int (nI d)]) (z_siteU hb ho zc9 q9 q1311 q1313 (Or.inl q1312) q1322 q1321 ⟨by decide +kernel, by decide +kernel⟩ (by show _ = some 2; decide +kernel) dX2_beginPartition_18 : z_Site M _ _ _ _ _ ([.ref a, .int (nI d)].reverse ++ .ref (sa k) :: [.int (nI d), .ref (ba k)]) [.int (nI d), .ref (ba k)] _) zk_X10_isFromStale q128 hrm (m_isFrom hq_1.1.ln hS8 hD6 hk hd _ _ q9 _) (by omega) (by decide) (Nat.le_of_ble_eq_true rfl) (by omega) (by omega) (fun n_26 hn_26 => ?_)
    exact J_21 _ (by omega)
  · refine z_callN1 (b' := 0) (f' := 0) (rest := [.int (nI d), .ref (ba k)]) (av := [.ref (sa k), .ref a, .int (nI d)]) (z_siteU hb ho zc10 q9 q1311 q1313 (Or.inl q1312) q1322 q1324 ⟨by decide +kernel, by decide +kernel⟩ (by show _ = some 2; decide +kernel) dX2_beginPartition_18 : z_Site M _ _ _ _ _ ([.ref a, .int (nI d)].reverse ++ .ref (sa k) :: [.int (nI d), .ref (ba k)]) [.int (nI d), .ref (ba k)] _) zk_X10_isFromStale q128 hrm (m_isFrom hq_1.1.ln hS8 hD6 hk hd _ _ q9 _) (by omega) (by decide) (Nat.le_of_ble_eq_true rfl) (by omega) (by omega) (fun n_27 hn_27 => ?_)
    exact J_21 _ (by omega)
  · refine z_callN1 (b' := 0) (f' := 0) (rest := [.int (nI d), .ref (ba k)]) (av := [.ref (sa k), .ref a, .int (nI d)]) (z_siteU hb ho zc11 q9 q1311 q1313 (Or.inl q1312) q1326 q1325 ⟨by decide +kernel, by decide +kernel⟩ (by show _ = some 2; decide +kernel) dX2_beginPartition_18 : z_Site M _ _ _ _ _ ([.ref a, .int (nI d)].reverse ++ .ref (sa k) :: [.int (nI d), .ref (ba k)]) [.int (nI d), .ref (ba k)] _) zk_X14_isFromStale q133 hrm (m_isFrom hq_1.1.ln hS8 hD6 hk hd _ _ q9 _) (by omega) (by decide) (Nat.le_of_ble_eq_true rfl) (by omega) (by omega) (fun n_28 hn_28 => ?_)
    exact J_21 _ (by omega)
  · refine z_callN1 (b' := 0) (f' := 0) (rest := [.int (nI d), .ref (ba k)]) (av := [.ref (sa k), .ref a, .int (nI d)]) (z_siteU hb ho zc11 q9 q1311 q1313 (Or.inl q1312) q1326 q1325 ⟨by decide +kernel, by decide +kernel⟩ (by show _ = some 2; decide +kernel) dX2_beginPartition_18 : z_Site M _ _ _ _ _ ([.ref a, .int (nI d)].reverse ++ .ref (sa k) :: [.int (nI d), .ref (ba k)]) [.int (nI d), .ref (ba k)] _) zk_X14_isFromStale q133 hrm (m_isFrom hq_1.1.ln hS8 hD6 hk hd _ _ q9 _) (by omega) (by decide) (Nat.le_of_ble_eq_true rfl) (by omega) (by omega) (fun n_29 hn_29 => ?_)
    exact J_21 _ (by omega)
  · refine z_callN1 (b' := 0) (f' := 0) (rest := [.int (nI d), .ref (ba k)]) (av := [.ref (sa k), .ref a, .int (nI d)]) (z_siteU hb ho zc12 q9 q1311 q1313 (Or.inl q1312) q1330 q1329 ⟨by decide +kernel, by decide +kernel⟩ (by show _ = some 2; decide +kernel) dX2_beginPartition_18 : z_Site M _ _ _ _ _ ([.ref a, .int (nI d)].reverse ++ .ref (sa k) :: [.int (nI d), .ref (ba k)]) [.int (nI d), .ref (ba k)] _) zk_X16_isFromStale q135 hrm (m_isFrom hq_1.1.ln hS8 hD6 hk hd _ _ q9 _) (by omega) (by decide) (Nat.le_of_ble_eq_true rfl) (by omega) (by omega) (fun n_30 hn_30 => ?_)
    exact J_21 _ (by omega)
  · refine z_callN1 (b' := 0) (f' := 0) (rest := [.int (nI d), .ref (ba k)]) (av := [.ref (sa k), .ref a, .int (nI d)]) (z_siteU hb ho zc13 q9 q1311 q1313 (Or.inl q1312) q1315 q1314 ⟨by decide +kernel, by decide +kernel⟩ (by show _ = some 2; decide +kernel) dX2_beginPartition_18 : z_Site M _ _ _ _ _ ([.ref a, .int (nI d)].reverse ++ .ref (sa k) :: [.int (nI d), .ref (ba k)]) [.int (nI d), .ref (ba k)] _) zk_X17_isFromStale q136 hrm (m_isFrom hq_1.1.ln hS8 hD6 hk hd _ _ q9 _) (by omega) (by decide) (Nat.le_of_ble_eq_true rfl) (by omega) (by omega) (fun n_31 hn_31 => ?_)
    exact J_21 _ (by omega)

