theorem z_ne_xp {G : zG} {h : zH} {x la pa bu li e hd tl : Nat} {fa : Int32} {de sn : Option Nat} (hO : h x = some (z_Ob la pa bu li fa de sn)) (hP : h pa = some (.inr (21, [.ref e, .int (nI hd), .int (nI tl)]))) : x ≠ pa := fun z => by rw [z, hP] at hO; cases hO
theorem z_ne_xe {G : zG} {h : zH} {x la pa bu li e : Nat} {f : Nat → Option Nat} {fa : Int32} {de sn : Option Nat} (hO : h x = some (z_Ob la pa bu li fa de sn)) (hP : h e = some (z_ao G 17 f)) : x ≠ e := fun z => by rw [z, hP] at hO; cases hO
theorem z_neA_ {G : zG} {h : zH} {pa e N : Nat} {o : Nat × List Value} {f : Nat → Option Nat} (q1 : h pa = some (.inr o)) (q2 : h e = some (z_ao G N f)) : pa ≠ e := fun z => by rw [z, q2] at q1; cases q1
theorem z_kobj {h : zH} {a : Nat} {fs : List Value} (q1 : h a = some (.inr (1, fs))) : z_obj h a := ⟨1, _, _, q1, zc1, q3302⟩

set_option maxHeartbeats 1000000 in
theorem m_X1_replaceBy_lt {l : Launch} {G : zG} {h : zH} {n : Nat} {x la pa bu li : Nat} {fa : Int32} {de sn : Option Nat} {e dep b : Nat} {P : Nat → Nat} {r9 : Int32} (hO : h x = some (z_Ob la pa bu li fa de sn)) (hx0 : z_n0 G ≤ x) (hP : z_Pd G h pa e dep P) (hdp : dep < 8) (hob : z_obj h la) (hlp : la ≠ pa) : z_C l G yX1_replaceBy 4 0 0 [.ref x, .ref b, .int r9] h n (z_q1 (fun w9 h9 n9 => w9 = .int r9 ∧ n9 = n ∧ h9 x = some (z_Ob b pa bu li fa de sn) ∧ z_Pd G h9 pa e (dep + 1) (z_psh P la) ∧ z_fr (fun y => y = x ∨ y = pa ∨ y = e) h h9)) := by
  refine z_start zk_X1_replaceBy zpl_RX1 (Nat.le_of_ble_eq_true rfl) ?_
  intro hn0 M hl hG ho hb hN hr hm hH hrm hQ
  subst hl hG
  have ho : zm_o M = RX1 := ho
  obtain ⟨hd, tl, f9, hP1, hP2, n1, n2, hh, ht, hd9, h8, hf⟩ := id hP
  have hnz : (hd + 16) % 17 ≠ tl := by omega
  show z_V M h n 0 0 0 [(0, .ref x), (1, .ref b), (2, .int r9)] []
  refine z_aload_n hb dX1_replaceBy_0 rfl ?_
  refine z_get (k := 1) (C := RX1) (T := TX1) (N := 7) hb ho zc0 in_X1 (zf_RX1_48 _) dX1_replaceBy_1 hO (by decide) rfl ?_
  refine z_call1 (b' := 0) (f' := 0) (rest := []) (av := [.ref pa]) (z_siteV hb ho zc21 hP1 q791 q792 q793 ⟨_, _, _, _, zk_J3_size⟩ zy_J3_size zl_J3_size dX1_replaceBy_4 : z_Site M _ _ _ _ _ ([].reverse ++ .ref pa :: []) [] _) zk_J3_size q99 hrm (m_J3_size hP1 hP2 n1 n2 hh ht) (by omega) (by decide) (Nat.le_of_ble_eq_true rfl) (by omega) (by omega) ?_
  refine z_bipush (x := nI 8) hb dX1_replaceBy_7 (by decide) ?_
  refine z_icmp_ne (tgt := 23) hb dX1_replaceBy_9 (by decide) (fun c_9 => ?_) (fun c_9 => ?_)
  · refine z_aload_n hb dX1_replaceBy_23 rfl ?_
    refine z_get (k := 1) (C := RX1) (T := TX1) (N := 7) hb ho zc0 in_X1 (zf_RX1_48 _) dX1_replaceBy_24 hO (by decide) rfl ?_
    refine z_aload_n hb dX1_replaceBy_27 rfl ?_
    refine z_get (k := 0) (C := RX1) (T := TX1) (N := 7) hb ho zc0 in_X1 (zf_RX1_41 _) dX1_replaceBy_28 hO (by decide) rfl ?_
    refine z_call0 (b' := 0) (f' := 0) (rest := []) (av := [.ref pa, .ref la]) (z_siteV hb ho zc21 hP1 q1637 q1638 q1639 ⟨_, _, _, _, zk_J3_push⟩ zy_J3_push zl_J3_push dX1_replaceBy_31 : z_Site M _ _ _ _ _ ([.ref la].reverse ++ .ref pa :: []) [] _) zk_J3_push q99 hrm (m_J3_push hP1 hP2 n1 n2 hh ht hob hlp hnz) (by omega) (by decide) (Nat.le_of_ble_eq_true rfl) (by omega) (by omega) ?_
    obtain ⟨h_1, eh_1⟩ : ∃ h_1, h_1 = z_up h pa (.inr (21, [.ref e, .int (nI ((hd + 16) % 17)), .int (nI tl)])) := ⟨_, rfl⟩
    have k_2 : h_1 x = some (.inr (0, [.ref la, .ref pa, .ref bu, .ref li, .int fa, va_rf de, va_rf sn])) := z_nx eh_1 (z_neO hO hP1 rfl) hO
    have k_3 : h_1 e = some (.inl ((zm_G M).2.1 5, 17, .inr (.inr (.inr (.inr f9))))) := z_nx eh_1 (z_neA' hP2 hP1) hP2
    refine z_hh (h2 := z_up h_1 e (.inl ((zm_G M).2.1 5, 17, .inr (.inr (.inr (.inr (va_up f9 ((hd + 16) % 17) (some la)))))))) (by rw [eh_1]) ?_
    refine z_hn (fun h_4 eh_4 => ?_)
    have eh_4 : h_4 = z_up h_1 e (.inl ((zm_G M).2.1 5, 17, .inr (.inr (.inr (.inr (va_up f9 ((hd + 16) % 17) (some la))))))) := eh_4
    have k_5 : h_4 x = some (.inr (0, [.ref la, .ref pa, .ref bu, .ref li, .int fa, va_rf de, va_rf sn])) := z_nx eh_4 (z_neA k_2 k_3) k_2
    have k_6 : h_4 pa = some (.inr (21, [.ref e, .int (nI ((hd + 16) % 17)), .int (nI tl)])) := z_nx eh_4 (z_neA (z_nxs eh_1) k_3) (z_nxs eh_1)
    refine z_aload_n hb dX1_replaceBy_34 rfl ?_
    refine z_aload_n hb dX1_replaceBy_35 rfl ?_
    refine z_put (k := 0) (C := RX1) (T := TX1) (N := 7) hb ho zc0 in_X1 tyX1_ok nmX1 (zf_RX1_41 _) dX1_replaceBy_36 k_5 hx0 (by decide) (Or.inl rfl) rfl rfl rfl (Nat.le_of_ble_eq_true rfl) ?_
    refine z_hn (fun h_7 eh_7 => ?_)
    have eh_7 : h_7 = z_up h_4 x (.inr (0, [.ref b, .ref pa, .ref bu, .ref li, .int fa, va_rf de, va_rf sn])) := eh_7
    have k_8 : h_7 pa = some (.inr (21, [.ref e, .int (nI ((hd + 16) % 17)), .int (nI tl)])) := z_nx eh_7 (z_neO k_6 k_5 rfl) k_6
    have k_9 : h_7 e = some (.inl ((zm_G M).2.1 5, 17, .inr (.inr (.inr (.inr (va_up f9 ((hd + 16) % 17) (some la))))))) := z_nx eh_7 (z_neA' (z_nxs eh_4) k_5) (z_nxs eh_4)
    refine z_iload_n hb dX1_replaceBy_39 rfl ?_
    refine z_iret hb hr dX1_replaceBy_40 ?_
    rw [hQ]
    exact ⟨_, rfl, rfl, rfl, (z_nxs eh_7), (z_Pd_psh hP1 hP2 n1 n2 hh ht hd9 hdp hf (by rw [eh_4, eh_1])).fr (z_fr_up (P := fun y => y = x) rfl eh_7) (Ne.symm (z_ne_xp (G := zm_G M) hO hP1)) (Ne.symm (z_ne_xe hO hP2)), ((z_fr_up (Or.inr (Or.inl rfl)) eh_1).t (z_fr_up (Or.inr (Or.inr rfl)) eh_4)).t (z_fr_up (Or.inl rfl) eh_7)⟩
  · exact absurd (show (tl + 17 - hd) % 17 = 8 from (nI_eq (by omega) (by omega)).mp (by simpa using c_9)) (by omega)

set_option maxHeartbeats 1000000 in
theorem m_X1_replaceBy_eq {l : Launch} {G : zG} {h : zH} {n : Nat} {x la pa bu li : Nat} {fa : Int32} {de sn : Option Nat} {e b : Nat} {P : Nat → Nat} {r9 : Int32} {y0 y1 y2 y3 y4 y5 y6 y7 z0 z1 z2 z3 z4 z5 z6 z7 : Value} (hO : h x = some (z_Ob la pa bu li fa de sn)) (hx0 : z_n0 G ≤ x) (hP : z_Pd G h pa e 8 P) (hla : h la = some (.inr (1, [y0, y1, y2, y3, y4, y5, y6, y7]))) (h7 : h (P 7) = some (.inr (1, [z0, z1, z2, z3, z4, z5, z6, z7]))) : z_C l G yX1_replaceBy 4 0 0 [.ref x, .ref b, .int r9] h n (z_q1 (fun w9 h9 n9 => w9 = .int r9 ∧ n9 = n ∧ h9 x = some (z_Ob b pa bu li fa de sn) ∧ z_Pd G h9 pa e 8 (z_psh P la) ∧ z_fr (fun y => y = x ∨ y = pa ∨ y = e) h h9)) := by
  refine z_start zk_X1_replaceBy zpl_RX1 (Nat.le_of_ble_eq_true rfl) ?_
  intro hn0 M hl hG ho hb hN hr hm hH hrm hQ
  subst hl hG
  have ho : zm_o M = RX1 := ho
  obtain ⟨hd, tl, f9, hP1, hP2, n1, n2, hh, ht, hd9, h8, hf⟩ := id hP
  have hnz : (hd + 16) % 17 ≠ (tl + 16) % 17 := by omega
  have hd8 : ((tl + 16) % 17 + 17 - hd) % 17 = 7 := by omega
  have hf7 : ∀ i, i < 7 → va_up f9 ((tl + 16) % 17) none ((hd + i) % 17) = some (P i) := fun i hi => by
    show va_up f9 _ _ _ = _
    unfold va_up
    rw [if_neg (by omega)]
    exact hf i (by omega)
  have hlp : la ≠ pa := fun z => by rw [z, hP1] at hla; cases hla
  show z_V M h n 0 0 0 [(0, .ref x), (1, .ref b), (2, .int r9)] []
  refine z_aload_n hb dX1_replaceBy_0 rfl ?_
  refine z_get (k := 1) (C := RX1) (T := TX1) (N := 7) hb ho zc0 in_X1 (zf_RX1_48 _) dX1_replaceBy_1 hO (by decide) rfl ?_
  refine z_call1 (b' := 0) (f' := 0) (rest := []) (av := [.ref pa]) (z_siteV hb ho zc21 hP1 q791 q792 q793 ⟨_, _, _, _, zk_J3_size⟩ zy_J3_size zl_J3_size dX1_replaceBy_4 : z_Site M _ _ _ _ _ ([].reverse ++ .ref pa :: []) [] _) zk_J3_size q99 hrm (m_J3_size hP1 hP2 n1 n2 hh ht) (by omega) (by decide) (Nat.le_of_ble_eq_true rfl) (by omega) (by omega) ?_
  refine z_bipush (x := nI 8) hb dX1_replaceBy_7 (by decide) ?_
  refine z_icmp_ne (tgt := 23) hb dX1_replaceBy_9 (by decide) (fun c_9 => ?_) (fun c_9 => ?_)
  · exact absurd (by rw [hd9] : nI ((tl + 17 - hd) % 17) = nI 8) (by simpa using c_9)
  · refine z_aload_n hb dX1_replaceBy_12 rfl ?_
    refine z_get (k := 1) (C := RX1) (T := TX1) (N := 7) hb ho zc0 in_X1 (zf_RX1_48 _) dX1_replaceBy_13 hO (by decide) rfl ?_
    have h70 : f9 ((tl + 16) % 17) = some (P 7) := by
      rw [show (tl + 16) % 17 = (hd + 7) % 17 by omega]; exact hf 7 (by omega)
    refine z_call1 (b' := 0) (f' := 0) (rest := []) (av := [.ref pa]) (z_siteV hb ho zc21 hP1 q1621 q1622 q1623 ⟨_, _, _, _, zk_J3_removeLast⟩ zy_J3_removeLast zl_J3_removeLast dX1_replaceBy_16 : z_Site M _ _ _ _ _ ([].reverse ++ .ref pa :: []) [] _) zk_J3_removeLast q99 hrm (m_J3_removeLast hP1 hP2 n1 n2 hh ht h70) (by omega) (by decide) (Nat.le_of_ble_eq_true rfl) (by omega) (by omega) ?_
    obtain ⟨h_1, eh_1⟩ : ∃ h_1, h_1 = z_up h pa (.inr (21, [.ref e, .int (nI hd), .int (nI ((tl + 16) % 17))])) := ⟨_, rfl⟩
    have k_2 : h_1 x = some (.inr (0, [.ref la, .ref pa, .ref bu, .ref li, .int fa, va_rf de, va_rf sn])) := z_nx eh_1 (z_neO hO hP1 rfl) hO
    have k_3 : h_1 e = some (.inl ((zm_G M).2.1 5, 17, .inr (.inr (.inr (.inr f9))))) := z_nx eh_1 (z_neA' hP2 hP1) hP2
    have k_4 : h_1 (P 7) = some (.inr (1, [z0, z1, z2, z3, z4, z5, z6, z7])) := z_nx eh_1 (z_neO h7 hP1 rfl) h7
    have k_5 : h_1 la = some (.inr (1, [y0, y1, y2, y3, y4, y5, y6, y7])) := z_nx eh_1 (z_neO hla hP1 rfl) hla
    refine z_hh (h2 := z_up h_1 e (.inl ((zm_G M).2.1 5, 17, .inr (.inr (.inr (.inr (va_up f9 ((tl + 16) % 17) none))))))) (by rw [eh_1]) ?_
    refine z_hn (fun h_6 eh_6 => ?_)
    have eh_6 : h_6 = z_up h_1 e (.inl ((zm_G M).2.1 5, 17, .inr (.inr (.inr (.inr (va_up f9 ((tl + 16) % 17) none)))))) := eh_6
    have k_7 : h_6 x = some (.inr (0, [.ref la, .ref pa, .ref bu, .ref li, .int fa, va_rf de, va_rf sn])) := z_nx eh_6 (z_neA k_2 k_3) k_2
    have k_8 : h_6 (P 7) = some (.inr (1, [z0, z1, z2, z3, z4, z5, z6, z7])) := z_nx eh_6 (z_neA k_4 k_3) k_4
    have k_9 : h_6 la = some (.inr (1, [y0, y1, y2, y3, y4, y5, y6, y7])) := z_nx eh_6 (z_neA k_5 k_3) k_5
    have k_10 : h_6 pa = some (.inr (21, [.ref e, .int (nI hd), .int (nI ((tl + 16) % 17))])) := z_nx eh_6 (z_neA (z_nxs eh_1) k_3) (z_nxs eh_1)
    refine z_cast hb ho zc1 k_8 q157 (Or.inl rfl) dX1_replaceBy_19 ?_
    refine z_astore_n (lv' := [(3, .ref (P 7)), (0, .ref x), (1, .ref b), (2, .int r9)]) hb dX1_replaceBy_22 (by rw [hN]; decide) rfl ?_
    refine z_aload_n hb dX1_replaceBy_23 rfl ?_
    refine z_get (k := 1) (C := RX1) (T := TX1) (N := 7) hb ho zc0 in_X1 (zf_RX1_48 _) dX1_replaceBy_24 k_7 (by decide) rfl ?_
    refine z_aload_n hb dX1_replaceBy_27 rfl ?_
    refine z_get (k := 0) (C := RX1) (T := TX1) (N := 7) hb ho zc0 in_X1 (zf_RX1_41 _) dX1_replaceBy_28 k_7 (by decide) rfl ?_
    refine z_call0 (b' := 0) (f' := 0) (rest := []) (av := [.ref pa, .ref la]) (z_siteV hb ho zc21 k_10 q1637 q1638 q1639 ⟨_, _, _, _, zk_J3_push⟩ zy_J3_push zl_J3_push dX1_replaceBy_31 : z_Site M _ _ _ _ _ ([.ref la].reverse ++ .ref pa :: []) [] _) zk_J3_push q99 hrm (m_J3_push k_10 (z_nxs eh_6) n1 n2 hh (by omega) (z_kobj k_9) hlp hnz) (by omega) (by decide) (Nat.le_of_ble_eq_true rfl) (by omega) (by omega) ?_
    obtain ⟨h_11, eh_11⟩ : ∃ h_11, h_11 = z_up h_6 pa (.inr (21, [.ref e, .int (nI ((hd + 16) % 17)), .int (nI ((tl + 16) % 17))])) := ⟨_, rfl⟩
    have k_12 : h_11 x = some (.inr (0, [.ref la, .ref pa, .ref bu, .ref li, .int fa, va_rf de, va_rf sn])) := z_nx eh_11 (z_neO k_7 k_10 rfl) k_7
    have k_13 : h_11 (P 7) = some (.inr (1, [z0, z1, z2, z3, z4, z5, z6, z7])) := z_nx eh_11 (z_neO k_8 k_10 rfl) k_8
    have k_14 : h_11 la = some (.inr (1, [y0, y1, y2, y3, y4, y5, y6, y7])) := z_nx eh_11 (z_neO k_9 k_10 rfl) k_9
    have k_15 : h_11 e = some (.inl ((zm_G M).2.1 5, 17, .inr (.inr (.inr (.inr (va_up f9 ((tl + 16) % 17) none)))))) := z_nx eh_11 (z_neA' (z_nxs eh_6) k_10) (z_nxs eh_6)
    refine z_hh (h2 := z_up h_11 e (.inl ((zm_G M).2.1 5, 17, .inr (.inr (.inr (.inr (va_up (va_up f9 ((tl + 16) % 17) none) ((hd + 16) % 17) (some la)))))))) (by rw [eh_11]) ?_
    refine z_hn (fun h_16 eh_16 => ?_)
    have eh_16 : h_16 = z_up h_11 e (.inl ((zm_G M).2.1 5, 17, .inr (.inr (.inr (.inr (va_up (va_up f9 ((tl + 16) % 17) none) ((hd + 16) % 17) (some la))))))) := eh_16
    have k_17 : h_16 x = some (.inr (0, [.ref la, .ref pa, .ref bu, .ref li, .int fa, va_rf de, va_rf sn])) := z_nx eh_16 (z_neA k_12 k_15) k_12
    have k_18 : h_16 (P 7) = some (.inr (1, [z0, z1, z2, z3, z4, z5, z6, z7])) := z_nx eh_16 (z_neA k_13 k_15) k_13
    have k_19 : h_16 la = some (.inr (1, [y0, y1, y2, y3, y4, y5, y6, y7])) := z_nx eh_16 (z_neA k_14 k_15) k_14
    have k_20 : h_16 pa = some (.inr (21, [.ref e, .int (nI ((hd + 16) % 17)), .int (nI ((tl + 16) % 17))])) := z_nx eh_16 (z_neA (z_nxs eh_11) k_15) (z_nxs eh_11)
    refine z_aload_n hb dX1_replaceBy_34 rfl ?_
    refine z_aload_n hb dX1_replaceBy_35 rfl ?_
    refine z_put (k := 0) (C := RX1) (T := TX1) (N := 7) hb ho zc0 in_X1 tyX1_ok nmX1 (zf_RX1_41 _) dX1_replaceBy_36 k_17 hx0 (by decide) (Or.inl rfl) rfl rfl rfl (Nat.le_of_ble_eq_true rfl) ?_
    refine z_hn (fun h_21 eh_21 => ?_)
    have eh_21 : h_21 = z_up h_16 x (.inr (0, [.ref b, .ref pa, .ref bu, .ref li, .int fa, va_rf de, va_rf sn])) := eh_21
    have k_22 : h_21 (P 7) = some (.inr (1, [z0, z1, z2, z3, z4, z5, z6, z7])) := z_nx eh_21 (z_neO k_18 k_17 rfl) k_18
    have k_23 : h_21 la = some (.inr (1, [y0, y1, y2, y3, y4, y5, y6, y7])) := z_nx eh_21 (z_neO k_19 k_17 rfl) k_19
    have k_24 : h_21 pa = some (.inr (21, [.ref e, .int (nI ((hd + 16) % 17)), .int (nI ((tl + 16) % 17))])) := z_nx eh_21 (z_neO k_20 k_17 rfl) k_20
    have k_25 : h_21 e = some (.inl ((zm_G M).2.1 5, 17, .inr (.inr (.inr (.inr (va_up (va_up f9 ((tl + 16) % 17) none) ((hd + 16) % 17) (some la))))))) := z_nx eh_21 (z_neA' (z_nxs eh_16) k_17) (z_nxs eh_16)
    refine z_iload_n hb dX1_replaceBy_39 rfl ?_
    refine z_iret hb hr dX1_replaceBy_40 ?_
    rw [hQ]
    exact ⟨_, rfl, rfl, rfl, (z_nxs eh_21), (z_Pd_psh (h := h_6) (hd := hd) (tl := (tl + 16) % 17) (f := (va_up f9 ((tl + 16) % 17) none)) (dep := 7) (z_nx eh_6 (z_neA_ hP1 hP2) (z_nxs eh_1)) (z_nxs eh_6) n1 n2 hh (by omega) hd8 (by decide) hf7 (by rw [eh_16, eh_11])).fr (z_fr_up (P := fun y => y = x) rfl eh_21) (Ne.symm (z_ne_xp (G := zm_G M) hO hP1)) (Ne.symm (z_ne_xe hO hP2)), ((((z_fr_up (Or.inr (Or.inl rfl)) eh_1).t (z_fr_up (Or.inr (Or.inr rfl)) eh_6)).t (z_fr_up (Or.inr (Or.inl rfl)) eh_11)).t (z_fr_up (Or.inr (Or.inr rfl)) eh_16)).t (z_fr_up (Or.inl rfl) eh_21)⟩

