/-- all partitions laid anew, in order of the days -/
def z_n1 (w : Nat → Int32) (R d : Nat) (u : Nat → Int64) : Nat → (Nat → Int64)
  | 0 => u
  | k + 1 => tw_comp w R k d (z_n1 w R d u k) 5
def z_n2 (w : Nat → Int32) (R S : Nat) (u : Nat → Int64) : Nat → (Nat → Int64)
  | 0 => u
  | d + 1 => z_n1 w R d (z_n2 w R S u d) S
theorem z_n2_s {G : zG} {h : zH} {b0 : Nat} {w : Nat → Int32} {v : Nat → Int64} {R S D a lr er ls es lv ev j d : Nat} {ra sa va na ba : Nat → Nat} (hx : j = S) (q : z_Dr G h b0 w (z_n1 w R d (z_n2 w R S v d) j) R S D a lr er ls es lv ev ra sa va na ba) : z_Dr G h b0 w (z_n2 w R S v (d + 1)) R S D a lr er ls es lv ev ra sa va na ba := by
  subst hx
  exact q

theorem z_fr.exb {h h2 h3 : zH} {b : Nat} (f : z_fr (fun y => b ≤ y) h2 h3) (d : z_dm h b) (e : z_ex h h2) : z_ex h h3 := fun y c q => f y c (e y c q) (fun z => by have := d y c q; omega)

set_option maxHeartbeats 1000000 in
theorem m_X1_renewed {l : Launch} {G : zG} {h : zH} {n : Nat} {x la pa bu li : Nat} {fa : Int32} {de sn : Option Nat} {w : Nat → Int32} {v : Nat → Int64} {R S D c9 : Nat} (hO : h x = some (z_Ob la pa bu li fa de sn)) (hx0 : z_n0 G ≤ x) (hL : z_LN G h w v R S D la) (hI : z_inv w v R S D c9) (hK : z_KC G h) : z_C l G yX1_renewed 10 400 5000 [.ref x] h n (z_q1 (fun r9 h9 n9 => r9 = .ref n ∧ n < n9 ∧ z_LN G h9 w (z_n2 w R S v (D + 1)) R S D n ∧ z_ex h h9)) := by
  refine z_start zk_X1_renewed zpl_RX1 (Nat.le_of_ble_eq_true rfl) ?_
  intro hn0 M hl hG ho hb hN hr hm hH hrm hQ
  subst hl hG
  have ho : zm_o M = RX1 := ho
  obtain ⟨a, rfl⟩ : ∃ a, a = n := ⟨n, rfl⟩
  refine z_dom (fun hdm => ?_)
  have hxn := hdm _ _ hO
  obtain ⟨fE, hEM⟩ := hK.em
  obtain ⟨lrA, lsA, lvA, raA, saA, vaA, hLn⟩ := id hL
  have hlA := hLn.1
  obtain ⟨hw, -⟩ := id hI
  obtain ⟨-, hR4, -, hS8, -, hD6, -⟩ := id hw
  show z_V M h a 400 5000 0 [(0, .ref x)] []
  refine z_dom (fun hD0 => ?_)
  refine z_dom (fun hD_1 => ?_)
  refine z_new (N0 := 8) (b' := 399) (f' := 4992) (fs := [.null, .null, .null, .int (nI 0), .int (nI 0), .int (nI 0), .int (nI 0), .int (nI 0)]) (C := RX2) (T := TX2) (N := 8) hb ho zc1 in_X2 tyX2_ok q157 q158 q95 dX1_renewed_0 (zdf_X2) (by omega) (by omega) ?_
  refine z_hn (fun h_2 eh_2 => ?_)
  have eh_2 : h_2 = z_up h a (.inr (1, [.null, .null, .null, .int (nI 0), .int (nI 0), .int (nI 0), .int (nI 0), .int (nI 0)])) := eh_2
  have k_3 : h_2 x = some (.inr (0, [.ref la, .ref pa, .ref bu, .ref li, .int fa, va_rf de, va_rf sn])) := z_nx eh_2 (Nat.ne_of_lt (hD_1 _ _ hO)) hO
  have k_4 : h_2 la = some (.inr (1, [.ref lrA, .ref lsA, .ref lvA, .int (nI D), .int (w 2), .int (w 4), .int (w 5), .int (w 6)])) := z_nx eh_2 (Nat.ne_of_lt (hD_1 _ _ hlA)) hlA
  refine z_dup hb dX1_renewed_3 rfl ?_
  refine z_aload_n hb dX1_renewed_4 rfl ?_
  refine z_get (k := 0) (C := RX1) (T := TX1) (N := 7) hb ho zc0 in_X1 (zf_RX1_41 _) dX1_renewed_5 k_3 (by decide) rfl ?_
  refine z_callQ0 (b' := 307) (f' := 1592) (rest := [.ref a]) (av := [.ref a, .ref la]) (z_siteI hb ho q470 q471 q472 rfl zy_X2_init_2 zl_X2_init_2 dX1_renewed_8 : z_Site M _ _ _ _ _ ([.ref la].reverse ++ .ref a :: [.ref a]) [.ref a] _) zk_X2_init_2 q95 hrm (m_X2_init_2 (b0 := a) (hLn.ex (z_exN z_ex_r hdm eh_2)) hR4 hS8 hD6 (z_nxs eh_2) ((z_exN z_ex_r hdm eh_2) _ _ hEM) hK.e0 hn0 (Nat.le_refl a) (Nat.le_succ a)) (by omega) (by decide) (Nat.le_of_ble_eq_true rfl) (by omega) (by omega) (fun h8 n8 hq8 hn8 => ?_)
  obtain ⟨hDR, hf1⟩ := hq8
  obtain ⟨lr, er, ls, es, lv, ev, ra, sa, va, na, ba, hDr⟩ := hDR
  have he2 : z_ex h h8 := fun y c q => hf1 y c ((z_exN z_ex_r hdm eh_2) y c q) (fun z => by have := hdm y c q; omega)
  have hx8 := he2 _ _ hO
  have hl8 := he2 _ _ hlA
  have hb0 : z_n0 (zm_G M) ≤ a := hn0
  obtain ⟨⟨ha0, h1⟩, ⟨lr0, lr1, N0, m0, f0, r1, r2, r3, r4, r4b, r5⟩, ⟨ls0, ls1, N, m9, f, h3, h4, h5, h6, h6b, h7⟩, ⟨lv0, lv1, Nv, mv, fv, v1, v2, v3, v4, v4b, v5⟩, hne, hse, h9, hs, hvx, hi, hrI, hna, hba⟩ := id hDr
  have r4N := r4.le
  have h6N := h6.le
  have v4N := v4.le
  refine z_dom (fun hd8 => ?_)
  refine z_astore_n (lv' := [(1, .ref a), (0, .ref x)]) hb dX1_renewed_11 (by rw [hN]; decide) rfl ?_
  refine z_iconst (x := nI 0) hb dX1_renewed_12 (by decide) ?_
  refine z_istore_n (lv' := [(2, .int (nI 0)), (1, .ref a), (0, .ref x)]) hb dX1_renewed_13 (by rw [hN]; decide) rfl ?_
  have lp_14 : ∀ (k9_14 : Nat) (d : Nat) (nn : Nat) (hh : zH), D + 2 - d < k9_14 → (d ≤ D + 1) → (n8 ≤ nn) → (z_Dr (zm_G M) hh a w (z_n2 w R S v d) R S D a lr er ls es lv ev ra sa va na ba) → (z_fr (z_VA na ba S) h8 hh) → z_V M hh nn (41 * (7 - d)) (164 * (7 - d)) 14 [(0, .ref x), (1, .ref a), (2, .int (nI d))] [] := by
    intro k9_14
    induction k9_14 with
    | zero => intro d nn hh hk9_14; exact absurd hk9_14 (Nat.not_lt_zero _)
    | succ k9_14 ih_14 =>
      intro d nn hh hk9_14 hd hnnd hDrd hFd
      refine z_iload_n hb dX1_renewed_14 rfl ?_
      refine z_aload_n hb dX1_renewed_15 rfl ?_
      refine z_get (k := 0) (C := RX1) (T := TX1) (N := 7) hb ho zc0 in_X1 (zf_RX1_41 _) dX1_renewed_16 (hFd _ _ hx8 (hDr.nO hx8)) (by decide) rfl ?_
      refine z_get (k := 3) (C := RX2) (T := TX2) (N := 8) hb ho zc1 in_X2 (zf_RX1_120 _) dX1_renewed_19 (hFd _ _ hl8 (hDr.nO hl8)) (by decide) rfl ?_
      refine z_icmp_gtN (tgt := 71) hb dX1_renewed_22 (by decide) (by omega) (by omega) (fun c_22 => ?_) (fun c_22 => ?_)
      · refine z_aload_n hb dX1_renewed_71 rfl ?_
        refine z_aret hb hr (Or.inl ⟨_, rfl⟩) (Or.inr ⟨_, rfl⟩) dX1_renewed_72 ?_
        rw [hQ]
        obtain rfl : d = D + 1 := by omega
        exact ⟨_, rfl, rfl, by omega, ⟨_, _, _, _, _, _, hDrd.ln⟩, ((hFd.w hDr.vb)).exb hdm he2⟩
      · refine z_aload_n hb dX1_renewed_25 rfl ?_
        refine z_get (k := 1) (C := RX2) (T := TX2) (N := 8) hb ho zc1 in_X2 (zf_RX1_183 _) dX1_renewed_26 (hFd _ _ h1 (hDr.nO h1)) (by decide) rfl ?_
        refine z_dom (fun hD_5 => ?_)
        refine z_call1 (b' := (41 * (7 - d)) - 1) (f' := (164 * (7 - d)) - 4) (rest := []) (av := [.ref ls]) (z_siteF hb ho zc20 (hFd _ _ h3 (hDr.nO h3)) q586 zx1 q343 q345 q346 q344 q321 zxl1 dX1_renewed_29 : z_Site M _ _ _ _ _ ([].reverse ++ .ref ls :: []) [] _) zk_J2_iterator q98 hrm (m_J2_iterator (hFd _ _ h3 (hDr.nO h3)) (hD_5 _ _ (hFd _ _ h3 (hDr.nO h3)))) (by omega) (by decide) (Nat.le_of_ble_eq_true rfl) (by omega) (by omega) ?_
        refine z_hn (fun h_6 eh_6 => ?_)
        have eh_6 : h_6 = z_up hh nn (.inr (24, [.int (nI 0), .int (-1), .int m9, .ref ls])) := eh_6
        have k_7 : h_6 lr = some (.inr (20, [.int m0, .ref er, .int (nI R)])) := z_nx eh_6 (Nat.ne_of_lt (hD_5 _ _ (hFd _ _ r1 (hDr.nO r1)))) (hFd _ _ r1 (hDr.nO r1))
        have k_8 : h_6 er = some (.inl ((zm_G M).2.1 5, N0, .inr (.inr (.inr (.inr f0))))) := z_nx eh_6 (Nat.ne_of_lt (hD_5 _ _ (hFd _ _ r2 (hDr.nA r2)))) (hFd _ _ r2 (hDr.nA r2))
        have k_9 : h_6 ls = some (.inr (20, [.int m9, .ref es, .int (nI S)])) := z_nx eh_6 (Nat.ne_of_lt (hD_5 _ _ (hFd _ _ h3 (hDr.nO h3)))) (hFd _ _ h3 (hDr.nO h3))
        have k_10 : h_6 es = some (.inl ((zm_G M).2.1 5, N, .inr (.inr (.inr (.inr f))))) := z_nx eh_6 (Nat.ne_of_lt (hD_5 _ _ (hFd _ _ h4 (hDr.nA h4)))) (hFd _ _ h4 (hDr.nA h4))
        have k_11 : h_6 lv = some (.inr (20, [.int mv, .ref ev, .int (nI S)])) := z_nx eh_6 (Nat.ne_of_lt (hD_5 _ _ (hFd _ _ v1 (hDr.nO v1)))) (hFd _ _ v1 (hDr.nO v1))
        have k_12 : h_6 ev = some (.inl ((zm_G M).2.1 5, Nv, .inr (.inr (.inr (.inr fv))))) := z_nx eh_6 (Nat.ne_of_lt (hD_5 _ _ (hFd _ _ v2 (hDr.nA v2)))) (hFd _ _ v2 (hDr.nA v2))
        have k_13 : h_6 a = some (.inr (1, [.ref lr, .ref ls, .ref lv, .int (nI D), .int (w 2), .int (w 4), .int (w 5), .int (w 6)])) := z_nx eh_6 (Nat.ne_of_lt (hD_5 _ _ (hFd _ _ h1 (hDr.nO h1)))) (hFd _ _ h1 (hDr.nO h1))
        have k_14 : h_6 x = some (.inr (0, [.ref la, .ref pa, .ref bu, .ref li, .int fa, va_rf de, va_rf sn])) := z_nx eh_6 (Nat.ne_of_lt (hD_5 _ _ (hFd _ _ hx8 (hDr.nO hx8)))) (hFd _ _ hx8 (hDr.nO hx8))
        have k_15 : h_6 la = some (.inr (1, [.ref lrA, .ref lsA, .ref lvA, .int (nI D), .int (w 2), .int (w 4), .int (w 5), .int (w 6)])) := z_nx eh_6 (Nat.ne_of_lt (hD_5 _ _ (hFd _ _ hl8 (hDr.nO hl8)))) (hFd _ _ hl8 (hDr.nO hl8))
        refine z_astore_n (lv' := [(3, .ref nn), (0, .ref x), (1, .ref a), (2, .int (nI d))]) hb dX1_renewed_34 (by rw [hN]; decide) rfl ?_
        have lp_35 : ∀ (k9_35 : Nat) (j : Nat) (lr9j : Int32) (nnj : Nat) (hhj : zH), S + 1 - j < k9_35 → (j ≤ S) → (nn < nnj) → (z_Dr (zm_G M) hhj a w (z_n1 w R d (z_n2 w R S v d) j) R S D a lr er ls es lv ev ra sa va na ba) → (z_fr (z_VA na ba S) hh hhj) → (hhj nn = some (.inr (24, [.int (nI j), .int lr9j, .int m9, .ref ls]))) → z_V M hhj nnj (5 * (8 - j) + 41 * (6 - d)) (20 * (8 - j) + 164 * (6 - d)) 35 [(3, .ref nn), (0, .ref x), (1, .ref a), (2, .int (nI d))] [] := by
          intro k9_35
          induction k9_35 with
          | zero => intro j lr9j nnj hhj hk9_35; exact absurd hk9_35 (Nat.not_lt_zero _)
          | succ k9_35 ih_35 =>
            intro j lr9j nnj hhj hk9_35 hj hnnj hDrj hFrj hTj
            refine z_aload_n hb dX1_renewed_35 rfl ?_
            refine z_call1 (b' := 5 * (8 - j) + 41 * (6 - d)) (f' := 20 * (8 - j) + 164 * (6 - d)) (rest := []) (av := [.ref nn]) (z_siteF hb ho zc24 hTj q588 zx2 q372 q374 q375 q373 q371 zxl2 dX1_renewed_36 : z_Site M _ _ _ _ _ ([].reverse ++ .ref nn :: []) [] _) zk_J8_hasNext q105 hrm (m_J8_hasNext hTj (hFrj _ _ (hFd _ _ h3 (hDr.nO h3)) (hDrd.nO (hFd _ _ h3 (hDr.nO h3)))) (by omega) (by omega)) (by omega) (by decide) (Nat.le_of_ble_eq_true rfl) (by omega) (by omega) ?_
            refine z_ifb_eq (tgt := 65) hb dX1_renewed_41 (by decide) (fun c_41 => ?_) (fun c_41 => ?_)
            · have hx_j : j = S := by simpa using c_41
              refine z_iinc (k0 := 3) (lv' := [(2, .int (nI (d + 1))), (3, .ref nn), (0, .ref x), (1, .ref a)]) hb dX1_renewed_65 rfl (nI_1 d) (by rw [hN]; decide) rfl ?_
              refine z_goto (tgt := 14) hb dX1_renewed_68 (by decide) ?_
              refine z_lv [2, 3, 0] (lv' := [(0, .ref x), (1, .ref a), (2, .int (nI (d + 1)))]) rfl ?_
              exact z_bf (by omega) (by omega) (ih_14 (d + 1) nnj hhj (by omega) (by omega) (by omega) (z_n2_s hx_j hDrj) (hFd.t hFrj))
            · have hl_j : j < S := Nat.lt_of_le_of_ne hj (by simpa using c_41)
              refine z_aload_n hb dX1_renewed_44 rfl ?_
              refine z_call1 (b' := 5 * (8 - j) + 41 * (6 - d)) (f' := 20 * (8 - j) + 164 * (6 - d)) (rest := []) (av := [.ref nn]) (z_siteF hb ho zc24 hTj q590 zx3 q381 q383 q384 q382 q371 zxl3 dX1_renewed_45 : z_Site M _ _ _ _ _ ([].reverse ++ .ref nn :: []) [] _) zk_J8_next q105 hrm (m_J8_next hTj (hFrj _ _ (hFd _ _ h3 (hDr.nO h3)) (hDrd.nO (hFd _ _ h3 (hDr.nO h3)))) (hFrj _ _ (hFd _ _ h4 (hDr.nA h4)) (hDrd.nA (hFd _ _ h4 (hDr.nA h4)))) (by omega) (by omega) h7 (by omega) (by omega)) (by omega) (by decide) (Nat.le_of_ble_eq_true rfl) (by omega) (by omega) ?_
              refine z_hn (fun h_16 eh_16 => ?_)
              have eh_16 : h_16 = z_up hhj nn (.inr (24, [.int (nI (j + 1)), .int (nI j), .int m9, .ref ls])) := eh_16
              have k_17 : h_16 lr = some (.inr (20, [.int m0, .ref er, .int (nI R)])) := z_nx eh_16 (Nat.ne_of_lt (hD_5 _ _ (hFd _ _ r1 (hDr.nO r1)))) (hFrj _ _ (hFd _ _ r1 (hDr.nO r1)) (hDrd.nO (hFd _ _ r1 (hDr.nO r1))))
              have k_18 : h_16 er = some (.inl ((zm_G M).2.1 5, N0, .inr (.inr (.inr (.inr f0))))) := z_nx eh_16 (Nat.ne_of_lt (hD_5 _ _ (hFd _ _ r2 (hDr.nA r2)))) (hFrj _ _ (hFd _ _ r2 (hDr.nA r2)) (hDrd.nA (hFd _ _ r2 (hDr.nA r2))))
              have k_19 : h_16 ls = some (.inr (20, [.int m9, .ref es, .int (nI S)])) := z_nx eh_16 (Nat.ne_of_lt (hD_5 _ _ (hFd _ _ h3 (hDr.nO h3)))) (hFrj _ _ (hFd _ _ h3 (hDr.nO h3)) (hDrd.nO (hFd _ _ h3 (hDr.nO h3))))
              have k_20 : h_16 es = some (.inl ((zm_G M).2.1 5, N, .inr (.inr (.inr (.inr f))))) := z_nx eh_16 (Nat.ne_of_lt (hD_5 _ _ (hFd _ _ h4 (hDr.nA h4)))) (hFrj _ _ (hFd _ _ h4 (hDr.nA h4)) (hDrd.nA (hFd _ _ h4 (hDr.nA h4))))
              have k_21 : h_16 lv = some (.inr (20, [.int mv, .ref ev, .int (nI S)])) := z_nx eh_16 (Nat.ne_of_lt (hD_5 _ _ (hFd _ _ v1 (hDr.nO v1)))) (hFrj _ _ (hFd _ _ v1 (hDr.nO v1)) (hDrd.nO (hFd _ _ v1 (hDr.nO v1))))
              have k_22 : h_16 ev = some (.inl ((zm_G M).2.1 5, Nv, .inr (.inr (.inr (.inr fv))))) := z_nx eh_16 (Nat.ne_of_lt (hD_5 _ _ (hFd _ _ v2 (hDr.nA v2)))) (hFrj _ _ (hFd _ _ v2 (hDr.nA v2)) (hDrd.nA (hFd _ _ v2 (hDr.nA v2))))
              have k_23 : h_16 a = some (.inr (1, [.ref lr, .ref ls, .ref lv, .int (nI D), .int (w 2), .int (w 4), .int (w 5), .int (w 6)])) := z_nx eh_16 (Nat.ne_of_lt (hD_5 _ _ (hFd _ _ h1 (hDr.nO h1)))) (hFrj _ _ (hFd _ _ h1 (hDr.nO h1)) (hDrd.nO (hFd _ _ h1 (hDr.nO h1))))
              have k_24 : h_16 x = some (.inr (0, [.ref la, .ref pa, .ref bu, .ref li, .int fa, va_rf de, va_rf sn])) := z_nx eh_16 (Nat.ne_of_lt (hD_5 _ _ (hFd _ _ hx8 (hDr.nO hx8)))) (hFrj _ _ (hFd _ _ hx8 (hDr.nO hx8)) (hDrd.nO (hFd _ _ hx8 (hDr.nO hx8))))
              have k_25 : h_16 la = some (.inr (1, [.ref lrA, .ref lsA, .ref lvA, .int (nI D), .int (w 2), .int (w 4), .int (w 5), .int (w 6)])) := z_nx eh_16 (Nat.ne_of_lt (hD_5 _ _ (hFd _ _ hl8 (hDr.nO hl8)))) (hFrj _ _ (hFd _ _ hl8 (hDr.nO hl8)) (hDrd.nO (hFd _ _ hl8 (hDr.nO hl8))))
              have J_53 : z_V M h_16 nnj (5 * (8 - j) + 41 * (6 - d)) (20 * (8 - j) + 164 * (6 - d)) 53 [(3, .ref nn), (0, .ref x), (1, .ref a), (2, .int (nI d))] [.ref (sa j)] := by
                refine z_astore (lv' := [(4, .ref (sa j)), (3, .ref nn), (0, .ref x), (1, .ref a), (2, .int (nI d))]) hb dX1_renewed_53 (by rw [hN]; decide) rfl ?_
                refine z_aload_n hb dX1_renewed_55 rfl ?_
                refine z_aload hb dX1_renewed_56 rfl ?_
                refine z_iload_n hb dX1_renewed_58 rfl ?_
                refine z_callQ0 (b' := (5 * (8 - j) + 41 * (6 - d)) - 5) (f' := (20 * (8 - j) + 164 * (6 - d)) - 20) (rest := []) (av := [.ref a, .ref (sa j), .int (nI d)]) (z_siteVN hb ho zc1 k_23 q592 q594 qs5 ⟨_, _, _, _, zk_X2_computePartition⟩ zy_X2_computePartition zl_X2_computePartition dX1_renewed_59 : z_Site M _ _ _ _ _ ([.ref (sa j), .int (nI d)].reverse ++ .ref a :: []) [] _) zk_X2_computePartition q95 hrm (m_X2_computePartition (hDrj.kp (z_kp_up hTj (by simp [z_lnk]) eh_16)) hb0 hR4 hS8 hD6 hl_j (show d ≤ D by omega)) (by omega) (by decide) (Nat.le_of_ble_eq_true rfl) (by omega) (by omega) (fun h_27 n_28 hq_26 hn_28 => ?_)
                have k_29 : h_27 lr = some (.inr (20, [.int m0, .ref er, .int (nI R)])) := (hq_26.2 _ _ k_17 ((hDrj.kp (z_kp_up hTj (by simp [z_lnk]) eh_16)).nO k_17))
                have k_30 : h_27 er = some (.inl ((zm_G M).2.1 5, N0, .inr (.inr (.inr (.inr f0))))) := (hq_26.2 _ _ k_18 ((hDrj.kp (z_kp_up hTj (by simp [z_lnk]) eh_16)).nA k_18))
                have k_31 : h_27 ls = some (.inr (20, [.int m9, .ref es, .int (nI S)])) := (hq_26.2 _ _ k_19 ((hDrj.kp (z_kp_up hTj (by simp [z_lnk]) eh_16)).nO k_19))
                have k_32 : h_27 es = some (.inl ((zm_G M).2.1 5, N, .inr (.inr (.inr (.inr f))))) := (hq_26.2 _ _ k_20 ((hDrj.kp (z_kp_up hTj (by simp [z_lnk]) eh_16)).nA k_20))
                have k_33 : h_27 lv = some (.inr (20, [.int mv, .ref ev, .int (nI S)])) := (hq_26.2 _ _ k_21 ((hDrj.kp (z_kp_up hTj (by simp [z_lnk]) eh_16)).nO k_21))
                have k_34 : h_27 ev = some (.inl ((zm_G M).2.1 5, Nv, .inr (.inr (.inr (.inr fv))))) := (hq_26.2 _ _ k_22 ((hDrj.kp (z_kp_up hTj (by simp [z_lnk]) eh_16)).nA k_22))
                have k_35 : h_27 a = some (.inr (1, [.ref lr, .ref ls, .ref lv, .int (nI D), .int (w 2), .int (w 4), .int (w 5), .int (w 6)])) := (hq_26.2 _ _ k_23 ((hDrj.kp (z_kp_up hTj (by simp [z_lnk]) eh_16)).nO k_23))
                have k_36 : h_27 x = some (.inr (0, [.ref la, .ref pa, .ref bu, .ref li, .int fa, va_rf de, va_rf sn])) := (hq_26.2 _ _ k_24 ((hDrj.kp (z_kp_up hTj (by simp [z_lnk]) eh_16)).nO k_24))
                have k_37 : h_27 la = some (.inr (1, [.ref lrA, .ref lsA, .ref lvA, .int (nI D), .int (w 2), .int (w 4), .int (w 5), .int (w 6)])) := (hq_26.2 _ _ k_25 ((hDrj.kp (z_kp_up hTj (by simp [z_lnk]) eh_16)).nO k_25))
                have k_38 : h_27 nn = some (.inr (24, [.int (nI (j + 1)), .int (nI j), .int m9, .ref ls])) := (hq_26.2 _ _ (z_nxs eh_16) ((hDrj.kp (z_kp_up hTj (by simp [z_lnk]) eh_16)).nO (z_nxs eh_16)))
                refine z_goto (tgt := 35) hb dX1_renewed_62 (by decide) ?_
                refine z_lv [1, 2, 3, 4] (lv' := [(3, .ref nn), (0, .ref x), (1, .ref a), (2, .int (nI d))]) rfl ?_
                exact z_bf (by omega) (by omega) (ih_35 (j + 1) _ n_28 h_27  (by omega) (by omega) (by omega) hq_26.1 ((z_frW hD_5 (by omega) eh_16 hFrj).t hq_26.2) k_38 )
              rcases (hDrj.kp (z_kp_up hTj (by simp [z_lnk]) eh_16)).sp j (by omega) with ⟨q1, q9⟩ | ⟨q1, q9⟩ | ⟨q1, q9⟩ | ⟨q1, q2, q3, q9⟩ | ⟨q1, q2, q3, q9⟩ | ⟨q1, q2, q3, q9⟩ | ⟨q1, q2, q3, q9⟩
              · exact z_cast hb ho zc8 q9 q591 (Or.inr q3300) dX1_renewed_50 J_53
              · exact z_cast hb ho zc9 q9 q591 (Or.inr q3296) dX1_renewed_50 J_53
              · exact z_cast hb ho zc10 q9 q591 (Or.inr q3297) dX1_renewed_50 J_53
              · exact z_cast hb ho zc11 q9 q591 (Or.inr q3298) dX1_renewed_50 J_53
              · exact z_cast hb ho zc11 q9 q591 (Or.inr q3298) dX1_renewed_50 J_53
              · exact z_cast hb ho zc12 q9 q591 (Or.inr q3299) dX1_renewed_50 J_53
              · exact z_cast hb ho zc13 q9 q591 (Or.inr q3295) dX1_renewed_50 J_53
        refine z_lv [0, 1, 2, 3] (lv' := [(3, .ref nn), (0, .ref x), (1, .ref a), (2, .int (nI d))]) rfl ?_
        exact z_bf (by omega) (by omega) (lp_35 _ 0 (-1) (nn + 1) h_6  (Nat.lt_succ_self _) (Nat.zero_le _) (by omega) (hDrd.kp (z_exN z_ex_r hD_5 eh_6).kp) (z_exN z_ex_r hD_5 eh_6).fr (z_nxs eh_6) )
  refine z_lv [2, 1, 0] (lv' := [(0, .ref x), (1, .ref a), (2, .int (nI 0))]) rfl ?_
  exact z_bf (by omega) (by omega) (lp_14 _ 0 n8 h8 (Nat.lt_succ_self _) (by omega) (by omega) hDr z_fr_r)

