def z_so (w : Nat → Int32) (d : Nat) : Nat → Nat
  | 0 => 0
  | k + 1 => z_so w d k + (tw_st w k d).toNat
theorem z_so_le {w : Nat → Int32} {d : Nat} : ∀ k, z_so w d k ≤ k
  | 0 => Nat.le_refl _
  | k + 1 => by
    have := z_so_le (w := w) (d := d) k
    rw [z_so]
    cases tw_st w k d <;> simp <;> omega
def z_sd (w : Nat → Int32) (S : Nat) : Nat → Nat
  | 0 => 0
  | d + 1 => z_sd w S d + z_so w d S
theorem z_stF_none {w : Nat → Int32} {S : Nat} : ∀ {n a : Nat}, (∀ e, a ≤ e → e < a + n → tw_anyS w e S = false) → tw_stF w S a n = none
  | 0, a, _ => rfl
  | n + 1, a, h => by
    rw [tw_stF, h a (Nat.le_refl _) (by omega), z_stF_none fun e h1 h2 => h e (by omega) (by omega)]
    rfl
theorem z_stF_some {w : Nat → Int32} {S d : Nat} : ∀ {n a : Nat}, (∀ e, a ≤ e → e < d → tw_anyS w e S = false) → a ≤ d → d < a + n → tw_anyS w d S = true → tw_stF w S a n = some d
  | 0, a, _, h1, h2, _ => by omega
  | n + 1, a, h, h1, h2, h3 => by
    rw [tw_stF]
    by_cases q : a = d
    · rw [q, h3]; rfl
    · rw [h a (Nat.le_refl _) (by omega), z_stF_some (fun e g1 g2 => h e (by omega) g2) (by omega) (by omega) h3]
      rfl
theorem z_anyS_n {w : Nat → Int32} {e : Nat} : ∀ {S : Nat}, (∀ k, k < S → tw_st w k e = false) → tw_anyS w e S = false
  | 0, _ => rfl
  | S + 1, h => by rw [tw_anyS, h S (by omega), z_anyS_n fun k hk => h k (by omega)]; rfl

set_option maxHeartbeats 1000000 in
theorem m_X2_staleOn {l : Launch} {G : zG} {h : zH} {n : Nat} {w : Nat → Int32} {v : Nat → Int64} {R S D a lr ls lv : Nat} {ra sa va : Nat → Nat} {d : Nat} (hL : z_Ln G h w v R S D a lr ls lv ra sa va) (hS8 : S ≤ 8) (hD6 : D ≤ 6) (hd : d ≤ D) : z_C l G yX2_staleOn 5 1 4 [.ref a, .int (nI d)] h n (z_rn (.int (nI (z_so w d S))) h) := by
  refine z_start zk_X2_staleOn zpl_RX2 (Nat.le_of_ble_eq_true rfl) ?_
  intro hn0 M hl hG ho hb hN hr hm hH hrm hQ
  subst hl hG
  have ho : zm_o M = RX2 := ho
  obtain ⟨h1, ⟨e0, N0, m0, f0, r1, r2, r3, ⟨r4, r4n⟩, r5⟩, ⟨e, N, m9, f, h3, h4, h5, ⟨h6, h6n⟩, h7⟩, ⟨ev, Nv, mv, fv, v1, v2, v3, ⟨v4, v4n⟩, v5⟩, h9, hs, hv, hi, hrI⟩ := id hL
  show z_V M h n 1 4 0 [(0, .ref a), (1, .int (nI d))] []
  refine z_dom (fun hD0 => ?_)
  refine z_iconst (x := nI 0) hb dX2_staleOn_0 (by decide) ?_
  refine z_istore_n (lv' := [(2, .int (nI 0)), (0, .ref a), (1, .int (nI d))]) hb dX2_staleOn_1 (by rw [hN]; decide) rfl ?_
  refine z_aload_n hb dX2_staleOn_2 rfl ?_
  refine z_get (k := 2) (C := RX2) (T := TX2) (N := 8) hb ho zc1 in_X2 (zf_RX2_21 _) dX2_staleOn_3 h1 (by decide) rfl ?_
  refine z_dom (fun hD_1 => ?_)
  refine z_call1 (b' := 0) (f' := 0) (rest := []) (av := [.ref lv]) (z_siteF hb ho zc20 v1 q340 zx1 q343 q345 q346 q344 q321 zxl1 dX2_staleOn_6 : z_Site M _ _ _ _ _ ([].reverse ++ .ref lv :: []) [] _) zk_J2_iterator q98 hrm (m_J2_iterator v1 (hD_1 _ _ v1)) (by omega) (by decide) (Nat.le_of_ble_eq_true rfl) (by omega) (by omega) ?_
  refine z_hn (fun h_2 eh_2 => ?_)
  have eh_2 : h_2 = z_up h n (.inr (24, [.int (nI 0), .int (-1), .int mv, .ref lv])) := eh_2
  have k_3 : h_2 a = some (.inr (1, [.ref lr, .ref ls, .ref lv, .int (nI D), .int (w 2), .int (w 4), .int (w 5), .int (w 6)])) := z_nx eh_2 (Nat.ne_of_lt (hD_1 _ _ h1)) h1
  have k_4 : h_2 lr = some (.inr (20, [.int m0, .ref e0, .int (nI R)])) := z_nx eh_2 (Nat.ne_of_lt (hD_1 _ _ r1)) r1
  have k_5 : h_2 e0 = some (.inl ((zm_G M).2.1 5, N0, .inr (.inr (.inr (.inr f0))))) := z_nx eh_2 (Nat.ne_of_lt (hD_1 _ _ r2)) r2
  have k_6 : h_2 ls = some (.inr (20, [.int m9, .ref e, .int (nI S)])) := z_nx eh_2 (Nat.ne_of_lt (hD_1 _ _ h3)) h3
  have k_7 : h_2 e = some (.inl ((zm_G M).2.1 5, N, .inr (.inr (.inr (.inr f))))) := z_nx eh_2 (Nat.ne_of_lt (hD_1 _ _ h4)) h4
  have k_8 : h_2 lv = some (.inr (20, [.int mv, .ref ev, .int (nI S)])) := z_nx eh_2 (Nat.ne_of_lt (hD_1 _ _ v1)) v1
  have k_9 : h_2 ev = some (.inl ((zm_G M).2.1 5, Nv, .inr (.inr (.inr (.inr fv))))) := z_nx eh_2 (Nat.ne_of_lt (hD_1 _ _ v2)) v2
  refine z_astore_n (lv' := [(3, .ref n), (2, .int (nI 0)), (0, .ref a), (1, .int (nI d))]) hb dX2_staleOn_11 (by rw [hN]; decide) rfl ?_
  have lp_12 : ∀ (k9_12 : Nat) (j : Nat) (lr9j : Int32) (nnj : Nat) (hhj : zH), S + 1 - j < k9_12 → (j ≤ S) → (n < nnj) → (z_ex h hhj) → (hhj n = some (.inr (24, [.int (nI j), .int lr9j, .int mv, .ref lv]))) → z_V M hhj nnj 0 0 12 [(3, .ref n), (2, .int (nI (z_so w d j))), (0, .ref a), (1, .int (nI d))] [] := by
    intro k9_12
    induction k9_12 with
    | zero => intro j lr9j nnj hhj hk9_12; exact absurd hk9_12 (Nat.not_lt_zero _)
    | succ k9_12 ih_12 =>
      intro j lr9j nnj hhj hk9_12 hj hnnj hEj hTj
      refine z_aload_n hb dX2_staleOn_12 rfl ?_
      refine z_call1 (b' := 0) (f' := 0) (rest := []) (av := [.ref n]) (z_siteF hb ho zc24 hTj q368 zx2 q372 q374 q375 q373 q371 zxl2 dX2_staleOn_13 : z_Site M _ _ _ _ _ ([].reverse ++ .ref n :: []) [] _) zk_J8_hasNext q105 hrm (m_J8_hasNext hTj (hEj _ _ v1) (by omega) (by omega)) (by omega) (by decide) (Nat.le_of_ble_eq_true rfl) (by omega) (by omega) ?_
      refine z_ifb_eq (tgt := 53) hb dX2_staleOn_18 (by decide) (fun c_18 => ?_) (fun c_18 => ?_)
      · have hx_j : j = S := by simpa using c_18
        refine z_iload_n hb dX2_staleOn_53 rfl ?_
        refine z_less hEj ?_
        refine z_iret hb hr dX2_staleOn_54 ?_
        rw [hQ]
        subst hx_j
        exact ⟨rfl, rfl⟩
      · have hl_j : j < S := Nat.lt_of_le_of_ne hj (by simpa using c_18)
        refine z_aload_n hb dX2_staleOn_21 rfl ?_
        refine z_call1 (b' := 0) (f' := 0) (rest := []) (av := [.ref n]) (z_siteF hb ho zc24 hTj q378 zx3 q381 q383 q384 q382 q371 zxl3 dX2_staleOn_22 : z_Site M _ _ _ _ _ ([].reverse ++ .ref n :: []) [] _) zk_J8_next q105 hrm (m_J8_next hTj (hEj _ _ v1) (hEj _ _ v2) (by omega) (by omega) v5 (by omega) (by omega)) (by omega) (by decide) (Nat.le_of_ble_eq_true rfl) (by omega) (by omega) ?_
        refine z_hn (fun h_10 eh_10 => ?_)
        have eh_10 : h_10 = z_up hhj n (.inr (24, [.int (nI (j + 1)), .int (nI j), .int mv, .ref lv])) := eh_10
        have k_11 : h_10 a = some (.inr (1, [.ref lr, .ref ls, .ref lv, .int (nI D), .int (w 2), .int (w 4), .int (w 5), .int (w 6)])) := z_nx eh_10 (Nat.ne_of_lt (hD_1 _ _ h1)) (hEj _ _ h1)
        have k_12 : h_10 lr = some (.inr (20, [.int m0, .ref e0, .int (nI R)])) := z_nx eh_10 (Nat.ne_of_lt (hD_1 _ _ r1)) (hEj _ _ r1)
        have k_13 : h_10 e0 = some (.inl ((zm_G M).2.1 5, N0, .inr (.inr (.inr (.inr f0))))) := z_nx eh_10 (Nat.ne_of_lt (hD_1 _ _ r2)) (hEj _ _ r2)
        have k_14 : h_10 ls = some (.inr (20, [.int m9, .ref e, .int (nI S)])) := z_nx eh_10 (Nat.ne_of_lt (hD_1 _ _ h3)) (hEj _ _ h3)
        have k_15 : h_10 e = some (.inl ((zm_G M).2.1 5, N, .inr (.inr (.inr (.inr f))))) := z_nx eh_10 (Nat.ne_of_lt (hD_1 _ _ h4)) (hEj _ _ h4)
        have k_16 : h_10 lv = some (.inr (20, [.int mv, .ref ev, .int (nI S)])) := z_nx eh_10 (Nat.ne_of_lt (hD_1 _ _ v1)) (hEj _ _ v1)
        have k_17 : h_10 ev = some (.inl ((zm_G M).2.1 5, Nv, .inr (.inr (.inr (.inr fv))))) := z_nx eh_10 (Nat.ne_of_lt (hD_1 _ _ v2)) (hEj _ _ v2)
        obtain ⟨e1, e2, F, Z, hv1, hv2, hv3, hv4, hv5, hv6⟩ := hv j (by omega)
        have k_18 : h_10 (va j) = some (.inr (3, [.ref e1, .ref e2])) := (z_exW hD0 (by omega) eh_10 hEj) _ _ hv1
        have k_19 : h_10 e2 = some (.inl ((zm_G M).2.1 2, 7, .inl Z)) := (z_exW hD0 (by omega) eh_10 hEj) _ _ hv3
        have k_20 : h_10 e1 = some (.inl ((zm_G M).2.1 1, 35, .inr (.inl F))) := (z_exW hD0 (by omega) eh_10 hEj) _ _ hv2
        refine z_cast hb ho zc3 k_18 q461 (Or.inl rfl) dX2_staleOn_27 ?_
        refine z_astore (lv' := [(4, .ref (va j)), (3, .ref n), (2, .int (nI (z_so w d j))), (0, .ref a), (1, .int (nI d))]) hb dX2_staleOn_30 (by rw [hN]; decide) rfl ?_
        refine z_iload_n hb dX2_staleOn_32 rfl ?_
        refine z_aload hb dX2_staleOn_33 rfl ?_
        refine z_get (k := 1) (C := RX4) (T := TX4) (N := 2) hb ho zc3 in_X4 (zf_RX2_101 _) dX2_staleOn_35 k_18 (by decide) rfl ?_
        refine z_iload_n hb dX2_staleOn_38 rfl ?_
        refine z_zald (j := d) hb dX2_staleOn_39 k_19 rfl (by omega) (by omega) ?_
        refine z_toI (y := z_b (tw_st w j d)) (hv5 d hd) ?_
        refine z_ifb_eq (tgt := 47) hb dX2_staleOn_40 (by decide) (fun c_40 => ?_) (fun c_40 => ?_)
        · refine z_iconst (x := nI 0) hb dX2_staleOn_47 (by decide) ?_
          refine z_iadd hb dX2_staleOn_48 ?_
          refine z_toI (y := nI (z_so w d j)) (nI_add (z_so w d j) 0) ?_
          refine z_toI (y := nI (z_so w d (j + 1))) (by rw [z_so, c_40]; rfl) ?_
          refine z_istore_n (lv' := [(2, .int (nI (z_so w d (j + 1)))), (4, .ref (va j)), (3, .ref n), (0, .ref a), (1, .int (nI d))]) hb dX2_staleOn_49 (by rw [hN]; decide) rfl ?_
          refine z_goto (tgt := 12) hb dX2_staleOn_50 (by decide) ?_
          refine z_lv [2, 0, 3, 4] (lv' := [(3, .ref n), (2, .int (nI (z_so w d (j + 1)))), (0, .ref a), (1, .int (nI d))]) rfl ?_
          exact ih_12 (j + 1) _ nnj h_10  (by omega) (by omega) (by omega) (z_exW hD_1 (by omega) eh_10 hEj) (z_nxs eh_10) 
        · refine z_iconst (x := nI 1) hb dX2_staleOn_43 (by decide) ?_
          refine z_goto (tgt := 48) hb dX2_staleOn_44 (by decide) ?_
          refine z_iadd hb dX2_staleOn_48 ?_
          refine z_toI (y := nI (z_so w d j + 1)) (nI_add (z_so w d j) 1) ?_
          refine z_toI (y := nI (z_so w d (j + 1))) (by rw [z_so, c_40]; rfl) ?_
          refine z_istore_n (lv' := [(2, .int (nI (z_so w d (j + 1)))), (4, .ref (va j)), (3, .ref n), (0, .ref a), (1, .int (nI d))]) hb dX2_staleOn_49 (by rw [hN]; decide) rfl ?_
          refine z_goto (tgt := 12) hb dX2_staleOn_50 (by decide) ?_
          refine z_lv [2, 0, 3, 4] (lv' := [(3, .ref n), (2, .int (nI (z_so w d (j + 1)))), (0, .ref a), (1, .int (nI d))]) rfl ?_
          exact ih_12 (j + 1) _ nnj h_10  (by omega) (by omega) (by omega) (z_exW hD_1 (by omega) eh_10 hEj) (z_nxs eh_10) 
  refine z_lv [0, 1, 2, 3] (lv' := [(3, .ref n), (2, .int (nI 0)), (0, .ref a), (1, .int (nI d))]) rfl ?_
  exact lp_12 _ 0 (-1) (n + 1) h_2  (Nat.lt_succ_self _) (Nat.zero_le _) (by omega) (z_exN z_ex_r hD_1 eh_2) (z_nxs eh_2) 

set_option maxHeartbeats 1000000 in
theorem m_X2_firstStaleDay {l : Launch} {G : zG} {h : zH} {n : Nat} {w : Nat → Int32} {v : Nat → Int64} {R S D a lr ls lv : Nat} {ra sa va : Nat → Nat} (hL : z_Ln G h w v R S D a lr ls lv ra sa va) (hS8 : S ≤ 8) (hD6 : D ≤ 6) : z_C l G yX2_firstStaleDay 5 7 28 [.ref a] h n (z_rn (.int (z_o (tw_stF w S 0 (D + 1)))) h) := by
  refine z_start zk_X2_firstStaleDay zpl_RX2 (Nat.le_of_ble_eq_true rfl) ?_
  intro hn0 M hl hG ho hb hN hr hm hH hrm hQ
  subst hl hG
  have ho : zm_o M = RX2 := ho
  obtain ⟨h1, ⟨e0, N0, m0, f0, r1, r2, r3, ⟨r4, r4n⟩, r5⟩, ⟨e, N, m9, f, h3, h4, h5, ⟨h6, h6n⟩, h7⟩, ⟨ev, Nv, mv, fv, v1, v2, v3, ⟨v4, v4n⟩, v5⟩, h9, hs, hv, hi, hrI⟩ := id hL
  show z_V M h n 7 28 0 [(0, .ref a)] []
  refine z_dom (fun hD0 => ?_)
  refine z_iconst (x := nI 0) hb dX2_firstStaleDay_0 (by decide) ?_
  refine z_istore_n (lv' := [(1, .int (nI 0)), (0, .ref a)]) hb dX2_firstStaleDay_1 (by rw [hN]; decide) rfl ?_
  have lp_2 : ∀ (k9_2 : Nat) (nno : Nat) (d : Nat), D + 2 - d < k9_2 → (n ≤ nno) → (d ≤ D + 1) → (∀ e, e < d → tw_anyS w e S = false) → z_V M h nno (7 - d) (4 * (7 - d)) 2 [(1, .int (nI d)), (0, .ref a)] [] := by
    intro k9_2
    induction k9_2 with
    | zero => intro nno d hk9_2; exact absurd hk9_2 (Nat.not_lt_zero _)
    | succ k9_2 ih_2 =>
      intro nno d hk9_2 hnno hd hno
      refine z_iload_n hb dX2_firstStaleDay_2 rfl ?_
      refine z_aload_n hb dX2_firstStaleDay_3 rfl ?_
      refine z_get (k := 3) (C := RX2) (T := TX2) (N := 8) hb ho zc1 in_X2 (zf_RX2_54 _) dX2_firstStaleDay_4 h1 (by decide) rfl ?_
      refine z_icmp_gtN (tgt := 59) hb dX2_firstStaleDay_7 (by decide) (by omega) (by omega) (fun c_7 => ?_) (fun c_7 => ?_)
      · refine z_iconst (x := (-1)) hb dX2_firstStaleDay_59 (by decide) ?_
        refine z_iret hb hr dX2_firstStaleDay_60 ?_
        rw [hQ]
        exact z_rn_e (by rw [z_stF_none (fun e _ he => hno e (by omega))]; rfl)
      · refine z_aload_n hb dX2_firstStaleDay_10 rfl ?_
        refine z_get (k := 2) (C := RX2) (T := TX2) (N := 8) hb ho zc1 in_X2 (zf_RX2_21 _) dX2_firstStaleDay_11 h1 (by decide) rfl ?_
        refine z_dom (fun hD_1 => ?_)
        refine z_call1 (b' := (7 - d) - 1) (f' := (4 * (7 - d)) - 4) (rest := []) (av := [.ref lv]) (z_siteF hb ho zc20 v1 q340 zx1 q343 q345 q346 q344 q321 zxl1 dX2_firstStaleDay_14 : z_Site M _ _ _ _ _ ([].reverse ++ .ref lv :: []) [] _) zk_J2_iterator q98 hrm (m_J2_iterator v1 (hD_1 _ _ v1)) (by omega) (by decide) (Nat.le_of_ble_eq_true rfl) (by omega) (by omega) ?_
        refine z_hn (fun h_2 eh_2 => ?_)
        have eh_2 : h_2 = z_up h nno (.inr (24, [.int (nI 0), .int (-1), .int mv, .ref lv])) := eh_2
        have k_3 : h_2 a = some (.inr (1, [.ref lr, .ref ls, .ref lv, .int (nI D), .int (w 2), .int (w 4), .int (w 5), .int (w 6)])) := z_nx eh_2 (Nat.ne_of_lt (hD_1 _ _ h1)) h1
        have k_4 : h_2 lr = some (.inr (20, [.int m0, .ref e0, .int (nI R)])) := z_nx eh_2 (Nat.ne_of_lt (hD_1 _ _ r1)) r1
        have k_5 : h_2 e0 = some (.inl ((zm_G M).2.1 5, N0, .inr (.inr (.inr (.inr f0))))) := z_nx eh_2 (Nat.ne_of_lt (hD_1 _ _ r2)) r2
        have k_6 : h_2 ls = some (.inr (20, [.int m9, .ref e, .int (nI S)])) := z_nx eh_2 (Nat.ne_of_lt (hD_1 _ _ h3)) h3
        have k_7 : h_2 e = some (.inl ((zm_G M).2.1 5, N, .inr (.inr (.inr (.inr f))))) := z_nx eh_2 (Nat.ne_of_lt (hD_1 _ _ h4)) h4
        have k_8 : h_2 lv = some (.inr (20, [.int mv, .ref ev, .int (nI S)])) := z_nx eh_2 (Nat.ne_of_lt (hD_1 _ _ v1)) v1
        have k_9 : h_2 ev = some (.inl ((zm_G M).2.1 5, Nv, .inr (.inr (.inr (.inr fv))))) := z_nx eh_2 (Nat.ne_of_lt (hD_1 _ _ v2)) v2
        refine z_astore_n (lv' := [(2, .ref nno), (1, .int (nI d)), (0, .ref a)]) hb dX2_firstStaleDay_19 (by rw [hN]; decide) rfl ?_
        have lp_20 : ∀ (k9_20 : Nat) (j : Nat) (lr9j : Int32) (nnj : Nat) (hhj : zH), S + 1 - j < k9_20 → (j ≤ S) → (nno < nnj) → (z_ex h hhj) → (hhj nno = some (.inr (24, [.int (nI j), .int lr9j, .int mv, .ref lv]))) → (∀ k, k < j → tw_st w k d = false) → z_V M hhj nnj ((7 - d) - 1) ((4 * (7 - d)) - 4) 20 [(2, .ref nno), (1, .int (nI d)), (0, .ref a)] [] := by
          intro k9_20
          induction k9_20 with
          | zero => intro j lr9j nnj hhj hk9_20; exact absurd hk9_20 (Nat.not_lt_zero _)
          | succ k9_20 ih_20 =>
            intro j lr9j nnj hhj hk9_20 hj hnnj hEj hTj hns
            refine z_aload_n hb dX2_firstStaleDay_20 rfl ?_
            refine z_call1 (b' := (7 - d) - 1) (f' := (4 * (7 - d)) - 4) (rest := []) (av := [.ref nno]) (z_siteF hb ho zc24 hTj q368 zx2 q372 q374 q375 q373 q371 zxl2 dX2_firstStaleDay_21 : z_Site M _ _ _ _ _ ([].reverse ++ .ref nno :: []) [] _) zk_J8_hasNext q105 hrm (m_J8_hasNext hTj (hEj _ _ v1) (by omega) (by omega)) (by omega) (by decide) (Nat.le_of_ble_eq_true rfl) (by omega) (by omega) ?_
            refine z_ifb_eq (tgt := 53) hb dX2_firstStaleDay_26 (by decide) (fun c_26 => ?_) (fun c_26 => ?_)
            · have hx_j : j = S := by simpa using c_26
              refine z_iinc (k0 := 1) (lv' := [(1, .int (nI (d + 1))), (2, .ref nno), (0, .ref a)]) hb dX2_firstStaleDay_53 rfl (nI_1 d) (by rw [hN]; decide) rfl ?_
              refine z_goto (tgt := 2) hb dX2_firstStaleDay_56 (by decide) ?_
              refine z_lv [0, 2] (lv' := [(1, .int (nI (d + 1))), (0, .ref a)]) rfl ?_
              refine z_less hEj ?_
              
              exact z_bf (by omega) (by omega) (ih_2 nnj (d + 1) (by omega) (by omega) (by omega) (fun e he => by
                rcases Nat.lt_succ_iff_lt_or_eq.mp he with z | z
                · exact hno e z
                · rw [z]; exact z_anyS_n (fun k hk => hns k (by omega))))
            · have hl_j : j < S := Nat.lt_of_le_of_ne hj (by simpa using c_26)
              refine z_aload_n hb dX2_firstStaleDay_29 rfl ?_
              refine z_call1 (b' := (7 - d) - 1) (f' := (4 * (7 - d)) - 4) (rest := []) (av := [.ref nno]) (z_siteF hb ho zc24 hTj q378 zx3 q381 q383 q384 q382 q371 zxl3 dX2_firstStaleDay_30 : z_Site M _ _ _ _ _ ([].reverse ++ .ref nno :: []) [] _) zk_J8_next q105 hrm (m_J8_next hTj (hEj _ _ v1) (hEj _ _ v2) (by omega) (by omega) v5 (by omega) (by omega)) (by omega) (by decide) (Nat.le_of_ble_eq_true rfl) (by omega) (by omega) ?_
              refine z_hn (fun h_10 eh_10 => ?_)
              have eh_10 : h_10 = z_up hhj nno (.inr (24, [.int (nI (j + 1)), .int (nI j), .int mv, .ref lv])) := eh_10
              have k_11 : h_10 a = some (.inr (1, [.ref lr, .ref ls, .ref lv, .int (nI D), .int (w 2), .int (w 4), .int (w 5), .int (w 6)])) := z_nx eh_10 (Nat.ne_of_lt (hD_1 _ _ h1)) (hEj _ _ h1)
              have k_12 : h_10 lr = some (.inr (20, [.int m0, .ref e0, .int (nI R)])) := z_nx eh_10 (Nat.ne_of_lt (hD_1 _ _ r1)) (hEj _ _ r1)
              have k_13 : h_10 e0 = some (.inl ((zm_G M).2.1 5, N0, .inr (.inr (.inr (.inr f0))))) := z_nx eh_10 (Nat.ne_of_lt (hD_1 _ _ r2)) (hEj _ _ r2)
              have k_14 : h_10 ls = some (.inr (20, [.int m9, .ref e, .int (nI S)])) := z_nx eh_10 (Nat.ne_of_lt (hD_1 _ _ h3)) (hEj _ _ h3)
              have k_15 : h_10 e = some (.inl ((zm_G M).2.1 5, N, .inr (.inr (.inr (.inr f))))) := z_nx eh_10 (Nat.ne_of_lt (hD_1 _ _ h4)) (hEj _ _ h4)
              have k_16 : h_10 lv = some (.inr (20, [.int mv, .ref ev, .int (nI S)])) := z_nx eh_10 (Nat.ne_of_lt (hD_1 _ _ v1)) (hEj _ _ v1)
              have k_17 : h_10 ev = some (.inl ((zm_G M).2.1 5, Nv, .inr (.inr (.inr (.inr fv))))) := z_nx eh_10 (Nat.ne_of_lt (hD_1 _ _ v2)) (hEj _ _ v2)
              obtain ⟨e1, e2, F, Z, hv1, hv2, hv3, hv4, hv5, hv6⟩ := hv j (by omega)
              have k_18 : h_10 (va j) = some (.inr (3, [.ref e1, .ref e2])) := (z_exW hD0 (by omega) eh_10 hEj) _ _ hv1
              have k_19 : h_10 e2 = some (.inl ((zm_G M).2.1 2, 7, .inl Z)) := (z_exW hD0 (by omega) eh_10 hEj) _ _ hv3
              have k_20 : h_10 e1 = some (.inl ((zm_G M).2.1 1, 35, .inr (.inl F))) := (z_exW hD0 (by omega) eh_10 hEj) _ _ hv2
              refine z_cast hb ho zc3 k_18 q461 (Or.inl rfl) dX2_firstStaleDay_35 ?_
              refine z_astore_n (lv' := [(3, .ref (va j)), (2, .ref nno), (1, .int (nI d)), (0, .ref a)]) hb dX2_firstStaleDay_38 (by rw [hN]; decide) rfl ?_
              refine z_aload_n hb dX2_firstStaleDay_39 rfl ?_
              refine z_get (k := 1) (C := RX4) (T := TX4) (N := 2) hb ho zc3 in_X4 (zf_RX2_101 _) dX2_firstStaleDay_40 k_18 (by decide) rfl ?_
              refine z_iload_n hb dX2_firstStaleDay_43 rfl ?_
              refine z_zald (j := d) hb dX2_firstStaleDay_44 k_19 rfl (by omega) (by omega) ?_
              refine z_toI (y := z_b (tw_st w j d)) (hv5 d (by omega)) ?_
              refine z_ifb_eq (tgt := 50) hb dX2_firstStaleDay_45 (by decide) (fun c_45 => ?_) (fun c_45 => ?_)
              · refine z_goto (tgt := 20) hb dX2_firstStaleDay_50 (by decide) ?_
                refine z_lv [1, 2, 3] (lv' := [(2, .ref nno), (1, .int (nI d)), (0, .ref a)]) rfl ?_
                exact ih_20 (j + 1) _ nnj h_10  (by omega) (by omega) (by omega) (z_exW hD_1 (by omega) eh_10 hEj) (z_nxs eh_10) (fun k hk => by
                  rcases Nat.lt_succ_iff_lt_or_eq.mp hk with z | z
                  · exact hns k z
                  · rw [z]; exact c_45)
              · refine z_iload_n hb dX2_firstStaleDay_48 rfl ?_
                refine z_less (z_exW hD0 (by omega) eh_10 hEj) ?_
                refine z_iret hb hr dX2_firstStaleDay_49 ?_
                rw [hQ]
                exact z_rn_e (by rw [z_stF_some (d := d) (fun e _ he => hno e he) (Nat.zero_le _) (by omega) (tw_anyS_of c_45 hl_j)]; rfl)
        refine z_lv [0, 1, 2] (lv' := [(2, .ref nno), (1, .int (nI d)), (0, .ref a)]) rfl ?_
        exact lp_20 _ 0 (-1) (nno + 1) h_2  (Nat.lt_succ_self _) (Nat.zero_le _) (by omega) (z_exN z_ex_r hD_1 eh_2) (z_nxs eh_2) (fun k hk => absurd hk (Nat.not_lt_zero _))
  refine z_lv [0, 1] (lv' := [(1, .int (nI 0)), (0, .ref a)]) rfl ?_
  exact z_bf (by omega) (by omega) (lp_2 _ n 0 (Nat.lt_succ_self _) (by omega) (Nat.zero_le _) (fun e he => absurd he (Nat.not_lt_zero _)))

set_option maxHeartbeats 1000000 in
theorem m_X1_stale {l : Launch} {G : zG} {h : zH} {n : Nat} {t : Nat} {x1 x2 x3 x4 x5 x6 : Value} {w : Nat → Int32} {v : Nat → Int64} {R S D a lr ls lv : Nat} {ra sa va : Nat → Nat}  (hX : h t = some (.inr (0, [.ref a, x1, x2, x3, x4, x5, x6]))) (hL : z_Ln G h w v R S D a lr ls lv ra sa va) (hS8 : S ≤ 8) (hD6 : D ≤ 6) : z_C l G yX1_stale 6 7 28 [.ref t] h n (z_rn (.int (nI (z_sd w S (D + 1)))) h) := by
  refine z_start zk_X1_stale zpl_RX1 (Nat.le_of_ble_eq_true rfl) ?_
  intro hn0 M hl hG ho hb hN hr hm hH hrm hQ
  subst hl hG
  have ho : zm_o M = RX1 := ho
  obtain ⟨h1, ⟨e0, N0, m0, f0, r1, r2, r3, ⟨r4, r4n⟩, r5⟩, ⟨e, N, m9, f, h3, h4, h5, ⟨h6, h6n⟩, h7⟩, ⟨ev, Nv, mv, fv, v1, v2, v3, ⟨v4, v4n⟩, v5⟩, h9, hs, hv, hi, hrI⟩ := id hL
  show z_V M h n 7 28 0 [(0, .ref t)] []
  refine z_dom (fun hD0 => ?_)
  refine z_iconst (x := nI 0) hb dX1_stale_0 (by decide) ?_
  refine z_istore_n (lv' := [(1, .int (nI 0)), (0, .ref t)]) hb dX1_stale_1 (by rw [hN]; decide) rfl ?_
  refine z_iconst (x := nI 0) hb dX1_stale_2 (by decide) ?_
  refine z_istore_n (lv' := [(2, .int (nI 0)), (1, .int (nI 0)), (0, .ref t)]) hb dX1_stale_3 (by rw [hN]; decide) rfl ?_
  have lp_4 : ∀ (k9_4 : Nat) (nno : Nat) (d : Nat), D + 2 - d < k9_4 → (n ≤ nno) → (d ≤ D + 1) → z_V M h nno (7 - d) (4 * (7 - d)) 4 [(2, .int (nI d)), (1, .int (nI (z_sd w S d))), (0, .ref t)] [] := by
    intro k9_4
    induction k9_4 with
    | zero => intro nno d hk9_4; exact absurd hk9_4 (Nat.not_lt_zero _)
    | succ k9_4 ih_4 =>
      intro nno d hk9_4 hnno hd
      refine z_iload_n hb dX1_stale_4 rfl ?_
      refine z_aload_n hb dX1_stale_5 rfl ?_
      refine z_get (k := 0) (C := RX1) (T := TX1) (N := 7) hb ho zc0 in_X1 (zf_RX1_41 _) dX1_stale_6 hX (by decide) rfl ?_
      refine z_get (k := 3) (C := RX2) (T := TX2) (N := 8) hb ho zc1 in_X2 (zf_RX1_120 _) dX1_stale_9 h1 (by decide) rfl ?_
      refine z_icmp_gtN (tgt := 32) hb dX1_stale_12 (by decide) (by omega) (by omega) (fun c_12 => ?_) (fun c_12 => ?_)
      · refine z_iload_n hb dX1_stale_32 rfl ?_
        refine z_iret hb hr dX1_stale_33 ?_
        rw [hQ]
        obtain rfl : d = D + 1 := by omega
        exact ⟨rfl, rfl⟩
      · refine z_iload_n hb dX1_stale_15 rfl ?_
        refine z_aload_n hb dX1_stale_16 rfl ?_
        refine z_get (k := 0) (C := RX1) (T := TX1) (N := 7) hb ho zc0 in_X1 (zf_RX1_41 _) dX1_stale_17 hX (by decide) rfl ?_
        refine z_iload_n hb dX1_stale_20 rfl ?_
        refine z_callN1 (b' := (7 - d) - 1) (f' := (4 * (7 - d)) - 4) (rest := [.int (nI (z_sd w S d))]) (av := [.ref a, .int (nI d)]) (z_siteV hb ho zc1 h1 q335 q336 q337 ⟨_, _, _, _, zk_X2_staleOn⟩ zy_X2_staleOn zl_X2_staleOn dX1_stale_21 : z_Site M _ _ _ _ _ ([.int (nI d)].reverse ++ .ref a :: [.int (nI (z_sd w S d))]) [.int (nI (z_sd w S d))] _) zk_X2_staleOn q95 hrm (m_X2_staleOn hL hS8 hD6 (by omega)) (by omega) (by decide) (Nat.le_of_ble_eq_true rfl) (by omega) (by omega) (fun n_1 hn_1 => ?_)
        refine z_iadd hb dX1_stale_24 ?_
        refine z_toI (y := nI (z_sd w S d + (z_so w d S))) (nI_add (z_sd w S d) (z_so w d S)) ?_
        refine z_toI (y := nI (z_sd w S (d + 1))) rfl ?_
        refine z_istore_n (lv' := [(1, .int (nI (z_sd w S (d + 1)))), (2, .int (nI d)), (0, .ref t)]) hb dX1_stale_25 (by rw [hN]; decide) rfl ?_
        refine z_iinc (k0 := 1) (lv' := [(2, .int (nI (d + 1))), (1, .int (nI (z_sd w S (d + 1)))), (0, .ref t)]) hb dX1_stale_26 rfl (nI_1 d) (by rw [hN]; decide) rfl ?_
        refine z_goto (tgt := 4) hb dX1_stale_29 (by decide) ?_
        refine z_lv [0, 1, 2] (lv' := [(2, .int (nI (d + 1))), (1, .int (nI (z_sd w S (d + 1)))), (0, .ref t)]) rfl ?_
        exact z_bf (by omega) (by omega) (ih_4 n_1 (d + 1) (by omega) (by omega) (by omega))
  refine z_lv [0, 1, 2] (lv' := [(2, .int (nI 0)), (1, .int (nI 0)), (0, .ref t)]) rfl ?_
  exact z_bf (by omega) (by omega) (lp_4 _ n 0 (Nat.lt_succ_self _) (by omega) (Nat.zero_le _))

