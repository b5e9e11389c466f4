theorem z_lev_0 {h : zH} {w : Nat → Int32} {sa : Nat → Nat} {k : Nat} (hs : z_Sp h w sa k) : (z_lev w (k + 1) k = 0) ↔ tw_base w k = true := by
  cases hb : tw_base w k
  · obtain ⟨h1, h2⟩ := hs.lt hb
    rw [z_lev_n hb h1 h2]
    simp
  · rw [z_lev_b hb]; simp
theorem z_lev_p {h : zH} {w : Nat → Int32} {sa : Nat → Nat} {k : Nat} (hs : z_Sp h w sa k) (h0 : 0 < z_lev w (k + 1) k) : tw_base w k = false := by
  cases hb : tw_base w k
  · rfl
  · rw [(z_lev_0 hs).mpr hb] at h0
    exact absurd h0 (Nat.lt_irrefl _)
theorem z_cs_fin {G : zG} {h : zH} {b0 : Nat} {w : Nat → Int32} {v : Nat → Int64} {R S D a lr er ls es lv ev : Nat} {ra sa va na ba : Nat → Nat} {x : Nat} (q : z_Dr G h b0 (z_cs w x D S) v R S D a lr er ls es lv ev ra sa va na ba) (hR4 : R ≤ 40) (hS8 : S ≤ 8) (hD6 : D ≤ 6) (hx9 : x ≤ D) (hiW : z_inp w S) : z_Dr G h b0 (tw_sp w x D S) v R S D a lr er ls es lv ev ra sa va na ba :=
  q.cg hR4 hS8 (fun j hj _ => by rw [tw_sp_lo hj, z_cs_lo hj]) fun k hk d hd => ⟨(z_cs_sp hiW hS8 hD6 hx9 S (Nat.le_refl _) k hk d hd).symm, fun _ _ => rfl⟩

set_option maxHeartbeats 1000000 in
theorem m_X2_spoil {l : Launch} {G : zG} {h : zH} {n : Nat} {b0 : Nat} {w : Nat → Int32} {v : Nat → Int64} {R S D a lr er ls es lv ev : Nat} {ra sa va na ba : Nat → Nat} {x : Nat} (hDr : z_Dr G h b0 w v R S D a lr er ls es lv ev ra sa va na ba) (hb0 : z_n0 G ≤ b0) (hR4 : R ≤ 40) (hS8 : S ≤ 8) (hD6 : D ≤ 6) (hx9 : x ≤ D) (hiW : z_inp w S) : z_C l G yX2_spoil 30 1 4 [.ref a, .int (nI x)] h n (z_q0 (fun h' n' => z_Dr G h' b0 (tw_sp (va_up w 5 (w 5 + nI 1)) x D S) v R S D a lr er ls es lv ev ra sa va na ba ∧ z_fr (fun y => y = a ∨ z_VA na ba S y) h h')) := by
  refine z_start zk_X2_spoil zpl_RX2 (Nat.le_of_ble_eq_true rfl) ?_
  intro hn0 M hl hG ho hb hN hr hm hH hrm hQ
  subst hl hG
  have ho : zm_o M = RX2 := ho
  obtain ⟨⟨ha0, h1⟩, ⟨lr0, lr1, N0, m0, f0, r1, r2, r3, r4, r4b, r5⟩, ⟨ls0, ls1, N, m9, f, h3, h4, h5, h6, h6b, h7⟩, ⟨lv0, lv1, Nv, mv, fv, v1, v2, v3, v4, v4b, v5⟩, hne, hse, h9, hs, hvx, hi, hrI, hna, hba⟩ := id hDr
  have r4N := r4.le
  have h6N := h6.le
  have v4N := v4.le
  show z_V M h n 1 4 0 [(0, .ref a), (1, .int (nI x))] []
  refine z_dom (fun hD0 => ?_)
  refine z_aload_n hb dX2_spoil_0 rfl ?_
  refine z_dup hb dX2_spoil_1 rfl ?_
  refine z_get (k := 6) (C := RX2) (T := TX2) (N := 8) hb ho zc1 in_X2 (zf_RX2_64 _) dX2_spoil_2 h1 (by decide) rfl ?_
  refine z_iconst (x := nI 1) hb dX2_spoil_5 (by decide) ?_
  refine z_iadd hb dX2_spoil_6 ?_
  refine z_put (k := 6) (C := RX2) (T := TX2) (N := 8) hb ho zc1 in_X2 tyX2_ok nmX2 (zf_RX2_64 _) dX2_spoil_7 h1 (Nat.le_trans hb0 ha0) (by decide) (Or.inl rfl) rfl rfl rfl (Nat.le_of_ble_eq_true rfl) ?_
  refine z_hn (fun h_1 eh_1 => ?_)
  have eh_1 : h_1 = z_up h a (.inr (1, [.ref lr, .ref ls, .ref lv, .int (nI D), .int (w 2), .int (w 4), .int ((w 5) + (nI 1)), .int (w 6)])) := eh_1
  have k_2 : h_1 lr = some (.inr (20, [.int m0, .ref er, .int (nI R)])) := z_nx eh_1 (z_neO r1 h1 rfl) r1
  have k_3 : h_1 er = some (.inl ((zm_G M).2.1 5, N0, .inr (.inr (.inr (.inr f0))))) := z_nx eh_1 (z_neA' r2 h1) r2
  have k_4 : h_1 ls = some (.inr (20, [.int m9, .ref es, .int (nI S)])) := z_nx eh_1 (z_neO h3 h1 rfl) h3
  have k_5 : h_1 es = some (.inl ((zm_G M).2.1 5, N, .inr (.inr (.inr (.inr f))))) := z_nx eh_1 (z_neA' h4 h1) h4
  have k_6 : h_1 lv = some (.inr (20, [.int mv, .ref ev, .int (nI S)])) := z_nx eh_1 (z_neO v1 h1 rfl) v1
  have k_7 : h_1 ev = some (.inl ((zm_G M).2.1 5, Nv, .inr (.inr (.inr (.inr fv))))) := z_nx eh_1 (z_neA' v2 h1) v2
  have hq_8 := hDr.fld (h2 := h_1) (w' := (va_up w 5 (w 5 + nI 1))) hR4 hS8 (fun j hj => va_upn (by omega)) (by rw [eh_1, va_upn (by omega), va_upn (by omega), va_ups, va_upn (by omega)])
  refine z_aload_n hb dX2_spoil_10 rfl ?_
  refine z_get (k := 1) (C := RX2) (T := TX2) (N := 8) hb ho zc1 in_X2 (zf_RX2_18 _) dX2_spoil_11 (z_nxs eh_1) (by decide) rfl ?_
  refine z_dom (fun hD_9 => ?_)
  refine z_call1 (b' := 0) (f' := 0) (rest := []) (av := [.ref ls]) (z_siteF hb ho zc20 k_4 q340 zx1 q343 q345 q346 q344 q321 zxl1 dX2_spoil_14 : z_Site M _ _ _ _ _ ([].reverse ++ .ref ls :: []) [] _) zk_J2_iterator q98 hrm (m_J2_iterator k_4 (hD_9 _ _ k_4)) (by omega) (by decide) (Nat.le_of_ble_eq_true rfl) (by omega) (by omega) ?_
  refine z_hn (fun h_10 eh_10 => ?_)
  have eh_10 : h_10 = z_up h_1 n (.inr (24, [.int (nI 0), .int (-1), .int m9, .ref ls])) := eh_10
  have k_11 : h_10 lr = some (.inr (20, [.int m0, .ref er, .int (nI R)])) := z_nx eh_10 (Nat.ne_of_lt (hD_9 _ _ k_2)) k_2
  have k_12 : h_10 er = some (.inl ((zm_G M).2.1 5, N0, .inr (.inr (.inr (.inr f0))))) := z_nx eh_10 (Nat.ne_of_lt (hD_9 _ _ k_3)) k_3
  have k_13 : h_10 ls = some (.inr (20, [.int m9, .ref es, .int (nI S)])) := z_nx eh_10 (Nat.ne_of_lt (hD_9 _ _ k_4)) k_4
  have k_14 : h_10 es = some (.inl ((zm_G M).2.1 5, N, .inr (.inr (.inr (.inr f))))) := z_nx eh_10 (Nat.ne_of_lt (hD_9 _ _ k_5)) k_5
  have k_15 : h_10 lv = some (.inr (20, [.int mv, .ref ev, .int (nI S)])) := z_nx eh_10 (Nat.ne_of_lt (hD_9 _ _ k_6)) k_6
  have k_16 : h_10 ev = some (.inl ((zm_G M).2.1 5, Nv, .inr (.inr (.inr (.inr fv))))) := z_nx eh_10 (Nat.ne_of_lt (hD_9 _ _ k_7)) k_7
  have k_17 : h_10 a = some (.inr (1, [.ref lr, .ref ls, .ref lv, .int (nI D), .int (w 2), .int (w 4), .int ((w 5) + (nI 1)), .int (w 6)])) := z_nx eh_10 (Nat.ne_of_lt (hD_9 _ _ (z_nxs eh_1))) (z_nxs eh_1)
  refine z_astore_n (lv' := [(2, .ref n), (0, .ref a), (1, .int (nI x))]) hb dX2_spoil_19 (by rw [hN]; decide) rfl ?_
  have lp_20 : ∀ (k9_20 : Nat) (j : Nat) (lr9j : Int32) (nnj : Nat) (hhj : zH), S + 1 - j < k9_20 → (j ≤ S) → (n < nnj) → (z_Dr (zm_G M) hhj b0 (z_cs (va_up w 5 (w 5 + nI 1)) x D j) v R S D a lr er ls es lv ev ra sa va na ba) → (z_fr (z_VA na ba S) h_1 hhj) → (hhj n = some (.inr (24, [.int (nI j), .int lr9j, .int m9, .ref ls]))) → z_V M hhj nnj 0 0 20 [(2, .ref n), (0, .ref a), (1, .int (nI x))] [] := by
    intro k9_20
    induction k9_20 with
    | zero => intro j lr9j nnj hhj hk9_20; exact absurd hk9_20 (Nat.not_lt_zero _)
    | succ k9_20 ih_20 =>
      intro j lr9j nnj hhj hk9_20 hj hnnj hDrj hFrj hTj
      refine z_aload_n hb dX2_spoil_20 rfl ?_
      refine z_call1 (b' := 0) (f' := 0) (rest := []) (av := [.ref n]) (z_siteF hb ho zc24 hTj q368 zx2 q372 q374 q375 q373 q371 zxl2 dX2_spoil_21 : z_Site M _ _ _ _ _ ([].reverse ++ .ref n :: []) [] _) zk_J8_hasNext q105 hrm (m_J8_hasNext hTj (hFrj _ _ k_4 (hq_8.nO k_4)) (by omega) (by omega)) (by omega) (by decide) (Nat.le_of_ble_eq_true rfl) (by omega) (by omega) ?_
      refine z_ifb_eq (tgt := 114) hb dX2_spoil_26 (by decide) (fun c_26 => ?_) (fun c_26 => ?_)
      · have hx_j : j = S := by simpa using c_26
        refine z_vret hb hr dX2_spoil_114 ?_
        rw [hQ]
        rw [hx_j] at hDrj
        exact ⟨rfl, z_cs_fin hDrj hR4 hS8 hD6 hx9 (z_inp_up hiW hS8 (Or.inl (by omega))), ((z_fr_up (P := (fun y => y = a ∨ z_VA na ba S y)) (Or.inl rfl) eh_1).t (hFrj.w (fun _ => Or.inr)))⟩
      · have hl_j : j < S := Nat.lt_of_le_of_ne hj (by simpa using c_26)
        refine z_aload_n hb dX2_spoil_29 rfl ?_
        refine z_call1 (b' := 0) (f' := 0) (rest := []) (av := [.ref n]) (z_siteF hb ho zc24 hTj q378 zx3 q381 q383 q384 q382 q371 zxl3 dX2_spoil_30 : z_Site M _ _ _ _ _ ([].reverse ++ .ref n :: []) [] _) zk_J8_next q105 hrm (m_J8_next hTj (hFrj _ _ k_4 (hq_8.nO k_4)) (hFrj _ _ k_5 (hq_8.nA k_5)) (by omega) (by omega) h7 (by omega) (by omega)) (by omega) (by decide) (Nat.le_of_ble_eq_true rfl) (by omega) (by omega) ?_
        refine z_hn (fun h_18 eh_18 => ?_)
        have eh_18 : h_18 = z_up hhj n (.inr (24, [.int (nI (j + 1)), .int (nI j), .int m9, .ref ls])) := eh_18
        have k_19 : h_18 lr = some (.inr (20, [.int m0, .ref er, .int (nI R)])) := z_nx eh_18 (Nat.ne_of_lt (hD_9 _ _ k_2)) (hFrj _ _ k_2 (hq_8.nO k_2))
        have k_20 : h_18 er = some (.inl ((zm_G M).2.1 5, N0, .inr (.inr (.inr (.inr f0))))) := z_nx eh_18 (Nat.ne_of_lt (hD_9 _ _ k_3)) (hFrj _ _ k_3 (hq_8.nA k_3))
        have k_21 : h_18 ls = some (.inr (20, [.int m9, .ref es, .int (nI S)])) := z_nx eh_18 (Nat.ne_of_lt (hD_9 _ _ k_4)) (hFrj _ _ k_4 (hq_8.nO k_4))
        have k_22 : h_18 es = some (.inl ((zm_G M).2.1 5, N, .inr (.inr (.inr (.inr f))))) := z_nx eh_18 (Nat.ne_of_lt (hD_9 _ _ k_5)) (hFrj _ _ k_5 (hq_8.nA k_5))
        have k_23 : h_18 lv = some (.inr (20, [.int mv, .ref ev, .int (nI S)])) := z_nx eh_18 (Nat.ne_of_lt (hD_9 _ _ k_6)) (hFrj _ _ k_6 (hq_8.nO k_6))
        have k_24 : h_18 ev = some (.inl ((zm_G M).2.1 5, Nv, .inr (.inr (.inr (.inr fv))))) := z_nx eh_18 (Nat.ne_of_lt (hD_9 _ _ k_7)) (hFrj _ _ k_7 (hq_8.nA k_7))
        have k_25 : h_18 a = some (.inr (1, [.ref lr, .ref ls, .ref lv, .int (nI D), .int (w 2), .int (w 4), .int ((w 5) + (nI 1)), .int (w 6)])) := z_nx eh_18 (Nat.ne_of_lt (hD_9 _ _ (z_nxs eh_1))) (hFrj _ _ (z_nxs eh_1) (hq_8.nO (z_nxs eh_1)))
        have J_38 : z_V M h_18 nnj 0 0 38 [(2, .ref n), (0, .ref a), (1, .int (nI x))] [.ref (sa j)] := by
          refine z_astore_n (lv' := [(3, .ref (sa j)), (2, .ref n), (0, .ref a), (1, .int (nI x))]) hb dX2_spoil_38 (by rw [hN]; decide) rfl ?_
          refine z_aload_n hb dX2_spoil_39 rfl ?_
          have J_43 : ∀ n_26 : Nat, nnj ≤ n_26 → z_V M h_18 n_26 0 0 43 [(3, .ref (sa j)), (2, .ref n), (0, .ref a), (1, .int (nI x))] [.int (nI (z_lev (z_cs (va_up w 5 (w 5 + nI 1)) x D j) (j + 1) j))] := by
            intro n_26 hn_26
            have hle9 := z_lev_le (w := z_cs (va_up w 5 (w 5 + nI 1)) x D j) (j + 1) j
            have J_51 : z_V M h_18 n_26 0 0 51 [(3, .ref (sa j)), (2, .ref n), (0, .ref a), (1, .int (nI x))] [.int (z_b (tw_base (z_cs (va_up w 5 (w 5 + nI 1)) x D j) j))] := by
              refine z_istore (lv' := [(4, .int (z_b (tw_base (z_cs (va_up w 5 (w 5 + nI 1)) x D j) j))), (3, .ref (sa j)), (2, .ref n), (0, .ref a), (1, .int (nI x))]) hb dX2_spoil_51 (by rw [hN]; decide) rfl ?_
              refine z_iconst (x := nI 0) hb dX2_spoil_53 (by decide) ?_
              refine z_istore (lv' := [(5, .int (nI 0)), (4, .int (z_b (tw_base (z_cs (va_up w 5 (w 5 + nI 1)) x D j) j))), (3, .ref (sa j)), (2, .ref n), (0, .ref a), (1, .int (nI x))]) hb dX2_spoil_54 (by rw [hN]; decide) rfl ?_
              have lp_56 : ∀ (k9_56 : Nat) (e : Nat) (nne : Nat) (hhe : zH), D + 2 - e < k9_56 → (e ≤ D + 1) → (n_26 ≤ nne) → (z_Dr (zm_G M) hhe b0 (z_cs1 (z_cs (va_up w 5 (w 5 + nI 1)) x D j) j x e) v R S D a lr er ls es lv ev ra sa va na ba) → (z_fr (z_VA na ba S) h_18 hhe) → z_V M hhe nne 0 0 56 [(5, .int (nI e)), (4, .int (z_b (tw_base (z_cs (va_up w 5 (w 5 + nI 1)) x D j) j))), (3, .ref (sa j)), (2, .ref n), (0, .ref a), (1, .int (nI x))] [] := by
                intro k9_56
                induction k9_56 with
                | zero => intro e nne hhe hk9_56; exact absurd hk9_56 (Nat.not_lt_zero _)
                | succ k9_56 ih_56 =>
                  intro e nne hhe hk9_56 he hnne hDe hFe
                  refine z_iload hb dX2_spoil_56 rfl ?_
                  refine z_aload_n hb dX2_spoil_58 rfl ?_
                  refine z_get (k := 3) (C := RX2) (T := TX2) (N := 8) hb ho zc1 in_X2 (zf_RX2_54 _) dX2_spoil_59 (hFe _ _ k_25 ((hDrj.kp (z_kp_up hTj (by simp [z_lnk]) eh_18)).nO k_25)) (by decide) rfl ?_
                  refine z_icmp_gtN (tgt := 111) hb dX2_spoil_62 (by decide) (by omega) (by omega) (fun c_62 => ?_) (fun c_62 => ?_)
                  · obtain rfl : e = D + 1 := by omega
                    refine z_goto (tgt := 20) hb dX2_spoil_111 (by decide) ?_
                    refine z_lv [3, 4, 5] (lv' := [(2, .ref n), (0, .ref a), (1, .int (nI x))]) rfl ?_
                    exact ih_20 (j + 1) _ nne hhe  (by omega) (by omega) (by omega) hDe ((z_frW hD_9 (by omega) eh_18 hFrj).t hFe) (hFe _ _ (z_nxs eh_18) ((hDrj.kp (z_kp_up hTj (by simp [z_lnk]) eh_18)).nO (z_nxs eh_18))) 
                  · refine z_aload_n hb dX2_spoil_65 rfl ?_
                    refine z_aload_n hb dX2_spoil_66 rfl ?_
                    refine z_callN1 (b' := 0) (f' := 0) (rest := []) (av := [.ref a, .ref (sa j)]) (z_siteV hb ho zc1 (hFe _ _ k_25 ((hDrj.kp (z_kp_up hTj (by simp [z_lnk]) eh_18)).nO k_25)) q596 q597 q598 ⟨_, _, _, _, zk_X2_viewOf⟩ zy_X2_viewOf zl_X2_viewOf dX2_spoil_67 : z_Site M _ _ _ _ _ ([.ref (sa j)].reverse ++ .ref a :: []) [] _) zk_X2_viewOf q95 hrm (z_C.rn (m_X2_viewOf hDe.ln hl_j hS8)) (by omega) (by decide) (Nat.le_of_ble_eq_true rfl) (by omega) (by omega) (fun n_27 hn_27 => ?_)
                    have k_28 := hDe.ob hl_j
                    refine z_get (k := 1) (C := RX4) (T := TX4) (N := 2) hb ho zc3 in_X4 (zf_RX2_101 _) dX2_spoil_70 k_28 (by decide) rfl ?_
                    refine z_iload hb dX2_spoil_73 rfl ?_
                    obtain ⟨hbv28, hbn28, hbb28, hvo28, F28, Z28, hF28, hZ28, hFv28, hZv28, hZb28⟩ := hDe.vx hl_j
                    refine z_dup2_11 hb dX2_spoil_75 rfl rfl ?_
                    refine z_zald (j := e) hb dX2_spoil_76 hZ28 rfl (by omega) (by omega) ?_
                    refine z_toI (y := z_b (tw_st (z_cs1 (z_cs (va_up w 5 (w 5 + nI 1)) x D j) j x e) j e)) (hZv28 e (by omega)) ?_
                    have J_103 : ∀ (nn5 : Nat), (n_27 ≤ nn5) → z_V M hhe nn5 0 0 103 [(5, .int (nI e)), (4, .int (z_b (tw_base (z_cs (va_up w 5 (w 5 + nI 1)) x D j) j))), (3, .ref (sa j)), (2, .ref n), (0, .ref a), (1, .int (nI x))] [.int (z_b (if tw_base (z_cs (va_up w 5 (w 5 + nI 1)) x D j) j then decide (e = x) else tw_from (z_cs1 (z_cs (va_up w 5 (w 5 + nI 1)) x D j) j x e) j e)), .int (z_b (tw_st (z_cs1 (z_cs (va_up w 5 (w 5 + nI 1)) x D j) j x e) j e)), .int (nI e), .ref (ba j)] := by
                      intro nn5 hn5
                      refine z_ior hb dX2_spoil_103 ?_
                      refine z_toI (y := z_b (tw_st (z_cs1 (z_cs (va_up w 5 (w 5 + nI 1)) x D j) j x e) j e || (if tw_base (z_cs (va_up w 5 (w 5 + nI 1)) x D j) j then decide (e = x) else tw_from (z_cs1 (z_cs (va_up w 5 (w 5 + nI 1)) x D j) j x e) j e))) (z_b_or _ _) ?_
                      refine z_zast (j := e) (v := (z_b (tw_st (z_cs1 (z_cs (va_up w 5 (w 5 + nI 1)) x D j) j x e) j e || (if tw_base (z_cs (va_up w 5 (w 5 + nI 1)) x D j) j then decide (e = x) else tw_from (z_cs1 (z_cs (va_up w 5 (w 5 + nI 1)) x D j) j x e) j e)))) hb dX2_spoil_104 hZ28 (Nat.le_trans hb0 hbb28) rfl (by omega) (by omega) (z_bnar _) ?_
                      refine z_hn (fun h_30 eh_30 => ?_)
                      have eh_30 : h_30 = z_up hhe (ba j) (.inl ((zm_G M).2.1 2, 7, .inl (va_up Z28 e (z_b (tw_st (z_cs1 (z_cs (va_up w 5 (w 5 + nI 1)) x D j) j x e) j e || (if tw_base (z_cs (va_up w 5 (w 5 + nI 1)) x D j) j then decide (e = x) else tw_from (z_cs1 (z_cs (va_up w 5 (w 5 + nI 1)) x D j) j x e) j e)))))) := eh_30
                      have k_31 : h_30 lr = some (.inr (20, [.int m0, .ref er, .int (nI R)])) := z_nx eh_30 (z_neA (hFe _ _ k_19 ((hDrj.kp (z_kp_up hTj (by simp [z_lnk]) eh_18)).nO k_19)) hZ28) (hFe _ _ k_19 ((hDrj.kp (z_kp_up hTj (by simp [z_lnk]) eh_18)).nO k_19))
                      have k_32 : h_30 er = some (.inl ((zm_G M).2.1 5, N0, .inr (.inr (.inr (.inr f0))))) := z_nx eh_30 (z_neXoz (hFe _ _ k_20 ((hDrj.kp (z_kp_up hTj (by simp [z_lnk]) eh_18)).nA k_20)) hZ28) (hFe _ _ k_20 ((hDrj.kp (z_kp_up hTj (by simp [z_lnk]) eh_18)).nA k_20))
                      have k_33 : h_30 ls = some (.inr (20, [.int m9, .ref es, .int (nI S)])) := z_nx eh_30 (z_neA (hFe _ _ k_21 ((hDrj.kp (z_kp_up hTj (by simp [z_lnk]) eh_18)).nO k_21)) hZ28) (hFe _ _ k_21 ((hDrj.kp (z_kp_up hTj (by simp [z_lnk]) eh_18)).nO k_21))
                      have k_34 : h_30 es = some (.inl ((zm_G M).2.1 5, N, .inr (.inr (.inr (.inr f))))) := z_nx eh_30 (z_neXoz (hFe _ _ k_22 ((hDrj.kp (z_kp_up hTj (by simp [z_lnk]) eh_18)).nA k_22)) hZ28) (hFe _ _ k_22 ((hDrj.kp (z_kp_up hTj (by simp [z_lnk]) eh_18)).nA k_22))
                      have k_35 : h_30 lv = some (.inr (20, [.int mv, .ref ev, .int (nI S)])) := z_nx eh_30 (z_neA (hFe _ _ k_23 ((hDrj.kp (z_kp_up hTj (by simp [z_lnk]) eh_18)).nO k_23)) hZ28) (hFe _ _ k_23 ((hDrj.kp (z_kp_up hTj (by simp [z_lnk]) eh_18)).nO k_23))
                      have k_36 : h_30 ev = some (.inl ((zm_G M).2.1 5, Nv, .inr (.inr (.inr (.inr fv))))) := z_nx eh_30 (z_neXoz (hFe _ _ k_24 ((hDrj.kp (z_kp_up hTj (by simp [z_lnk]) eh_18)).nA k_24)) hZ28) (hFe _ _ k_24 ((hDrj.kp (z_kp_up hTj (by simp [z_lnk]) eh_18)).nA k_24))
                      have k_37 : h_30 a = some (.inr (1, [.ref lr, .ref ls, .ref lv, .int (nI D), .int (w 2), .int (w 4), .int ((w 5) + (nI 1)), .int (w 6)])) := z_nx eh_30 (z_neA (hFe _ _ k_25 ((hDrj.kp (z_kp_up hTj (by simp [z_lnk]) eh_18)).nO k_25)) hZ28) (hFe _ _ k_25 ((hDrj.kp (z_kp_up hTj (by simp [z_lnk]) eh_18)).nO k_25))
                      have k_38 : h_30 n = some (.inr (24, [.int (nI (j + 1)), .int (nI j), .int m9, .ref ls])) := z_nx eh_30 (z_neA (hFe _ _ (z_nxs eh_18) ((hDrj.kp (z_kp_up hTj (by simp [z_lnk]) eh_18)).nO (z_nxs eh_18))) hZ28) (hFe _ _ (z_nxs eh_18) ((hDrj.kp (z_kp_up hTj (by simp [z_lnk]) eh_18)).nO (z_nxs eh_18)))
                      have k_39 : h_30 (va j) = some (.inr (3, [.ref (na j), .ref (ba j)])) := z_nx eh_30 (z_neA k_28 hZ28) k_28
                      have hq_40 := hDe.flag hR4 hS8 hD6 hl_j (by omega) hZ28 eh_30
                      refine z_iinc (k0 := 0) (lv' := [(5, .int (nI (e + 1))), (4, .int (z_b (tw_base (z_cs (va_up w 5 (w 5 + nI 1)) x D j) j))), (3, .ref (sa j)), (2, .ref n), (0, .ref a), (1, .int (nI x))]) hb dX2_spoil_105 rfl (nI_1 e) (by rw [hN]; decide) rfl ?_
                      refine z_goto (tgt := 56) hb dX2_spoil_108 (by decide) ?_
                      refine z_lv [0, 1, 2, 3, 4, 5] (lv' := [(5, .int (nI (e + 1))), (4, .int (z_b (tw_base (z_cs (va_up w 5 (w 5 + nI 1)) x D j) j))), (3, .ref (sa j)), (2, .ref n), (0, .ref a), (1, .int (nI x))]) rfl ?_
                      exact ih_56 (e + 1) nn5 h_30 (by omega) (by omega) (by omega) hq_40.1 (hFe.t hq_40.2)
                    refine z_iload hb dX2_spoil_77 rfl ?_
                    refine z_ifb_eq (tgt := 96) hb dX2_spoil_79 (by decide) (fun c_79 => ?_) (fun c_79 => ?_)
                    · refine z_aload_n hb dX2_spoil_96 rfl ?_
                      refine z_aload_n hb dX2_spoil_97 rfl ?_
                      refine z_iload hb dX2_spoil_98 rfl ?_
                      have J_103 : ∀ n_41 : Nat, n_27 ≤ n_41 → z_V M hhe n_41 0 0 103 [(5, .int (nI e)), (4, .int (z_b (tw_base (z_cs (va_up w 5 (w 5 + nI 1)) x D j) j))), (3, .ref (sa j)), (2, .ref n), (0, .ref a), (1, .int (nI x))] [.int (z_b (tw_from (z_cs1 (z_cs (va_up w 5 (w 5 + nI 1)) x D j) j x e) j e)), .int (z_b (tw_st (z_cs1 (z_cs (va_up w 5 (w 5 + nI 1)) x D j) j x e) j e)), .int (nI e), .ref (ba j)] := by
                        intro n_41 hn_41
                        refine z_toI (y := z_b (if tw_base (z_cs (va_up w 5 (w 5 + nI 1)) x D j) j then decide (e = x) else tw_from (z_cs1 (z_cs (va_up w 5 (w 5 + nI 1)) x D j) j x e) j e)) (by rw [c_79]; rfl) ?_
                        exact J_103 _ (by omega)
                      rcases hDe.sp j hl_j with ⟨q1, q9⟩ | ⟨q1, q9⟩ | ⟨q1, q9⟩ | ⟨q1, q2, q3, q9⟩ | ⟨q1, q2, q3, q9⟩ | ⟨q1, q2, q3, q9⟩ | ⟨q1, q2, q3, q9⟩
                      · refine z_callN1 (b' := 0) (f' := 0) (rest := [.int (z_b (tw_st (z_cs1 (z_cs (va_up w 5 (w 5 + nI 1)) x D j) j x e) j e)), .int (nI e), .ref (ba j)]) (av := [.ref (sa j), .ref a, .int (nI e)]) (z_siteU hb ho zc8 q9 q1311 q1313 (Or.inl q1312) q1322 q1333 ⟨by decide +kernel, by decide +kernel⟩ (by show _ = some 2; decide +kernel) dX2_spoil_100 : z_Site M _ _ _ _ _ ([.ref a, .int (nI e)].reverse ++ .ref (sa j) :: [.int (z_b (tw_st (z_cs1 (z_cs (va_up w 5 (w 5 + nI 1)) x D j) j x e) j e)), .int (nI e), .ref (ba j)]) [.int (z_b (tw_st (z_cs1 (z_cs (va_up w 5 (w 5 + nI 1)) x D j) j x e) j e)), .int (nI e), .ref (ba j)] _) zk_X10_isFromStale q128 hrm (m_isFrom hDe.ln hS8 hD6 hl_j (by omega) _ _ q9 _) (by omega) (by decide) (Nat.le_of_ble_eq_true rfl) (by omega) (by omega) (fun n_42 hn_42 => ?_)
                        exact J_103 _ (by omega)
                      · refine z_callN1 (b' := 0) (f' := 0) (rest := [.int (z_b (tw_st (z_cs1 (z_cs (va_up w 5 (w 5 + nI 1)) x D j) j x e) j e)), .int (nI e), .ref (ba j)]) (av := [.ref (sa j), .ref a, .int (nI e)]) (z_siteU hb ho zc9 q9 q1311 q1313 (Or.inl q1312) q1322 q1321 ⟨by decide +kernel, by decide +kernel⟩ (by show _ = some 2; decide +kernel) dX2_spoil_100 : z_Site M _ _ _ _ _ ([.ref a, .int (nI e)].reverse ++ .ref (sa j) :: [.int (z_b (tw_st (z_cs1 (z_cs (va_up w 5 (w 5 + nI 1)) x D j) j x e) j e)), .int (nI e), .ref (ba j)]) [.int (z_b (tw_st (z_cs1 (z_cs (va_up w 5 (w 5 + nI 1)) x D j) j x e) j e)), .int (nI e), .ref (ba j)] _) zk_X10_isFromStale q128 hrm (m_isFrom hDe.ln hS8 hD6 hl_j (by omega) _ _ q9 _) (by omega) (by decide) (Nat.le_of_ble_eq_true rfl) (by omega) (by omega) (fun n_43 hn_43 => ?_)
                        exact J_103 _ (by omega)
                      · refine z_callN1 (b' := 0) (f' := 0) (rest := [.int (z_b (tw_st (z_cs1 (z_cs (va_up w 5 (w 5 + nI 1)) x D j) j x e) j e)), .int (nI e), .ref (ba j)]) (av := [.ref (sa j), .ref a, .int (nI e)]) (z_siteU hb ho zc10 q9 q1311 q1313 (Or.inl q1312) q1322 q1324 ⟨by decide +kernel, by decide +kernel⟩ (by show _ = some 2; decide +kernel) dX2_spoil_100 : z_Site M _ _ _ _ _ ([.ref a, .int (nI e)].reverse ++ .ref (sa j) :: [.int (z_b (tw_st (z_cs1 (z_cs (va_up w 5 (w 5 + nI 1)) x D j) j x e) j e)), .int (nI e), .ref (ba j)]) [.int (z_b (tw_st (z_cs1 (z_cs (va_up w 5 (w 5 + nI 1)) x D j) j x e) j e)), .int (nI e), .ref (ba j)] _) zk_X10_isFromStale q128 hrm (m_isFrom hDe.ln hS8 hD6 hl_j (by omega) _ _ q9 _) (by omega) (by decide) (Nat.le_of_ble_eq_true rfl) (by omega) (by omega) (fun n_44 hn_44 => ?_)
                        exact J_103 _ (by omega)
                      · refine z_callN1 (b' := 0) (f' := 0) (rest := [.int (z_b (tw_st (z_cs1 (z_cs (va_up w 5 (w 5 + nI 1)) x D j) j x e) j e)), .int (nI e), .ref (ba j)]) (av := [.ref (sa j), .ref a, .int (nI e)]) (z_siteU hb ho zc11 q9 q1311 q1313 (Or.inl q1312) q1326 q1325 ⟨by decide +kernel, by decide +kernel⟩ (by show _ = some 2; decide +kernel) dX2_spoil_100 : z_Site M _ _ _ _ _ ([.ref a, .int (nI e)].reverse ++ .ref (sa j) :: [.int (z_b (tw_st (z_cs1 (z_cs (va_up w 5 (w 5 + nI 1)) x D j) j x e) j e)), .int (nI e), .ref (ba j)]) [.int (z_b (tw_st (z_cs1 (z_cs (va_up w 5 (w 5 + nI 1)) x D j) j x e) j e)), .int (nI e), .ref (ba j)] _) zk_X14_isFromStale q133 hrm (m_isFrom hDe.ln hS8 hD6 hl_j (by omega) _ _ q9 _) (by omega) (by decide) (Nat.le_of_ble_eq_true rfl) (by omega) (by omega) (fun n_45 hn_45 => ?_)
                        exact J_103 _ (by omega)
                      · refine z_callN1 (b' := 0) (f' := 0) (rest := [.int (z_b (tw_st (z_cs1 (z_cs (va_up w 5 (w 5 + nI 1)) x D j) j x e) j e)), .int (nI e), .ref (ba j)]) (av := [.ref (sa j), .ref a, .int (nI e)]) (z_siteU hb ho zc11 q9 q1311 q1313 (Or.inl q1312) q1326 q1325 ⟨by decide +kernel, by decide +kernel⟩ (by show _ = some 2; decide +kernel) dX2_spoil_100 : z_Site M _ _ _ _ _ ([.ref a, .int (nI e)].reverse ++ .ref (sa j) :: [.int (z_b (tw_st (z_cs1 (z_cs (va_up w 5 (w 5 + nI 1)) x D j) j x e) j e)), .int (nI e), .ref (ba j)]) [.int (z_b (tw_st (z_cs1 (z_cs (va_up w 5 (w 5 + nI 1)) x D j) j x e) j e)), .int (nI e), .ref (ba j)] _) zk_X14_isFromStale q133 hrm (m_isFrom hDe.ln hS8 hD6 hl_j (by omega) _ _ q9 _) (by omega) (by decide) (Nat.le_of_ble_eq_true rfl) (by omega) (by omega) (fun n_46 hn_46 => ?_)
                        exact J_103 _ (by omega)
                      · refine z_callN1 (b' := 0) (f' := 0) (rest := [.int (z_b (tw_st (z_cs1 (z_cs (va_up w 5 (w 5 + nI 1)) x D j) j x e) j e)), .int (nI e), .ref (ba j)]) (av := [.ref (sa j), .ref a, .int (nI e)]) (z_siteU hb ho zc12 q9 q1311 q1313 (Or.inl q1312) q1330 q1329 ⟨by decide +kernel, by decide +kernel⟩ (by show _ = some 2; decide +kernel) dX2_spoil_100 : z_Site M _ _ _ _ _ ([.ref a, .int (nI e)].reverse ++ .ref (sa j) :: [.int (z_b (tw_st (z_cs1 (z_cs (va_up w 5 (w 5 + nI 1)) x D j) j x e) j e)), .int (nI e), .ref (ba j)]) [.int (z_b (tw_st (z_cs1 (z_cs (va_up w 5 (w 5 + nI 1)) x D j) j x e) j e)), .int (nI e), .ref (ba j)] _) zk_X16_isFromStale q135 hrm (m_isFrom hDe.ln hS8 hD6 hl_j (by omega) _ _ q9 _) (by omega) (by decide) (Nat.le_of_ble_eq_true rfl) (by omega) (by omega) (fun n_47 hn_47 => ?_)
                        exact J_103 _ (by omega)
                      · refine z_callN1 (b' := 0) (f' := 0) (rest := [.int (z_b (tw_st (z_cs1 (z_cs (va_up w 5 (w 5 + nI 1)) x D j) j x e) j e)), .int (nI e), .ref (ba j)]) (av := [.ref (sa j), .ref a, .int (nI e)]) (z_siteU hb ho zc13 q9 q1311 q1313 (Or.inl q1312) q1315 q1314 ⟨by decide +kernel, by decide +kernel⟩ (by show _ = some 2; decide +kernel) dX2_spoil_100 : z_Site M _ _ _ _ _ ([.ref a, .int (nI e)].reverse ++ .ref (sa j) :: [.int (z_b (tw_st (z_cs1 (z_cs (va_up w 5 (w 5 + nI 1)) x D j) j x e) j e)), .int (nI e), .ref (ba j)]) [.int (z_b (tw_st (z_cs1 (z_cs (va_up w 5 (w 5 + nI 1)) x D j) j x e) j e)), .int (nI e), .ref (ba j)] _) zk_X17_isFromStale q136 hrm (m_isFrom hDe.ln hS8 hD6 hl_j (by omega) _ _ q9 _) (by omega) (by decide) (Nat.le_of_ble_eq_true rfl) (by omega) (by omega) (fun n_48 hn_48 => ?_)
                        exact J_103 _ (by omega)
                    · refine z_iload hb dX2_spoil_82 rfl ?_
                      refine z_iload_n hb dX2_spoil_84 rfl ?_
                      refine z_icmp_neN (tgt := 92) hb dX2_spoil_85 (by decide) (by omega) (by omega) (fun c_85 => ?_) (fun c_85 => ?_)
                      · refine z_iconst (x := nI 0) hb dX2_spoil_92 (by decide) ?_
                        refine z_goto (tgt := 103) hb dX2_spoil_93 (by decide) ?_
                        refine z_toI (y := z_b (if tw_base (z_cs (va_up w 5 (w 5 + nI 1)) x D j) j then decide (e = x) else tw_from (z_cs1 (z_cs (va_up w 5 (w 5 + nI 1)) x D j) j x e) j e)) (by rw [c_79, if_pos rfl, decide_eq_false c_85]; rfl) ?_
                        exact J_103 _ (by omega)
                      · refine z_iconst (x := nI 1) hb dX2_spoil_88 (by decide) ?_
                        refine z_goto (tgt := 103) hb dX2_spoil_89 (by decide) ?_
                        refine z_toI (y := z_b (if tw_base (z_cs (va_up w 5 (w 5 + nI 1)) x D j) j then decide (e = x) else tw_from (z_cs1 (z_cs (va_up w 5 (w 5 + nI 1)) x D j) j x e) j e)) (by rw [c_79, if_pos rfl, decide_eq_true c_85]; rfl) ?_
                        exact J_103 _ (by omega)
              refine z_lv [0, 1, 2, 3, 4, 5] (lv' := [(5, .int (nI 0)), (4, .int (z_b (tw_base (z_cs (va_up w 5 (w 5 + nI 1)) x D j) j))), (3, .ref (sa j)), (2, .ref n), (0, .ref a), (1, .int (nI x))]) rfl ?_
              exact lp_56 _ 0 n_26 h_18 (Nat.lt_succ_self _) (Nat.zero_le _) (by omega) (hDrj.kp (z_kp_up hTj (by simp [z_lnk]) eh_18)) z_fr_r
            refine z_if_neN (tgt := 50) hb dX2_spoil_43 (by decide) (by omega) (fun c_43 => ?_) (fun c_43 => ?_)
            · refine z_iconst (x := nI 0) hb dX2_spoil_50 (by decide) ?_
              refine z_toI (y := z_b (tw_base (z_cs (va_up w 5 (w 5 + nI 1)) x D j) j)) (by rw [z_lev_p ((hDrj.kp (z_kp_up hTj (by simp [z_lnk]) eh_18)).sp j hl_j) c_43]; rfl) ?_
              exact J_51
            · refine z_iconst (x := nI 1) hb dX2_spoil_46 (by decide) ?_
              refine z_goto (tgt := 51) hb dX2_spoil_47 (by decide) ?_
              refine z_toI (y := z_b (tw_base (z_cs (va_up w 5 (w 5 + nI 1)) x D j) j)) (by rw [(z_lev_0 ((hDrj.kp (z_kp_up hTj (by simp [z_lnk]) eh_18)).sp j hl_j)).mp c_43]; rfl) ?_
              exact J_51
          rcases (hDrj.kp (z_kp_up hTj (by simp [z_lnk]) eh_18)).sp j hl_j with ⟨q1, q9⟩ | ⟨q1, q9⟩ | ⟨q1, q9⟩ | ⟨q1, q2, q3, q9⟩ | ⟨q1, q2, q3, q9⟩ | ⟨q1, q2, q3, q9⟩ | ⟨q1, q2, q3, q9⟩
          · refine z_callN1 (b' := 0) (f' := 0) (rest := []) (av := [.ref (sa j)]) (z_siteU hb ho zc8 q9 q1293 q1295 (Or.inl q1294) q1300 q1310 ⟨by decide +kernel, by decide +kernel⟩ (by show _ = some 0; decide +kernel) dX2_spoil_40 : z_Site M _ _ _ _ _ ([].reverse ++ .ref (sa j) :: []) [] _) zk_X10_level q128 hrm ((m_level (hDrj.kp (z_kp_up hTj (by simp [z_lnk]) eh_18)).sp hS8 _ _ (Nat.lt_succ_self _) hl_j _ _ q9 _)) (by omega) (by decide) (Nat.le_of_ble_eq_true rfl) (by omega) (by omega) (fun n_49 hn_49 => ?_)
            exact J_43 _ (by omega)
          · refine z_callN1 (b' := 0) (f' := 0) (rest := []) (av := [.ref (sa j)]) (z_siteU hb ho zc9 q9 q1293 q1295 (Or.inl q1294) q1300 q1306 ⟨by decide +kernel, by decide +kernel⟩ (by show _ = some 0; decide +kernel) dX2_spoil_40 : z_Site M _ _ _ _ _ ([].reverse ++ .ref (sa j) :: []) [] _) zk_X10_level q128 hrm ((m_level (hDrj.kp (z_kp_up hTj (by simp [z_lnk]) eh_18)).sp hS8 _ _ (Nat.lt_succ_self _) hl_j _ _ q9 _)) (by omega) (by decide) (Nat.le_of_ble_eq_true rfl) (by omega) (by omega) (fun n_50 hn_50 => ?_)
            exact J_43 _ (by omega)
          · refine z_callN1 (b' := 0) (f' := 0) (rest := []) (av := [.ref (sa j)]) (z_siteU hb ho zc10 q9 q1293 q1295 (Or.inl q1294) q1300 q1307 ⟨by decide +kernel, by decide +kernel⟩ (by show _ = some 0; decide +kernel) dX2_spoil_40 : z_Site M _ _ _ _ _ ([].reverse ++ .ref (sa j) :: []) [] _) zk_X10_level q128 hrm ((m_level (hDrj.kp (z_kp_up hTj (by simp [z_lnk]) eh_18)).sp hS8 _ _ (Nat.lt_succ_self _) hl_j _ _ q9 _)) (by omega) (by decide) (Nat.le_of_ble_eq_true rfl) (by omega) (by omega) (fun n_51 hn_51 => ?_)
            exact J_43 _ (by omega)
          · refine z_callN1 (b' := 0) (f' := 0) (rest := []) (av := [.ref (sa j)]) (z_siteU hb ho zc11 q9 q1293 q1295 (Or.inl q1294) q1302 q1308 ⟨by decide +kernel, by decide +kernel⟩ (by show _ = some 0; decide +kernel) dX2_spoil_40 : z_Site M _ _ _ _ _ ([].reverse ++ .ref (sa j) :: []) [] _) zk_X14_level q133 hrm ((m_level (hDrj.kp (z_kp_up hTj (by simp [z_lnk]) eh_18)).sp hS8 _ _ (Nat.lt_succ_self _) hl_j _ _ q9 _)) (by omega) (by decide) (Nat.le_of_ble_eq_true rfl) (by omega) (by omega) (fun n_52 hn_52 => ?_)
            exact J_43 _ (by omega)
          · refine z_callN1 (b' := 0) (f' := 0) (rest := []) (av := [.ref (sa j)]) (z_siteU hb ho zc11 q9 q1293 q1295 (Or.inl q1294) q1302 q1308 ⟨by decide +kernel, by decide +kernel⟩ (by show _ = some 0; decide +kernel) dX2_spoil_40 : z_Site M _ _ _ _ _ ([].reverse ++ .ref (sa j) :: []) [] _) zk_X14_level q133 hrm ((m_level (hDrj.kp (z_kp_up hTj (by simp [z_lnk]) eh_18)).sp hS8 _ _ (Nat.lt_succ_self _) hl_j _ _ q9 _)) (by omega) (by decide) (Nat.le_of_ble_eq_true rfl) (by omega) (by omega) (fun n_53 hn_53 => ?_)
            exact J_43 _ (by omega)
          · refine z_callN1 (b' := 0) (f' := 0) (rest := []) (av := [.ref (sa j)]) (z_siteU hb ho zc12 q9 q1293 q1295 (Or.inl q1294) q1297 q1309 ⟨by decide +kernel, by decide +kernel⟩ (by show _ = some 0; decide +kernel) dX2_spoil_40 : z_Site M _ _ _ _ _ ([].reverse ++ .ref (sa j) :: []) [] _) zk_X15_level q134 hrm ((m_level (hDrj.kp (z_kp_up hTj (by simp [z_lnk]) eh_18)).sp hS8 _ _ (Nat.lt_succ_self _) hl_j _ _ q9 _)) (by omega) (by decide) (Nat.le_of_ble_eq_true rfl) (by omega) (by omega) (fun n_54 hn_54 => ?_)
            exact J_43 _ (by omega)
          · refine z_callN1 (b' := 0) (f' := 0) (rest := []) (av := [.ref (sa j)]) (z_siteU hb ho zc13 q9 q1293 q1295 (Or.inl q1294) q1297 q1296 ⟨by decide +kernel, by decide +kernel⟩ (by show _ = some 0; decide +kernel) dX2_spoil_40 : z_Site M _ _ _ _ _ ([].reverse ++ .ref (sa j) :: []) [] _) zk_X15_level q134 hrm ((m_level (hDrj.kp (z_kp_up hTj (by simp [z_lnk]) eh_18)).sp hS8 _ _ (Nat.lt_succ_self _) hl_j _ _ q9 _)) (by omega) (by decide) (Nat.le_of_ble_eq_true rfl) (by omega) (by omega) (fun n_55 hn_55 => ?_)
            exact J_43 _ (by omega)
        rcases (hDrj.kp (z_kp_up hTj (by simp [z_lnk]) eh_18)).sp j (by omega) with ⟨q1, q9⟩ | ⟨q1, q9⟩ | ⟨q1, q9⟩ | ⟨q1, q2, q3, q9⟩ | ⟨q1, q2, q3, q9⟩ | ⟨q1, q2, q3, q9⟩ | ⟨q1, q2, q3, q9⟩
        · exact z_cast hb ho zc8 q9 q560 (Or.inr q3300) dX2_spoil_35 J_38
        · exact z_cast hb ho zc9 q9 q560 (Or.inr q3296) dX2_spoil_35 J_38
        · exact z_cast hb ho zc10 q9 q560 (Or.inr q3297) dX2_spoil_35 J_38
        · exact z_cast hb ho zc11 q9 q560 (Or.inr q3298) dX2_spoil_35 J_38
        · exact z_cast hb ho zc11 q9 q560 (Or.inr q3298) dX2_spoil_35 J_38
        · exact z_cast hb ho zc12 q9 q560 (Or.inr q3299) dX2_spoil_35 J_38
        · exact z_cast hb ho zc13 q9 q560 (Or.inr q3295) dX2_spoil_35 J_38
  refine z_lv [0, 1, 2] (lv' := [(2, .ref n), (0, .ref a), (1, .int (nI x))]) rfl ?_
  exact lp_20 _ 0 (-1) (n + 1) h_10  (Nat.lt_succ_self _) (Nat.zero_le _) (by omega) (hq_8.kp (z_exN z_ex_r hD_9 eh_10).kp) (z_exN z_ex_r hD_9 eh_10).fr (z_nxs eh_10) 

