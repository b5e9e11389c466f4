theorem z_of_t {w : Nat → Int32} {k p : Nat} {d g : Int32} (hc : tw_cnt w p k d g = true) : (w (176 + 4 * k) = nI 115 → tw_of w k d g (p + 1) = tw_of w k d g p + (w (16 + 4 * p + 3)).toInt64) ∧ (w (176 + 4 * k) = nI 110 → tw_of w k d g (p + 1) = tw_of w k d g p + 1) ∧ (w (176 + 4 * k) = nI 120 → tw_of w k d g (p + 1) = if (w (16 + 4 * p + 3)).toInt64 < tw_of w k d g p then tw_of w k d g p else (w (16 + 4 * p + 3)).toInt64) := by
  refine ⟨fun q => ?_, fun q => ?_, fun q => ?_⟩
  · rw [tw_of, if_pos hc, q, if_neg (by decide), if_pos rfl]
  · rw [tw_of, if_pos hc, q, if_neg (by decide), if_neg (by decide)]
  · rw [tw_of, if_pos hc, q, if_pos rfl]
    by_cases h1 : tw_of w k d g p < (w (16 + 4 * p + 3)).toInt64
    · rw [if_pos h1, if_neg (Int64.not_lt.mpr (Int64.le_of_lt h1))]
    · rw [if_neg h1]
      by_cases h2 : (w (16 + 4 * p + 3)).toInt64 < tw_of w k d g p
      · rw [if_pos h2]
      · rw [if_neg h2]
        exact Int64.le_antisymm (Int64.not_lt.mp h2) (Int64.not_lt.mp h1)
theorem z_mk_b {w : Nat → Int32} {u : Nat → Int64} {R k d g : Nat} (h : tw_base w k = true) : tw_made w u R k d g = tw_of w k (nI d) (nI g) R := by unfold tw_made; rw [h]; rfl
theorem z_mk_p {w : Nat → Int32} {u : Nat → Int64} {R k d g : Nat} (h : w (176 + 4 * k) = nI 43) : tw_made w u R k d g = u (5 * (7 * tw_f w k + d) + g) + u (5 * (7 * tw_s w k + d) + g) := by
  unfold tw_made; rw [z_kn h (by simp), h, if_neg (by decide), if_neg (by decide), if_pos rfl]
theorem z_mk_m {w : Nat → Int32} {u : Nat → Int64} {R k d g : Nat} (h : w (176 + 4 * k) = nI 45) : tw_made w u R k d g = u (5 * (7 * tw_f w k + d) + g) - u (5 * (7 * tw_s w k + d) + g) := by
  unfold tw_made; rw [z_kn h (by simp), h, if_neg (by decide), if_neg (by decide), if_neg (by decide), if_pos rfl]
theorem z_mk_k {w : Nat → Int32} {u : Nat → Int64} {R k d g : Nat} (h : w (176 + 4 * k) = nI 107) : tw_made w u R k d g = if (w (176 + 4 * k + 1)).toInt64 ≤ u (5 * (7 * tw_f w k + d) + g) then u (5 * (7 * tw_f w k + d) + g) else 0 := by
  unfold tw_made; rw [z_kn h (by simp), h, if_neg (by decide), if_pos rfl]
theorem z_mk_r {w : Nat → Int32} {u : Nat → Int64} {R k d g : Nat} (h : w (176 + 4 * k) = nI 114) : tw_made w u R k d g = tw_sum u (tw_f w k) g (d + 1) := by
  unfold tw_made; rw [z_kn h (by simp), h, if_neg (by decide), if_neg (by decide), if_neg (by decide), if_neg (by decide)]
/-- what n calls from day a on cost -/
def z_sF (F : Nat → Nat → Nat) (j : Nat) : Nat → Nat → Nat
  | _, 0 => 0
  | a, n + 1 => F j a + z_sF F j (a + 1) n
theorem z_sF_s {F : Nat → Nat → Nat} {j a d : Nat} (h : a ≤ d) : z_sF F j a (d + 1 - a) = F j a + z_sF F j (a + 1) (d + 1 - (a + 1)) := by
  rw [show d + 1 - a = (d + 1 - (a + 1)) + 1 by omega]; rfl

set_option maxHeartbeats 1000000 in
theorem m_X7_isOfI {l : Launch} {G : zG} {h : zH} {n : Nat} {q : Nat} {nu d g am x y : Int32} (hr9 : h q = some (.inr (6, [.int nu, .int d, .int g, .int am]))) : z_C l G yX7_isOf 1 0 0 [.ref q, .int x, .int y] h n (z_rv (.int (z_b (decide (d = x) && decide (g = y)))) h n) := by
  refine z_start zk_X7_isOf zpl_RX7 (Nat.le_of_ble_eq_true rfl) ?_
  intro hn0 M hl hG ho hb hN hr hm hH hrm hQ
  subst hl hG
  have ho : zm_o M = RX7 := ho
  show z_V M h n 0 0 0 [(0, .ref q), (1, .int x), (2, .int y)] []
  refine z_aload_n hb dX7_isOf_0 rfl ?_
  refine z_get (k := 1) (C := RX7) (T := TX7) (N := 4) hb ho zc6 in_X7 (zf_RX7_13 _) dX7_isOf_1 hr9 (by decide) rfl ?_
  refine z_iload_n hb dX7_isOf_4 rfl ?_
  refine z_icmp_ne (tgt := 20) hb dX7_isOf_5 (by decide) (fun c_5 => ?_) (fun c_5 => ?_)
  · refine z_iconst (x := nI 0) hb dX7_isOf_20 (by decide) ?_
    refine z_zret hb hr rfl dX7_isOf_21 ?_
    rw [hQ]
    exact z_rvb0 (by simp [c_5])
  · refine z_aload_n hb dX7_isOf_8 rfl ?_
    refine z_get (k := 2) (C := RX7) (T := TX7) (N := 4) hb ho zc6 in_X7 (zf_RX7_16 _) dX7_isOf_9 hr9 (by decide) rfl ?_
    refine z_iload_n hb dX7_isOf_12 rfl ?_
    refine z_icmp_ne (tgt := 20) hb dX7_isOf_13 (by decide) (fun c_13 => ?_) (fun c_13 => ?_)
    · refine z_iconst (x := nI 0) hb dX7_isOf_20 (by decide) ?_
      refine z_zret hb hr rfl dX7_isOf_21 ?_
      rw [hQ]
      exact z_rvb0 (by simp [c_5, c_13])
    · refine z_iconst (x := nI 1) hb dX7_isOf_16 (by decide) ?_
      refine z_goto (tgt := 21) hb dX7_isOf_17 (by decide) ?_
      refine z_zret hb hr rfl dX7_isOf_21 ?_
      rw [hQ]
      exact z_rvb1 (by simp [c_5, c_13])

set_option maxHeartbeats 1000000 in
theorem m_X10_compute_8 {l : Launch} {G : zG} {h : zH} {n : Nat} {w : Nat → Int32} {v : Nat → Int64} {R S D a lr ls lv : Nat} {ra sa va : Nat → Nat} {u : Nat → Int64} {F : Nat → Nat → Nat} {rN : Nat → Nat} {B rc nb : Nat} {fsn : List Value} {k d g : Nat} (hL : z_Ln G h w v R S D a lr ls lv ra sa va) (hR4 : R ≤ 40) (hB : 1 ≤ B) (hrc : 5 ≤ rc) (hx : h (sa k) = some (.inr (8, [.int (w (176 + 4 * k + 1)), .int (nI 115)]))) (hkd : w (176 + 4 * k) = nI 115) : z_C l G yX10_compute rc B (4 * B) [.ref (sa k), .ref lr, .ref nb, .int (nI d), .int (nI g)] h n (z_rn (.long (tw_of w k (nI d) (nI g) R)) h) := by
  refine z_start zk_X10_compute zpl_RX10 (Nat.le_of_ble_eq_true rfl) ?_
  intro hn0 M hl hG ho hb hN hr hm hH hrm hQ
  subst hl hG
  have ho : zm_o M = RX10 := ho
  obtain ⟨h1, ⟨e0, N0, m0, f0, r1, r2, r3, ⟨r4, r4n⟩, r5⟩, ⟨e, N, m9, f, h3, h4, h5, ⟨h6, h6n⟩, h7⟩, ⟨ev, Nv, mv, fv, v1, v2, v3, ⟨v4, v4n⟩, v5⟩, h9, hs, hv, hi, hrI⟩ := id hL
  show z_V M h n B (4 * B) 0 [(0, .ref (sa k)), (1, .ref lr), (2, .ref nb), (3, .int (nI d)), (4, .int (nI g))] []
  refine z_dom (fun hD0 => ?_)
  refine z_lconst (x := 0) hb dX10_compute_0 rfl ?_
  refine z_lstore (lv' := [(5, .long 0), (0, .ref (sa k)), (1, .ref lr), (2, .ref nb), (3, .int (nI d)), (4, .int (nI g))]) hb dX10_compute_1 (by rw [hN]; decide) rfl ?_
  refine z_aload_n hb dX10_compute_3 rfl ?_
  refine z_dom (fun hD_1 => ?_)
  refine z_call1 (b' := B - 1) (f' := (4 * B) - 4) (rest := []) (av := [.ref lr]) (z_siteF hb ho zc20 r1 q707 zx1 q343 q345 q346 q344 q321 zxl1 dX10_compute_4 : z_Site M _ _ _ _ _ ([].reverse ++ .ref lr :: []) [] _) zk_J2_iterator q98 hrm (m_J2_iterator r1 (hD_1 _ _ r1)) (by omega) (by decide) (Nat.le_of_ble_eq_true rfl) (by omega) (by omega) ?_
  refine z_hn (fun h_2 eh_2 => ?_)
  have eh_2 : h_2 = z_up h n (.inr (24, [.int (nI 0), .int (-1), .int m0, .ref lr])) := eh_2
  have k_3 : h_2 a = some (.inr (1, [.ref lr, .ref ls, .ref lv, .int (nI D), .int (w 2), .int (w 4), .int (w 5), .int (w 6)])) := z_nx eh_2 (Nat.ne_of_lt (hD_1 _ _ h1)) h1
  have k_4 : h_2 lr = some (.inr (20, [.int m0, .ref e0, .int (nI R)])) := z_nx eh_2 (Nat.ne_of_lt (hD_1 _ _ r1)) r1
  have k_5 : h_2 e0 = some (.inl ((zm_G M).2.1 5, N0, .inr (.inr (.inr (.inr f0))))) := z_nx eh_2 (Nat.ne_of_lt (hD_1 _ _ r2)) r2
  have k_6 : h_2 ls = some (.inr (20, [.int m9, .ref e, .int (nI S)])) := z_nx eh_2 (Nat.ne_of_lt (hD_1 _ _ h3)) h3
  have k_7 : h_2 e = some (.inl ((zm_G M).2.1 5, N, .inr (.inr (.inr (.inr f))))) := z_nx eh_2 (Nat.ne_of_lt (hD_1 _ _ h4)) h4
  have k_8 : h_2 lv = some (.inr (20, [.int mv, .ref ev, .int (nI S)])) := z_nx eh_2 (Nat.ne_of_lt (hD_1 _ _ v1)) v1
  have k_9 : h_2 ev = some (.inl ((zm_G M).2.1 5, Nv, .inr (.inr (.inr (.inr fv))))) := z_nx eh_2 (Nat.ne_of_lt (hD_1 _ _ v2)) v2
  have k_10 : h_2 (sa k) = some (.inr (8, [.int (w (176 + 4 * k + 1)), .int (nI 115)])) := z_nx eh_2 (Nat.ne_of_lt (hD_1 _ _ hx)) hx
  refine z_astore (lv' := [(7, .ref n), (5, .long 0), (0, .ref (sa k)), (1, .ref lr), (2, .ref nb), (3, .int (nI d)), (4, .int (nI g))]) hb dX10_compute_9 (by rw [hN]; decide) rfl ?_
  have lp_11 : ∀ (k9_11 : Nat) (j : Nat) (lr9j : Int32) (nnj : Nat) (hhj : zH), R + 1 - j < k9_11 → (j ≤ R) → (n < nnj) → (z_ex h hhj) → (hhj n = some (.inr (24, [.int (nI j), .int lr9j, .int m0, .ref lr]))) → z_V M hhj nnj (B - 1) ((4 * B) - 4) 11 [(7, .ref n), (5, .long (tw_of w k (nI d) (nI g) j)), (0, .ref (sa k)), (1, .ref lr), (2, .ref nb), (3, .int (nI d)), (4, .int (nI g))] [] := by
    intro k9_11
    induction k9_11 with
    | zero => intro j lr9j nnj hhj hk9_11; exact absurd hk9_11 (Nat.not_lt_zero _)
    | succ k9_11 ih_11 =>
      intro j lr9j nnj hhj hk9_11 hj hnnj hEj hTj
      refine z_aload hb dX10_compute_11 rfl ?_
      refine z_call1 (b' := B - 1) (f' := (4 * B) - 4) (rest := []) (av := [.ref n]) (z_siteF hb ho zc24 hTj q709 zx2 q372 q374 q375 q373 q371 zxl2 dX10_compute_13 : z_Site M _ _ _ _ _ ([].reverse ++ .ref n :: []) [] _) zk_J8_hasNext q105 hrm (m_J8_hasNext hTj (hEj _ _ r1) (by omega) (by omega)) (by omega) (by decide) (Nat.le_of_ble_eq_true rfl) (by omega) (by omega) ?_
      refine z_ifb_eq (tgt := 71) hb dX10_compute_18 (by decide) (fun c_18 => ?_) (fun c_18 => ?_)
      · have hx_j : j = R := by simpa using c_18
        refine z_lload hb dX10_compute_71 rfl ?_
        refine z_less hEj ?_
        refine z_lret hb hr dX10_compute_73 ?_
        rw [hQ]
        subst hx_j
        exact ⟨rfl, rfl⟩
      · have hl_j : j < R := Nat.lt_of_le_of_ne hj (by simpa using c_18)
        refine z_aload hb dX10_compute_21 rfl ?_
        refine z_call1 (b' := B - 1) (f' := (4 * B) - 4) (rest := []) (av := [.ref n]) (z_siteF hb ho zc24 hTj q711 zx3 q381 q383 q384 q382 q371 zxl3 dX10_compute_23 : z_Site M _ _ _ _ _ ([].reverse ++ .ref n :: []) [] _) zk_J8_next q105 hrm (m_J8_next hTj (hEj _ _ r1) (hEj _ _ r2) (by omega) (by omega) r5 (by omega) (by omega)) (by omega) (by decide) (Nat.le_of_ble_eq_true rfl) (by omega) (by omega) ?_
        refine z_hn (fun h_11 eh_11 => ?_)
        have eh_11 : h_11 = z_up hhj n (.inr (24, [.int (nI (j + 1)), .int (nI j), .int m0, .ref lr])) := eh_11
        have k_12 : h_11 a = some (.inr (1, [.ref lr, .ref ls, .ref lv, .int (nI D), .int (w 2), .int (w 4), .int (w 5), .int (w 6)])) := z_nx eh_11 (Nat.ne_of_lt (hD_1 _ _ h1)) (hEj _ _ h1)
        have k_13 : h_11 lr = some (.inr (20, [.int m0, .ref e0, .int (nI R)])) := z_nx eh_11 (Nat.ne_of_lt (hD_1 _ _ r1)) (hEj _ _ r1)
        have k_14 : h_11 e0 = some (.inl ((zm_G M).2.1 5, N0, .inr (.inr (.inr (.inr f0))))) := z_nx eh_11 (Nat.ne_of_lt (hD_1 _ _ r2)) (hEj _ _ r2)
        have k_15 : h_11 ls = some (.inr (20, [.int m9, .ref e, .int (nI S)])) := z_nx eh_11 (Nat.ne_of_lt (hD_1 _ _ h3)) (hEj _ _ h3)
        have k_16 : h_11 e = some (.inl ((zm_G M).2.1 5, N, .inr (.inr (.inr (.inr f))))) := z_nx eh_11 (Nat.ne_of_lt (hD_1 _ _ h4)) (hEj _ _ h4)
        have k_17 : h_11 lv = some (.inr (20, [.int mv, .ref ev, .int (nI S)])) := z_nx eh_11 (Nat.ne_of_lt (hD_1 _ _ v1)) (hEj _ _ v1)
        have k_18 : h_11 ev = some (.inl ((zm_G M).2.1 5, Nv, .inr (.inr (.inr (.inr fv))))) := z_nx eh_11 (Nat.ne_of_lt (hD_1 _ _ v2)) (hEj _ _ v2)
        have k_19 : h_11 (sa k) = some (.inr (8, [.int (w (176 + 4 * k + 1)), .int (nI 115)])) := z_nx eh_11 (Nat.ne_of_lt (hD_1 _ _ hx)) (hEj _ _ hx)
        have hrw_20 := h9 j (by omega)
        unfold z_Rw at hrw_20
        have k_21 : h_11 (ra j) = some (.inr (6, [.int (w (16 + 4 * j)), .int (w (16 + 4 * j + 1)), .int (w (16 + 4 * j + 2)), .int (w (16 + 4 * j + 3))])) := (z_exW hD0 (by omega) eh_11 hEj) _ _ hrw_20
        refine z_cast hb ho zc6 k_21 q712 (Or.inl rfl) dX10_compute_28 ?_
        refine z_astore (lv' := [(8, .ref (ra j)), (7, .ref n), (5, .long (tw_of w k (nI d) (nI g) j)), (0, .ref (sa k)), (1, .ref lr), (2, .ref nb), (3, .int (nI d)), (4, .int (nI g))]) hb dX10_compute_31 (by rw [hN]; decide) rfl ?_
        refine z_aload hb dX10_compute_33 rfl ?_
        refine z_iload_n hb dX10_compute_35 rfl ?_
        refine z_iload hb dX10_compute_36 rfl ?_
        refine z_call1 (b' := B - 1) (f' := (4 * B) - 4) (rest := []) (av := [.ref (ra j), .int (nI d), .int (nI g)]) (z_siteV hb ho zc6 k_21 q713 q714 q715 ⟨_, _, _, _, zk_X7_isOf⟩ zy_X7_isOf zl_X7_isOf dX10_compute_38 : z_Site M _ _ _ _ _ ([.int (nI d), .int (nI g)].reverse ++ .ref (ra j) :: []) [] _) zk_X7_isOf q122 hrm (m_X7_isOfI k_21) (by omega) (by decide) (Nat.le_of_ble_eq_true rfl) (by omega) (by omega) ?_
        refine z_ifb_eq (tgt := 64) hb dX10_compute_41 (by decide) (fun c_41 => ?_) (fun c_41 => ?_)
        · refine z_lload hb dX10_compute_64 rfl ?_
          refine z_toL (y := tw_of w k (nI d) (nI g) (j + 1)) (tw_of_n (by unfold tw_cnt; rw [← Bool.and_assoc, c_41]; rfl)).symm ?_
          refine z_lstore (lv' := [(5, .long (tw_of w k (nI d) (nI g) (j + 1))), (8, .ref (ra j)), (7, .ref n), (0, .ref (sa k)), (1, .ref lr), (2, .ref nb), (3, .int (nI d)), (4, .int (nI g))]) hb dX10_compute_66 (by rw [hN]; decide) rfl ?_
          refine z_goto (tgt := 11) hb dX10_compute_68 (by decide) ?_
          refine z_lv [2, 0, 3, 4, 5, 6, 7] (lv' := [(7, .ref n), (5, .long (tw_of w k (nI d) (nI g) (j + 1))), (0, .ref (sa k)), (1, .ref lr), (2, .ref nb), (3, .int (nI d)), (4, .int (nI g))]) rfl ?_
          exact ih_11 (j + 1) _ nnj h_11  (by omega) (by omega) (by omega) (z_exW hD_1 (by omega) eh_11 hEj) (z_nxs eh_11) 
        · refine z_aload_n hb dX10_compute_44 rfl ?_
          refine z_aload hb dX10_compute_45 rfl ?_
          refine z_call1 (b' := B - 1) (f' := (4 * B) - 4) (rest := []) (av := [.ref (sa k), .ref (ra j)]) (z_siteV hb ho zc8 k_19 q717 q718 q722 ⟨_, _, _, _, zk_X10_takes⟩ zy_X10_takes zl_X10_takes dX10_compute_47 : z_Site M _ _ _ _ _ ([.ref (ra j)].reverse ++ .ref (sa k) :: []) [] _) zk_X10_takes q128 hrm (m_X10_takes_8 k_19 k_21) (by omega) (by decide) (Nat.le_of_ble_eq_true rfl) (by omega) (by omega) ?_
          refine z_ifb_eq (tgt := 64) hb dX10_compute_50 (by decide) (fun c_50 => ?_) (fun c_50 => ?_)
          · refine z_lload hb dX10_compute_64 rfl ?_
            refine z_toL (y := tw_of w k (nI d) (nI g) (j + 1)) (tw_of_n (by unfold tw_cnt; rw [← Bool.and_assoc, c_41, c_50]; rfl)).symm ?_
            refine z_lstore (lv' := [(5, .long (tw_of w k (nI d) (nI g) (j + 1))), (8, .ref (ra j)), (7, .ref n), (0, .ref (sa k)), (1, .ref lr), (2, .ref nb), (3, .int (nI d)), (4, .int (nI g))]) hb dX10_compute_66 (by rw [hN]; decide) rfl ?_
            refine z_goto (tgt := 11) hb dX10_compute_68 (by decide) ?_
            refine z_lv [2, 0, 3, 4, 5, 6, 7] (lv' := [(7, .ref n), (5, .long (tw_of w k (nI d) (nI g) (j + 1))), (0, .ref (sa k)), (1, .ref lr), (2, .ref nb), (3, .int (nI d)), (4, .int (nI g))]) rfl ?_
            exact ih_11 (j + 1) _ nnj h_11  (by omega) (by omega) (by omega) (z_exW hD_1 (by omega) eh_11 hEj) (z_nxs eh_11) 
          · refine z_aload_n hb dX10_compute_53 rfl ?_
            refine z_lload hb dX10_compute_54 rfl ?_
            refine z_aload hb dX10_compute_56 rfl ?_
            refine z_call1 (b' := B - 1) (f' := (4 * B) - 4) (rest := []) (av := [.ref (sa k), .long (tw_of w k (nI d) (nI g) j), .ref (ra j)]) (z_siteU hb ho zc8 k_19 q724 q726 (Or.inl q725) q737 q736 ⟨by decide +kernel, by decide +kernel⟩ (by show _ = some 2; decide +kernel) dX10_compute_58 : z_Site M _ _ _ _ _ ([.long (tw_of w k (nI d) (nI g) j), .ref (ra j)].reverse ++ .ref (sa k) :: []) [] _) zk_X11_with q129 hrm (m_X11_with k_19 k_21) (by omega) (by decide) (Nat.le_of_ble_eq_true rfl) (by omega) (by omega) ?_
            refine z_toL (y := tw_of w k (nI d) (nI g) (j + 1)) ((z_of_t (by unfold tw_cnt; simp only [Bool.and_eq_true] at c_41 ⊢; exact ⟨c_41.1, c_41.2, c_50⟩)).1 hkd).symm ?_
            refine z_goto (tgt := 66) hb dX10_compute_61 (by decide) ?_
            refine z_lstore (lv' := [(5, .long (tw_of w k (nI d) (nI g) (j + 1))), (8, .ref (ra j)), (7, .ref n), (0, .ref (sa k)), (1, .ref lr), (2, .ref nb), (3, .int (nI d)), (4, .int (nI g))]) hb dX10_compute_66 (by rw [hN]; decide) rfl ?_
            refine z_goto (tgt := 11) hb dX10_compute_68 (by decide) ?_
            refine z_lv [2, 0, 3, 4, 5, 6, 7] (lv' := [(7, .ref n), (5, .long (tw_of w k (nI d) (nI g) (j + 1))), (0, .ref (sa k)), (1, .ref lr), (2, .ref nb), (3, .int (nI d)), (4, .int (nI g))]) rfl ?_
            exact ih_11 (j + 1) _ nnj h_11  (by omega) (by omega) (by omega) (z_exW hD_1 (by omega) eh_11 hEj) (z_nxs eh_11) 
  refine z_lv [0, 1, 2, 3, 4, 5, 6] (lv' := [(7, .ref n), (5, .long 0), (0, .ref (sa k)), (1, .ref lr), (2, .ref nb), (3, .int (nI d)), (4, .int (nI g))]) rfl ?_
  exact lp_11 _ 0 (-1) (n + 1) h_2  (Nat.lt_succ_self _) (Nat.zero_le _) (by omega) (z_exN z_ex_r hD_1 eh_2) (z_nxs eh_2) 

set_option maxHeartbeats 1000000 in
theorem m_X10_compute_9 {l : Launch} {G : zG} {h : zH} {n : Nat} {w : Nat → Int32} {v : Nat → Int64} {R S D a lr ls lv : Nat} {ra sa va : Nat → Nat} {u : Nat → Int64} {F : Nat → Nat → Nat} {rN : Nat → Nat} {B rc nb : Nat} {fsn : List Value} {k d g : Nat} (hL : z_Ln G h w v R S D a lr ls lv ra sa va) (hR4 : R ≤ 40) (hB : 1 ≤ B) (hrc : 5 ≤ rc) (hx : h (sa k) = some (.inr (9, [.int (w (176 + 4 * k + 1)), .int (nI 110)]))) (hkd : w (176 + 4 * k) = nI 110) : z_C l G yX10_compute rc B (4 * B) [.ref (sa k), .ref lr, .ref nb, .int (nI d), .int (nI g)] h n (z_rn (.long (tw_of w k (nI d) (nI g) R)) h) := by
  refine z_start zk_X10_compute zpl_RX10 (Nat.le_of_ble_eq_true rfl) ?_
  intro hn0 M hl hG ho hb hN hr hm hH hrm hQ
  subst hl hG
  have ho : zm_o M = RX10 := ho
  obtain ⟨h1, ⟨e0, N0, m0, f0, r1, r2, r3, ⟨r4, r4n⟩, r5⟩, ⟨e, N, m9, f, h3, h4, h5, ⟨h6, h6n⟩, h7⟩, ⟨ev, Nv, mv, fv, v1, v2, v3, ⟨v4, v4n⟩, v5⟩, h9, hs, hv, hi, hrI⟩ := id hL
  show z_V M h n B (4 * B) 0 [(0, .ref (sa k)), (1, .ref lr), (2, .ref nb), (3, .int (nI d)), (4, .int (nI g))] []
  refine z_dom (fun hD0 => ?_)
  refine z_lconst (x := 0) hb dX10_compute_0 rfl ?_
  refine z_lstore (lv' := [(5, .long 0), (0, .ref (sa k)), (1, .ref lr), (2, .ref nb), (3, .int (nI d)), (4, .int (nI g))]) hb dX10_compute_1 (by rw [hN]; decide) rfl ?_
  refine z_aload_n hb dX10_compute_3 rfl ?_
  refine z_dom (fun hD_1 => ?_)
  refine z_call1 (b' := B - 1) (f' := (4 * B) - 4) (rest := []) (av := [.ref lr]) (z_siteF hb ho zc20 r1 q707 zx1 q343 q345 q346 q344 q321 zxl1 dX10_compute_4 : z_Site M _ _ _ _ _ ([].reverse ++ .ref lr :: []) [] _) zk_J2_iterator q98 hrm (m_J2_iterator r1 (hD_1 _ _ r1)) (by omega) (by decide) (Nat.le_of_ble_eq_true rfl) (by omega) (by omega) ?_
  refine z_hn (fun h_2 eh_2 => ?_)
  have eh_2 : h_2 = z_up h n (.inr (24, [.int (nI 0), .int (-1), .int m0, .ref lr])) := eh_2
  have k_3 : h_2 a = some (.inr (1, [.ref lr, .ref ls, .ref lv, .int (nI D), .int (w 2), .int (w 4), .int (w 5), .int (w 6)])) := z_nx eh_2 (Nat.ne_of_lt (hD_1 _ _ h1)) h1
  have k_4 : h_2 lr = some (.inr (20, [.int m0, .ref e0, .int (nI R)])) := z_nx eh_2 (Nat.ne_of_lt (hD_1 _ _ r1)) r1
  have k_5 : h_2 e0 = some (.inl ((zm_G M).2.1 5, N0, .inr (.inr (.inr (.inr f0))))) := z_nx eh_2 (Nat.ne_of_lt (hD_1 _ _ r2)) r2
  have k_6 : h_2 ls = some (.inr (20, [.int m9, .ref e, .int (nI S)])) := z_nx eh_2 (Nat.ne_of_lt (hD_1 _ _ h3)) h3
  have k_7 : h_2 e = some (.inl ((zm_G M).2.1 5, N, .inr (.inr (.inr (.inr f))))) := z_nx eh_2 (Nat.ne_of_lt (hD_1 _ _ h4)) h4
  have k_8 : h_2 lv = some (.inr (20, [.int mv, .ref ev, .int (nI S)])) := z_nx eh_2 (Nat.ne_of_lt (hD_1 _ _ v1)) v1
  have k_9 : h_2 ev = some (.inl ((zm_G M).2.1 5, Nv, .inr (.inr (.inr (.inr fv))))) := z_nx eh_2 (Nat.ne_of_lt (hD_1 _ _ v2)) v2
  have k_10 : h_2 (sa k) = some (.inr (9, [.int (w (176 + 4 * k + 1)), .int (nI 110)])) := z_nx eh_2 (Nat.ne_of_lt (hD_1 _ _ hx)) hx
  refine z_astore (lv' := [(7, .ref n), (5, .long 0), (0, .ref (sa k)), (1, .ref lr), (2, .ref nb), (3, .int (nI d)), (4, .int (nI g))]) hb dX10_compute_9 (by rw [hN]; decide) rfl ?_
  have lp_11 : ∀ (k9_11 : Nat) (j : Nat) (lr9j : Int32) (nnj : Nat) (hhj : zH), R + 1 - j < k9_11 → (j ≤ R) → (n < nnj) → (z_ex h hhj) → (hhj n = some (.inr (24, [.int (nI j), .int lr9j, .int m0, .ref lr]))) → z_V M hhj nnj (B - 1) ((4 * B) - 4) 11 [(7, .ref n), (5, .long (tw_of w k (nI d) (nI g) j)), (0, .ref (sa k)), (1, .ref lr), (2, .ref nb), (3, .int (nI d)), (4, .int (nI g))] [] := by
    intro k9_11
    induction k9_11 with
    | zero => intro j lr9j nnj hhj hk9_11; exact absurd hk9_11 (Nat.not_lt_zero _)
    | succ k9_11 ih_11 =>
      intro j lr9j nnj hhj hk9_11 hj hnnj hEj hTj
      refine z_aload hb dX10_compute_11 rfl ?_
      refine z_call1 (b' := B - 1) (f' := (4 * B) - 4) (rest := []) (av := [.ref n]) (z_siteF hb ho zc24 hTj q709 zx2 q372 q374 q375 q373 q371 zxl2 dX10_compute_13 : z_Site M _ _ _ _ _ ([].reverse ++ .ref n :: []) [] _) zk_J8_hasNext q105 hrm (m_J8_hasNext hTj (hEj _ _ r1) (by omega) (by omega)) (by omega) (by decide) (Nat.le_of_ble_eq_true rfl) (by omega) (by omega) ?_
      refine z_ifb_eq (tgt := 71) hb dX10_compute_18 (by decide) (fun c_18 => ?_) (fun c_18 => ?_)
      · have hx_j : j = R := by simpa using c_18
        refine z_lload hb dX10_compute_71 rfl ?_
        refine z_less hEj ?_
        refine z_lret hb hr dX10_compute_73 ?_
        rw [hQ]
        subst hx_j
        exact ⟨rfl, rfl⟩
      · have hl_j : j < R := Nat.lt_of_le_of_ne hj (by simpa using c_18)
        refine z_aload hb dX10_compute_21 rfl ?_
        refine z_call1 (b' := B - 1) (f' := (4 * B) - 4) (rest := []) (av := [.ref n]) (z_siteF hb ho zc24 hTj q711 zx3 q381 q383 q384 q382 q371 zxl3 dX10_compute_23 : z_Site M _ _ _ _ _ ([].reverse ++ .ref n :: []) [] _) zk_J8_next q105 hrm (m_J8_next hTj (hEj _ _ r1) (hEj _ _ r2) (by omega) (by omega) r5 (by omega) (by omega)) (by omega) (by decide) (Nat.le_of_ble_eq_true rfl) (by omega) (by omega) ?_
        refine z_hn (fun h_11 eh_11 => ?_)
        have eh_11 : h_11 = z_up hhj n (.inr (24, [.int (nI (j + 1)), .int (nI j), .int m0, .ref lr])) := eh_11
        have k_12 : h_11 a = some (.inr (1, [.ref lr, .ref ls, .ref lv, .int (nI D), .int (w 2), .int (w 4), .int (w 5), .int (w 6)])) := z_nx eh_11 (Nat.ne_of_lt (hD_1 _ _ h1)) (hEj _ _ h1)
        have k_13 : h_11 lr = some (.inr (20, [.int m0, .ref e0, .int (nI R)])) := z_nx eh_11 (Nat.ne_of_lt (hD_1 _ _ r1)) (hEj _ _ r1)
        have k_14 : h_11 e0 = some (.inl ((zm_G M).2.1 5, N0, .inr (.inr (.inr (.inr f0))))) := z_nx eh_11 (Nat.ne_of_lt (hD_1 _ _ r2)) (hEj _ _ r2)
        have k_15 : h_11 ls = some (.inr (20, [.int m9, .ref e, .int (nI S)])) := z_nx eh_11 (Nat.ne_of_lt (hD_1 _ _ h3)) (hEj _ _ h3)
        have k_16 : h_11 e = some (.inl ((zm_G M).2.1 5, N, .inr (.inr (.inr (.inr f))))) := z_nx eh_11 (Nat.ne_of_lt (hD_1 _ _ h4)) (hEj _ _ h4)
        have k_17 : h_11 lv = some (.inr (20, [.int mv, .ref ev, .int (nI S)])) := z_nx eh_11 (Nat.ne_of_lt (hD_1 _ _ v1)) (hEj _ _ v1)
        have k_18 : h_11 ev = some (.inl ((zm_G M).2.1 5, Nv, .inr (.inr (.inr (.inr fv))))) := z_nx eh_11 (Nat.ne_of_lt (hD_1 _ _ v2)) (hEj _ _ v2)
        have k_19 : h_11 (sa k) = some (.inr (9, [.int (w (176 + 4 * k + 1)), .int (nI 110)])) := z_nx eh_11 (Nat.ne_of_lt (hD_1 _ _ hx)) (hEj _ _ hx)
        have hrw_20 := h9 j (by omega)
        unfold z_Rw at hrw_20
        have k_21 : h_11 (ra j) = some (.inr (6, [.int (w (16 + 4 * j)), .int (w (16 + 4 * j + 1)), .int (w (16 + 4 * j + 2)), .int (w (16 + 4 * j + 3))])) := (z_exW hD0 (by omega) eh_11 hEj) _ _ hrw_20
        refine z_cast hb ho zc6 k_21 q712 (Or.inl rfl) dX10_compute_28 ?_
        refine z_astore (lv' := [(8, .ref (ra j)), (7, .ref n), (5, .long (tw_of w k (nI d) (nI g) j)), (0, .ref (sa k)), (1, .ref lr), (2, .ref nb), (3, .int (nI d)), (4, .int (nI g))]) hb dX10_compute_31 (by rw [hN]; decide) rfl ?_
        refine z_aload hb dX10_compute_33 rfl ?_
        refine z_iload_n hb dX10_compute_35 rfl ?_
        refine z_iload hb dX10_compute_36 rfl ?_
        refine z_call1 (b' := B - 1) (f' := (4 * B) - 4) (rest := []) (av := [.ref (ra j), .int (nI d), .int (nI g)]) (z_siteV hb ho zc6 k_21 q713 q714 q715 ⟨_, _, _, _, zk_X7_isOf⟩ zy_X7_isOf zl_X7_isOf dX10_compute_38 : z_Site M _ _ _ _ _ ([.int (nI d), .int (nI g)].reverse ++ .ref (ra j) :: []) [] _) zk_X7_isOf q122 hrm (m_X7_isOfI k_21) (by omega) (by decide) (Nat.le_of_ble_eq_true rfl) (by omega) (by omega) ?_
        refine z_ifb_eq (tgt := 64) hb dX10_compute_41 (by decide) (fun c_41 => ?_) (fun c_41 => ?_)
        · refine z_lload hb dX10_compute_64 rfl ?_
          refine z_toL (y := tw_of w k (nI d) (nI g) (j + 1)) (tw_of_n (by unfold tw_cnt; rw [← Bool.and_assoc, c_41]; rfl)).symm ?_
          refine z_lstore (lv' := [(5, .long (tw_of w k (nI d) (nI g) (j + 1))), (8, .ref (ra j)), (7, .ref n), (0, .ref (sa k)), (1, .ref lr), (2, .ref nb), (3, .int (nI d)), (4, .int (nI g))]) hb dX10_compute_66 (by rw [hN]; decide) rfl ?_
          refine z_goto (tgt := 11) hb dX10_compute_68 (by decide) ?_
          refine z_lv [2, 0, 3, 4, 5, 6, 7] (lv' := [(7, .ref n), (5, .long (tw_of w k (nI d) (nI g) (j + 1))), (0, .ref (sa k)), (1, .ref lr), (2, .ref nb), (3, .int (nI d)), (4, .int (nI g))]) rfl ?_
          exact ih_11 (j + 1) _ nnj h_11  (by omega) (by omega) (by omega) (z_exW hD_1 (by omega) eh_11 hEj) (z_nxs eh_11) 
        · refine z_aload_n hb dX10_compute_44 rfl ?_
          refine z_aload hb dX10_compute_45 rfl ?_
          refine z_call1 (b' := B - 1) (f' := (4 * B) - 4) (rest := []) (av := [.ref (sa k), .ref (ra j)]) (z_siteV hb ho zc9 k_19 q717 q718 q720 ⟨_, _, _, _, zk_X10_takes⟩ zy_X10_takes zl_X10_takes dX10_compute_47 : z_Site M _ _ _ _ _ ([.ref (ra j)].reverse ++ .ref (sa k) :: []) [] _) zk_X10_takes q128 hrm (m_X10_takes_9 k_19 k_21) (by omega) (by decide) (Nat.le_of_ble_eq_true rfl) (by omega) (by omega) ?_
          refine z_ifb_eq (tgt := 64) hb dX10_compute_50 (by decide) (fun c_50 => ?_) (fun c_50 => ?_)
          · refine z_lload hb dX10_compute_64 rfl ?_
            refine z_toL (y := tw_of w k (nI d) (nI g) (j + 1)) (tw_of_n (by unfold tw_cnt; rw [← Bool.and_assoc, c_41, c_50]; rfl)).symm ?_
            refine z_lstore (lv' := [(5, .long (tw_of w k (nI d) (nI g) (j + 1))), (8, .ref (ra j)), (7, .ref n), (0, .ref (sa k)), (1, .ref lr), (2, .ref nb), (3, .int (nI d)), (4, .int (nI g))]) hb dX10_compute_66 (by rw [hN]; decide) rfl ?_
            refine z_goto (tgt := 11) hb dX10_compute_68 (by decide) ?_
            refine z_lv [2, 0, 3, 4, 5, 6, 7] (lv' := [(7, .ref n), (5, .long (tw_of w k (nI d) (nI g) (j + 1))), (0, .ref (sa k)), (1, .ref lr), (2, .ref nb), (3, .int (nI d)), (4, .int (nI g))]) rfl ?_
            exact ih_11 (j + 1) _ nnj h_11  (by omega) (by omega) (by omega) (z_exW hD_1 (by omega) eh_11 hEj) (z_nxs eh_11) 
          · refine z_aload_n hb dX10_compute_53 rfl ?_
            refine z_lload hb dX10_compute_54 rfl ?_
            refine z_aload hb dX10_compute_56 rfl ?_
            refine z_call1 (b' := B - 1) (f' := (4 * B) - 4) (rest := []) (av := [.ref (sa k), .long (tw_of w k (nI d) (nI g) j), .ref (ra j)]) (z_siteU hb ho zc9 k_19 q724 q726 (Or.inl q725) q728 q727 ⟨by decide +kernel, by decide +kernel⟩ (by show _ = some 2; decide +kernel) dX10_compute_58 : z_Site M _ _ _ _ _ ([.long (tw_of w k (nI d) (nI g) j), .ref (ra j)].reverse ++ .ref (sa k) :: []) [] _) zk_X12_with q130 hrm (m_X12_with k_19 k_21) (by omega) (by decide) (Nat.le_of_ble_eq_true rfl) (by omega) (by omega) ?_
            refine z_toL (y := tw_of w k (nI d) (nI g) (j + 1)) ((z_of_t (by unfold tw_cnt; simp only [Bool.and_eq_true] at c_41 ⊢; exact ⟨c_41.1, c_41.2, c_50⟩)).2.1 hkd).symm ?_
            refine z_goto (tgt := 66) hb dX10_compute_61 (by decide) ?_
            refine z_lstore (lv' := [(5, .long (tw_of w k (nI d) (nI g) (j + 1))), (8, .ref (ra j)), (7, .ref n), (0, .ref (sa k)), (1, .ref lr), (2, .ref nb), (3, .int (nI d)), (4, .int (nI g))]) hb dX10_compute_66 (by rw [hN]; decide) rfl ?_
            refine z_goto (tgt := 11) hb dX10_compute_68 (by decide) ?_
            refine z_lv [2, 0, 3, 4, 5, 6, 7] (lv' := [(7, .ref n), (5, .long (tw_of w k (nI d) (nI g) (j + 1))), (0, .ref (sa k)), (1, .ref lr), (2, .ref nb), (3, .int (nI d)), (4, .int (nI g))]) rfl ?_
            exact ih_11 (j + 1) _ nnj h_11  (by omega) (by omega) (by omega) (z_exW hD_1 (by omega) eh_11 hEj) (z_nxs eh_11) 
  refine z_lv [0, 1, 2, 3, 4, 5, 6] (lv' := [(7, .ref n), (5, .long 0), (0, .ref (sa k)), (1, .ref lr), (2, .ref nb), (3, .int (nI d)), (4, .int (nI g))]) rfl ?_
  exact lp_11 _ 0 (-1) (n + 1) h_2  (Nat.lt_succ_self _) (Nat.zero_le _) (by omega) (z_exN z_ex_r hD_1 eh_2) (z_nxs eh_2) 

set_option maxHeartbeats 1000000 in
theorem m_X10_compute_10 {l : Launch} {G : zG} {h : zH} {n : Nat} {w : Nat → Int32} {v : Nat → Int64} {R S D a lr ls lv : Nat} {ra sa va : Nat → Nat} {u : Nat → Int64} {F : Nat → Nat → Nat} {rN : Nat → Nat} {B rc nb : Nat} {fsn : List Value} {k d g : Nat} (hL : z_Ln G h w v R S D a lr ls lv ra sa va) (hR4 : R ≤ 40) (hB : 1 ≤ B) (hrc : 5 ≤ rc) (hx : h (sa k) = some (.inr (10, [.int (w (176 + 4 * k + 1)), .int (nI 120)]))) (hkd : w (176 + 4 * k) = nI 120) : z_C l G yX10_compute rc B (4 * B) [.ref (sa k), .ref lr, .ref nb, .int (nI d), .int (nI g)] h n (z_rn (.long (tw_of w k (nI d) (nI g) R)) h) := by
  refine z_start zk_X10_compute zpl_RX10 (Nat.le_of_ble_eq_true rfl) ?_
  intro hn0 M hl hG ho hb hN hr hm hH hrm hQ
  subst hl hG
  have ho : zm_o M = RX10 := ho
  obtain ⟨h1, ⟨e0, N0, m0, f0, r1, r2, r3, ⟨r4, r4n⟩, r5⟩, ⟨e, N, m9, f, h3, h4, h5, ⟨h6, h6n⟩, h7⟩, ⟨ev, Nv, mv, fv, v1, v2, v3, ⟨v4, v4n⟩, v5⟩, h9, hs, hv, hi, hrI⟩ := id hL
  show z_V M h n B (4 * B) 0 [(0, .ref (sa k)), (1, .ref lr), (2, .ref nb), (3, .int (nI d)), (4, .int (nI g))] []
  refine z_dom (fun hD0 => ?_)
  refine z_lconst (x := 0) hb dX10_compute_0 rfl ?_
  refine z_lstore (lv' := [(5, .long 0), (0, .ref (sa k)), (1, .ref lr), (2, .ref nb), (3, .int (nI d)), (4, .int (nI g))]) hb dX10_compute_1 (by rw [hN]; decide) rfl ?_
  refine z_aload_n hb dX10_compute_3 rfl ?_
  refine z_dom (fun hD_1 => ?_)
  refine z_call1 (b' := B - 1) (f' := (4 * B) - 4) (rest := []) (av := [.ref lr]) (z_siteF hb ho zc20 r1 q707 zx1 q343 q345 q346 q344 q321 zxl1 dX10_compute_4 : z_Site M _ _ _ _ _ ([].reverse ++ .ref lr :: []) [] _) zk_J2_iterator q98 hrm (m_J2_iterator r1 (hD_1 _ _ r1)) (by omega) (by decide) (Nat.le_of_ble_eq_true rfl) (by omega) (by omega) ?_
  refine z_hn (fun h_2 eh_2 => ?_)
  have eh_2 : h_2 = z_up h n (.inr (24, [.int (nI 0), .int (-1), .int m0, .ref lr])) := eh_2
  have k_3 : h_2 a = some (.inr (1, [.ref lr, .ref ls, .ref lv, .int (nI D), .int (w 2), .int (w 4), .int (w 5), .int (w 6)])) := z_nx eh_2 (Nat.ne_of_lt (hD_1 _ _ h1)) h1
  have k_4 : h_2 lr = some (.inr (20, [.int m0, .ref e0, .int (nI R)])) := z_nx eh_2 (Nat.ne_of_lt (hD_1 _ _ r1)) r1
  have k_5 : h_2 e0 = some (.inl ((zm_G M).2.1 5, N0, .inr (.inr (.inr (.inr f0))))) := z_nx eh_2 (Nat.ne_of_lt (hD_1 _ _ r2)) r2
  have k_6 : h_2 ls = some (.inr (20, [.int m9, .ref e, .int (nI S)])) := z_nx eh_2 (Nat.ne_of_lt (hD_1 _ _ h3)) h3
  have k_7 : h_2 e = some (.inl ((zm_G M).2.1 5, N, .inr (.inr (.inr (.inr f))))) := z_nx eh_2 (Nat.ne_of_lt (hD_1 _ _ h4)) h4
  have k_8 : h_2 lv = some (.inr (20, [.int mv, .ref ev, .int (nI S)])) := z_nx eh_2 (Nat.ne_of_lt (hD_1 _ _ v1)) v1
  have k_9 : h_2 ev = some (.inl ((zm_G M).2.1 5, Nv, .inr (.inr (.inr (.inr fv))))) := z_nx eh_2 (Nat.ne_of_lt (hD_1 _ _ v2)) v2
  have k_10 : h_2 (sa k) = some (.inr (10, [.int (w (176 + 4 * k + 1)), .int (nI 120)])) := z_nx eh_2 (Nat.ne_of_lt (hD_1 _ _ hx)) hx
  refine z_astore (lv' := [(7, .ref n), (5, .long 0), (0, .ref (sa k)), (1, .ref lr), (2, .ref nb), (3, .int (nI d)), (4, .int (nI g))]) hb dX10_compute_9 (by rw [hN]; decide) rfl ?_
  have lp_11 : ∀ (k9_11 : Nat) (j : Nat) (lr9j : Int32) (nnj : Nat) (hhj : zH), R + 1 - j < k9_11 → (j ≤ R) → (n < nnj) → (z_ex h hhj) → (hhj n = some (.inr (24, [.int (nI j), .int lr9j, .int m0, .ref lr]))) → z_V M hhj nnj (B - 1) ((4 * B) - 4) 11 [(7, .ref n), (5, .long (tw_of w k (nI d) (nI g) j)), (0, .ref (sa k)), (1, .ref lr), (2, .ref nb), (3, .int (nI d)), (4, .int (nI g))] [] := by
    intro k9_11
    induction k9_11 with
    | zero => intro j lr9j nnj hhj hk9_11; exact absurd hk9_11 (Nat.not_lt_zero _)
    | succ k9_11 ih_11 =>
      intro j lr9j nnj hhj hk9_11 hj hnnj hEj hTj
      refine z_aload hb dX10_compute_11 rfl ?_
      refine z_call1 (b' := B - 1) (f' := (4 * B) - 4) (rest := []) (av := [.ref n]) (z_siteF hb ho zc24 hTj q709 zx2 q372 q374 q375 q373 q371 zxl2 dX10_compute_13 : z_Site M _ _ _ _ _ ([].reverse ++ .ref n :: []) [] _) zk_J8_hasNext q105 hrm (m_J8_hasNext hTj (hEj _ _ r1) (by omega) (by omega)) (by omega) (by decide) (Nat.le_of_ble_eq_true rfl) (by omega) (by omega) ?_
      refine z_ifb_eq (tgt := 71) hb dX10_compute_18 (by decide) (fun c_18 => ?_) (fun c_18 => ?_)
      · have hx_j : j = R := by simpa using c_18
        refine z_lload hb dX10_compute_71 rfl ?_
        refine z_less hEj ?_
        refine z_lret hb hr dX10_compute_73 ?_
        rw [hQ]
        subst hx_j
        exact ⟨rfl, rfl⟩
      · have hl_j : j < R := Nat.lt_of_le_of_ne hj (by simpa using c_18)
        refine z_aload hb dX10_compute_21 rfl ?_
        refine z_call1 (b' := B - 1) (f' := (4 * B) - 4) (rest := []) (av := [.ref n]) (z_siteF hb ho zc24 hTj q711 zx3 q381 q383 q384 q382 q371 zxl3 dX10_compute_23 : z_Site M _ _ _ _ _ ([].reverse ++ .ref n :: []) [] _) zk_J8_next q105 hrm (m_J8_next hTj (hEj _ _ r1) (hEj _ _ r2) (by omega) (by omega) r5 (by omega) (by omega)) (by omega) (by decide) (Nat.le_of_ble_eq_true rfl) (by omega) (by omega) ?_
        refine z_hn (fun h_11 eh_11 => ?_)
        have eh_11 : h_11 = z_up hhj n (.inr (24, [.int (nI (j + 1)), .int (nI j), .int m0, .ref lr])) := eh_11
        have k_12 : h_11 a = some (.inr (1, [.ref lr, .ref ls, .ref lv, .int (nI D), .int (w 2), .int (w 4), .int (w 5), .int (w 6)])) := z_nx eh_11 (Nat.ne_of_lt (hD_1 _ _ h1)) (hEj _ _ h1)
        have k_13 : h_11 lr = some (.inr (20, [.int m0, .ref e0, .int (nI R)])) := z_nx eh_11 (Nat.ne_of_lt (hD_1 _ _ r1)) (hEj _ _ r1)
        have k_14 : h_11 e0 = some (.inl ((zm_G M).2.1 5, N0, .inr (.inr (.inr (.inr f0))))) := z_nx eh_11 (Nat.ne_of_lt (hD_1 _ _ r2)) (hEj _ _ r2)
        have k_15 : h_11 ls = some (.inr (20, [.int m9, .ref e, .int (nI S)])) := z_nx eh_11 (Nat.ne_of_lt (hD_1 _ _ h3)) (hEj _ _ h3)
        have k_16 : h_11 e = some (.inl ((zm_G M).2.1 5, N, .inr (.inr (.inr (.inr f))))) := z_nx eh_11 (Nat.ne_of_lt (hD_1 _ _ h4)) (hEj _ _ h4)
        have k_17 : h_11 lv = some (.inr (20, [.int mv, .ref ev, .int (nI S)])) := z_nx eh_11 (Nat.ne_of_lt (hD_1 _ _ v1)) (hEj _ _ v1)
        have k_18 : h_11 ev = some (.inl ((zm_G M).2.1 5, Nv, .inr (.inr (.inr (.inr fv))))) := z_nx eh_11 (Nat.ne_of_lt (hD_1 _ _ v2)) (hEj _ _ v2)
        have k_19 : h_11 (sa k) = some (.inr (10, [.int (w (176 + 4 * k + 1)), .int (nI 120)])) := z_nx eh_11 (Nat.ne_of_lt (hD_1 _ _ hx)) (hEj _ _ hx)
        have hrw_20 := h9 j (by omega)
        unfold z_Rw at hrw_20
        have k_21 : h_11 (ra j) = some (.inr (6, [.int (w (16 + 4 * j)), .int (w (16 + 4 * j + 1)), .int (w (16 + 4 * j + 2)), .int (w (16 + 4 * j + 3))])) := (z_exW hD0 (by omega) eh_11 hEj) _ _ hrw_20
        refine z_cast hb ho zc6 k_21 q712 (Or.inl rfl) dX10_compute_28 ?_
        refine z_astore (lv' := [(8, .ref (ra j)), (7, .ref n), (5, .long (tw_of w k (nI d) (nI g) j)), (0, .ref (sa k)), (1, .ref lr), (2, .ref nb), (3, .int (nI d)), (4, .int (nI g))]) hb dX10_compute_31 (by rw [hN]; decide) rfl ?_
        refine z_aload hb dX10_compute_33 rfl ?_
        refine z_iload_n hb dX10_compute_35 rfl ?_
        refine z_iload hb dX10_compute_36 rfl ?_
        refine z_call1 (b' := B - 1) (f' := (4 * B) - 4) (rest := []) (av := [.ref (ra j), .int (nI d), .int (nI g)]) (z_siteV hb ho zc6 k_21 q713 q714 q715 ⟨_, _, _, _, zk_X7_isOf⟩ zy_X7_isOf zl_X7_isOf dX10_compute_38 : z_Site M _ _ _ _ _ ([.int (nI d), .int (nI g)].reverse ++ .ref (ra j) :: []) [] _) zk_X7_isOf q122 hrm (m_X7_isOfI k_21) (by omega) (by decide) (Nat.le_of_ble_eq_true rfl) (by omega) (by omega) ?_
        refine z_ifb_eq (tgt := 64) hb dX10_compute_41 (by decide) (fun c_41 => ?_) (fun c_41 => ?_)
        · refine z_lload hb dX10_compute_64 rfl ?_
          refine z_toL (y := tw_of w k (nI d) (nI g) (j + 1)) (tw_of_n (by unfold tw_cnt; rw [← Bool.and_assoc, c_41]; rfl)).symm ?_
          refine z_lstore (lv' := [(5, .long (tw_of w k (nI d) (nI g) (j + 1))), (8, .ref (ra j)), (7, .ref n), (0, .ref (sa k)), (1, .ref lr), (2, .ref nb), (3, .int (nI d)), (4, .int (nI g))]) hb dX10_compute_66 (by rw [hN]; decide) rfl ?_
          refine z_goto (tgt := 11) hb dX10_compute_68 (by decide) ?_
          refine z_lv [2, 0, 3, 4, 5, 6, 7] (lv' := [(7, .ref n), (5, .long (tw_of w k (nI d) (nI g) (j + 1))), (0, .ref (sa k)), (1, .ref lr), (2, .ref nb), (3, .int (nI d)), (4, .int (nI g))]) rfl ?_
          exact ih_11 (j + 1) _ nnj h_11  (by omega) (by omega) (by omega) (z_exW hD_1 (by omega) eh_11 hEj) (z_nxs eh_11) 
        · refine z_aload_n hb dX10_compute_44 rfl ?_
          refine z_aload hb dX10_compute_45 rfl ?_
          refine z_call1 (b' := B - 1) (f' := (4 * B) - 4) (rest := []) (av := [.ref (sa k), .ref (ra j)]) (z_siteV hb ho zc10 k_19 q717 q718 q721 ⟨_, _, _, _, zk_X10_takes⟩ zy_X10_takes zl_X10_takes dX10_compute_47 : z_Site M _ _ _ _ _ ([.ref (ra j)].reverse ++ .ref (sa k) :: []) [] _) zk_X10_takes q128 hrm (m_X10_takes_10 k_19 k_21) (by omega) (by decide) (Nat.le_of_ble_eq_true rfl) (by omega) (by omega) ?_
          refine z_ifb_eq (tgt := 64) hb dX10_compute_50 (by decide) (fun c_50 => ?_) (fun c_50 => ?_)
          · refine z_lload hb dX10_compute_64 rfl ?_
            refine z_toL (y := tw_of w k (nI d) (nI g) (j + 1)) (tw_of_n (by unfold tw_cnt; rw [← Bool.and_assoc, c_41, c_50]; rfl)).symm ?_
            refine z_lstore (lv' := [(5, .long (tw_of w k (nI d) (nI g) (j + 1))), (8, .ref (ra j)), (7, .ref n), (0, .ref (sa k)), (1, .ref lr), (2, .ref nb), (3, .int (nI d)), (4, .int (nI g))]) hb dX10_compute_66 (by rw [hN]; decide) rfl ?_
            refine z_goto (tgt := 11) hb dX10_compute_68 (by decide) ?_
            refine z_lv [2, 0, 3, 4, 5, 6, 7] (lv' := [(7, .ref n), (5, .long (tw_of w k (nI d) (nI g) (j + 1))), (0, .ref (sa k)), (1, .ref lr), (2, .ref nb), (3, .int (nI d)), (4, .int (nI g))]) rfl ?_
            exact ih_11 (j + 1) _ nnj h_11  (by omega) (by omega) (by omega) (z_exW hD_1 (by omega) eh_11 hEj) (z_nxs eh_11) 
          · refine z_aload_n hb dX10_compute_53 rfl ?_
            refine z_lload hb dX10_compute_54 rfl ?_
            refine z_aload hb dX10_compute_56 rfl ?_
            refine z_call1 (b' := B - 1) (f' := (4 * B) - 4) (rest := []) (av := [.ref (sa k), .long (tw_of w k (nI d) (nI g) j), .ref (ra j)]) (z_siteU hb ho zc10 k_19 q724 q726 (Or.inl q725) q731 q730 ⟨by decide +kernel, by decide +kernel⟩ (by show _ = some 2; decide +kernel) dX10_compute_58 : z_Site M _ _ _ _ _ ([.long (tw_of w k (nI d) (nI g) j), .ref (ra j)].reverse ++ .ref (sa k) :: []) [] _) zk_X13_with q131 hrm (m_X13_with k_19 k_21) (by omega) (by decide) (Nat.le_of_ble_eq_true rfl) (by omega) (by omega) ?_
            refine z_toL (y := tw_of w k (nI d) (nI g) (j + 1)) ((z_of_t (by unfold tw_cnt; simp only [Bool.and_eq_true] at c_41 ⊢; exact ⟨c_41.1, c_41.2, c_50⟩)).2.2 hkd).symm ?_
            refine z_goto (tgt := 66) hb dX10_compute_61 (by decide) ?_
            refine z_lstore (lv' := [(5, .long (tw_of w k (nI d) (nI g) (j + 1))), (8, .ref (ra j)), (7, .ref n), (0, .ref (sa k)), (1, .ref lr), (2, .ref nb), (3, .int (nI d)), (4, .int (nI g))]) hb dX10_compute_66 (by rw [hN]; decide) rfl ?_
            refine z_goto (tgt := 11) hb dX10_compute_68 (by decide) ?_
            refine z_lv [2, 0, 3, 4, 5, 6, 7] (lv' := [(7, .ref n), (5, .long (tw_of w k (nI d) (nI g) (j + 1))), (0, .ref (sa k)), (1, .ref lr), (2, .ref nb), (3, .int (nI d)), (4, .int (nI g))]) rfl ?_
            exact ih_11 (j + 1) _ nnj h_11  (by omega) (by omega) (by omega) (z_exW hD_1 (by omega) eh_11 hEj) (z_nxs eh_11) 
  refine z_lv [0, 1, 2, 3, 4, 5, 6] (lv' := [(7, .ref n), (5, .long 0), (0, .ref (sa k)), (1, .ref lr), (2, .ref nb), (3, .int (nI d)), (4, .int (nI g))]) rfl ?_
  exact lp_11 _ 0 (-1) (n + 1) h_2  (Nat.lt_succ_self _) (Nat.zero_le _) (by omega) (z_exN z_ex_r hD_1 eh_2) (z_nxs eh_2) 

set_option maxHeartbeats 1000000 in
theorem m_X17_bounded {l : Launch} {G : zG} {h : zH} {n : Nat} {x t : Nat} {kd b : Int32} {v : Int64} (ht9 : h t = some (.inr (13, [.ref x, .int kd, .int b]))) : z_C l G yX17_bounded 1 0 0 [.ref t, .long v] h n (z_rn (.long (if b.toInt64 ≤ v then v else 0)) h) := by
  refine z_start zk_X17_bounded zpl_RX17 (Nat.le_of_ble_eq_true rfl) ?_
  intro hn0 M hl hG ho hb hN hr hm hH hrm hQ
  subst hl hG
  have ho : zm_o M = RX17 := ho
  show z_V M h n 0 0 0 [(0, .ref t), (1, .long v)] []
  refine z_dom (fun hD0 => ?_)
  refine z_lload_n hb dX17_bounded_0 rfl ?_
  refine z_aload_n hb dX17_bounded_1 rfl ?_
  refine z_get (k := 2) (C := RX17) (T := TX17) (N := 3) hb ho zc13 in_X17 (zf_RX17_7 _) dX17_bounded_2 ht9 (by decide) rfl ?_
  refine z_i2l (v := b.toInt64) hb dX17_bounded_5 rfl ?_
  refine z_lif_lt (tgt := 14) hb dX17_bounded_6 dX17_bounded_7 (by decide) (fun c_7 => ?_) (fun c_7 => ?_)
  · refine z_lconst (x := 0) hb dX17_bounded_14 rfl ?_
    refine z_lret hb hr dX17_bounded_15 ?_
    rw [hQ]
    exact z_rn_e (by rw [if_neg (Int64.not_le.mpr c_7)])
  · refine z_lload_n hb dX17_bounded_10 rfl ?_
    refine z_goto (tgt := 15) hb dX17_bounded_11 (by decide) ?_
    refine z_lret hb hr dX17_bounded_15 ?_
    rw [hQ]
    exact z_rn_e (by rw [if_pos (Int64.not_lt.mp c_7)])

set_option maxHeartbeats 1000000 in
theorem m_X14_compute_p_1 {l : Launch} {G : zG} {h : zH} {n : Nat} {w : Nat → Int32} {sa : Nat → Nat} {R D lr : Nat} {u : Nat → Int64} {F : Nat → Nat → Nat} {rN : Nat → Nat} {B rc nb : Nat} {fsn : List Value} {k d g : Nat} (hnb9 : h nb = some (.inr (1, fsn))) (hN2 : ∀ j, j < k → ∀ x y, x ≤ D → y < 5 → ∀ n : Nat, z_C l G yX2_number (rN j) (F j x) (4 * F j x) [.ref nb, .ref (sa j), .int (nI x), .int (nI y)] h n (z_rn (.long (u (5 * (7 * j + x) + y))) h)) (hrN : ∀ j, j < k → rN j < rc) (hrc : 5 ≤ rc) (hd : d ≤ D) (hg : g < 5) (hD6 : D ≤ 6) (hf : tw_f w k < k) (hs2 : tw_s w k < k) (hB : F (tw_f w k) d + F (tw_s w k) d ≤ B) (hx : h (sa k) = some (.inr (11, [.int (nI 43), .ref (sa (tw_f w k)), .ref (sa (tw_s w k)), .int (nI 1)]))) (hkd : w (176 + 4 * k) = nI 43) : z_C l G yX14_compute rc B (4 * B) [.ref (sa k), .ref lr, .ref nb, .int (nI d), .int (nI g)] h n (z_rn (.long (tw_made w u R k d g)) h) := by
  refine z_start zk_X14_compute zpl_RX14 (Nat.le_of_ble_eq_true rfl) ?_
  intro hn0 M hl hG ho hb hN hr hm hH hrm hQ
  subst hl hG
  have ho : zm_o M = RX14 := ho
  have hr1 := hrN _ hf
  have hr2 := hrN _ hs2
  show z_V M h n B (4 * B) 0 [(0, .ref (sa k)), (1, .ref lr), (2, .ref nb), (3, .int (nI d)), (4, .int (nI g))] []
  refine z_dom (fun hD0 => ?_)
  refine z_aload_n hb dX14_compute_0 rfl ?_
  refine z_aload_n hb dX14_compute_1 rfl ?_
  refine z_get (k := 1) (C := RX14) (T := TX14) (N := 4) hb ho zc11 in_X14 (zf_RX14_7 _) dX14_compute_2 hx (by decide) rfl ?_
  refine z_iload_n hb dX14_compute_5 rfl ?_
  refine z_iload hb dX14_compute_6 rfl ?_
  refine z_callN1 (b' := B - (F (tw_f w k) d)) (f' := (4 * B) - (4 * F (tw_f w k) d)) (rest := []) (av := [.ref nb, .ref (sa (tw_f w k)), .int (nI d), .int (nI g)]) (z_siteF hb ho zc1 hnb9 q742 zx7 q744 q746 q747 q745 q743 zxl7 dX14_compute_8 : z_Site M _ _ _ _ _ ([.ref (sa (tw_f w k)), .int (nI d), .int (nI g)].reverse ++ .ref nb :: []) [] _) zk_X2_number q95 hrm (hN2 _ (by omega) _ _ (by omega) hg _) (by omega) (by decide) (Nat.le_of_ble_eq_true rfl) (by omega) (by omega) (fun n_1 hn_1 => ?_)
  refine z_aload_n hb dX14_compute_13 rfl ?_
  refine z_get (k := 3) (C := RX14) (T := TX14) (N := 4) hb ho zc11 in_X14 (zf_RX14_16 _) dX14_compute_14 hx (by decide) rfl ?_
  refine z_i2l (v := (nI 1).toInt64) hb dX14_compute_17 rfl ?_
  refine z_aload_n hb dX14_compute_18 rfl ?_
  refine z_aload_n hb dX14_compute_19 rfl ?_
  refine z_get (k := 2) (C := RX14) (T := TX14) (N := 4) hb ho zc11 in_X14 (zf_RX14_13 _) dX14_compute_20 hx (by decide) rfl ?_
  refine z_iload_n hb dX14_compute_23 rfl ?_
  refine z_iload hb dX14_compute_24 rfl ?_
  refine z_callN1 (b' := (B - (F (tw_f w k) d)) - (F (tw_s w k) d)) (f' := ((4 * B) - (4 * F (tw_f w k) d)) - (4 * F (tw_s w k) d)) (rest := [.long ((nI 1).toInt64), .long (u (5 * (7 * tw_f w k + d) + g))]) (av := [.ref nb, .ref (sa (tw_s w k)), .int (nI d), .int (nI g)]) (z_siteF hb ho zc1 hnb9 q742 zx7 q744 q746 q747 q745 q743 zxl7 dX14_compute_26 : z_Site M _ _ _ _ _ ([.ref (sa (tw_s w k)), .int (nI d), .int (nI g)].reverse ++ .ref nb :: [.long ((nI 1).toInt64), .long (u (5 * (7 * tw_f w k + d) + g))]) [.long ((nI 1).toInt64), .long (u (5 * (7 * tw_f w k + d) + g))] _) zk_X2_number q95 hrm (hN2 _ (by omega) _ _ (by omega) hg _) (by omega) (by decide) (Nat.le_of_ble_eq_true rfl) (by omega) (by omega) (fun n_2 hn_2 => ?_)
  refine z_lmul hb dX14_compute_31 ?_
  refine z_ladd hb dX14_compute_32 ?_
  refine z_lret hb hr dX14_compute_33 ?_
  rw [hQ]
  exact z_rn_e (by rw [z_mk_p hkd, show (nI 1).toInt64 = 1 from rfl, Int64.one_mul])

set_option maxHeartbeats 1000000 in
theorem m_X14_compute_m_1 {l : Launch} {G : zG} {h : zH} {n : Nat} {w : Nat → Int32} {sa : Nat → Nat} {R D lr : Nat} {u : Nat → Int64} {F : Nat → Nat → Nat} {rN : Nat → Nat} {B rc nb : Nat} {fsn : List Value} {k d g : Nat} (hnb9 : h nb = some (.inr (1, fsn))) (hN2 : ∀ j, j < k → ∀ x y, x ≤ D → y < 5 → ∀ n : Nat, z_C l G yX2_number (rN j) (F j x) (4 * F j x) [.ref nb, .ref (sa j), .int (nI x), .int (nI y)] h n (z_rn (.long (u (5 * (7 * j + x) + y))) h)) (hrN : ∀ j, j < k → rN j < rc) (hrc : 5 ≤ rc) (hd : d ≤ D) (hg : g < 5) (hD6 : D ≤ 6) (hf : tw_f w k < k) (hs2 : tw_s w k < k) (hB : F (tw_f w k) d + F (tw_s w k) d ≤ B) (hx : h (sa k) = some (.inr (11, [.int (nI 45), .ref (sa (tw_f w k)), .ref (sa (tw_s w k)), .int ((-1 : Int32))]))) (hkd : w (176 + 4 * k) = nI 45) : z_C l G yX14_compute rc B (4 * B) [.ref (sa k), .ref lr, .ref nb, .int (nI d), .int (nI g)] h n (z_rn (.long (tw_made w u R k d g)) h) := by
  refine z_start zk_X14_compute zpl_RX14 (Nat.le_of_ble_eq_true rfl) ?_
  intro hn0 M hl hG ho hb hN hr hm hH hrm hQ
  subst hl hG
  have ho : zm_o M = RX14 := ho
  have hr1 := hrN _ hf
  have hr2 := hrN _ hs2
  show z_V M h n B (4 * B) 0 [(0, .ref (sa k)), (1, .ref lr), (2, .ref nb), (3, .int (nI d)), (4, .int (nI g))] []
  refine z_dom (fun hD0 => ?_)
  refine z_aload_n hb dX14_compute_0 rfl ?_
  refine z_aload_n hb dX14_compute_1 rfl ?_
  refine z_get (k := 1) (C := RX14) (T := TX14) (N := 4) hb ho zc11 in_X14 (zf_RX14_7 _) dX14_compute_2 hx (by decide) rfl ?_
  refine z_iload_n hb dX14_compute_5 rfl ?_
  refine z_iload hb dX14_compute_6 rfl ?_
  refine z_callN1 (b' := B - (F (tw_f w k) d)) (f' := (4 * B) - (4 * F (tw_f w k) d)) (rest := []) (av := [.ref nb, .ref (sa (tw_f w k)), .int (nI d), .int (nI g)]) (z_siteF hb ho zc1 hnb9 q742 zx7 q744 q746 q747 q745 q743 zxl7 dX14_compute_8 : z_Site M _ _ _ _ _ ([.ref (sa (tw_f w k)), .int (nI d), .int (nI g)].reverse ++ .ref nb :: []) [] _) zk_X2_number q95 hrm (hN2 _ (by omega) _ _ (by omega) hg _) (by omega) (by decide) (Nat.le_of_ble_eq_true rfl) (by omega) (by omega) (fun n_1 hn_1 => ?_)
  refine z_aload_n hb dX14_compute_13 rfl ?_
  refine z_get (k := 3) (C := RX14) (T := TX14) (N := 4) hb ho zc11 in_X14 (zf_RX14_16 _) dX14_compute_14 hx (by decide) rfl ?_
  refine z_i2l (v := (-1 : Int32).toInt64) hb dX14_compute_17 rfl ?_
  refine z_aload_n hb dX14_compute_18 rfl ?_
  refine z_aload_n hb dX14_compute_19 rfl ?_
  refine z_get (k := 2) (C := RX14) (T := TX14) (N := 4) hb ho zc11 in_X14 (zf_RX14_13 _) dX14_compute_20 hx (by decide) rfl ?_
  refine z_iload_n hb dX14_compute_23 rfl ?_
  refine z_iload hb dX14_compute_24 rfl ?_
  refine z_callN1 (b' := (B - (F (tw_f w k) d)) - (F (tw_s w k) d)) (f' := ((4 * B) - (4 * F (tw_f w k) d)) - (4 * F (tw_s w k) d)) (rest := [.long ((-1 : Int32).toInt64), .long (u (5 * (7 * tw_f w k + d) + g))]) (av := [.ref nb, .ref (sa (tw_s w k)), .int (nI d), .int (nI g)]) (z_siteF hb ho zc1 hnb9 q742 zx7 q744 q746 q747 q745 q743 zxl7 dX14_compute_26 : z_Site M _ _ _ _ _ ([.ref (sa (tw_s w k)), .int (nI d), .int (nI g)].reverse ++ .ref nb :: [.long ((-1 : Int32).toInt64), .long (u (5 * (7 * tw_f w k + d) + g))]) [.long ((-1 : Int32).toInt64), .long (u (5 * (7 * tw_f w k + d) + g))] _) zk_X2_number q95 hrm (hN2 _ (by omega) _ _ (by omega) hg _) (by omega) (by decide) (Nat.le_of_ble_eq_true rfl) (by omega) (by omega) (fun n_2 hn_2 => ?_)
  refine z_lmul hb dX14_compute_31 ?_
  refine z_ladd hb dX14_compute_32 ?_
  refine z_lret hb hr dX14_compute_33 ?_
  rw [hQ]
  exact z_rn_e (by rw [z_mk_m hkd, show (-1 : Int32).toInt64 = -1 from rfl, Int64.neg_mul, Int64.one_mul, Int64.sub_eq_add_neg])

set_option maxHeartbeats 1000000 in
theorem m_X17_compute_1 {l : Launch} {G : zG} {h : zH} {n : Nat} {w : Nat → Int32} {sa : Nat → Nat} {R D lr : Nat} {u : Nat → Int64} {F : Nat → Nat → Nat} {rN : Nat → Nat} {B rc nb : Nat} {fsn : List Value} {k d g : Nat} (hnb9 : h nb = some (.inr (1, fsn))) (hN2 : ∀ j, j < k → ∀ x y, x ≤ D → y < 5 → ∀ n : Nat, z_C l G yX2_number (rN j) (F j x) (4 * F j x) [.ref nb, .ref (sa j), .int (nI x), .int (nI y)] h n (z_rn (.long (u (5 * (7 * j + x) + y))) h)) (hrN : ∀ j, j < k → rN j < rc) (hrc : 5 ≤ rc) (hd : d ≤ D) (hg : g < 5) (hD6 : D ≤ 6) (hf : tw_f w k < k) (hB : F (tw_f w k) d ≤ B) (hx : h (sa k) = some (.inr (13, [.ref (sa (tw_f w k)), .int (nI 107), .int (w (176 + 4 * k + 1))]))) (hkd : w (176 + 4 * k) = nI 107) : z_C l G yX17_compute rc B (4 * B) [.ref (sa k), .ref lr, .ref nb, .int (nI d), .int (nI g)] h n (z_rn (.long (tw_made w u R k d g)) h) := by
  refine z_start zk_X17_compute zpl_RX17 (Nat.le_of_ble_eq_true rfl) ?_
  intro hn0 M hl hG ho hb hN hr hm hH hrm hQ
  subst hl hG
  have ho : zm_o M = RX17 := ho
  have hr1 := hrN _ hf
  show z_V M h n B (4 * B) 0 [(0, .ref (sa k)), (1, .ref lr), (2, .ref nb), (3, .int (nI d)), (4, .int (nI g))] []
  refine z_dom (fun hD0 => ?_)
  refine z_aload_n hb dX17_compute_0 rfl ?_
  refine z_aload_n hb dX17_compute_1 rfl ?_
  refine z_aload_n hb dX17_compute_2 rfl ?_
  refine z_call1 (b' := B) (f' := 4 * B) (rest := [.ref nb, .ref (sa k)]) (av := [.ref (sa k)]) (z_siteU hb ho zc13 hx q687 q688 (Or.inl q689) q691 q690 ⟨by decide +kernel, by decide +kernel⟩ (by show _ = some 0; decide +kernel) dX17_compute_3 : z_Site M _ _ _ _ _ ([].reverse ++ .ref (sa k) :: [.ref nb, .ref (sa k)]) [.ref nb, .ref (sa k)] _) zk_X15_input q134 hrm (m_X15_input_13 hx) (by omega) (by decide) (Nat.le_of_ble_eq_true rfl) (by omega) (by omega) ?_
  refine z_iload_n hb dX17_compute_6 rfl ?_
  refine z_iload hb dX17_compute_7 rfl ?_
  refine z_callN1 (b' := B - (F (tw_f w k) d)) (f' := (4 * B) - (4 * F (tw_f w k) d)) (rest := [.ref (sa k)]) (av := [.ref nb, .ref (sa (tw_f w k)), .int (nI d), .int (nI g)]) (z_siteF hb ho zc1 hnb9 q694 zx7 q744 q746 q747 q745 q743 zxl7 dX17_compute_9 : z_Site M _ _ _ _ _ ([.ref (sa (tw_f w k)), .int (nI d), .int (nI g)].reverse ++ .ref nb :: [.ref (sa k)]) [.ref (sa k)] _) zk_X2_number q95 hrm (hN2 _ (by omega) _ _ (by omega) hg _) (by omega) (by decide) (Nat.le_of_ble_eq_true rfl) (by omega) (by omega) (fun n_1 hn_1 => ?_)
  refine z_callN1 (b' := B - (F (tw_f w k) d)) (f' := (4 * B) - (4 * F (tw_f w k) d)) (rest := []) (av := [.ref (sa k), .long (u (5 * (7 * tw_f w k + d) + g))]) (z_siteV hb ho zc13 hx q756 q758 qs6 ⟨_, _, _, _, zk_X17_bounded⟩ zy_X17_bounded zl_X17_bounded dX17_compute_14 : z_Site M _ _ _ _ _ ([.long (u (5 * (7 * tw_f w k + d) + g))].reverse ++ .ref (sa k) :: []) [] _) zk_X17_bounded q136 hrm (m_X17_bounded hx) (by omega) (by decide) (Nat.le_of_ble_eq_true rfl) (by omega) (by omega) (fun n_2 hn_2 => ?_)
  refine z_lret hb hr dX17_compute_17 ?_
  rw [hQ]
  exact z_rn_e (by rw [z_mk_k hkd])

set_option maxHeartbeats 1000000 in
theorem m_X16_compute_1 {l : Launch} {G : zG} {h : zH} {n : Nat} {w : Nat → Int32} {sa : Nat → Nat} {R D lr : Nat} {u : Nat → Int64} {F : Nat → Nat → Nat} {rN : Nat → Nat} {B rc nb : Nat} {fsn : List Value} {k d g : Nat} (hnb9 : h nb = some (.inr (1, fsn))) (hN2 : ∀ j, j < k → ∀ x y, x ≤ D → y < 5 → ∀ n : Nat, z_C l G yX2_number (rN j) (F j x) (4 * F j x) [.ref nb, .ref (sa j), .int (nI x), .int (nI y)] h n (z_rn (.long (u (5 * (7 * j + x) + y))) h)) (hrN : ∀ j, j < k → rN j < rc) (hrc : 5 ≤ rc) (hd : d ≤ D) (hg : g < 5) (hD6 : D ≤ 6) (hf : tw_f w k < k) (hB : z_sF F (tw_f w k) 0 (d + 1) ≤ B) (hx : h (sa k) = some (.inr (12, [.ref (sa (tw_f w k)), .int (nI 114)]))) (hkd : w (176 + 4 * k) = nI 114) : z_C l G yX16_compute rc B (4 * B) [.ref (sa k), .ref lr, .ref nb, .int (nI d), .int (nI g)] h n (z_rn (.long (tw_made w u R k d g)) h) := by
  refine z_start zk_X16_compute zpl_RX16 (Nat.le_of_ble_eq_true rfl) ?_
  intro hn0 M hl hG ho hb hN hr hm hH hrm hQ
  subst hl hG
  have ho : zm_o M = RX16 := ho
  have hr1 := hrN _ hf
  have hB1 : z_sF F (tw_f w k) 0 (d + 1 - 0) ≤ B := hB
  show z_V M h n B (4 * B) 0 [(0, .ref (sa k)), (1, .ref lr), (2, .ref nb), (3, .int (nI d)), (4, .int (nI g))] []
  refine z_dom (fun hD0 => ?_)
  refine z_lconst (x := 0) hb dX16_compute_0 rfl ?_
  refine z_lstore (lv' := [(5, .long 0), (0, .ref (sa k)), (1, .ref lr), (2, .ref nb), (3, .int (nI d)), (4, .int (nI g))]) hb dX16_compute_1 (by rw [hN]; decide) rfl ?_
  refine z_iconst (x := nI 0) hb dX16_compute_3 (by decide) ?_
  refine z_istore (lv' := [(7, .int (nI 0)), (5, .long 0), (0, .ref (sa k)), (1, .ref lr), (2, .ref nb), (3, .int (nI d)), (4, .int (nI g))]) hb dX16_compute_4 (by rw [hN]; decide) rfl ?_
  have lp_6 : ∀ (k9_6 : Nat) (nno : Nat) (e : Nat), d + 2 - e < k9_6 → (n ≤ nno) → (e ≤ d + 1) → z_V M h nno (z_sF F (tw_f w k) e (d + 1 - e)) (4 * z_sF F (tw_f w k) e (d + 1 - e)) 6 [(7, .int (nI e)), (5, .long (tw_sum u (tw_f w k) g e)), (0, .ref (sa k)), (1, .ref lr), (2, .ref nb), (3, .int (nI d)), (4, .int (nI g))] [] := by
    intro k9_6
    induction k9_6 with
    | zero => intro nno e hk9_6; exact absurd hk9_6 (Nat.not_lt_zero _)
    | succ k9_6 ih_6 =>
      intro nno e hk9_6 hnno he
      refine z_iload hb dX16_compute_6 rfl ?_
      refine z_iload_n hb dX16_compute_8 rfl ?_
      refine z_icmp_gtN (tgt := 37) hb dX16_compute_9 (by decide) (by omega) (by omega) (fun c_9 => ?_) (fun c_9 => ?_)
      · refine z_lload hb dX16_compute_37 rfl ?_
        refine z_lret hb hr dX16_compute_39 ?_
        rw [hQ]
        obtain rfl : e = d + 1 := by omega
        exact z_rn_e (by rw [z_mk_r hkd])
      · have hsF := z_sF_s (F := F) (j := tw_f w k) (show e ≤ d by omega)
        refine z_lload hb dX16_compute_12 rfl ?_
        refine z_aload_n hb dX16_compute_14 rfl ?_
        refine z_aload_n hb dX16_compute_15 rfl ?_
        refine z_call1 (b' := z_sF F (tw_f w k) e (d + 1 - e)) (f' := 4 * z_sF F (tw_f w k) e (d + 1 - e)) (rest := [.ref nb, .long (tw_sum u (tw_f w k) g e)]) (av := [.ref (sa k)]) (z_siteU hb ho zc12 hx q751 q752 (Or.inl q689) q691 q753 ⟨by decide +kernel, by decide +kernel⟩ (by show _ = some 0; decide +kernel) dX16_compute_16 : z_Site M _ _ _ _ _ ([].reverse ++ .ref (sa k) :: [.ref nb, .long (tw_sum u (tw_f w k) g e)]) [.ref nb, .long (tw_sum u (tw_f w k) g e)] _) zk_X15_input q134 hrm (m_X15_input_12 hx) (by omega) (by decide) (Nat.le_of_ble_eq_true rfl) (by omega) (by omega) ?_
        refine z_iload hb dX16_compute_19 rfl ?_
        refine z_iload hb dX16_compute_21 rfl ?_
        refine z_callN1 (b' := (z_sF F (tw_f w k) e (d + 1 - e)) - (F (tw_f w k) e)) (f' := (4 * z_sF F (tw_f w k) e (d + 1 - e)) - (4 * F (tw_f w k) e)) (rest := [.long (tw_sum u (tw_f w k) g e)]) (av := [.ref nb, .ref (sa (tw_f w k)), .int (nI e), .int (nI g)]) (z_siteF hb ho zc1 hnb9 q755 zx7 q744 q746 q747 q745 q743 zxl7 dX16_compute_23 : z_Site M _ _ _ _ _ ([.ref (sa (tw_f w k)), .int (nI e), .int (nI g)].reverse ++ .ref nb :: [.long (tw_sum u (tw_f w k) g e)]) [.long (tw_sum u (tw_f w k) g e)] _) zk_X2_number q95 hrm (hN2 _ (by omega) _ _ (by omega) hg _) (by omega) (by decide) (Nat.le_of_ble_eq_true rfl) (by omega) (by omega) (fun n_1 hn_1 => ?_)
        refine z_ladd hb dX16_compute_28 ?_
        refine z_toL (y := tw_sum u (tw_f w k) g (e + 1)) rfl ?_
        refine z_lstore (lv' := [(5, .long (tw_sum u (tw_f w k) g (e + 1))), (7, .int (nI e)), (0, .ref (sa k)), (1, .ref lr), (2, .ref nb), (3, .int (nI d)), (4, .int (nI g))]) hb dX16_compute_29 (by rw [hN]; decide) rfl ?_
        refine z_iinc (k0 := 1) (lv' := [(7, .int (nI (e + 1))), (5, .long (tw_sum u (tw_f w k) g (e + 1))), (0, .ref (sa k)), (1, .ref lr), (2, .ref nb), (3, .int (nI d)), (4, .int (nI g))]) hb dX16_compute_31 rfl (nI_1 e) (by rw [hN]; decide) rfl ?_
        refine z_goto (tgt := 6) hb dX16_compute_34 (by decide) ?_
        refine z_lv [0, 1, 2, 3, 4, 5, 6] (lv' := [(7, .int (nI (e + 1))), (5, .long (tw_sum u (tw_f w k) g (e + 1))), (0, .ref (sa k)), (1, .ref lr), (2, .ref nb), (3, .int (nI d)), (4, .int (nI g))]) rfl ?_
        exact z_bf (by omega) (by omega) (ih_6 n_1 (e + 1) (by omega) (by omega) (by omega))
  refine z_lv [0, 1, 2, 3, 4, 5, 6] (lv' := [(7, .int (nI 0)), (5, .long 0), (0, .ref (sa k)), (1, .ref lr), (2, .ref nb), (3, .int (nI d)), (4, .int (nI g))]) rfl ?_
  exact z_bf (by omega) (by omega) (lp_6 _ n 0 (Nat.lt_succ_self _) (by omega) (Nat.zero_le _))

set_option maxHeartbeats 1000000 in
theorem m_X14_compute_p_14 {l : Launch} {G : zG} {h : zH} {n : Nat} {w : Nat → Int32} {sa : Nat → Nat} {R D lr : Nat} {u : Nat → Int64} {F : Nat → Nat → Nat} {rN : Nat → Nat} {B rc nb : Nat} {fsn : List Value} {k d g : Nat} (hnb9 : h nb = some (.inr (14, fsn))) (hN2 : ∀ j, j < k → ∀ x y, x ≤ D → y < 5 → ∀ n : Nat, z_C l G yX18_number (rN j) (F j x) (4 * F j x) [.ref nb, .ref (sa j), .int (nI x), .int (nI y)] h n (z_rn (.long (u (5 * (7 * j + x) + y))) h)) (hrN : ∀ j, j < k → rN j < rc) (hrc : 5 ≤ rc) (hd : d ≤ D) (hg : g < 5) (hD6 : D ≤ 6) (hf : tw_f w k < k) (hs2 : tw_s w k < k) (hB : F (tw_f w k) d + F (tw_s w k) d ≤ B) (hx : h (sa k) = some (.inr (11, [.int (nI 43), .ref (sa (tw_f w k)), .ref (sa (tw_s w k)), .int (nI 1)]))) (hkd : w (176 + 4 * k) = nI 43) : z_C l G yX14_compute rc B (4 * B) [.ref (sa k), .ref lr, .ref nb, .int (nI d), .int (nI g)] h n (z_rn (.long (tw_made w u R k d g)) h) := by
  refine z_start zk_X14_compute zpl_RX14 (Nat.le_of_ble_eq_true rfl) ?_
  intro hn0 M hl hG ho hb hN hr hm hH hrm hQ
  subst hl hG
  have ho : zm_o M = RX14 := ho
  have hr1 := hrN _ hf
  have hr2 := hrN _ hs2
  show z_V M h n B (4 * B) 0 [(0, .ref (sa k)), (1, .ref lr), (2, .ref nb), (3, .int (nI d)), (4, .int (nI g))] []
  refine z_dom (fun hD0 => ?_)
  refine z_aload_n hb dX14_compute_0 rfl ?_
  refine z_aload_n hb dX14_compute_1 rfl ?_
  refine z_get (k := 1) (C := RX14) (T := TX14) (N := 4) hb ho zc11 in_X14 (zf_RX14_7 _) dX14_compute_2 hx (by decide) rfl ?_
  refine z_iload_n hb dX14_compute_5 rfl ?_
  refine z_iload hb dX14_compute_6 rfl ?_
  refine z_callN1 (b' := B - (F (tw_f w k) d)) (f' := (4 * B) - (4 * F (tw_f w k) d)) (rest := []) (av := [.ref nb, .ref (sa (tw_f w k)), .int (nI d), .int (nI g)]) (z_siteF hb ho zc14 hnb9 q742 zx7 q698 q700 q701 q699 q697 zxl7 dX14_compute_8 : z_Site M _ _ _ _ _ ([.ref (sa (tw_f w k)), .int (nI d), .int (nI g)].reverse ++ .ref nb :: []) [] _) zk_X18_number q140 hrm (hN2 _ (by omega) _ _ (by omega) hg _) (by omega) (by decide) (Nat.le_of_ble_eq_true rfl) (by omega) (by omega) (fun n_1 hn_1 => ?_)
  refine z_aload_n hb dX14_compute_13 rfl ?_
  refine z_get (k := 3) (C := RX14) (T := TX14) (N := 4) hb ho zc11 in_X14 (zf_RX14_16 _) dX14_compute_14 hx (by decide) rfl ?_
  refine z_i2l (v := (nI 1).toInt64) hb dX14_compute_17 rfl ?_
  refine z_aload_n hb dX14_compute_18 rfl ?_
  refine z_aload_n hb dX14_compute_19 rfl ?_
  refine z_get (k := 2) (C := RX14) (T := TX14) (N := 4) hb ho zc11 in_X14 (zf_RX14_13 _) dX14_compute_20 hx (by decide) rfl ?_
  refine z_iload_n hb dX14_compute_23 rfl ?_
  refine z_iload hb dX14_compute_24 rfl ?_
  refine z_callN1 (b' := (B - (F (tw_f w k) d)) - (F (tw_s w k) d)) (f' := ((4 * B) - (4 * F (tw_f w k) d)) - (4 * F (tw_s w k) d)) (rest := [.long ((nI 1).toInt64), .long (u (5 * (7 * tw_f w k + d) + g))]) (av := [.ref nb, .ref (sa (tw_s w k)), .int (nI d), .int (nI g)]) (z_siteF hb ho zc14 hnb9 q742 zx7 q698 q700 q701 q699 q697 zxl7 dX14_compute_26 : z_Site M _ _ _ _ _ ([.ref (sa (tw_s w k)), .int (nI d), .int (nI g)].reverse ++ .ref nb :: [.long ((nI 1).toInt64), .long (u (5 * (7 * tw_f w k + d) + g))]) [.long ((nI 1).toInt64), .long (u (5 * (7 * tw_f w k + d) + g))] _) zk_X18_number q140 hrm (hN2 _ (by omega) _ _ (by omega) hg _) (by omega) (by decide) (Nat.le_of_ble_eq_true rfl) (by omega) (by omega) (fun n_2 hn_2 => ?_)
  refine z_lmul hb dX14_compute_31 ?_
  refine z_ladd hb dX14_compute_32 ?_
  refine z_lret hb hr dX14_compute_33 ?_
  rw [hQ]
  exact z_rn_e (by rw [z_mk_p hkd, show (nI 1).toInt64 = 1 from rfl, Int64.one_mul])

set_option maxHeartbeats 1000000 in
theorem m_X14_compute_m_14 {l : Launch} {G : zG} {h : zH} {n : Nat} {w : Nat → Int32} {sa : Nat → Nat} {R D lr : Nat} {u : Nat → Int64} {F : Nat → Nat → Nat} {rN : Nat → Nat} {B rc nb : Nat} {fsn : List Value} {k d g : Nat} (hnb9 : h nb = some (.inr (14, fsn))) (hN2 : ∀ j, j < k → ∀ x y, x ≤ D → y < 5 → ∀ n : Nat, z_C l G yX18_number (rN j) (F j x) (4 * F j x) [.ref nb, .ref (sa j), .int (nI x), .int (nI y)] h n (z_rn (.long (u (5 * (7 * j + x) + y))) h)) (hrN : ∀ j, j < k → rN j < rc) (hrc : 5 ≤ rc) (hd : d ≤ D) (hg : g < 5) (hD6 : D ≤ 6) (hf : tw_f w k < k) (hs2 : tw_s w k < k) (hB : F (tw_f w k) d + F (tw_s w k) d ≤ B) (hx : h (sa k) = some (.inr (11, [.int (nI 45), .ref (sa (tw_f w k)), .ref (sa (tw_s w k)), .int ((-1 : Int32))]))) (hkd : w (176 + 4 * k) = nI 45) : z_C l G yX14_compute rc B (4 * B) [.ref (sa k), .ref lr, .ref nb, .int (nI d), .int (nI g)] h n (z_rn (.long (tw_made w u R k d g)) h) := by
  refine z_start zk_X14_compute zpl_RX14 (Nat.le_of_ble_eq_true rfl) ?_
  intro hn0 M hl hG ho hb hN hr hm hH hrm hQ
  subst hl hG
  have ho : zm_o M = RX14 := ho
  have hr1 := hrN _ hf
  have hr2 := hrN _ hs2
  show z_V M h n B (4 * B) 0 [(0, .ref (sa k)), (1, .ref lr), (2, .ref nb), (3, .int (nI d)), (4, .int (nI g))] []
  refine z_dom (fun hD0 => ?_)
  refine z_aload_n hb dX14_compute_0 rfl ?_
  refine z_aload_n hb dX14_compute_1 rfl ?_
  refine z_get (k := 1) (C := RX14) (T := TX14) (N := 4) hb ho zc11 in_X14 (zf_RX14_7 _) dX14_compute_2 hx (by decide) rfl ?_
  refine z_iload_n hb dX14_compute_5 rfl ?_
  refine z_iload hb dX14_compute_6 rfl ?_
  refine z_callN1 (b' := B - (F (tw_f w k) d)) (f' := (4 * B) - (4 * F (tw_f w k) d)) (rest := []) (av := [.ref nb, .ref (sa (tw_f w k)), .int (nI d), .int (nI g)]) (z_siteF hb ho zc14 hnb9 q742 zx7 q698 q700 q701 q699 q697 zxl7 dX14_compute_8 : z_Site M _ _ _ _ _ ([.ref (sa (tw_f w k)), .int (nI d), .int (nI g)].reverse ++ .ref nb :: []) [] _) zk_X18_number q140 hrm (hN2 _ (by omega) _ _ (by omega) hg _) (by omega) (by decide) (Nat.le_of_ble_eq_true rfl) (by omega) (by omega) (fun n_1 hn_1 => ?_)
  refine z_aload_n hb dX14_compute_13 rfl ?_
  refine z_get (k := 3) (C := RX14) (T := TX14) (N := 4) hb ho zc11 in_X14 (zf_RX14_16 _) dX14_compute_14 hx (by decide) rfl ?_
  refine z_i2l (v := (-1 : Int32).toInt64) hb dX14_compute_17 rfl ?_
  refine z_aload_n hb dX14_compute_18 rfl ?_
  refine z_aload_n hb dX14_compute_19 rfl ?_
  refine z_get (k := 2) (C := RX14) (T := TX14) (N := 4) hb ho zc11 in_X14 (zf_RX14_13 _) dX14_compute_20 hx (by decide) rfl ?_
  refine z_iload_n hb dX14_compute_23 rfl ?_
  refine z_iload hb dX14_compute_24 rfl ?_
  refine z_callN1 (b' := (B - (F (tw_f w k) d)) - (F (tw_s w k) d)) (f' := ((4 * B) - (4 * F (tw_f w k) d)) - (4 * F (tw_s w k) d)) (rest := [.long ((-1 : Int32).toInt64), .long (u (5 * (7 * tw_f w k + d) + g))]) (av := [.ref nb, .ref (sa (tw_s w k)), .int (nI d), .int (nI g)]) (z_siteF hb ho zc14 hnb9 q742 zx7 q698 q700 q701 q699 q697 zxl7 dX14_compute_26 : z_Site M _ _ _ _ _ ([.ref (sa (tw_s w k)), .int (nI d), .int (nI g)].reverse ++ .ref nb :: [.long ((-1 : Int32).toInt64), .long (u (5 * (7 * tw_f w k + d) + g))]) [.long ((-1 : Int32).toInt64), .long (u (5 * (7 * tw_f w k + d) + g))] _) zk_X18_number q140 hrm (hN2 _ (by omega) _ _ (by omega) hg _) (by omega) (by decide) (Nat.le_of_ble_eq_true rfl) (by omega) (by omega) (fun n_2 hn_2 => ?_)
  refine z_lmul hb dX14_compute_31 ?_
  refine z_ladd hb dX14_compute_32 ?_
  refine z_lret hb hr dX14_compute_33 ?_
  rw [hQ]
  exact z_rn_e (by rw [z_mk_m hkd, show (-1 : Int32).toInt64 = -1 from rfl, Int64.neg_mul, Int64.one_mul, Int64.sub_eq_add_neg])

set_option maxHeartbeats 1000000 in
theorem m_X17_compute_14 {l : Launch} {G : zG} {h : zH} {n : Nat} {w : Nat → Int32} {sa : Nat → Nat} {R D lr : Nat} {u : Nat → Int64} {F : Nat → Nat → Nat} {rN : Nat → Nat} {B rc nb : Nat} {fsn : List Value} {k d g : Nat} (hnb9 : h nb = some (.inr (14, fsn))) (hN2 : ∀ j, j < k → ∀ x y, x ≤ D → y < 5 → ∀ n : Nat, z_C l G yX18_number (rN j) (F j x) (4 * F j x) [.ref nb, .ref (sa j), .int (nI x), .int (nI y)] h n (z_rn (.long (u (5 * (7 * j + x) + y))) h)) (hrN : ∀ j, j < k → rN j < rc) (hrc : 5 ≤ rc) (hd : d ≤ D) (hg : g < 5) (hD6 : D ≤ 6) (hf : tw_f w k < k) (hB : F (tw_f w k) d ≤ B) (hx : h (sa k) = some (.inr (13, [.ref (sa (tw_f w k)), .int (nI 107), .int (w (176 + 4 * k + 1))]))) (hkd : w (176 + 4 * k) = nI 107) : z_C l G yX17_compute rc B (4 * B) [.ref (sa k), .ref lr, .ref nb, .int (nI d), .int (nI g)] h n (z_rn (.long (tw_made w u R k d g)) h) := by
  refine z_start zk_X17_compute zpl_RX17 (Nat.le_of_ble_eq_true rfl) ?_
  intro hn0 M hl hG ho hb hN hr hm hH hrm hQ
  subst hl hG
  have ho : zm_o M = RX17 := ho
  have hr1 := hrN _ hf
  show z_V M h n B (4 * B) 0 [(0, .ref (sa k)), (1, .ref lr), (2, .ref nb), (3, .int (nI d)), (4, .int (nI g))] []
  refine z_dom (fun hD0 => ?_)
  refine z_aload_n hb dX17_compute_0 rfl ?_
  refine z_aload_n hb dX17_compute_1 rfl ?_
  refine z_aload_n hb dX17_compute_2 rfl ?_
  refine z_call1 (b' := B) (f' := 4 * B) (rest := [.ref nb, .ref (sa k)]) (av := [.ref (sa k)]) (z_siteU hb ho zc13 hx q687 q688 (Or.inl q689) q691 q690 ⟨by decide +kernel, by decide +kernel⟩ (by show _ = some 0; decide +kernel) dX17_compute_3 : z_Site M _ _ _ _ _ ([].reverse ++ .ref (sa k) :: [.ref nb, .ref (sa k)]) [.ref nb, .ref (sa k)] _) zk_X15_input q134 hrm (m_X15_input_13 hx) (by omega) (by decide) (Nat.le_of_ble_eq_true rfl) (by omega) (by omega) ?_
  refine z_iload_n hb dX17_compute_6 rfl ?_
  refine z_iload hb dX17_compute_7 rfl ?_
  refine z_callN1 (b' := B - (F (tw_f w k) d)) (f' := (4 * B) - (4 * F (tw_f w k) d)) (rest := [.ref (sa k)]) (av := [.ref nb, .ref (sa (tw_f w k)), .int (nI d), .int (nI g)]) (z_siteF hb ho zc14 hnb9 q694 zx7 q698 q700 q701 q699 q697 zxl7 dX17_compute_9 : z_Site M _ _ _ _ _ ([.ref (sa (tw_f w k)), .int (nI d), .int (nI g)].reverse ++ .ref nb :: [.ref (sa k)]) [.ref (sa k)] _) zk_X18_number q140 hrm (hN2 _ (by omega) _ _ (by omega) hg _) (by omega) (by decide) (Nat.le_of_ble_eq_true rfl) (by omega) (by omega) (fun n_1 hn_1 => ?_)
  refine z_callN1 (b' := B - (F (tw_f w k) d)) (f' := (4 * B) - (4 * F (tw_f w k) d)) (rest := []) (av := [.ref (sa k), .long (u (5 * (7 * tw_f w k + d) + g))]) (z_siteV hb ho zc13 hx q756 q758 qs6 ⟨_, _, _, _, zk_X17_bounded⟩ zy_X17_bounded zl_X17_bounded dX17_compute_14 : z_Site M _ _ _ _ _ ([.long (u (5 * (7 * tw_f w k + d) + g))].reverse ++ .ref (sa k) :: []) [] _) zk_X17_bounded q136 hrm (m_X17_bounded hx) (by omega) (by decide) (Nat.le_of_ble_eq_true rfl) (by omega) (by omega) (fun n_2 hn_2 => ?_)
  refine z_lret hb hr dX17_compute_17 ?_
  rw [hQ]
  exact z_rn_e (by rw [z_mk_k hkd])

set_option maxHeartbeats 1000000 in
theorem m_X16_compute_14 {l : Launch} {G : zG} {h : zH} {n : Nat} {w : Nat → Int32} {sa : Nat → Nat} {R D lr : Nat} {u : Nat → Int64} {F : Nat → Nat → Nat} {rN : Nat → Nat} {B rc nb : Nat} {fsn : List Value} {k d g : Nat} (hnb9 : h nb = some (.inr (14, fsn))) (hN2 : ∀ j, j < k → ∀ x y, x ≤ D → y < 5 → ∀ n : Nat, z_C l G yX18_number (rN j) (F j x) (4 * F j x) [.ref nb, .ref (sa j), .int (nI x), .int (nI y)] h n (z_rn (.long (u (5 * (7 * j + x) + y))) h)) (hrN : ∀ j, j < k → rN j < rc) (hrc : 5 ≤ rc) (hd : d ≤ D) (hg : g < 5) (hD6 : D ≤ 6) (hf : tw_f w k < k) (hB : z_sF F (tw_f w k) 0 (d + 1) ≤ B) (hx : h (sa k) = some (.inr (12, [.ref (sa (tw_f w k)), .int (nI 114)]))) (hkd : w (176 + 4 * k) = nI 114) : z_C l G yX16_compute rc B (4 * B) [.ref (sa k), .ref lr, .ref nb, .int (nI d), .int (nI g)] h n (z_rn (.long (tw_made w u R k d g)) h) := by
  refine z_start zk_X16_compute zpl_RX16 (Nat.le_of_ble_eq_true rfl) ?_
  intro hn0 M hl hG ho hb hN hr hm hH hrm hQ
  subst hl hG
  have ho : zm_o M = RX16 := ho
  have hr1 := hrN _ hf
  have hB1 : z_sF F (tw_f w k) 0 (d + 1 - 0) ≤ B := hB
  show z_V M h n B (4 * B) 0 [(0, .ref (sa k)), (1, .ref lr), (2, .ref nb), (3, .int (nI d)), (4, .int (nI g))] []
  refine z_dom (fun hD0 => ?_)
  refine z_lconst (x := 0) hb dX16_compute_0 rfl ?_
  refine z_lstore (lv' := [(5, .long 0), (0, .ref (sa k)), (1, .ref lr), (2, .ref nb), (3, .int (nI d)), (4, .int (nI g))]) hb dX16_compute_1 (by rw [hN]; decide) rfl ?_
  refine z_iconst (x := nI 0) hb dX16_compute_3 (by decide) ?_
  refine z_istore (lv' := [(7, .int (nI 0)), (5, .long 0), (0, .ref (sa k)), (1, .ref lr), (2, .ref nb), (3, .int (nI d)), (4, .int (nI g))]) hb dX16_compute_4 (by rw [hN]; decide) rfl ?_
  have lp_6 : ∀ (k9_6 : Nat) (nno : Nat) (e : Nat), d + 2 - e < k9_6 → (n ≤ nno) → (e ≤ d + 1) → z_V M h nno (z_sF F (tw_f w k) e (d + 1 - e)) (4 * z_sF F (tw_f w k) e (d + 1 - e)) 6 [(7, .int (nI e)), (5, .long (tw_sum u (tw_f w k) g e)), (0, .ref (sa k)), (1, .ref lr), (2, .ref nb), (3, .int (nI d)), (4, .int (nI g))] [] := by
    intro k9_6
    induction k9_6 with
    | zero => intro nno e hk9_6; exact absurd hk9_6 (Nat.not_lt_zero _)
    | succ k9_6 ih_6 =>
      intro nno e hk9_6 hnno he
      refine z_iload hb dX16_compute_6 rfl ?_
      refine z_iload_n hb dX16_compute_8 rfl ?_
      refine z_icmp_gtN (tgt := 37) hb dX16_compute_9 (by decide) (by omega) (by omega) (fun c_9 => ?_) (fun c_9 => ?_)
      · refine z_lload hb dX16_compute_37 rfl ?_
        refine z_lret hb hr dX16_compute_39 ?_
        rw [hQ]
        obtain rfl : e = d + 1 := by omega
        exact z_rn_e (by rw [z_mk_r hkd])
      · have hsF := z_sF_s (F := F) (j := tw_f w k) (show e ≤ d by omega)
        refine z_lload hb dX16_compute_12 rfl ?_
        refine z_aload_n hb dX16_compute_14 rfl ?_
        refine z_aload_n hb dX16_compute_15 rfl ?_
        refine z_call1 (b' := z_sF F (tw_f w k) e (d + 1 - e)) (f' := 4 * z_sF F (tw_f w k) e (d + 1 - e)) (rest := [.ref nb, .long (tw_sum u (tw_f w k) g e)]) (av := [.ref (sa k)]) (z_siteU hb ho zc12 hx q751 q752 (Or.inl q689) q691 q753 ⟨by decide +kernel, by decide +kernel⟩ (by show _ = some 0; decide +kernel) dX16_compute_16 : z_Site M _ _ _ _ _ ([].reverse ++ .ref (sa k) :: [.ref nb, .long (tw_sum u (tw_f w k) g e)]) [.ref nb, .long (tw_sum u (tw_f w k) g e)] _) zk_X15_input q134 hrm (m_X15_input_12 hx) (by omega) (by decide) (Nat.le_of_ble_eq_true rfl) (by omega) (by omega) ?_
        refine z_iload hb dX16_compute_19 rfl ?_
        refine z_iload hb dX16_compute_21 rfl ?_
        refine z_callN1 (b' := (z_sF F (tw_f w k) e (d + 1 - e)) - (F (tw_f w k) e)) (f' := (4 * z_sF F (tw_f w k) e (d + 1 - e)) - (4 * F (tw_f w k) e)) (rest := [.long (tw_sum u (tw_f w k) g e)]) (av := [.ref nb, .ref (sa (tw_f w k)), .int (nI e), .int (nI g)]) (z_siteF hb ho zc14 hnb9 q755 zx7 q698 q700 q701 q699 q697 zxl7 dX16_compute_23 : z_Site M _ _ _ _ _ ([.ref (sa (tw_f w k)), .int (nI e), .int (nI g)].reverse ++ .ref nb :: [.long (tw_sum u (tw_f w k) g e)]) [.long (tw_sum u (tw_f w k) g e)] _) zk_X18_number q140 hrm (hN2 _ (by omega) _ _ (by omega) hg _) (by omega) (by decide) (Nat.le_of_ble_eq_true rfl) (by omega) (by omega) (fun n_1 hn_1 => ?_)
        refine z_ladd hb dX16_compute_28 ?_
        refine z_toL (y := tw_sum u (tw_f w k) g (e + 1)) rfl ?_
        refine z_lstore (lv' := [(5, .long (tw_sum u (tw_f w k) g (e + 1))), (7, .int (nI e)), (0, .ref (sa k)), (1, .ref lr), (2, .ref nb), (3, .int (nI d)), (4, .int (nI g))]) hb dX16_compute_29 (by rw [hN]; decide) rfl ?_
        refine z_iinc (k0 := 1) (lv' := [(7, .int (nI (e + 1))), (5, .long (tw_sum u (tw_f w k) g (e + 1))), (0, .ref (sa k)), (1, .ref lr), (2, .ref nb), (3, .int (nI d)), (4, .int (nI g))]) hb dX16_compute_31 rfl (nI_1 e) (by rw [hN]; decide) rfl ?_
        refine z_goto (tgt := 6) hb dX16_compute_34 (by decide) ?_
        refine z_lv [0, 1, 2, 3, 4, 5, 6] (lv' := [(7, .int (nI (e + 1))), (5, .long (tw_sum u (tw_f w k) g (e + 1))), (0, .ref (sa k)), (1, .ref lr), (2, .ref nb), (3, .int (nI d)), (4, .int (nI g))]) rfl ?_
        exact z_bf (by omega) (by omega) (ih_6 n_1 (e + 1) (by omega) (by omega) (by omega))
  refine z_lv [0, 1, 2, 3, 4, 5, 6] (lv' := [(7, .int (nI 0)), (5, .long 0), (0, .ref (sa k)), (1, .ref lr), (2, .ref nb), (3, .int (nI d)), (4, .int (nI g))]) rfl ?_
  exact z_bf (by omega) (by omega) (lp_6 _ n 0 (Nat.lt_succ_self _) (by omega) (Nat.zero_le _))

