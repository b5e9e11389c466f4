/-! numbers as letters -/
def z_nd (a : Nat) : Nat → List Nat
  | 0 => []
  | i + 1 => (48 + a / 10 ^ i % 10) :: z_nd a i
def z_cd (ng : Bool) (a nd : Nat) : List Nat := match ng with
  | true => 45 :: z_nd a nd
  | false => z_nd a nd
theorem z_nd_len {a : Nat} : ∀ n, (z_nd a n).length = n
  | 0 => rfl
  | n + 1 => by rw [z_nd, List.length_cons, z_nd_len n]
theorem z_nd_get {a : Nat} : ∀ n i, i < n → (z_nd a n).getD i 0 = 48 + a / 10 ^ (n - 1 - i) % 10
  | 0, i, h => absurd h (Nat.not_lt_zero _)
  | n + 1, 0, h => rfl
  | n + 1, i + 1, h => by
    show (z_nd a n).getD i 0 = _
    rw [z_nd_get n i (by omega), show n - 1 - i = n + 1 - 1 - (i + 1) by omega]
theorem z_nd_lt {a : Nat} : ∀ n, ∀ b ∈ z_nd a n, b < 128
  | 0, b, h => nomatch h
  | n + 1, b, h => by
    rcases List.mem_cons.mp h with q | q
    · omega
    · exact z_nd_lt n b q
theorem z_cd_len {ng : Bool} {a nd : Nat} : (z_cd ng a nd).length = nd + ng.toNat := by
  cases ng
  · exact z_nd_len nd
  · show (z_nd a nd).length + 1 = _
    rw [z_nd_len]; rfl
theorem z_cd_lt {ng : Bool} {a nd : Nat} : ∀ b ∈ z_cd ng a nd, b < 128 := by
  cases ng
  · exact z_nd_lt nd
  · intro b h
    rcases List.mem_cons.mp h with q | q
    · omega
    · exact z_nd_lt nd b q
theorem z_sgw_lo {f : Nat → Int32} {idx a nd j : Nat} {ng : Bool} (h : j + nd + ng.toNat < idx ∨ j + nd + ng.toNat + 1 ≤ idx) : z_sgw f idx a nd ng j = f j := by
  cases ng
  · show z_wdg f idx a nd j = f j
    unfold z_wdg; simp only [Bool.toNat_false] at h; rw [if_neg (by omega)]
  · show va_up (z_wdg f idx a nd) (idx - nd - 1) (nI 45) j = f j
    simp only [Bool.toNat_true] at h
    unfold va_up z_wdg; rw [if_neg (by omega), if_neg (by omega)]
theorem z_sgw_at {f : Nat → Int32} {k a nd i : Nat} {ng : Bool} (h : i < nd + ng.toNat) : z_sgw f (k + (nd + ng.toNat)) a nd ng (k + i) = nI ((z_cd ng a nd).getD i 0) := by
  cases ng
  · simp only [Bool.toNat_false] at h
    show z_wdg f (k + (nd + 0)) a nd (k + i) = nI ((z_nd a nd).getD i 0)
    unfold z_wdg
    rw [if_pos (by omega), z_nd_get nd i (by omega), show k + (nd + 0) - 1 - (k + i) = nd - 1 - i by omega]
  · simp only [Bool.toNat_true] at h
    show va_up (z_wdg f (k + (nd + 1)) a nd) (k + (nd + 1) - nd - 1) (nI 45) (k + i) = nI ((45 :: z_nd a nd).getD i 0)
    unfold va_up
    match i with
    | 0 => rw [if_pos (by omega)]; rfl
    | i + 1 =>
      rw [if_neg (by omega)]
      show _ = nI ((z_nd a nd).getD i 0)
      unfold z_wdg
      rw [if_pos (by omega), z_nd_get nd i (by omega), show k + (nd + 1) - 1 - (k + (i + 1)) = nd - 1 - i by omega]
theorem z_sgw_fB {f : Nat → Int32} {idx a nd N : Nat} {ng : Bool} (h : z_fB f N) : z_fB (z_sgw f idx a nd ng) N := by
  have e : ∀ j, j < 10 → fits .byte (.int (nI (48 + j))) = true := by decide +kernel
  have hw : z_fB (z_wdg f idx a nd) N := fun j hj => by
    unfold z_wdg
    split
    · exact e _ (Nat.mod_lt _ (by decide))
    · exact h j hj
  cases ng
  · exact hw
  · intro j hj
    show fits .byte (.int (va_up (z_wdg f idx a nd) (idx - nd - 1) (nI 45) j)) = true
    unfold va_up
    split
    · decide
    · exact hw j hj
theorem z_lg_isd {a : Nat} (h : a < 10 ^ 13) : z_isd a (z_lg 12 a + 1) := by
  obtain ⟨q1, q2, q3⟩ := z_lg_ok (f := 12) h
  refine ⟨by omega, q2, ?_⟩
  rcases q1 with q | q
  · exact Or.inl (by omega)
  · exact Or.inr q

set_option maxHeartbeats 1000000 in
theorem m_J4_append_4_p {l : Launch} {G : zG} {h : zH} {n : Nat} {b e N a nd : Nat} {ml : Bool} {f : Nat → Int32} {cs : List Nat} (hB : h b = some (z_sb e 0 ml cs.length)) (hA : h e = some (z_ab G N f)) (hb9 : z_n0 G ≤ b) (he0 : z_n0 G ≤ e) (hN16 : 16 ≤ N) (hN3 : N ≤ 300) (hfb : z_fB f N) (hkN : cs.length ≤ N) (hf : ∀ j, j < cs.length → cs.getD j 0 < 256 ∧ f j = z_bt (cs.getD j 0)) (hd1 : h (G.2.2.1 1000) = some (z_ab G 100 z_on)) (hd2 : h (G.2.2.1 1001) = some (z_ab G 100 z_tn)) (hn1 : G.2.2.1 1000 < z_n0 G ∧ G.2.2.1 1001 < z_n0 G) (ha : a < 10 ^ 13) (hnd : z_isd a nd) (hk9 : cs.length + (nd + 0) ≤ 100) : z_C l G yJ4_append_4 5 1 300 [.ref b, .long (lN a)] h n (z_q1 (fun r9 h9 n9 => r9 = .ref b ∧ ∃ e9, z_BF G h9 b e9 0 (cs ++ z_cd false a nd) ∧ (e9 = e ∨ n ≤ e9) ∧ z_fr (fun y => y = b ∨ y = e) h h9)) := by
  refine z_start zk_J4_append_4 zpl_RJ4 (Nat.le_of_ble_eq_true rfl) ?_
  intro hn0 M hl hG ho hb hN hr hm hH hrm hQ
  subst hl hG
  have ho : zm_o M = RJ4 := ho
  refine z_dom (fun hdm => ?_)
  show z_V M h n 1 300 0 [(0, .ref b), (1, .long (lN a))] []
  refine z_aload_n hb dJ4_append_4_0 rfl ?_
  refine z_get (k := 3) (C := RJ5) (T := TJ5) (N := 4) hb ho zc22 in_J5 (zf_RJ4_79 _) dJ4_append_4_1 hB (by decide) rfl ?_
  refine z_istore_n (lv' := [(3, .int (nI cs.length)), (0, .ref b), (1, .long (lN a))]) hb dJ4_append_4_4 (by rw [hN]; decide) rfl ?_
  refine z_iload_n hb dJ4_append_4_5 rfl ?_
  refine z_lload_n hb dJ4_append_4_6 rfl ?_
  refine z_call1 (b' := 1) (f' := 300) (rest := [.int (nI cs.length)]) (av := [.long (lN a)]) (z_siteS hb ho q2571 q2572 q141 ⟨_, _, _, _, zk_J27_stringSize⟩ zy_J27_stringSize zl_J27_stringSize dJ4_append_4_7 : z_Site M _ _ _ _ _ ([.long (lN a)].reverse ++ [.int (nI cs.length)]) [.int (nI cs.length)] _) zk_J27_stringSize q141 hrm (m_J27_stringSize_p ha hnd) (by omega) (by decide) (Nat.le_of_ble_eq_true rfl) (by omega) (by omega) ?_
  refine z_iadd hb dJ4_append_4_10 ?_
  refine z_toI (y := nI (cs.length + (nd + 0))) (nI_add cs.length (nd + 0)) ?_
  refine z_istore (lv' := [(4, .int (nI (cs.length + (nd + 0)))), (3, .int (nI cs.length)), (0, .ref b), (1, .long (lN a))]) hb dJ4_append_4_11 (by rw [hN]; decide) rfl ?_
  refine z_aload_n hb dJ4_append_4_13 rfl ?_
  refine z_iload hb dJ4_append_4_14 rfl ?_
  refine z_callQ0 (b' := 0) (f' := 0) (rest := []) (av := [.ref b, .int (nI (cs.length + (nd + 0)))]) (z_siteQ hb ho zc22 hB q923 q925 q924 q3278 ⟨_, _, _, _, zk_J4_ensureCapacityInternal⟩ zy_J4_ensureCapacityInternal zl_J4_ensureCapacityInternal dJ4_append_4_16 : z_Site M _ _ _ _ _ ([.int (nI (cs.length + (nd + 0)))].reverse ++ .ref b :: []) [] _) zk_J4_ensureCapacityInternal q100 hrm (m_J4_ensureCapacity_0 hB hA hb9 he0 (by omega) hN3 (Or.inr rfl) hfb) (by omega) (by decide) (Nat.le_of_ble_eq_true rfl) (by omega) (by omega) (fun h21 n21 hq21 hn21 => ?_)
  obtain ⟨e2, N2, f2, hB2, hA2, he2, hcap, hNN, hN2, hev2, hfp, hfb2, hee, hfr1⟩ := hq21
  refine z_aload_n hb dJ4_append_4_19 rfl ?_
  refine z_call1 (b' := 0) (f' := 0) (rest := []) (av := [.ref b]) (z_siteV hb ho zc22 hB2 q943 q944 q946 ⟨_, _, _, _, zk_J4_isLatin1⟩ zy_J4_isLatin1 zl_J4_isLatin1 dJ4_append_4_20 : z_Site M _ _ _ _ _ ([].reverse ++ .ref b :: []) [] _) zk_J4_isLatin1 q100 hrm (m_J4_isLatin1_0 hB2) (by omega) (by decide) (Nat.le_of_ble_eq_true rfl) (by omega) (by omega) ?_
  refine z_if_eqN (tgt := 40) hb dJ4_append_4_23 (by decide) (by omega) (fun c_23 => ?_) (fun c_23 => ?_)
  · exact absurd c_23 (by omega)
  · refine z_lload_n hb dJ4_append_4_26 rfl ?_
    refine z_iload hb dJ4_append_4_27 rfl ?_
    refine z_aload_n hb dJ4_append_4_29 rfl ?_
    refine z_get (k := 0) (C := RJ5) (T := TJ5) (N := 4) hb ho zc22 in_J5 (zf_RJ4_15 _) dJ4_append_4_30 hB2 (by decide) rfl ?_
    refine z_call1 (b' := 0) (f' := 0) (rest := []) (av := [.long (lN a), .int (nI (cs.length + (nd + 0))), .ref e2]) (z_siteS hb ho q2576 q2577 q141 ⟨_, _, _, _, zk_J27_getChars⟩ zy_J27_getChars zl_J27_getChars dJ4_append_4_33 : z_Site M _ _ _ _ _ ([.long (lN a), .int (nI (cs.length + (nd + 0))), .ref e2].reverse ++ []) [] _) zk_J27_getChars q141 hrm (m_J27_getChars_p hA2 (hfr1 _ _ hd1 (Nat.ne_of_lt (by omega))) (hfr1 _ _ hd2 (Nat.ne_of_lt (by omega))) he2 hn1 (by omega) hnd ha ⟨by omega, by omega⟩) (by omega) (by decide) (Nat.le_of_ble_eq_true rfl) (by omega) (by omega) ?_
    refine z_hn (fun h_1 eh_1 => ?_)
    have eh_1 : h_1 = z_up h21 e2 (.inl ((zm_G M).2.1 3, N2, .inl (z_sgw f2 (cs.length + (nd + 0)) a nd false))) := eh_1
    have k_2 : h_1 b = some (.inr (22, [.ref e2, .int (nI 0), .int (z_b ml), .int (nI cs.length)])) := z_nx eh_1 (z_neA hB2 hA2) hB2
    refine z_pop hb dJ4_append_4_36 rfl ?_
    refine z_goto (tgt := 52) hb dJ4_append_4_37 (by decide) ?_
    refine z_aload_n hb dJ4_append_4_52 rfl ?_
    refine z_iload hb dJ4_append_4_53 rfl ?_
    refine z_put (k := 3) (C := RJ5) (T := TJ5) (N := 4) hb ho zc22 in_J5 tyJ5_ok nmJ5 (zf_RJ4_79 _) dJ4_append_4_55 k_2 hb9 (by decide) (Or.inl rfl) rfl rfl rfl (Nat.le_of_ble_eq_true rfl) ?_
    refine z_hn (fun h_3 eh_3 => ?_)
    have eh_3 : h_3 = z_up h_1 b (.inr (22, [.ref e2, .int (nI 0), .int (z_b ml), .int (nI (cs.length + (nd + 0)))])) := eh_3
    have k_4 : h_3 e2 = some (.inl ((zm_G M).2.1 3, N2, .inl (z_sgw f2 (cs.length + (nd + 0)) a nd false))) := z_nx eh_3 (z_neA' (z_nxs eh_1) k_2) (z_nxs eh_1)
    refine z_aload_n hb dJ4_append_4_58 rfl ?_
    refine z_aret hb hr (Or.inl ⟨_, rfl⟩) (Or.inr ⟨_, rfl⟩) dJ4_append_4_59 ?_
    rw [hQ]
    exact ⟨_, rfl, rfl, e2, z_BF_app (f := f) (ch := z_cd false a nd) (by rw [z_cd_len]; exact (z_nxs eh_3)) k_4 hb9 he2 (by omega) (by omega) (z_sgw_fB hfb2) z_cd_lt (by rw [z_cd_len]; show cs.length + (nd + 0) ≤ N2; omega) hf (fun j hj => by rw [z_sgw_lo (Or.inr (by show j + nd + 0 + 1 ≤ _; omega))]; exact hfp j (by omega)) (fun j hj => by rw [z_cd_len] at hj; exact z_sgw_at hj), by omega, z_frA2 hdm hfr1 eh_1 eh_3 (by omega)⟩

set_option maxHeartbeats 1000000 in
theorem m_J4_append_2_p {l : Launch} {G : zG} {h : zH} {n : Nat} {b e N a nd : Nat} {ml : Bool} {f : Nat → Int32} {cs : List Nat} (hB : h b = some (z_sb e 0 ml cs.length)) (hA : h e = some (z_ab G N f)) (hb9 : z_n0 G ≤ b) (he0 : z_n0 G ≤ e) (hN16 : 16 ≤ N) (hN3 : N ≤ 300) (hfb : z_fB f N) (hkN : cs.length ≤ N) (hf : ∀ j, j < cs.length → cs.getD j 0 < 256 ∧ f j = z_bt (cs.getD j 0)) (hd1 : h (G.2.2.1 1000) = some (z_ab G 100 z_on)) (hd2 : h (G.2.2.1 1001) = some (z_ab G 100 z_tn)) (hn1 : G.2.2.1 1000 < z_n0 G ∧ G.2.2.1 1001 < z_n0 G) (ha : a < 2 ^ 31) (hnd : z_isd a nd) (hk9 : cs.length + (nd + 0) ≤ 100) : z_C l G yJ4_append_2 5 1 300 [.ref b, .int (nI a)] h n (z_q1 (fun r9 h9 n9 => r9 = .ref b ∧ ∃ e9, z_BF G h9 b e9 0 (cs ++ z_cd false a nd) ∧ (e9 = e ∨ n ≤ e9) ∧ z_fr (fun y => y = b ∨ y = e) h h9)) := by
  refine z_start zk_J4_append_2 zpl_RJ4 (Nat.le_of_ble_eq_true rfl) ?_
  intro hn0 M hl hG ho hb hN hr hm hH hrm hQ
  subst hl hG
  have ho : zm_o M = RJ4 := ho
  refine z_dom (fun hdm => ?_)
  show z_V M h n 1 300 0 [(0, .ref b), (1, .int (nI a))] []
  refine z_aload_n hb dJ4_append_2_0 rfl ?_
  refine z_get (k := 3) (C := RJ5) (T := TJ5) (N := 4) hb ho zc22 in_J5 (zf_RJ4_79 _) dJ4_append_2_1 hB (by decide) rfl ?_
  refine z_istore_n (lv' := [(2, .int (nI cs.length)), (0, .ref b), (1, .int (nI a))]) hb dJ4_append_2_4 (by rw [hN]; decide) rfl ?_
  refine z_iload_n hb dJ4_append_2_5 rfl ?_
  refine z_iload_n hb dJ4_append_2_6 rfl ?_
  refine z_call1 (b' := 1) (f' := 300) (rest := [.int (nI cs.length)]) (av := [.int (nI a)]) (z_siteS hb ho q1014 q1015 q120 ⟨_, _, _, _, zk_J19_stringSize⟩ zy_J19_stringSize zl_J19_stringSize dJ4_append_2_7 : z_Site M _ _ _ _ _ ([.int (nI a)].reverse ++ [.int (nI cs.length)]) [.int (nI cs.length)] _) zk_J19_stringSize q120 hrm (m_J19_stringSize_p ha hnd) (by omega) (by decide) (Nat.le_of_ble_eq_true rfl) (by omega) (by omega) ?_
  refine z_iadd hb dJ4_append_2_10 ?_
  refine z_toI (y := nI (cs.length + (nd + 0))) (nI_add cs.length (nd + 0)) ?_
  refine z_istore_n (lv' := [(3, .int (nI (cs.length + (nd + 0)))), (2, .int (nI cs.length)), (0, .ref b), (1, .int (nI a))]) hb dJ4_append_2_11 (by rw [hN]; decide) rfl ?_
  refine z_aload_n hb dJ4_append_2_12 rfl ?_
  refine z_iload_n hb dJ4_append_2_13 rfl ?_
  refine z_callQ0 (b' := 0) (f' := 0) (rest := []) (av := [.ref b, .int (nI (cs.length + (nd + 0)))]) (z_siteQ hb ho zc22 hB q923 q925 q924 q3278 ⟨_, _, _, _, zk_J4_ensureCapacityInternal⟩ zy_J4_ensureCapacityInternal zl_J4_ensureCapacityInternal dJ4_append_2_14 : z_Site M _ _ _ _ _ ([.int (nI (cs.length + (nd + 0)))].reverse ++ .ref b :: []) [] _) zk_J4_ensureCapacityInternal q100 hrm (m_J4_ensureCapacity_0 hB hA hb9 he0 (by omega) hN3 (Or.inr rfl) hfb) (by omega) (by decide) (Nat.le_of_ble_eq_true rfl) (by omega) (by omega) (fun h21 n21 hq21 hn21 => ?_)
  obtain ⟨e2, N2, f2, hB2, hA2, he2, hcap, hNN, hN2, hev2, hfp, hfb2, hee, hfr1⟩ := hq21
  refine z_aload_n hb dJ4_append_2_17 rfl ?_
  refine z_call1 (b' := 0) (f' := 0) (rest := []) (av := [.ref b]) (z_siteV hb ho zc22 hB2 q943 q944 q946 ⟨_, _, _, _, zk_J4_isLatin1⟩ zy_J4_isLatin1 zl_J4_isLatin1 dJ4_append_2_18 : z_Site M _ _ _ _ _ ([].reverse ++ .ref b :: []) [] _) zk_J4_isLatin1 q100 hrm (m_J4_isLatin1_0 hB2) (by omega) (by decide) (Nat.le_of_ble_eq_true rfl) (by omega) (by omega) ?_
  refine z_if_eqN (tgt := 37) hb dJ4_append_2_21 (by decide) (by omega) (fun c_21 => ?_) (fun c_21 => ?_)
  · exact absurd c_21 (by omega)
  · refine z_iload_n hb dJ4_append_2_24 rfl ?_
    refine z_iload_n hb dJ4_append_2_25 rfl ?_
    refine z_aload_n hb dJ4_append_2_26 rfl ?_
    refine z_get (k := 0) (C := RJ5) (T := TJ5) (N := 4) hb ho zc22 in_J5 (zf_RJ4_15 _) dJ4_append_2_27 hB2 (by decide) rfl ?_
    refine z_call1 (b' := 0) (f' := 0) (rest := []) (av := [.int (nI a), .int (nI (cs.length + (nd + 0))), .ref e2]) (z_siteS hb ho q1017 q1018 q120 ⟨_, _, _, _, zk_J19_getChars⟩ zy_J19_getChars zl_J19_getChars dJ4_append_2_30 : z_Site M _ _ _ _ _ ([.int (nI a), .int (nI (cs.length + (nd + 0))), .ref e2].reverse ++ []) [] _) zk_J19_getChars q120 hrm (m_J19_getChars_p hA2 (hfr1 _ _ hd1 (Nat.ne_of_lt (by omega))) (hfr1 _ _ hd2 (Nat.ne_of_lt (by omega))) he2 hn1 (by omega) hnd ha ⟨by omega, by omega⟩) (by omega) (by decide) (Nat.le_of_ble_eq_true rfl) (by omega) (by omega) ?_
    refine z_hn (fun h_1 eh_1 => ?_)
    have eh_1 : h_1 = z_up h21 e2 (.inl ((zm_G M).2.1 3, N2, .inl (z_sgw f2 (cs.length + (nd + 0)) a nd false))) := eh_1
    have k_2 : h_1 b = some (.inr (22, [.ref e2, .int (nI 0), .int (z_b ml), .int (nI cs.length)])) := z_nx eh_1 (z_neA hB2 hA2) hB2
    refine z_pop hb dJ4_append_2_33 rfl ?_
    refine z_goto (tgt := 48) hb dJ4_append_2_34 (by decide) ?_
    refine z_aload_n hb dJ4_append_2_48 rfl ?_
    refine z_iload_n hb dJ4_append_2_49 rfl ?_
    refine z_put (k := 3) (C := RJ5) (T := TJ5) (N := 4) hb ho zc22 in_J5 tyJ5_ok nmJ5 (zf_RJ4_79 _) dJ4_append_2_50 k_2 hb9 (by decide) (Or.inl rfl) rfl rfl rfl (Nat.le_of_ble_eq_true rfl) ?_
    refine z_hn (fun h_3 eh_3 => ?_)
    have eh_3 : h_3 = z_up h_1 b (.inr (22, [.ref e2, .int (nI 0), .int (z_b ml), .int (nI (cs.length + (nd + 0)))])) := eh_3
    have k_4 : h_3 e2 = some (.inl ((zm_G M).2.1 3, N2, .inl (z_sgw f2 (cs.length + (nd + 0)) a nd false))) := z_nx eh_3 (z_neA' (z_nxs eh_1) k_2) (z_nxs eh_1)
    refine z_aload_n hb dJ4_append_2_53 rfl ?_
    refine z_aret hb hr (Or.inl ⟨_, rfl⟩) (Or.inr ⟨_, rfl⟩) dJ4_append_2_54 ?_
    rw [hQ]
    exact ⟨_, rfl, rfl, e2, z_BF_app (f := f) (ch := z_cd false a nd) (by rw [z_cd_len]; exact (z_nxs eh_3)) k_4 hb9 he2 (by omega) (by omega) (z_sgw_fB hfb2) z_cd_lt (by rw [z_cd_len]; show cs.length + (nd + 0) ≤ N2; omega) hf (fun j hj => by rw [z_sgw_lo (Or.inr (by show j + nd + 0 + 1 ≤ _; omega))]; exact hfp j (by omega)) (fun j hj => by rw [z_cd_len] at hj; exact z_sgw_at hj), by omega, z_frA2 hdm hfr1 eh_1 eh_3 (by omega)⟩

set_option maxHeartbeats 1000000 in
theorem m_J4_append_4_n {l : Launch} {G : zG} {h : zH} {n : Nat} {b e N a nd : Nat} {ml : Bool} {f : Nat → Int32} {cs : List Nat} (hB : h b = some (z_sb e 0 ml cs.length)) (hA : h e = some (z_ab G N f)) (hb9 : z_n0 G ≤ b) (he0 : z_n0 G ≤ e) (hN16 : 16 ≤ N) (hN3 : N ≤ 300) (hfb : z_fB f N) (hkN : cs.length ≤ N) (hf : ∀ j, j < cs.length → cs.getD j 0 < 256 ∧ f j = z_bt (cs.getD j 0)) (hd1 : h (G.2.2.1 1000) = some (z_ab G 100 z_on)) (hd2 : h (G.2.2.1 1001) = some (z_ab G 100 z_tn)) (hn1 : G.2.2.1 1000 < z_n0 G ∧ G.2.2.1 1001 < z_n0 G) (ha : a < 10 ^ 13 ∧ 1 ≤ a) (hnd : z_isd a nd) (hk9 : cs.length + (nd + 1) ≤ 100) : z_C l G yJ4_append_4 5 1 300 [.ref b, .long (ngL a)] h n (z_q1 (fun r9 h9 n9 => r9 = .ref b ∧ ∃ e9, z_BF G h9 b e9 0 (cs ++ z_cd true a nd) ∧ (e9 = e ∨ n ≤ e9) ∧ z_fr (fun y => y = b ∨ y = e) h h9)) := by
  refine z_start zk_J4_append_4 zpl_RJ4 (Nat.le_of_ble_eq_true rfl) ?_
  intro hn0 M hl hG ho hb hN hr hm hH hrm hQ
  subst hl hG
  have ho : zm_o M = RJ4 := ho
  refine z_dom (fun hdm => ?_)
  show z_V M h n 1 300 0 [(0, .ref b), (1, .long (ngL a))] []
  refine z_aload_n hb dJ4_append_4_0 rfl ?_
  refine z_get (k := 3) (C := RJ5) (T := TJ5) (N := 4) hb ho zc22 in_J5 (zf_RJ4_79 _) dJ4_append_4_1 hB (by decide) rfl ?_
  refine z_istore_n (lv' := [(3, .int (nI cs.length)), (0, .ref b), (1, .long (ngL a))]) hb dJ4_append_4_4 (by rw [hN]; decide) rfl ?_
  refine z_iload_n hb dJ4_append_4_5 rfl ?_
  refine z_lload_n hb dJ4_append_4_6 rfl ?_
  refine z_call1 (b' := 1) (f' := 300) (rest := [.int (nI cs.length)]) (av := [.long (ngL a)]) (z_siteS hb ho q2571 q2572 q141 ⟨_, _, _, _, zk_J27_stringSize⟩ zy_J27_stringSize zl_J27_stringSize dJ4_append_4_7 : z_Site M _ _ _ _ _ ([.long (ngL a)].reverse ++ [.int (nI cs.length)]) [.int (nI cs.length)] _) zk_J27_stringSize q141 hrm (m_J27_stringSize_n ha hnd) (by omega) (by decide) (Nat.le_of_ble_eq_true rfl) (by omega) (by omega) ?_
  refine z_iadd hb dJ4_append_4_10 ?_
  refine z_toI (y := nI (cs.length + (nd + 1))) (nI_add cs.length (nd + 1)) ?_
  refine z_istore (lv' := [(4, .int (nI (cs.length + (nd + 1)))), (3, .int (nI cs.length)), (0, .ref b), (1, .long (ngL a))]) hb dJ4_append_4_11 (by rw [hN]; decide) rfl ?_
  refine z_aload_n hb dJ4_append_4_13 rfl ?_
  refine z_iload hb dJ4_append_4_14 rfl ?_
  refine z_callQ0 (b' := 0) (f' := 0) (rest := []) (av := [.ref b, .int (nI (cs.length + (nd + 1)))]) (z_siteQ hb ho zc22 hB q923 q925 q924 q3278 ⟨_, _, _, _, zk_J4_ensureCapacityInternal⟩ zy_J4_ensureCapacityInternal zl_J4_ensureCapacityInternal dJ4_append_4_16 : z_Site M _ _ _ _ _ ([.int (nI (cs.length + (nd + 1)))].reverse ++ .ref b :: []) [] _) zk_J4_ensureCapacityInternal q100 hrm (m_J4_ensureCapacity_0 hB hA hb9 he0 (by omega) hN3 (Or.inr rfl) hfb) (by omega) (by decide) (Nat.le_of_ble_eq_true rfl) (by omega) (by omega) (fun h21 n21 hq21 hn21 => ?_)
  obtain ⟨e2, N2, f2, hB2, hA2, he2, hcap, hNN, hN2, hev2, hfp, hfb2, hee, hfr1⟩ := hq21
  refine z_aload_n hb dJ4_append_4_19 rfl ?_
  refine z_call1 (b' := 0) (f' := 0) (rest := []) (av := [.ref b]) (z_siteV hb ho zc22 hB2 q943 q944 q946 ⟨_, _, _, _, zk_J4_isLatin1⟩ zy_J4_isLatin1 zl_J4_isLatin1 dJ4_append_4_20 : z_Site M _ _ _ _ _ ([].reverse ++ .ref b :: []) [] _) zk_J4_isLatin1 q100 hrm (m_J4_isLatin1_0 hB2) (by omega) (by decide) (Nat.le_of_ble_eq_true rfl) (by omega) (by omega) ?_
  refine z_if_eqN (tgt := 40) hb dJ4_append_4_23 (by decide) (by omega) (fun c_23 => ?_) (fun c_23 => ?_)
  · exact absurd c_23 (by omega)
  · refine z_lload_n hb dJ4_append_4_26 rfl ?_
    refine z_iload hb dJ4_append_4_27 rfl ?_
    refine z_aload_n hb dJ4_append_4_29 rfl ?_
    refine z_get (k := 0) (C := RJ5) (T := TJ5) (N := 4) hb ho zc22 in_J5 (zf_RJ4_15 _) dJ4_append_4_30 hB2 (by decide) rfl ?_
    refine z_call1 (b' := 0) (f' := 0) (rest := []) (av := [.long (ngL a), .int (nI (cs.length + (nd + 1))), .ref e2]) (z_siteS hb ho q2576 q2577 q141 ⟨_, _, _, _, zk_J27_getChars⟩ zy_J27_getChars zl_J27_getChars dJ4_append_4_33 : z_Site M _ _ _ _ _ ([.long (ngL a), .int (nI (cs.length + (nd + 1))), .ref e2].reverse ++ []) [] _) zk_J27_getChars q141 hrm (m_J27_getChars_n hA2 (hfr1 _ _ hd1 (Nat.ne_of_lt (by omega))) (hfr1 _ _ hd2 (Nat.ne_of_lt (by omega))) he2 hn1 (by omega) hnd ha ⟨by omega, by omega⟩) (by omega) (by decide) (Nat.le_of_ble_eq_true rfl) (by omega) (by omega) ?_
    refine z_hn (fun h_1 eh_1 => ?_)
    have eh_1 : h_1 = z_up h21 e2 (.inl ((zm_G M).2.1 3, N2, .inl (z_sgw f2 (cs.length + (nd + 1)) a nd true))) := eh_1
    have k_2 : h_1 b = some (.inr (22, [.ref e2, .int (nI 0), .int (z_b ml), .int (nI cs.length)])) := z_nx eh_1 (z_neA hB2 hA2) hB2
    refine z_pop hb dJ4_append_4_36 rfl ?_
    refine z_goto (tgt := 52) hb dJ4_append_4_37 (by decide) ?_
    refine z_aload_n hb dJ4_append_4_52 rfl ?_
    refine z_iload hb dJ4_append_4_53 rfl ?_
    refine z_put (k := 3) (C := RJ5) (T := TJ5) (N := 4) hb ho zc22 in_J5 tyJ5_ok nmJ5 (zf_RJ4_79 _) dJ4_append_4_55 k_2 hb9 (by decide) (Or.inl rfl) rfl rfl rfl (Nat.le_of_ble_eq_true rfl) ?_
    refine z_hn (fun h_3 eh_3 => ?_)
    have eh_3 : h_3 = z_up h_1 b (.inr (22, [.ref e2, .int (nI 0), .int (z_b ml), .int (nI (cs.length + (nd + 1)))])) := eh_3
    have k_4 : h_3 e2 = some (.inl ((zm_G M).2.1 3, N2, .inl (z_sgw f2 (cs.length + (nd + 1)) a nd true))) := z_nx eh_3 (z_neA' (z_nxs eh_1) k_2) (z_nxs eh_1)
    refine z_aload_n hb dJ4_append_4_58 rfl ?_
    refine z_aret hb hr (Or.inl ⟨_, rfl⟩) (Or.inr ⟨_, rfl⟩) dJ4_append_4_59 ?_
    rw [hQ]
    exact ⟨_, rfl, rfl, e2, z_BF_app (f := f) (ch := z_cd true a nd) (by rw [z_cd_len]; exact (z_nxs eh_3)) k_4 hb9 he2 (by omega) (by omega) (z_sgw_fB hfb2) z_cd_lt (by rw [z_cd_len]; show cs.length + (nd + 1) ≤ N2; omega) hf (fun j hj => by rw [z_sgw_lo (Or.inr (by show j + nd + 1 + 1 ≤ _; omega))]; exact hfp j (by omega)) (fun j hj => by rw [z_cd_len] at hj; exact z_sgw_at hj), by omega, z_frA2 hdm hfr1 eh_1 eh_3 (by omega)⟩

set_option maxHeartbeats 1000000 in
theorem m_J4_append_2_n {l : Launch} {G : zG} {h : zH} {n : Nat} {b e N a nd : Nat} {ml : Bool} {f : Nat → Int32} {cs : List Nat} (hB : h b = some (z_sb e 0 ml cs.length)) (hA : h e = some (z_ab G N f)) (hb9 : z_n0 G ≤ b) (he0 : z_n0 G ≤ e) (hN16 : 16 ≤ N) (hN3 : N ≤ 300) (hfb : z_fB f N) (hkN : cs.length ≤ N) (hf : ∀ j, j < cs.length → cs.getD j 0 < 256 ∧ f j = z_bt (cs.getD j 0)) (hd1 : h (G.2.2.1 1000) = some (z_ab G 100 z_on)) (hd2 : h (G.2.2.1 1001) = some (z_ab G 100 z_tn)) (hn1 : G.2.2.1 1000 < z_n0 G ∧ G.2.2.1 1001 < z_n0 G) (ha : a ≤ 2 ^ 31 ∧ 1 ≤ a) (hnd : z_isd a nd) (hk9 : cs.length + (nd + 1) ≤ 100) : z_C l G yJ4_append_2 5 1 300 [.ref b, .int (ngI a)] h n (z_q1 (fun r9 h9 n9 => r9 = .ref b ∧ ∃ e9, z_BF G h9 b e9 0 (cs ++ z_cd true a nd) ∧ (e9 = e ∨ n ≤ e9) ∧ z_fr (fun y => y = b ∨ y = e) h h9)) := by
  refine z_start zk_J4_append_2 zpl_RJ4 (Nat.le_of_ble_eq_true rfl) ?_
  intro hn0 M hl hG ho hb hN hr hm hH hrm hQ
  subst hl hG
  have ho : zm_o M = RJ4 := ho
  refine z_dom (fun hdm => ?_)
  show z_V M h n 1 300 0 [(0, .ref b), (1, .int (ngI a))] []
  refine z_aload_n hb dJ4_append_2_0 rfl ?_
  refine z_get (k := 3) (C := RJ5) (T := TJ5) (N := 4) hb ho zc22 in_J5 (zf_RJ4_79 _) dJ4_append_2_1 hB (by decide) rfl ?_
  refine z_istore_n (lv' := [(2, .int (nI cs.length)), (0, .ref b), (1, .int (ngI a))]) hb dJ4_append_2_4 (by rw [hN]; decide) rfl ?_
  refine z_iload_n hb dJ4_append_2_5 rfl ?_
  refine z_iload_n hb dJ4_append_2_6 rfl ?_
  refine z_call1 (b' := 1) (f' := 300) (rest := [.int (nI cs.length)]) (av := [.int (ngI a)]) (z_siteS hb ho q1014 q1015 q120 ⟨_, _, _, _, zk_J19_stringSize⟩ zy_J19_stringSize zl_J19_stringSize dJ4_append_2_7 : z_Site M _ _ _ _ _ ([.int (ngI a)].reverse ++ [.int (nI cs.length)]) [.int (nI cs.length)] _) zk_J19_stringSize q120 hrm (m_J19_stringSize_n ha hnd) (by omega) (by decide) (Nat.le_of_ble_eq_true rfl) (by omega) (by omega) ?_
  refine z_iadd hb dJ4_append_2_10 ?_
  refine z_toI (y := nI (cs.length + (nd + 1))) (nI_add cs.length (nd + 1)) ?_
  refine z_istore_n (lv' := [(3, .int (nI (cs.length + (nd + 1)))), (2, .int (nI cs.length)), (0, .ref b), (1, .int (ngI a))]) hb dJ4_append_2_11 (by rw [hN]; decide) rfl ?_
  refine z_aload_n hb dJ4_append_2_12 rfl ?_
  refine z_iload_n hb dJ4_append_2_13 rfl ?_
  refine z_callQ0 (b' := 0) (f' := 0) (rest := []) (av := [.ref b, .int (nI (cs.length + (nd + 1)))]) (z_siteQ hb ho zc22 hB q923 q925 q924 q3278 ⟨_, _, _, _, zk_J4_ensureCapacityInternal⟩ zy_J4_ensureCapacityInternal zl_J4_ensureCapacityInternal dJ4_append_2_14 : z_Site M _ _ _ _ _ ([.int (nI (cs.length + (nd + 1)))].reverse ++ .ref b :: []) [] _) zk_J4_ensureCapacityInternal q100 hrm (m_J4_ensureCapacity_0 hB hA hb9 he0 (by omega) hN3 (Or.inr rfl) hfb) (by omega) (by decide) (Nat.le_of_ble_eq_true rfl) (by omega) (by omega) (fun h21 n21 hq21 hn21 => ?_)
  obtain ⟨e2, N2, f2, hB2, hA2, he2, hcap, hNN, hN2, hev2, hfp, hfb2, hee, hfr1⟩ := hq21
  refine z_aload_n hb dJ4_append_2_17 rfl ?_
  refine z_call1 (b' := 0) (f' := 0) (rest := []) (av := [.ref b]) (z_siteV hb ho zc22 hB2 q943 q944 q946 ⟨_, _, _, _, zk_J4_isLatin1⟩ zy_J4_isLatin1 zl_J4_isLatin1 dJ4_append_2_18 : z_Site M _ _ _ _ _ ([].reverse ++ .ref b :: []) [] _) zk_J4_isLatin1 q100 hrm (m_J4_isLatin1_0 hB2) (by omega) (by decide) (Nat.le_of_ble_eq_true rfl) (by omega) (by omega) ?_
  refine z_if_eqN (tgt := 37) hb dJ4_append_2_21 (by decide) (by omega) (fun c_21 => ?_) (fun c_21 => ?_)
  · exact absurd c_21 (by omega)
  · refine z_iload_n hb dJ4_append_2_24 rfl ?_
    refine z_iload_n hb dJ4_append_2_25 rfl ?_
    refine z_aload_n hb dJ4_append_2_26 rfl ?_
    refine z_get (k := 0) (C := RJ5) (T := TJ5) (N := 4) hb ho zc22 in_J5 (zf_RJ4_15 _) dJ4_append_2_27 hB2 (by decide) rfl ?_
    refine z_call1 (b' := 0) (f' := 0) (rest := []) (av := [.int (ngI a), .int (nI (cs.length + (nd + 1))), .ref e2]) (z_siteS hb ho q1017 q1018 q120 ⟨_, _, _, _, zk_J19_getChars⟩ zy_J19_getChars zl_J19_getChars dJ4_append_2_30 : z_Site M _ _ _ _ _ ([.int (ngI a), .int (nI (cs.length + (nd + 1))), .ref e2].reverse ++ []) [] _) zk_J19_getChars q120 hrm (m_J19_getChars_n hA2 (hfr1 _ _ hd1 (Nat.ne_of_lt (by omega))) (hfr1 _ _ hd2 (Nat.ne_of_lt (by omega))) he2 hn1 (by omega) hnd ha ⟨by omega, by omega⟩) (by omega) (by decide) (Nat.le_of_ble_eq_true rfl) (by omega) (by omega) ?_
    refine z_hn (fun h_1 eh_1 => ?_)
    have eh_1 : h_1 = z_up h21 e2 (.inl ((zm_G M).2.1 3, N2, .inl (z_sgw f2 (cs.length + (nd + 1)) a nd true))) := eh_1
    have k_2 : h_1 b = some (.inr (22, [.ref e2, .int (nI 0), .int (z_b ml), .int (nI cs.length)])) := z_nx eh_1 (z_neA hB2 hA2) hB2
    refine z_pop hb dJ4_append_2_33 rfl ?_
    refine z_goto (tgt := 48) hb dJ4_append_2_34 (by decide) ?_
    refine z_aload_n hb dJ4_append_2_48 rfl ?_
    refine z_iload_n hb dJ4_append_2_49 rfl ?_
    refine z_put (k := 3) (C := RJ5) (T := TJ5) (N := 4) hb ho zc22 in_J5 tyJ5_ok nmJ5 (zf_RJ4_79 _) dJ4_append_2_50 k_2 hb9 (by decide) (Or.inl rfl) rfl rfl rfl (Nat.le_of_ble_eq_true rfl) ?_
    refine z_hn (fun h_3 eh_3 => ?_)
    have eh_3 : h_3 = z_up h_1 b (.inr (22, [.ref e2, .int (nI 0), .int (z_b ml), .int (nI (cs.length + (nd + 1)))])) := eh_3
    have k_4 : h_3 e2 = some (.inl ((zm_G M).2.1 3, N2, .inl (z_sgw f2 (cs.length + (nd + 1)) a nd true))) := z_nx eh_3 (z_neA' (z_nxs eh_1) k_2) (z_nxs eh_1)
    refine z_aload_n hb dJ4_append_2_53 rfl ?_
    refine z_aret hb hr (Or.inl ⟨_, rfl⟩) (Or.inr ⟨_, rfl⟩) dJ4_append_2_54 ?_
    rw [hQ]
    exact ⟨_, rfl, rfl, e2, z_BF_app (f := f) (ch := z_cd true a nd) (by rw [z_cd_len]; exact (z_nxs eh_3)) k_4 hb9 he2 (by omega) (by omega) (z_sgw_fB hfb2) z_cd_lt (by rw [z_cd_len]; show cs.length + (nd + 1) ≤ N2; omega) hf (fun j hj => by rw [z_sgw_lo (Or.inr (by show j + nd + 1 + 1 ≤ _; omega))]; exact hfp j (by omega)) (fun j hj => by rw [z_cd_len] at hj; exact z_sgw_at hj), by omega, z_frA2 hdm hfr1 eh_1 eh_3 (by omega)⟩

/-- the letters of a number -/
def z_cv (v : Int64) : List Nat := z_cd (decide (v < 0)) v.toInt.natAbs (z_lg 12 v.toInt.natAbs + 1)
def z_cI (x : Int32) : List Nat := z_cd (decide (x < 0)) x.toInt.natAbs (z_lg 12 x.toInt.natAbs + 1)
theorem z_cv_len {v : Int64} : (z_cv v).length ≤ 14 := by
  unfold z_cv; rw [z_cd_len]
  have : ∀ f a, z_lg f a ≤ f := by
    intro f
    induction f with
    | zero => intro a; exact Nat.le_refl _
    | succ f ih => intro a; rw [z_lg]; split; · omega
                   · have := ih (a / 10); omega
  have := this 12 v.toInt.natAbs
  cases decide (v < 0) <;> simp <;> omega
theorem z_cI_len {x : Int32} : (z_cI x).length ≤ 14 := by
  unfold z_cI; rw [z_cd_len]
  have : ∀ f a, z_lg f a ≤ f := by
    intro f
    induction f with
    | zero => intro a; exact Nat.le_refl _
    | succ f ih => intro a; rw [z_lg]; split; · omega
                   · have := ih (a / 10); omega
  have := this 12 x.toInt.natAbs
  cases decide (x < 0) <;> simp <;> omega
theorem m_J4_append_J {l : Launch} {G : zG} {h : zH} {n b e : Nat} {v : Int64} {cs : List Nat} (hBF : z_BF G h b e 0 cs) (hd1 : h (G.2.2.1 1000) = some (z_ab G 100 z_on)) (hd2 : h (G.2.2.1 1001) = some (z_ab G 100 z_tn)) (hn1 : G.2.2.1 1000 < z_n0 G ∧ G.2.2.1 1001 < z_n0 G) (hv : v.toInt.natAbs < 10 ^ 13) (hk9 : cs.length ≤ 86) : z_C l G yJ4_append_4 5 1 300 [.ref b, .long v] h n (z_q1 (fun r9 h9 n9 => r9 = .ref b ∧ ∃ e9, z_BF G h9 b e9 0 (cs ++ z_cv v) ∧ (e9 = e ∨ n ≤ e9) ∧ z_fr (fun y => y = b ∨ y = e) h h9)) := by
  have hnd := z_lg_isd hv
  have hl := z_cv_len (v := v)
  obtain ⟨N, f, ml, q1, q2, q3, q4, q5, q6, q7, q8⟩ := hBF
  rcases q8 with ⟨-, q9, q10⟩ | ⟨q8, -⟩
  · unfold z_cv at hl ⊢
    rw [z_cd_len] at hl
    by_cases hs : v < 0
    · obtain ⟨e1, e2⟩ := ngL_abs hs (by omega)
      rw [decide_eq_true hs] at hl ⊢
      have := m_J4_append_4_n (l := l) (n := n) q1 q2 q3 q4 q5 (by omega) q7 q9 q10 hd1 hd2 hn1 ⟨hv, e2⟩ hnd (by simp only [Bool.toNat_true] at hl; omega)
      rw [← e1] at this
      exact this
    · have e1 := ngL_pos hs
      rw [decide_eq_false hs] at hl ⊢
      have := m_J4_append_4_p (l := l) (n := n) q1 q2 q3 q4 q5 (by omega) q7 q9 q10 hd1 hd2 hn1 hv hnd (by simp only [Bool.toNat_false] at hl; omega)
      rw [← e1] at this
      exact this
  · exact absurd q8 (by decide)
theorem m_J4_append_I {l : Launch} {G : zG} {h : zH} {n b e : Nat} {x : Int32} {cs : List Nat} (hBF : z_BF G h b e 0 cs) (hd1 : h (G.2.2.1 1000) = some (z_ab G 100 z_on)) (hd2 : h (G.2.2.1 1001) = some (z_ab G 100 z_tn)) (hn1 : G.2.2.1 1000 < z_n0 G ∧ G.2.2.1 1001 < z_n0 G) (hk9 : cs.length ≤ 86) : z_C l G yJ4_append_2 5 1 300 [.ref b, .int x] h n (z_q1 (fun r9 h9 n9 => r9 = .ref b ∧ ∃ e9, z_BF G h9 b e9 0 (cs ++ z_cI x) ∧ (e9 = e ∨ n ≤ e9) ∧ z_fr (fun y => y = b ∨ y = e) h h9)) := by
  have h1 := Int32.le_toInt x
  have h2 := Int32.toInt_lt x
  have hv : x.toInt.natAbs < 10 ^ 13 := by omega
  have hnd := z_lg_isd hv
  have hl := z_cI_len (x := x)
  obtain ⟨N, f, ml, q1, q2, q3, q4, q5, q6, q7, q8⟩ := hBF
  rcases q8 with ⟨-, q9, q10⟩ | ⟨q8, -⟩
  · unfold z_cI at hl ⊢
    rw [z_cd_len] at hl
    by_cases hs : x < 0
    · have h3 : x.toInt < 0 := Int32.lt_iff_toInt_lt.mp hs
      have e1 : x = ngI x.toInt.natAbs := Int32.toInt_inj.mp (by rw [ngI_t (by omega)]; omega)
      rw [decide_eq_true hs] at hl ⊢
      have := m_J4_append_2_n (l := l) (n := n) q1 q2 q3 q4 q5 (by omega) q7 q9 q10 hd1 hd2 hn1 ⟨by omega, by omega⟩ hnd (by simp only [Bool.toNat_true] at hl; omega)
      rw [← e1] at this
      exact this
    · have h3 : 0 ≤ x.toInt := Int32.le_iff_toInt_le.mp (Int32.not_lt.mp hs)
      have e1 : x = nI x.toInt.natAbs := Int32.toInt_inj.mp (by rw [nI_toInt (by omega)]; omega)
      rw [decide_eq_false hs] at hl ⊢
      have := m_J4_append_2_p (l := l) (n := n) q1 q2 q3 q4 q5 (by omega) q7 q9 q10 hd1 hd2 hn1 (by omega) hnd (by simp only [Bool.toNat_false] at hl; omega)
      rw [← e1] at this
      exact this
  · exact absurd q8 (by decide)

set_option maxHeartbeats 1000000 in
theorem m_J5_append_J {l : Launch} {G : zG} {h : zH} {n : Nat} {b e : Nat} {cs : List Nat} {v : Int64} (hBF : z_BF G h b e 0 cs) (hd1 : h (G.2.2.1 1000) = some (z_ab G 100 z_on)) (hd2 : h (G.2.2.1 1001) = some (z_ab G 100 z_tn)) (hn1 : G.2.2.1 1000 < z_n0 G ∧ G.2.2.1 1001 < z_n0 G) (hv : v.toInt.natAbs < 10 ^ 13) (hk9 : cs.length ≤ 86) : z_C l G yJ5_append_4 6 1 300 [.ref b, .long v] h n (z_q1 (fun r9 h9 n9 => r9 = .ref b ∧ ∃ e9, z_BF G h9 b e9 0 (cs ++ z_cv v) ∧ (e9 = e ∨ n ≤ e9) ∧ z_fr (fun y => y = b ∨ y = e) h h9)) := by
  refine z_start zk_J5_append_4 zpl_RJ5 (Nat.le_of_ble_eq_true rfl) ?_
  intro hn0 M hl hG ho hb hN hr hm hH hrm hQ
  subst hl hG
  have ho : zm_o M = RJ5 := ho
  obtain ⟨N, f, ml, hB, hA, hb9, he0, hN16, hN3, hfb, hct⟩ := id hBF
  show z_V M h n 1 300 0 [(0, .ref b), (1, .long v)] []
  refine z_aload_n hb dJ5_append_4_0 rfl ?_
  refine z_lload_n hb dJ5_append_4_1 rfl ?_
  refine z_callQ1 (b' := 0) (f' := 0) (rest := []) (av := [.ref b, .long v]) (z_siteP hb ho zc22 hB q2568 q3291 q2569 q283 ⟨_, _, _, _, zk_J4_append_4⟩ (by decide) zl_J4_append_4 dJ5_append_4_2 : z_Site M _ _ _ _ _ ([.long v].reverse ++ .ref b :: []) [] _) zk_J4_append_4 q100 hrm (m_J4_append_J hBF hd1 hd2 hn1 hv hk9) (by omega) (by decide) (Nat.le_of_ble_eq_true rfl) (by omega) (by omega) (fun rhq2 h2 n2 hq2 hn2 => ?_)
  obtain ⟨rfl, hq2⟩ := hq2
  have hz2 := hq2
  refine z_pop hb dJ5_append_4_5 rfl ?_
  refine z_aload_n hb dJ5_append_4_6 rfl ?_
  refine z_aret hb hr (Or.inl ⟨_, rfl⟩) (Or.inr ⟨_, rfl⟩) dJ5_append_4_7 ?_
  rw [hQ]
  exact ⟨_, rfl, rfl, hz2⟩

set_option maxHeartbeats 1000000 in
theorem m_J5_append_I {l : Launch} {G : zG} {h : zH} {n : Nat} {b e : Nat} {cs : List Nat} {x : Int32} (hBF : z_BF G h b e 0 cs) (hd1 : h (G.2.2.1 1000) = some (z_ab G 100 z_on)) (hd2 : h (G.2.2.1 1001) = some (z_ab G 100 z_tn)) (hn1 : G.2.2.1 1000 < z_n0 G ∧ G.2.2.1 1001 < z_n0 G) (hk9 : cs.length ≤ 86) : z_C l G yJ5_append_2 6 1 300 [.ref b, .int x] h n (z_q1 (fun r9 h9 n9 => r9 = .ref b ∧ ∃ e9, z_BF G h9 b e9 0 (cs ++ z_cI x) ∧ (e9 = e ∨ n ≤ e9) ∧ z_fr (fun y => y = b ∨ y = e) h h9)) := by
  refine z_start zk_J5_append_2 zpl_RJ5 (Nat.le_of_ble_eq_true rfl) ?_
  intro hn0 M hl hG ho hb hN hr hm hH hrm hQ
  subst hl hG
  have ho : zm_o M = RJ5 := ho
  obtain ⟨N, f, ml, hB, hA, hb9, he0, hN16, hN3, hfb, hct⟩ := id hBF
  show z_V M h n 1 300 0 [(0, .ref b), (1, .int x)] []
  refine z_aload_n hb dJ5_append_2_0 rfl ?_
  refine z_iload_n hb dJ5_append_2_1 rfl ?_
  refine z_callQ1 (b' := 0) (f' := 0) (rest := []) (av := [.ref b, .int x]) (z_siteP hb ho zc22 hB q1011 q3283 q1012 q283 ⟨_, _, _, _, zk_J4_append_2⟩ (by decide) zl_J4_append_2 dJ5_append_2_2 : z_Site M _ _ _ _ _ ([.int x].reverse ++ .ref b :: []) [] _) zk_J4_append_2 q100 hrm (m_J4_append_I hBF hd1 hd2 hn1 hk9) (by omega) (by decide) (Nat.le_of_ble_eq_true rfl) (by omega) (by omega) (fun rhq2 h2 n2 hq2 hn2 => ?_)
  obtain ⟨rfl, hq2⟩ := hq2
  have hz2 := hq2
  refine z_pop hb dJ5_append_2_5 rfl ?_
  refine z_aload_n hb dJ5_append_2_6 rfl ?_
  refine z_aret hb hr (Or.inl ⟨_, rfl⟩) (Or.inr ⟨_, rfl⟩) dJ5_append_2_7 ?_
  rw [hQ]
  exact ⟨_, rfl, rfl, hz2⟩

