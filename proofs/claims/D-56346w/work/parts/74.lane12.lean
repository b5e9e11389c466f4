theorem m_isFrom {l : Launch} {G : zG} {h : zH} {w : Nat → Int32} {v : Nat → Int64} {R S D a lr ls lv : Nat} {ra sa va : Nat → Nat} (hL : z_Ln G h w v R S D a lr ls lv ra sa va) (hS8 : S ≤ 8) (hD6 : D ≤ 6) {k d : Nat} (hk : k < S) (hd : d ≤ D) : ∀ ci fs, h (sa k) = some (.inr (ci, fs)) → ∀ n : Nat, z_C l G (z_yi ci) 8 0 0 [.ref (sa k), .ref a, .int (nI d)] h n (z_rn (.int (z_b (tw_from w k d))) h) := by
  intro ci fs hx n
  obtain ⟨-, -, -, -, -, hs, -⟩ := id hL
  rcases hs k hk with ⟨qk, q⟩ | ⟨qk, q⟩ | ⟨qk, q⟩ | ⟨qk, g1, g2, q⟩ | ⟨qk, g1, g2, q⟩ | ⟨qk, g1, g2, q⟩ | ⟨qk, g1, g2, q⟩
  all_goals obtain ⟨rfl, rfl⟩ := z_inj hx q
  · rw [show tw_from w k d = false by unfold tw_from; rw [z_kb qk (by simp)]; rfl]; exact m_X10_isFromStale
  · rw [show tw_from w k d = false by unfold tw_from; rw [z_kb qk (by simp)]; rfl]; exact m_X10_isFromStale
  · rw [show tw_from w k d = false by unfold tw_from; rw [z_kb qk (by simp)]; rfl]; exact m_X10_isFromStale
  · exact m_X14_isFromStale hL hS8 hD6 hk hd g1 g2 hx qk (Or.inl rfl)
  · exact m_X14_isFromStale hL hS8 hD6 hk hd g1 g2 hx qk (Or.inr rfl)
  · exact m_X16_isFromStale hL hS8 hD6 hk hd g1 g2 hx qk
  · exact m_X17_isFromStale hL hS8 hD6 hk hd g1 g2 hx qk
/-- an input of a step -/
def z_hi (w : Nat → Int32) (k j : Nat) : Bool := !tw_base w k && (decide (tw_f w k = j) || decide (tw_s w k = j))
def z_yh : Nat → MethodName
  | 11 => yX14_hasInput
  | 12 => yX15_hasInput
  | 13 => yX15_hasInput
  | _ => yX10_hasInput
theorem m_hasInput {l : Launch} {G : zG} {h : zH} {w : Nat → Int32} {S : Nat} {sa : Nat → Nat} (hs : ∀ j, j < S → z_Sp h w sa j) (hi : ∀ i j, i < S → j < S → sa i = sa j → i = j) {k o : Nat} (hk : k < S) (ho9 : o < S) : ∀ ci fs, h (sa k) = some (.inr (ci, fs)) → ∀ n : Nat, z_C l G (z_yh ci) 1 0 0 [.ref (sa k), .ref (sa o)] h n (z_rn (.int (z_b (z_hi w k o))) h) := by
  intro ci fs hx n
  have hd : ∀ i, i < S → decide (sa i = sa o) = decide (i = o) := fun i hi1 => by
    by_cases q : i = o
    · rw [q]; simp
    · rw [decide_eq_false q, decide_eq_false (fun z => q (hi i o hi1 ho9 z))]
  rcases hs k hk with ⟨qk, q⟩ | ⟨qk, q⟩ | ⟨qk, q⟩ | ⟨qk, g1, g2, q⟩ | ⟨qk, g1, g2, q⟩ | ⟨qk, g1, g2, q⟩ | ⟨qk, g1, g2, q⟩
  all_goals obtain ⟨rfl, rfl⟩ := z_inj hx q
  · rw [show z_hi w k o = false by unfold z_hi; rw [z_kb qk (by simp)]; rfl]; exact z_C.rn m_X10_hasInput
  · rw [show z_hi w k o = false by unfold z_hi; rw [z_kb qk (by simp)]; rfl]; exact z_C.rn m_X10_hasInput
  · rw [show z_hi w k o = false by unfold z_hi; rw [z_kb qk (by simp)]; rfl]; exact z_C.rn m_X10_hasInput
  · rw [show z_hi w k o = (decide (sa (tw_f w k) = sa o) || decide (sa (tw_s w k) = sa o)) by unfold z_hi; rw [z_kn qk (by simp), hd _ (by omega), hd _ (by omega)]; rfl]; exact z_C.rn (m_X14_hasInput hx)
  · rw [show z_hi w k o = (decide (sa (tw_f w k) = sa o) || decide (sa (tw_s w k) = sa o)) by unfold z_hi; rw [z_kn qk (by simp), hd _ (by omega), hd _ (by omega)]; rfl]; exact z_C.rn (m_X14_hasInput hx)
  · rw [show z_hi w k o = decide (sa (tw_f w k) = sa o) by unfold z_hi; rw [z_kn qk (by simp), hd _ (by omega), g2, Bool.or_self]; rfl]; exact z_C.rn (m_X15_hasInput_12 hx)
  · rw [show z_hi w k o = decide (sa (tw_f w k) = sa o) by unfold z_hi; rw [z_kn qk (by simp), hd _ (by omega), g2, Bool.or_self]; rfl]; exact z_C.rn (m_X15_hasInput_13 hx)
/-- which steps a step depends on -/
def z_dp (w : Nat → Int32) (o : Nat) : Nat → Nat → Bool
  | 0 => fun _ => false
  | k + 1 => fun j => if j = k then (if tw_base w k then false else (decide (tw_f w k = o) || decide (tw_s w k = o)) || (z_dp w o k (tw_f w k) || z_dp w o k (tw_s w k))) else z_dp w o k j
theorem z_dp_st {w : Nat → Int32} {o j : Nat} : ∀ {K : Nat}, j < K → z_dp w o K j = z_dp w o (j + 1) j
  | K + 1, h => by
    by_cases q : j = K
    · rw [q]
    · rw [z_dp]
      show (if j = K then _ else z_dp w o K j) = _
      rw [if_neg q, z_dp_st (by omega)]
theorem z_dp_b {w : Nat → Int32} {o k : Nat} (h : tw_base w k = true) : z_dp w o (k + 1) k = false := by
  show (if k = k then (if tw_base w k then false else (decide (tw_f w k = o) || decide (tw_s w k = o)) || (z_dp w o k (tw_f w k) || z_dp w o k (tw_s w k))) else z_dp w o k k) = false
  rw [if_pos rfl, if_pos h]
theorem z_dp_n {w : Nat → Int32} {o k : Nat} (h : tw_base w k = false) (hf : tw_f w k < k) (hs : tw_s w k < k) : z_dp w o (k + 1) k = ((decide (tw_f w k = o) || decide (tw_s w k = o)) || (z_dp w o (tw_f w k + 1) (tw_f w k) || z_dp w o (tw_s w k + 1) (tw_s w k))) := by
  show (if k = k then (if tw_base w k then false else (decide (tw_f w k = o) || decide (tw_s w k = o)) || (z_dp w o k (tw_f w k) || z_dp w o k (tw_s w k))) else z_dp w o k k) = _
  rw [if_pos rfl, h, z_dp_st hf, z_dp_st hs]
  rfl
def z_dl (w : Nat → Int32) (o k : Nat) : Nat → Bool
  | 0 => z_hi w k o
  | j + 1 => z_dl w o k j || (z_hi w k j && z_dp w o (j + 1) j)
theorem z_dl_eq {w : Nat → Int32} {o k : Nat} : ∀ S, z_dl w o k S = (z_hi w k o || ((!tw_base w k && decide (tw_f w k < S) && z_dp w o (tw_f w k + 1) (tw_f w k)) || (!tw_base w k && decide (tw_s w k < S) && z_dp w o (tw_s w k + 1) (tw_s w k))))
  | 0 => by simp [z_dl]
  | S + 1 => by
    rw [z_dl, z_dl_eq S]
    cases hb : tw_base w k
    · have e1 : ∀ x, decide (x < S + 1) = (decide (x < S) || decide (x = S)) := fun x => by
        by_cases q : x = S
        · simp [q]
        · by_cases q2 : x < S
          · simp [q2]; omega
          · simp [q, q2]; omega
      have e2 : ∀ x, (decide (x = S) && z_dp w o (S + 1) S) = (decide (x = S) && z_dp w o (x + 1) x) := fun x => by
        by_cases q : x = S
        · rw [q]
        · rw [decide_eq_false q]; rfl
      have e3 : z_hi w k S = (decide (tw_f w k = S) || decide (tw_s w k = S)) := by unfold z_hi; rw [hb]; rfl
      rw [e1, e1, e3, Bool.and_or_distrib_right, e2, e2]
      cases z_hi w k o <;> cases decide (tw_f w k < S) <;> cases decide (tw_s w k < S) <;> cases decide (tw_f w k = S) <;> cases decide (tw_s w k = S) <;> cases z_dp w o (tw_f w k + 1) (tw_f w k) <;> cases z_dp w o (tw_s w k + 1) (tw_s w k) <;> rfl
    · simp [z_hi, hb]
theorem z_dl_dp {w : Nat → Int32} {o k S : Nat} (hk : k < S) (h : tw_base w k = false → tw_f w k < k ∧ tw_s w k < k) : z_dl w o k S = z_dp w o (k + 1) k := by
  rw [z_dl_eq]
  cases hb : tw_base w k
  · obtain ⟨h1, h2⟩ := h hb
    rw [z_dp_n hb h1 h2, decide_eq_true (show tw_f w k < S by omega), decide_eq_true (show tw_s w k < S by omega)]
    unfold z_hi
    rw [hb]
    simp
  · rw [z_dp_b hb]
    unfold z_hi
    rw [hb]
    rfl
theorem z_or0 {a b : Bool} (h : b = false) : z_b a ||| nI 0 = z_b (a || b) := by rw [h]; cases a <;> decide
theorem z_or1 {a b : Bool} (h : b = true) : z_b a ||| nI 1 = z_b (a || b) := by rw [h]; cases a <;> decide
def z_P (m : Nat) : Nat := 2 ^ m
theorem z_P_s (m : Nat) : z_P (m + 1) = 2 * z_P m := by unfold z_P; rw [Nat.pow_succ, Nat.mul_comm]
theorem z_P_0 : z_P 0 = 1 := rfl
theorem z_P_m {a b : Nat} (h : a ≤ b) : z_P a ≤ z_P b := Nat.pow_le_pow_right (by decide) h
theorem z_P_min (j k : Nat) : z_P (min j k + 1) ≤ z_P (min (j + 1) k + 1) ∧ (j < k → z_P (min (j + 1) k + 1) = 2 * z_P (j + 1) ∧ z_P (min j k + 1) = z_P (j + 1)) := by
  refine ⟨z_P_m (by omega), fun h => ⟨?_, ?_⟩⟩
  · rw [← z_P_s, show min (j + 1) k = j + 1 by omega]
  · rw [show min j k = j by omega]
theorem z_hi_lt {h : zH} {w : Nat → Int32} {sa : Nat → Nat} {k j : Nat} (hs : z_Sp h w sa k) (hh : z_hi w k j = true) : j < k := by
  unfold z_hi at hh
  rw [Bool.and_eq_true, Bool.or_eq_true, decide_eq_true_eq, decide_eq_true_eq] at hh
  obtain ⟨hb, hh⟩ := hh
  rcases hs with ⟨qk, q⟩ | ⟨qk, q⟩ | ⟨qk, q⟩ | ⟨qk, g1, g2, q⟩ | ⟨qk, g1, g2, q⟩ | ⟨qk, g1, g2, q⟩ | ⟨qk, g1, g2, q⟩
  · rw [z_kb qk (by simp)] at hb; cases hb
  · rw [z_kb qk (by simp)] at hb; cases hb
  · rw [z_kb qk (by simp)] at hb; cases hb
  all_goals omega
theorem z_Sp.lt {h : zH} {w : Nat → Int32} {sa : Nat → Nat} {k : Nat} (hs : z_Sp h w sa k) (hb : tw_base w k = false) : tw_f w k < k ∧ tw_s w k < k := by
  rcases hs with ⟨qk, q⟩ | ⟨qk, q⟩ | ⟨qk, q⟩ | ⟨qk, g1, g2, q⟩ | ⟨qk, g1, g2, q⟩ | ⟨qk, g1, g2, q⟩ | ⟨qk, g1, g2, q⟩
  · rw [z_kb qk (by simp)] at hb; cases hb
  · rw [z_kb qk (by simp)] at hb; cases hb
  · rw [z_kb qk (by simp)] at hb; cases hb
  all_goals exact ⟨by omega, by omega⟩

set_option maxHeartbeats 1000000 in
theorem m_X9_dependsOn {l : Launch} {G : zG} {h : zH} {n : Nat} {w : Nat → Int32} {v : Nat → Int64} {R S D a lr ls lv : Nat} {ra sa va : Nat → Nat} {k o : Nat} (hL : z_Ln G h w v R S D a lr ls lv ra sa va) (hS8 : S ≤ 8) (hk : k < S) (hoS : o < S) (IH : ∀ j, j < k → ∀ h2, z_Ln G h2 w v R S D a lr ls lv ra sa va → ∀ n : Nat, z_C l G yX9_dependsOn (2 * j + 4) (z_P (j + 1)) (4 * z_P (j + 1)) [.ref (sa j), .ref (sa o), .ref ls] h2 n (z_rn (.int (z_b (z_dp w o (j + 1) j))) h2)) : z_C l G yX9_dependsOn (2 * k + 4) (z_P (k + 1)) (4 * z_P (k + 1)) [.ref (sa k), .ref (sa o), .ref ls] h n (z_rn (.int (z_b (z_dp w o (k + 1) k))) h) := by
  refine z_start zk_X9_dependsOn zpl_RX9 (Nat.le_of_ble_eq_true rfl) ?_
  intro hn0 M hl hG ho hb hN hr hm hH hrm hQ
  subst hl hG
  have ho : zm_o M = RX9 := ho
  obtain ⟨h1, ⟨e0, N0, m0, f0, r1, r2, r3, ⟨r4, r4n⟩, r5⟩, ⟨e, N, m9, f, h3, h4, h5, ⟨h6, h6n⟩, h7⟩, ⟨ev, Nv, mv, fv, v1, v2, v3, ⟨v4, v4n⟩, v5⟩, h9, hs, hv, hi, hrI⟩ := id hL
  have hP0 := z_P_s 0
  have hP1 := z_P_0
  have hP2 := z_P_m (show 0 + 1 ≤ k + 1 by omega)
  show z_V M h n (z_P (k + 1)) (4 * z_P (k + 1)) 0 [(0, .ref (sa k)), (1, .ref (sa o)), (2, .ref ls)] []
  refine z_dom (fun hD0 => ?_)
  refine z_aload_n hb dX9_dependsOn_0 rfl ?_
  refine z_aload_n hb dX9_dependsOn_1 rfl ?_
  have J_5 : ∀ n_1 : Nat, n ≤ n_1 → z_V M h n_1 (z_P (k + 1)) (4 * z_P (k + 1)) 5 [(0, .ref (sa k)), (1, .ref (sa o)), (2, .ref ls)] [.int (z_b (z_hi w k o))] := by
    intro n_1 hn_1
    refine z_istore_n (lv' := [(3, .int (z_b (z_hi w k o))), (0, .ref (sa k)), (1, .ref (sa o)), (2, .ref ls)]) hb dX9_dependsOn_5 (by rw [hN]; decide) rfl ?_
    refine z_aload_n hb dX9_dependsOn_6 rfl ?_
    refine z_dom (fun hD_2 => ?_)
    refine z_call1 (b' := (z_P (k + 1)) - 1) (f' := (4 * z_P (k + 1)) - 4) (rest := []) (av := [.ref ls]) (z_siteF hb ho zc20 h3 q1872 zx1 q343 q345 q346 q344 q321 zxl1 dX9_dependsOn_7 : z_Site M _ _ _ _ _ ([].reverse ++ .ref ls :: []) [] _) zk_J2_iterator q98 hrm (m_J2_iterator h3 (hD_2 _ _ h3)) (by omega) (by decide) (Nat.le_of_ble_eq_true rfl) (by omega) (by omega) ?_
    refine z_hn (fun h_3 eh_3 => ?_)
    have eh_3 : h_3 = z_up h n_1 (.inr (24, [.int (nI 0), .int (-1), .int m9, .ref ls])) := eh_3
    have k_4 : h_3 a = some (.inr (1, [.ref lr, .ref ls, .ref lv, .int (nI D), .int (w 2), .int (w 4), .int (w 5), .int (w 6)])) := z_nx eh_3 (Nat.ne_of_lt (hD_2 _ _ h1)) h1
    have k_5 : h_3 lr = some (.inr (20, [.int m0, .ref e0, .int (nI R)])) := z_nx eh_3 (Nat.ne_of_lt (hD_2 _ _ r1)) r1
    have k_6 : h_3 e0 = some (.inl ((zm_G M).2.1 5, N0, .inr (.inr (.inr (.inr f0))))) := z_nx eh_3 (Nat.ne_of_lt (hD_2 _ _ r2)) r2
    have k_7 : h_3 ls = some (.inr (20, [.int m9, .ref e, .int (nI S)])) := z_nx eh_3 (Nat.ne_of_lt (hD_2 _ _ h3)) h3
    have k_8 : h_3 e = some (.inl ((zm_G M).2.1 5, N, .inr (.inr (.inr (.inr f))))) := z_nx eh_3 (Nat.ne_of_lt (hD_2 _ _ h4)) h4
    have k_9 : h_3 lv = some (.inr (20, [.int mv, .ref ev, .int (nI S)])) := z_nx eh_3 (Nat.ne_of_lt (hD_2 _ _ v1)) v1
    have k_10 : h_3 ev = some (.inl ((zm_G M).2.1 5, Nv, .inr (.inr (.inr (.inr fv))))) := z_nx eh_3 (Nat.ne_of_lt (hD_2 _ _ v2)) v2
    refine z_astore (lv' := [(4, .ref n_1), (3, .int (z_b (z_hi w k o))), (0, .ref (sa k)), (1, .ref (sa o)), (2, .ref ls)]) hb dX9_dependsOn_12 (by rw [hN]; decide) rfl ?_
    have lp_14 : ∀ (k9_14 : Nat) (j : Nat) (lr9j : Int32) (nnj : Nat) (hhj : zH) (bb : Nat), S + 1 - j < k9_14 → (j ≤ S) → (n_1 < nnj) → (z_ex h hhj) → (hhj n_1 = some (.inr (24, [.int (nI j), .int lr9j, .int m9, .ref ls]))) → (z_P (k + 1) + 1 ≤ bb + z_P (min j k + 1)) → z_V M hhj nnj bb (4 * bb) 14 [(4, .ref n_1), (3, .int (z_b (z_dl w o k j))), (0, .ref (sa k)), (1, .ref (sa o)), (2, .ref ls)] [] := by
      intro k9_14
      induction k9_14 with
      | zero => intro j lr9j nnj hhj bb hk9_14; exact absurd hk9_14 (Nat.not_lt_zero _)
      | succ k9_14 ih_14 =>
        intro j lr9j nnj hhj bb hk9_14 hj hnnj hEj hTj hbb
        refine z_aload hb dX9_dependsOn_14 rfl ?_
        refine z_call1 (b' := bb) (f' := 4 * bb) (rest := []) (av := [.ref n_1]) (z_siteF hb ho zc24 hTj q1874 zx2 q372 q374 q375 q373 q371 zxl2 dX9_dependsOn_16 : z_Site M _ _ _ _ _ ([].reverse ++ .ref n_1 :: []) [] _) zk_J8_hasNext q105 hrm (m_J8_hasNext hTj (hEj _ _ h3) (by omega) (by omega)) (by omega) (by decide) (Nat.le_of_ble_eq_true rfl) (by omega) (by omega) ?_
        refine z_ifb_eq (tgt := 66) hb dX9_dependsOn_21 (by decide) (fun c_21 => ?_) (fun c_21 => ?_)
        · have hx_j : j = S := by simpa using c_21
          refine z_iload_n hb dX9_dependsOn_66 rfl ?_
          refine z_less hEj ?_
          refine z_zret hb hr (z_bnar _) dX9_dependsOn_67 ?_
          rw [hQ]
          subst hx_j
          exact z_rn_e (by rw [z_dl_dp hk (hs k hk).lt])
        · have hl_j : j < S := Nat.lt_of_le_of_ne hj (by simpa using c_21)
          refine z_aload hb dX9_dependsOn_24 rfl ?_
          refine z_call1 (b' := bb) (f' := 4 * bb) (rest := []) (av := [.ref n_1]) (z_siteF hb ho zc24 hTj q1876 zx3 q381 q383 q384 q382 q371 zxl3 dX9_dependsOn_26 : z_Site M _ _ _ _ _ ([].reverse ++ .ref n_1 :: []) [] _) zk_J8_next q105 hrm (m_J8_next hTj (hEj _ _ h3) (hEj _ _ h4) (by omega) (by omega) h7 (by omega) (by omega)) (by omega) (by decide) (Nat.le_of_ble_eq_true rfl) (by omega) (by omega) ?_
          refine z_hn (fun h_11 eh_11 => ?_)
          have eh_11 : h_11 = z_up hhj n_1 (.inr (24, [.int (nI (j + 1)), .int (nI j), .int m9, .ref ls])) := eh_11
          have k_12 : h_11 a = some (.inr (1, [.ref lr, .ref ls, .ref lv, .int (nI D), .int (w 2), .int (w 4), .int (w 5), .int (w 6)])) := z_nx eh_11 (Nat.ne_of_lt (hD_2 _ _ h1)) (hEj _ _ h1)
          have k_13 : h_11 lr = some (.inr (20, [.int m0, .ref e0, .int (nI R)])) := z_nx eh_11 (Nat.ne_of_lt (hD_2 _ _ r1)) (hEj _ _ r1)
          have k_14 : h_11 e0 = some (.inl ((zm_G M).2.1 5, N0, .inr (.inr (.inr (.inr f0))))) := z_nx eh_11 (Nat.ne_of_lt (hD_2 _ _ r2)) (hEj _ _ r2)
          have k_15 : h_11 ls = some (.inr (20, [.int m9, .ref e, .int (nI S)])) := z_nx eh_11 (Nat.ne_of_lt (hD_2 _ _ h3)) (hEj _ _ h3)
          have k_16 : h_11 e = some (.inl ((zm_G M).2.1 5, N, .inr (.inr (.inr (.inr f))))) := z_nx eh_11 (Nat.ne_of_lt (hD_2 _ _ h4)) (hEj _ _ h4)
          have k_17 : h_11 lv = some (.inr (20, [.int mv, .ref ev, .int (nI S)])) := z_nx eh_11 (Nat.ne_of_lt (hD_2 _ _ v1)) (hEj _ _ v1)
          have k_18 : h_11 ev = some (.inl ((zm_G M).2.1 5, Nv, .inr (.inr (.inr (.inr fv))))) := z_nx eh_11 (Nat.ne_of_lt (hD_2 _ _ v2)) (hEj _ _ v2)
          have hp1 := z_P_min j k
          have J_34 : z_V M h_11 nnj bb (4 * bb) 34 [(4, .ref n_1), (3, .int (z_b (z_dl w o k j))), (0, .ref (sa k)), (1, .ref (sa o)), (2, .ref ls)] [.ref (sa j)] := by
            refine z_astore (lv' := [(5, .ref (sa j)), (4, .ref n_1), (3, .int (z_b (z_dl w o k j))), (0, .ref (sa k)), (1, .ref (sa o)), (2, .ref ls)]) hb dX9_dependsOn_34 (by rw [hN]; decide) rfl ?_
            refine z_iload_n hb dX9_dependsOn_36 rfl ?_
            refine z_aload_n hb dX9_dependsOn_37 rfl ?_
            refine z_aload hb dX9_dependsOn_38 rfl ?_
            have J_43 : ∀ n_19 : Nat, nnj ≤ n_19 → z_V M h_11 n_19 bb (4 * bb) 43 [(5, .ref (sa j)), (4, .ref n_1), (3, .int (z_b (z_dl w o k j))), (0, .ref (sa k)), (1, .ref (sa o)), (2, .ref ls)] [.int (z_b (z_hi w k j)), .int (z_b (z_dl w o k j))] := by
              intro n_19 hn_19
              refine z_ifb_eq (tgt := 60) hb dX9_dependsOn_43 (by decide) (fun c_43 => ?_) (fun c_43 => ?_)
              · refine z_iconst (x := nI 0) hb dX9_dependsOn_60 (by decide) ?_
                refine z_ior hb dX9_dependsOn_61 ?_
                refine z_toI (y := z_b (z_dl w o k (j + 1))) (z_or0 (by rw [c_43]; rfl)) ?_
                refine z_istore_n (lv' := [(3, .int (z_b (z_dl w o k (j + 1)))), (5, .ref (sa j)), (4, .ref n_1), (0, .ref (sa k)), (1, .ref (sa o)), (2, .ref ls)]) hb dX9_dependsOn_62 (by rw [hN]; decide) rfl ?_
                refine z_goto (tgt := 14) hb dX9_dependsOn_63 (by decide) ?_
                refine z_lv [2, 0, 3, 4, 5] (lv' := [(4, .ref n_1), (3, .int (z_b (z_dl w o k (j + 1)))), (0, .ref (sa k)), (1, .ref (sa o)), (2, .ref ls)]) rfl ?_
                exact z_bf (by omega) (by omega) (ih_14 (j + 1) _ n_19 h_11 bb (by omega) (by omega) (by omega) (z_exW hD_2 (by omega) eh_11 hEj) (z_nxs eh_11) (by omega))
              · have hjk := z_hi_lt (hs k hk) c_43
                have hp2 := hp1.2 hjk
                have hp3 := z_P_m (show j + 1 + 1 ≤ k + 1 by omega)
                have hp4 := z_P_s (j + 1)
                refine z_aload hb dX9_dependsOn_46 rfl ?_
                refine z_aload_n hb dX9_dependsOn_48 rfl ?_
                refine z_aload_n hb dX9_dependsOn_49 rfl ?_
                have J_53 : ∀ n_20 : Nat, n_19 ≤ n_20 → z_V M h_11 n_20 (bb - z_P (j + 1)) (4 * bb - 4 * z_P (j + 1)) 53 [(5, .ref (sa j)), (4, .ref n_1), (3, .int (z_b (z_dl w o k j))), (0, .ref (sa k)), (1, .ref (sa o)), (2, .ref ls)] [.int (z_b (z_dp w o (j + 1) j)), .int (z_b (z_dl w o k j))] := by
                  intro n_20 hn_20
                  refine z_ifb_eq (tgt := 60) hb dX9_dependsOn_53 (by decide) (fun c_53 => ?_) (fun c_53 => ?_)
                  · refine z_iconst (x := nI 0) hb dX9_dependsOn_60 (by decide) ?_
                    refine z_ior hb dX9_dependsOn_61 ?_
                    refine z_toI (y := z_b (z_dl w o k (j + 1))) (z_or0 (by rw [c_43, c_53]; rfl)) ?_
                    refine z_istore_n (lv' := [(3, .int (z_b (z_dl w o k (j + 1)))), (5, .ref (sa j)), (4, .ref n_1), (0, .ref (sa k)), (1, .ref (sa o)), (2, .ref ls)]) hb dX9_dependsOn_62 (by rw [hN]; decide) rfl ?_
                    refine z_goto (tgt := 14) hb dX9_dependsOn_63 (by decide) ?_
                    refine z_lv [2, 0, 3, 4, 5] (lv' := [(4, .ref n_1), (3, .int (z_b (z_dl w o k (j + 1)))), (0, .ref (sa k)), (1, .ref (sa o)), (2, .ref ls)]) rfl ?_
                    exact z_bf (by omega) (by omega) (ih_14 (j + 1) _ n_20 h_11 (bb - z_P (j + 1)) (by omega) (by omega) (by omega) (z_exW hD_2 (by omega) eh_11 hEj) (z_nxs eh_11) (by omega))
                  · refine z_iconst (x := nI 1) hb dX9_dependsOn_56 (by decide) ?_
                    refine z_goto (tgt := 61) hb dX9_dependsOn_57 (by decide) ?_
                    refine z_ior hb dX9_dependsOn_61 ?_
                    refine z_toI (y := z_b (z_dl w o k (j + 1))) (z_or1 (by rw [c_43, c_53]; rfl)) ?_
                    refine z_istore_n (lv' := [(3, .int (z_b (z_dl w o k (j + 1)))), (5, .ref (sa j)), (4, .ref n_1), (0, .ref (sa k)), (1, .ref (sa o)), (2, .ref ls)]) hb dX9_dependsOn_62 (by rw [hN]; decide) rfl ?_
                    refine z_goto (tgt := 14) hb dX9_dependsOn_63 (by decide) ?_
                    refine z_lv [2, 0, 3, 4, 5] (lv' := [(4, .ref n_1), (3, .int (z_b (z_dl w o k (j + 1)))), (0, .ref (sa k)), (1, .ref (sa o)), (2, .ref ls)]) rfl ?_
                    exact z_bf (by omega) (by omega) (ih_14 (j + 1) _ n_20 h_11 (bb - z_P (j + 1)) (by omega) (by omega) (by omega) (z_exW hD_2 (by omega) eh_11 hEj) (z_nxs eh_11) (by omega))
                rcases hs j (by omega) with ⟨q1, q9⟩ | ⟨q1, q9⟩ | ⟨q1, q9⟩ | ⟨q1, q2, q3, q9⟩ | ⟨q1, q2, q3, q9⟩ | ⟨q1, q2, q3, q9⟩ | ⟨q1, q2, q3, q9⟩
                · refine z_callN1 (b' := bb - z_P (j + 1)) (f' := 4 * bb - 4 * z_P (j + 1)) (rest := [.int (z_b (z_dl w o k j))]) (av := [.ref (sa j), .ref (sa o), .ref ls]) (z_siteV hb ho zc8 ((z_exW hD0 (by omega) eh_11 hEj) _ _ q9) q1878 q1861 q1868 ⟨_, _, _, _, zk_X9_dependsOn⟩ zy_X9_dependsOn zl_X9_dependsOn dX9_dependsOn_50 : z_Site M _ _ _ _ _ ([.ref (sa o), .ref ls].reverse ++ .ref (sa j) :: [.int (z_b (z_dl w o k j))]) [.int (z_b (z_dl w o k j))] _) zk_X9_dependsOn q127 hrm (IH j hjk _ (hL.ex (z_exW hD0 (by omega) eh_11 hEj)) _) (by omega) (by decide) (Nat.le_of_ble_eq_true rfl) (by omega) (by omega) (fun n_21 hn_21 => ?_)
                  exact J_53 _ (by omega)
                · refine z_callN1 (b' := bb - z_P (j + 1)) (f' := 4 * bb - 4 * z_P (j + 1)) (rest := [.int (z_b (z_dl w o k j))]) (av := [.ref (sa j), .ref (sa o), .ref ls]) (z_siteV hb ho zc9 ((z_exW hD0 (by omega) eh_11 hEj) _ _ q9) q1878 q1861 q1864 ⟨_, _, _, _, zk_X9_dependsOn⟩ zy_X9_dependsOn zl_X9_dependsOn dX9_dependsOn_50 : z_Site M _ _ _ _ _ ([.ref (sa o), .ref ls].reverse ++ .ref (sa j) :: [.int (z_b (z_dl w o k j))]) [.int (z_b (z_dl w o k j))] _) zk_X9_dependsOn q127 hrm (IH j hjk _ (hL.ex (z_exW hD0 (by omega) eh_11 hEj)) _) (by omega) (by decide) (Nat.le_of_ble_eq_true rfl) (by omega) (by omega) (fun n_22 hn_22 => ?_)
                  exact J_53 _ (by omega)
                · refine z_callN1 (b' := bb - z_P (j + 1)) (f' := 4 * bb - 4 * z_P (j + 1)) (rest := [.int (z_b (z_dl w o k j))]) (av := [.ref (sa j), .ref (sa o), .ref ls]) (z_siteV hb ho zc10 ((z_exW hD0 (by omega) eh_11 hEj) _ _ q9) q1878 q1861 q1865 ⟨_, _, _, _, zk_X9_dependsOn⟩ zy_X9_dependsOn zl_X9_dependsOn dX9_dependsOn_50 : z_Site M _ _ _ _ _ ([.ref (sa o), .ref ls].reverse ++ .ref (sa j) :: [.int (z_b (z_dl w o k j))]) [.int (z_b (z_dl w o k j))] _) zk_X9_dependsOn q127 hrm (IH j hjk _ (hL.ex (z_exW hD0 (by omega) eh_11 hEj)) _) (by omega) (by decide) (Nat.le_of_ble_eq_true rfl) (by omega) (by omega) (fun n_23 hn_23 => ?_)
                  exact J_53 _ (by omega)
                · refine z_callN1 (b' := bb - z_P (j + 1)) (f' := 4 * bb - 4 * z_P (j + 1)) (rest := [.int (z_b (z_dl w o k j))]) (av := [.ref (sa j), .ref (sa o), .ref ls]) (z_siteV hb ho zc11 ((z_exW hD0 (by omega) eh_11 hEj) _ _ q9) q1878 q1861 q1866 ⟨_, _, _, _, zk_X9_dependsOn⟩ zy_X9_dependsOn zl_X9_dependsOn dX9_dependsOn_50 : z_Site M _ _ _ _ _ ([.ref (sa o), .ref ls].reverse ++ .ref (sa j) :: [.int (z_b (z_dl w o k j))]) [.int (z_b (z_dl w o k j))] _) zk_X9_dependsOn q127 hrm (IH j hjk _ (hL.ex (z_exW hD0 (by omega) eh_11 hEj)) _) (by omega) (by decide) (Nat.le_of_ble_eq_true rfl) (by omega) (by omega) (fun n_24 hn_24 => ?_)
                  exact J_53 _ (by omega)
                · refine z_callN1 (b' := bb - z_P (j + 1)) (f' := 4 * bb - 4 * z_P (j + 1)) (rest := [.int (z_b (z_dl w o k j))]) (av := [.ref (sa j), .ref (sa o), .ref ls]) (z_siteV hb ho zc11 ((z_exW hD0 (by omega) eh_11 hEj) _ _ q9) q1878 q1861 q1866 ⟨_, _, _, _, zk_X9_dependsOn⟩ zy_X9_dependsOn zl_X9_dependsOn dX9_dependsOn_50 : z_Site M _ _ _ _ _ ([.ref (sa o), .ref ls].reverse ++ .ref (sa j) :: [.int (z_b (z_dl w o k j))]) [.int (z_b (z_dl w o k j))] _) zk_X9_dependsOn q127 hrm (IH j hjk _ (hL.ex (z_exW hD0 (by omega) eh_11 hEj)) _) (by omega) (by decide) (Nat.le_of_ble_eq_true rfl) (by omega) (by omega) (fun n_25 hn_25 => ?_)
                  exact J_53 _ (by omega)
                · refine z_callN1 (b' := bb - z_P (j + 1)) (f' := 4 * bb - 4 * z_P (j + 1)) (rest := [.int (z_b (z_dl w o k j))]) (av := [.ref (sa j), .ref (sa o), .ref ls]) (z_siteV hb ho zc12 ((z_exW hD0 (by omega) eh_11 hEj) _ _ q9) q1878 q1861 q1867 ⟨_, _, _, _, zk_X9_dependsOn⟩ zy_X9_dependsOn zl_X9_dependsOn dX9_dependsOn_50 : z_Site M _ _ _ _ _ ([.ref (sa o), .ref ls].reverse ++ .ref (sa j) :: [.int (z_b (z_dl w o k j))]) [.int (z_b (z_dl w o k j))] _) zk_X9_dependsOn q127 hrm (IH j hjk _ (hL.ex (z_exW hD0 (by omega) eh_11 hEj)) _) (by omega) (by decide) (Nat.le_of_ble_eq_true rfl) (by omega) (by omega) (fun n_26 hn_26 => ?_)
                  exact J_53 _ (by omega)
                · refine z_callN1 (b' := bb - z_P (j + 1)) (f' := 4 * bb - 4 * z_P (j + 1)) (rest := [.int (z_b (z_dl w o k j))]) (av := [.ref (sa j), .ref (sa o), .ref ls]) (z_siteV hb ho zc13 ((z_exW hD0 (by omega) eh_11 hEj) _ _ q9) q1878 q1861 q1863 ⟨_, _, _, _, zk_X9_dependsOn⟩ zy_X9_dependsOn zl_X9_dependsOn dX9_dependsOn_50 : z_Site M _ _ _ _ _ ([.ref (sa o), .ref ls].reverse ++ .ref (sa j) :: [.int (z_b (z_dl w o k j))]) [.int (z_b (z_dl w o k j))] _) zk_X9_dependsOn q127 hrm (IH j hjk _ (hL.ex (z_exW hD0 (by omega) eh_11 hEj)) _) (by omega) (by decide) (Nat.le_of_ble_eq_true rfl) (by omega) (by omega) (fun n_27 hn_27 => ?_)
                  exact J_53 _ (by omega)
            rcases hs k (by omega) with ⟨q1, q9⟩ | ⟨q1, q9⟩ | ⟨q1, q9⟩ | ⟨q1, q2, q3, q9⟩ | ⟨q1, q2, q3, q9⟩ | ⟨q1, q2, q3, q9⟩ | ⟨q1, q2, q3, q9⟩
            · refine z_callN1 (b' := bb) (f' := 4 * bb) (rest := [.int (z_b (z_dl w o k j))]) (av := [.ref (sa k), .ref (sa j)]) (z_siteU hb ho zc8 ((z_exW hD0 (by omega) eh_11 hEj) _ _ q9) q1870 q1583 (Or.inl q1582) q1588 q1595 ⟨by decide +kernel, by decide +kernel⟩ (by show _ = some 1; decide +kernel) dX9_dependsOn_40 : z_Site M _ _ _ _ _ ([.ref (sa j)].reverse ++ .ref (sa k) :: [.int (z_b (z_dl w o k j))]) [.int (z_b (z_dl w o k j))] _) zk_X10_hasInput q128 hrm (m_hasInput (fun i hi9 => (hs i hi9).ex (z_exW hD0 (by omega) eh_11 hEj)) hi (show k < S by omega) (show j < S by omega) _ _ ((z_exW hD0 (by omega) eh_11 hEj) _ _ q9) _) (by omega) (by decide) (Nat.le_of_ble_eq_true rfl) (by omega) (by omega) (fun n_28 hn_28 => ?_)
              exact J_43 _ (by omega)
            · refine z_callN1 (b' := bb) (f' := 4 * bb) (rest := [.int (z_b (z_dl w o k j))]) (av := [.ref (sa k), .ref (sa j)]) (z_siteU hb ho zc9 ((z_exW hD0 (by omega) eh_11 hEj) _ _ q9) q1870 q1583 (Or.inl q1582) q1588 q1587 ⟨by decide +kernel, by decide +kernel⟩ (by show _ = some 1; decide +kernel) dX9_dependsOn_40 : z_Site M _ _ _ _ _ ([.ref (sa j)].reverse ++ .ref (sa k) :: [.int (z_b (z_dl w o k j))]) [.int (z_b (z_dl w o k j))] _) zk_X10_hasInput q128 hrm (m_hasInput (fun i hi9 => (hs i hi9).ex (z_exW hD0 (by omega) eh_11 hEj)) hi (show k < S by omega) (show j < S by omega) _ _ ((z_exW hD0 (by omega) eh_11 hEj) _ _ q9) _) (by omega) (by decide) (Nat.le_of_ble_eq_true rfl) (by omega) (by omega) (fun n_29 hn_29 => ?_)
              exact J_43 _ (by omega)
            · refine z_callN1 (b' := bb) (f' := 4 * bb) (rest := [.int (z_b (z_dl w o k j))]) (av := [.ref (sa k), .ref (sa j)]) (z_siteU hb ho zc10 ((z_exW hD0 (by omega) eh_11 hEj) _ _ q9) q1870 q1583 (Or.inl q1582) q1588 q1590 ⟨by decide +kernel, by decide +kernel⟩ (by show _ = some 1; decide +kernel) dX9_dependsOn_40 : z_Site M _ _ _ _ _ ([.ref (sa j)].reverse ++ .ref (sa k) :: [.int (z_b (z_dl w o k j))]) [.int (z_b (z_dl w o k j))] _) zk_X10_hasInput q128 hrm (m_hasInput (fun i hi9 => (hs i hi9).ex (z_exW hD0 (by omega) eh_11 hEj)) hi (show k < S by omega) (show j < S by omega) _ _ ((z_exW hD0 (by omega) eh_11 hEj) _ _ q9) _) (by omega) (by decide) (Nat.le_of_ble_eq_true rfl) (by omega) (by omega) (fun n_30 hn_30 => ?_)
              exact J_43 _ (by omega)
            · refine z_callN1 (b' := bb) (f' := 4 * bb) (rest := [.int (z_b (z_dl w o k j))]) (av := [.ref (sa k), .ref (sa j)]) (z_siteU hb ho zc11 ((z_exW hD0 (by omega) eh_11 hEj) _ _ q9) q1870 q1583 (Or.inl q1582) q1592 q1591 ⟨by decide +kernel, by decide +kernel⟩ (by show _ = some 1; decide +kernel) dX9_dependsOn_40 : z_Site M _ _ _ _ _ ([.ref (sa j)].reverse ++ .ref (sa k) :: [.int (z_b (z_dl w o k j))]) [.int (z_b (z_dl w o k j))] _) zk_X14_hasInput q133 hrm (m_hasInput (fun i hi9 => (hs i hi9).ex (z_exW hD0 (by omega) eh_11 hEj)) hi (show k < S by omega) (show j < S by omega) _ _ ((z_exW hD0 (by omega) eh_11 hEj) _ _ q9) _) (by omega) (by decide) (Nat.le_of_ble_eq_true rfl) (by omega) (by omega) (fun n_31 hn_31 => ?_)
              exact J_43 _ (by omega)
            · refine z_callN1 (b' := bb) (f' := 4 * bb) (rest := [.int (z_b (z_dl w o k j))]) (av := [.ref (sa k), .ref (sa j)]) (z_siteU hb ho zc11 ((z_exW hD0 (by omega) eh_11 hEj) _ _ q9) q1870 q1583 (Or.inl q1582) q1592 q1591 ⟨by decide +kernel, by decide +kernel⟩ (by show _ = some 1; decide +kernel) dX9_dependsOn_40 : z_Site M _ _ _ _ _ ([.ref (sa j)].reverse ++ .ref (sa k) :: [.int (z_b (z_dl w o k j))]) [.int (z_b (z_dl w o k j))] _) zk_X14_hasInput q133 hrm (m_hasInput (fun i hi9 => (hs i hi9).ex (z_exW hD0 (by omega) eh_11 hEj)) hi (show k < S by omega) (show j < S by omega) _ _ ((z_exW hD0 (by omega) eh_11 hEj) _ _ q9) _) (by omega) (by decide) (Nat.le_of_ble_eq_true rfl) (by omega) (by omega) (fun n_32 hn_32 => ?_)
              exact J_43 _ (by omega)
            · refine z_callN1 (b' := bb) (f' := 4 * bb) (rest := [.int (z_b (z_dl w o k j))]) (av := [.ref (sa k), .ref (sa j)]) (z_siteU hb ho zc12 ((z_exW hD0 (by omega) eh_11 hEj) _ _ q9) q1870 q1583 (Or.inl q1582) q1585 q1594 ⟨by decide +kernel, by decide +kernel⟩ (by show _ = some 1; decide +kernel) dX9_dependsOn_40 : z_Site M _ _ _ _ _ ([.ref (sa j)].reverse ++ .ref (sa k) :: [.int (z_b (z_dl w o k j))]) [.int (z_b (z_dl w o k j))] _) zk_X15_hasInput q134 hrm (m_hasInput (fun i hi9 => (hs i hi9).ex (z_exW hD0 (by omega) eh_11 hEj)) hi (show k < S by omega) (show j < S by omega) _ _ ((z_exW hD0 (by omega) eh_11 hEj) _ _ q9) _) (by omega) (by decide) (Nat.le_of_ble_eq_true rfl) (by omega) (by omega) (fun n_33 hn_33 => ?_)
              exact J_43 _ (by omega)
            · refine z_callN1 (b' := bb) (f' := 4 * bb) (rest := [.int (z_b (z_dl w o k j))]) (av := [.ref (sa k), .ref (sa j)]) (z_siteU hb ho zc13 ((z_exW hD0 (by omega) eh_11 hEj) _ _ q9) q1870 q1583 (Or.inl q1582) q1585 q1584 ⟨by decide +kernel, by decide +kernel⟩ (by show _ = some 1; decide +kernel) dX9_dependsOn_40 : z_Site M _ _ _ _ _ ([.ref (sa j)].reverse ++ .ref (sa k) :: [.int (z_b (z_dl w o k j))]) [.int (z_b (z_dl w o k j))] _) zk_X15_hasInput q134 hrm (m_hasInput (fun i hi9 => (hs i hi9).ex (z_exW hD0 (by omega) eh_11 hEj)) hi (show k < S by omega) (show j < S by omega) _ _ ((z_exW hD0 (by omega) eh_11 hEj) _ _ q9) _) (by omega) (by decide) (Nat.le_of_ble_eq_true rfl) (by omega) (by omega) (fun n_34 hn_34 => ?_)
              exact J_43 _ (by omega)
          rcases hs j (by omega) with ⟨q1, q9⟩ | ⟨q1, q9⟩ | ⟨q1, q9⟩ | ⟨q1, q2, q3, q9⟩ | ⟨q1, q2, q3, q9⟩ | ⟨q1, q2, q3, q9⟩ | ⟨q1, q2, q3, q9⟩
          · exact z_cast hb ho zc8 ((z_exW hD0 (by omega) eh_11 hEj) _ _ q9) q1877 (Or.inr q3300) dX9_dependsOn_31 J_34
          · exact z_cast hb ho zc9 ((z_exW hD0 (by omega) eh_11 hEj) _ _ q9) q1877 (Or.inr q3296) dX9_dependsOn_31 J_34
          · exact z_cast hb ho zc10 ((z_exW hD0 (by omega) eh_11 hEj) _ _ q9) q1877 (Or.inr q3297) dX9_dependsOn_31 J_34
          · exact z_cast hb ho zc11 ((z_exW hD0 (by omega) eh_11 hEj) _ _ q9) q1877 (Or.inr q3298) dX9_dependsOn_31 J_34
          · exact z_cast hb ho zc11 ((z_exW hD0 (by omega) eh_11 hEj) _ _ q9) q1877 (Or.inr q3298) dX9_dependsOn_31 J_34
          · exact z_cast hb ho zc12 ((z_exW hD0 (by omega) eh_11 hEj) _ _ q9) q1877 (Or.inr q3299) dX9_dependsOn_31 J_34
          · exact z_cast hb ho zc13 ((z_exW hD0 (by omega) eh_11 hEj) _ _ q9) q1877 (Or.inr q3295) dX9_dependsOn_31 J_34
    refine z_lv [0, 1, 2, 3, 4] (lv' := [(4, .ref n_1), (3, .int (z_b (z_hi w k o))), (0, .ref (sa k)), (1, .ref (sa o)), (2, .ref ls)]) rfl ?_
    exact z_bf (by omega) (by omega) (lp_14 _ 0 (-1) (n_1 + 1) h_3 ((z_P (k + 1)) - 1) (Nat.lt_succ_self _) (Nat.zero_le _) (by omega) (z_exN z_ex_r hD_2 eh_3) (z_nxs eh_3) (by rw [show min 0 k = 0 by omega]; omega))
  rcases hs k (by omega) with ⟨q1, q9⟩ | ⟨q1, q9⟩ | ⟨q1, q9⟩ | ⟨q1, q2, q3, q9⟩ | ⟨q1, q2, q3, q9⟩ | ⟨q1, q2, q3, q9⟩ | ⟨q1, q2, q3, q9⟩
  · refine z_callN1 (b' := (z_P (k + 1))) (f' := (4 * z_P (k + 1))) (rest := []) (av := [.ref (sa k), .ref (sa o)]) (z_siteU hb ho zc8 q9 q1870 q1583 (Or.inl q1582) q1588 q1595 ⟨by decide +kernel, by decide +kernel⟩ (by show _ = some 1; decide +kernel) dX9_dependsOn_2 : z_Site M _ _ _ _ _ ([.ref (sa o)].reverse ++ .ref (sa k) :: []) [] _) zk_X10_hasInput q128 hrm (m_hasInput hs hi (show k < S by omega) (show o < S by omega) _ _ q9 _) (by omega) (by decide) (Nat.le_of_ble_eq_true rfl) (by omega) (by omega) (fun n_35 hn_35 => ?_)
    exact J_5 _ (by omega)
  · refine z_callN1 (b' := (z_P (k + 1))) (f' := (4 * z_P (k + 1))) (rest := []) (av := [.ref (sa k), .ref (sa o)]) (z_siteU hb ho zc9 q9 q1870 q1583 (Or.inl q1582) q1588 q1587 ⟨by decide +kernel, by decide +kernel⟩ (by show _ = some 1; decide +kernel) dX9_dependsOn_2 : z_Site M _ _ _ _ _ ([.ref (sa o)].reverse ++ .ref (sa k) :: []) [] _) zk_X10_hasInput q128 hrm (m_hasInput hs hi (show k < S by omega) (show o < S by omega) _ _ q9 _) (by omega) (by decide) (Nat.le_of_ble_eq_true rfl) (by omega) (by omega) (fun n_36 hn_36 => ?_)
    exact J_5 _ (by omega)
  · refine z_callN1 (b' := (z_P (k + 1))) (f' := (4 * z_P (k + 1))) (rest := []) (av := [.ref (sa k), .ref (sa o)]) (z_siteU hb ho zc10 q9 q1870 q1583 (Or.inl q1582) q1588 q1590 ⟨by decide +kernel, by decide +kernel⟩ (by show _ = some 1; decide +kernel) dX9_dependsOn_2 : z_Site M _ _ _ _ _ ([.ref (sa o)].reverse ++ .ref (sa k) :: []) [] _) zk_X10_hasInput q128 hrm (m_hasInput hs hi (show k < S by omega) (show o < S by omega) _ _ q9 _) (by omega) (by decide) (Nat.le_of_ble_eq_true rfl) (by omega) (by omega) (fun n_37 hn_37 => ?_)
    exact J_5 _ (by omega)
  · refine z_callN1 (b' := (z_P (k + 1))) (f' := (4 * z_P (k + 1))) (rest := []) (av := [.ref (sa k), .ref (sa o)]) (z_siteU hb ho zc11 q9 q1870 q1583 (Or.inl q1582) q1592 q1591 ⟨by decide +kernel, by decide +kernel⟩ (by show _ = some 1; decide +kernel) dX9_dependsOn_2 : z_Site M _ _ _ _ _ ([.ref (sa o)].reverse ++ .ref (sa k) :: []) [] _) zk_X14_hasInput q133 hrm (m_hasInput hs hi (show k < S by omega) (show o < S by omega) _ _ q9 _) (by omega) (by decide) (Nat.le_of_ble_eq_true rfl) (by omega) (by omega) (fun n_38 hn_38 => ?_)
    exact J_5 _ (by omega)
  · refine z_callN1 (b' := (z_P (k + 1))) (f' := (4 * z_P (k + 1))) (rest := []) (av := [.ref (sa k), .ref (sa o)]) (z_siteU hb ho zc11 q9 q1870 q1583 (Or.inl q1582) q1592 q1591 ⟨by decide +kernel, by decide +kernel⟩ (by show _ = some 1; decide +kernel) dX9_dependsOn_2 : z_Site M _ _ _ _ _ ([.ref (sa o)].reverse ++ .ref (sa k) :: []) [] _) zk_X14_hasInput q133 hrm (m_hasInput hs hi (show k < S by omega) (show o < S by omega) _ _ q9 _) (by omega) (by decide) (Nat.le_of_ble_eq_true rfl) (by omega) (by omega) (fun n_39 hn_39 => ?_)
    exact J_5 _ (by omega)
  · refine z_callN1 (b' := (z_P (k + 1))) (f' := (4 * z_P (k + 1))) (rest := []) (av := [.ref (sa k), .ref (sa o)]) (z_siteU hb ho zc12 q9 q1870 q1583 (Or.inl q1582) q1585 q1594 ⟨by decide +kernel, by decide +kernel⟩ (by show _ = some 1; decide +kernel) dX9_dependsOn_2 : z_Site M _ _ _ _ _ ([.ref (sa o)].reverse ++ .ref (sa k) :: []) [] _) zk_X15_hasInput q134 hrm (m_hasInput hs hi (show k < S by omega) (show o < S by omega) _ _ q9 _) (by omega) (by decide) (Nat.le_of_ble_eq_true rfl) (by omega) (by omega) (fun n_40 hn_40 => ?_)
    exact J_5 _ (by omega)
  · refine z_callN1 (b' := (z_P (k + 1))) (f' := (4 * z_P (k + 1))) (rest := []) (av := [.ref (sa k), .ref (sa o)]) (z_siteU hb ho zc13 q9 q1870 q1583 (Or.inl q1582) q1585 q1584 ⟨by decide +kernel, by decide +kernel⟩ (by show _ = some 1; decide +kernel) dX9_dependsOn_2 : z_Site M _ _ _ _ _ ([.ref (sa o)].reverse ++ .ref (sa k) :: []) [] _) zk_X15_hasInput q134 hrm (m_hasInput hs hi (show k < S by omega) (show o < S by omega) _ _ q9 _) (by omega) (by decide) (Nat.le_of_ble_eq_true rfl) (by omega) (by omega) (fun n_41 hn_41 => ?_)
    exact J_5 _ (by omega)

theorem m_depends {l : Launch} {G : zG} {w : Nat → Int32} {v : Nat → Int64} {R S D a lr ls lv : Nat} {ra sa va : Nat → Nat} (hS8 : S ≤ 8) {o : Nat} (hoS : o < S) : ∀ m k, k < m → k < S → ∀ h, z_Ln G h w v R S D a lr ls lv ra sa va → ∀ n : Nat, z_C l G yX9_dependsOn (2 * k + 4) (z_P (k + 1)) (4 * z_P (k + 1)) [.ref (sa k), .ref (sa o), .ref ls] h n (z_rn (.int (z_b (z_dp w o (k + 1) k))) h)
  | 0, k, h0 => absurd h0 (Nat.not_lt_zero _)
  | m + 1, k, h0 => fun hk h hL n => m_X9_dependsOn hL hS8 hk hoS fun j hj h2 hL2 n => m_depends hS8 hoS m j (by omega) (by omega) h2 hL2 n

set_option maxHeartbeats 1000000 in
theorem m_X1_dependsOn_ok {l : Launch} {G : zG} {h : zH} {n : Nat} {t : Nat} {x1 x2 x3 x4 x5 x6 : Value} {w : Nat → Int32} {v : Nat → Int64} {R S D a lr ls lv : Nat} {ra sa va : Nat → Nat} {k o : Nat} (hX : h t = some (.inr (0, [.ref a, x1, x2, x3, x4, x5, x6]))) (hL : z_Ln G h w v R S D a lr ls lv ra sa va) (hk : k < S) (hS8 : S ≤ 8) (hoS : o < S) : z_C l G yX1_dependsOn (2 * k + 12) (z_P (k + 1) + 2) (4 * z_P (k + 1) + 12) [.ref t, .int (nI k), .int (nI o)] h n (z_rn (.int (z_b (z_dp w o (k + 1) k))) h) := by
  refine z_start zk_X1_dependsOn zpl_RX1 (Nat.le_of_ble_eq_true rfl) ?_
  intro hn0 M hl hG ho hb hN hr hm hH hrm hQ
  subst hl hG
  have ho : zm_o M = RX1 := ho
  obtain ⟨h1, ⟨e0, N0, m0, f0, r1, r2, r3, ⟨r4, r4n⟩, r5⟩, ⟨e, N, m9, f, h3, h4, h5, ⟨h6, h6n⟩, h7⟩, ⟨ev, Nv, mv, fv, v1, v2, v3, ⟨v4, v4n⟩, v5⟩, h9, hs, hv, hi, hrI⟩ := id hL
  show z_V M h n (z_P (k + 1) + 2) (4 * z_P (k + 1) + 12) 0 [(0, .ref t), (1, .int (nI k)), (2, .int (nI o))] []
  refine z_dom (fun hD0 => ?_)
  refine z_aload_n hb dX1_dependsOn_0 rfl ?_
  refine z_get (k := 0) (C := RX1) (T := TX1) (N := 7) hb ho zc0 in_X1 (zf_RX1_41 _) dX1_dependsOn_1 hX (by decide) rfl ?_
  refine z_iload_n hb dX1_dependsOn_4 rfl ?_
  refine z_call1 (b' := (z_P (k + 1) + 2) - 1) (f' := (4 * z_P (k + 1) + 12) - 6) (rest := []) (av := [.ref a, .int (nI k)]) (z_siteV hb ho zc1 h1 q1842 q1506 q1507 ⟨_, _, _, _, zk_X2_step⟩ zy_X2_step zl_X2_step dX1_dependsOn_5 : z_Site M _ _ _ _ _ ([.int (nI k)].reverse ++ .ref a :: []) [] _) zk_X2_step q95 hrm (m_X2_step hL hS8 hk) (by omega) (by decide) (Nat.le_of_ble_eq_true rfl) (by omega) (by omega) ?_
  refine z_astore_n (lv' := [(3, .ref (sa k)), (0, .ref t), (1, .int (nI k)), (2, .int (nI o))]) hb dX1_dependsOn_8 (by rw [hN]; decide) rfl ?_
  refine z_aload_n hb dX1_dependsOn_9 rfl ?_
  refine z_aload_n hb dX1_dependsOn_10 rfl ?_
  refine z_get (k := 0) (C := RX1) (T := TX1) (N := 7) hb ho zc0 in_X1 (zf_RX1_41 _) dX1_dependsOn_11 hX (by decide) rfl ?_
  refine z_iload_n hb dX1_dependsOn_14 rfl ?_
  refine z_call1 (b' := ((z_P (k + 1) + 2) - 1) - 1) (f' := ((4 * z_P (k + 1) + 12) - 6) - 6) (rest := [.ref (sa k)]) (av := [.ref a, .int (nI o)]) (z_siteV hb ho zc1 h1 q1842 q1506 q1507 ⟨_, _, _, _, zk_X2_step⟩ zy_X2_step zl_X2_step dX1_dependsOn_15 : z_Site M _ _ _ _ _ ([.int (nI o)].reverse ++ .ref a :: [.ref (sa k)]) [.ref (sa k)] _) zk_X2_step q95 hrm (m_X2_step hL hS8 hoS) (by omega) (by decide) (Nat.le_of_ble_eq_true rfl) (by omega) (by omega) ?_
  refine z_aload_n hb dX1_dependsOn_18 rfl ?_
  refine z_get (k := 0) (C := RX1) (T := TX1) (N := 7) hb ho zc0 in_X1 (zf_RX1_41 _) dX1_dependsOn_19 hX (by decide) rfl ?_
  refine z_get (k := 1) (C := RX2) (T := TX2) (N := 8) hb ho zc1 in_X2 (zf_RX1_183 _) dX1_dependsOn_22 h1 (by decide) rfl ?_
  have J_28 : ∀ n_1 : Nat, n ≤ n_1 → z_V M h n_1 0 0 28 [(3, .ref (sa k)), (0, .ref t), (1, .int (nI k)), (2, .int (nI o))] [.int (z_b (z_dp w o (k + 1) k))] := by
    intro n_1 hn_1
    refine z_zret hb hr (z_bnar _) dX1_dependsOn_28 ?_
    rw [hQ]
    exact ⟨rfl, rfl⟩
  rcases hs k hk with ⟨q1, q9⟩ | ⟨q1, q9⟩ | ⟨q1, q9⟩ | ⟨q1, q2, q3, q9⟩ | ⟨q1, q2, q3, q9⟩ | ⟨q1, q2, q3, q9⟩ | ⟨q1, q2, q3, q9⟩
  · refine z_callN1 (b' := 0) (f' := 0) (rest := []) (av := [.ref (sa k), .ref (sa o), .ref ls]) (z_siteV hb ho zc8 q9 q1860 q1861 q1868 ⟨_, _, _, _, zk_X9_dependsOn⟩ zy_X9_dependsOn zl_X9_dependsOn dX1_dependsOn_25 : z_Site M _ _ _ _ _ ([.ref (sa o), .ref ls].reverse ++ .ref (sa k) :: []) [] _) zk_X9_dependsOn q127 hrm (m_depends hS8 hoS _ _ (Nat.lt_succ_self _) hk _ hL _) (by omega) (by decide) (Nat.le_of_ble_eq_true rfl) (by omega) (by omega) (fun n_2 hn_2 => ?_)
    exact J_28 _ (by omega)
  · refine z_callN1 (b' := 0) (f' := 0) (rest := []) (av := [.ref (sa k), .ref (sa o), .ref ls]) (z_siteV hb ho zc9 q9 q1860 q1861 q1864 ⟨_, _, _, _, zk_X9_dependsOn⟩ zy_X9_dependsOn zl_X9_dependsOn dX1_dependsOn_25 : z_Site M _ _ _ _ _ ([.ref (sa o), .ref ls].reverse ++ .ref (sa k) :: []) [] _) zk_X9_dependsOn q127 hrm (m_depends hS8 hoS _ _ (Nat.lt_succ_self _) hk _ hL _) (by omega) (by decide) (Nat.le_of_ble_eq_true rfl) (by omega) (by omega) (fun n_3 hn_3 => ?_)
    exact J_28 _ (by omega)
  · refine z_callN1 (b' := 0) (f' := 0) (rest := []) (av := [.ref (sa k), .ref (sa o), .ref ls]) (z_siteV hb ho zc10 q9 q1860 q1861 q1865 ⟨_, _, _, _, zk_X9_dependsOn⟩ zy_X9_dependsOn zl_X9_dependsOn dX1_dependsOn_25 : z_Site M _ _ _ _ _ ([.ref (sa o), .ref ls].reverse ++ .ref (sa k) :: []) [] _) zk_X9_dependsOn q127 hrm (m_depends hS8 hoS _ _ (Nat.lt_succ_self _) hk _ hL _) (by omega) (by decide) (Nat.le_of_ble_eq_true rfl) (by omega) (by omega) (fun n_4 hn_4 => ?_)
    exact J_28 _ (by omega)
  · refine z_callN1 (b' := 0) (f' := 0) (rest := []) (av := [.ref (sa k), .ref (sa o), .ref ls]) (z_siteV hb ho zc11 q9 q1860 q1861 q1866 ⟨_, _, _, _, zk_X9_dependsOn⟩ zy_X9_dependsOn zl_X9_dependsOn dX1_dependsOn_25 : z_Site M _ _ _ _ _ ([.ref (sa o), .ref ls].reverse ++ .ref (sa k) :: []) [] _) zk_X9_dependsOn q127 hrm (m_depends hS8 hoS _ _ (Nat.lt_succ_self _) hk _ hL _) (by omega) (by decide) (Nat.le_of_ble_eq_true rfl) (by omega) (by omega) (fun n_5 hn_5 => ?_)
    exact J_28 _ (by omega)
  · refine z_callN1 (b' := 0) (f' := 0) (rest := []) (av := [.ref (sa k), .ref (sa o), .ref ls]) (z_siteV hb ho zc11 q9 q1860 q1861 q1866 ⟨_, _, _, _, zk_X9_dependsOn⟩ zy_X9_dependsOn zl_X9_dependsOn dX1_dependsOn_25 : z_Site M _ _ _ _ _ ([.ref (sa o), .ref ls].reverse ++ .ref (sa k) :: []) [] _) zk_X9_dependsOn q127 hrm (m_depends hS8 hoS _ _ (Nat.lt_succ_self _) hk _ hL _) (by omega) (by decide) (Nat.le_of_ble_eq_true rfl) (by omega) (by omega) (fun n_6 hn_6 => ?_)
    exact J_28 _ (by omega)
  · refine z_callN1 (b' := 0) (f' := 0) (rest := []) (av := [.ref (sa k), .ref (sa o), .ref ls]) (z_siteV hb ho zc12 q9 q1860 q1861 q1867 ⟨_, _, _, _, zk_X9_dependsOn⟩ zy_X9_dependsOn zl_X9_dependsOn dX1_dependsOn_25 : z_Site M _ _ _ _ _ ([.ref (sa o), .ref ls].reverse ++ .ref (sa k) :: []) [] _) zk_X9_dependsOn q127 hrm (m_depends hS8 hoS _ _ (Nat.lt_succ_self _) hk _ hL _) (by omega) (by decide) (Nat.le_of_ble_eq_true rfl) (by omega) (by omega) (fun n_7 hn_7 => ?_)
    exact J_28 _ (by omega)
  · refine z_callN1 (b' := 0) (f' := 0) (rest := []) (av := [.ref (sa k), .ref (sa o), .ref ls]) (z_siteV hb ho zc13 q9 q1860 q1861 q1863 ⟨_, _, _, _, zk_X9_dependsOn⟩ zy_X9_dependsOn zl_X9_dependsOn dX1_dependsOn_25 : z_Site M _ _ _ _ _ ([.ref (sa o), .ref ls].reverse ++ .ref (sa k) :: []) [] _) zk_X9_dependsOn q127 hrm (m_depends hS8 hoS _ _ (Nat.lt_succ_self _) hk _ hL _) (by omega) (by decide) (Nat.le_of_ble_eq_true rfl) (by omega) (by omega) (fun n_8 hn_8 => ?_)
    exact J_28 _ (by omega)

set_option maxHeartbeats 1000000 in
theorem m_X1_dependsOn_no1 {l : Launch} {G : zG} {h : zH} {n : Nat} {t : Nat} {x1 x2 x3 x4 x5 x6 : Value} {w : Nat → Int32} {v : Nat → Int64} {R S D a lr ls lv : Nat} {ra sa va : Nat → Nat} {x y : Int32} (hX : h t = some (.inr (0, [.ref a, x1, x2, x3, x4, x5, x6]))) (hL : z_Ln G h w v R S D a lr ls lv ra sa va) (hx : tw_isS S x = false) (hS8 : S ≤ 8) : z_C l G yX1_dependsOn 10 4 24 [.ref t, .int x, .int y] h n (z_tf 28 [] h n) := by
  refine z_start zk_X1_dependsOn zpl_RX1 (Nat.le_of_ble_eq_true rfl) ?_
  intro hn0 M hl hG ho hb hN hr hm hH hrm hQ
  subst hl hG
  have ho : zm_o M = RX1 := ho
  obtain ⟨h1, ⟨e0, N0, m0, f0, r1, r2, r3, ⟨r4, r4n⟩, r5⟩, ⟨e, N, m9, f, h3, h4, h5, ⟨h6, h6n⟩, h7⟩, ⟨ev, Nv, mv, fv, v1, v2, v3, ⟨v4, v4n⟩, v5⟩, h9, hs, hv, hi, hrI⟩ := id hL
  show z_V M h n 4 24 0 [(0, .ref t), (1, .int x), (2, .int y)] []
  refine z_dom (fun hD0 => ?_)
  refine z_aload_n hb dX1_dependsOn_0 rfl ?_
  refine z_get (k := 0) (C := RX1) (T := TX1) (N := 7) hb ho zc0 in_X1 (zf_RX1_41 _) dX1_dependsOn_1 hX (by decide) rfl ?_
  refine z_iload_n hb dX1_dependsOn_4 rfl ?_
  refine z_callTf (b' := 3) (f' := 18) (rest := []) (av := [.ref a, .int x]) (z_siteV hb ho zc1 h1 q1842 q1506 q1507 ⟨_, _, _, _, zk_X2_step⟩ zy_X2_step zl_X2_step dX1_dependsOn_5 : z_Site M _ _ _ _ _ ([.int x].reverse ++ .ref a :: []) [] _) zk_X2_step q95 hrm (z_C.tf (m_X2_step_no hL hS8 hx)) (by omega) (by decide) (Nat.le_of_ble_eq_true rfl) (by omega) (by omega) (fun q_1 n_2 hq_1 hn_2 => ?_)
  exact z_out ho hH zc28 z_up_s (by omega) (fun _ h => nomatch h) (by rw [hQ]; exact ⟨_, rfl, by omega, by omega, rfl⟩)

set_option maxHeartbeats 1000000 in
theorem m_X1_dependsOn_no2 {l : Launch} {G : zG} {h : zH} {n : Nat} {t : Nat} {x1 x2 x3 x4 x5 x6 : Value} {w : Nat → Int32} {v : Nat → Int64} {R S D a lr ls lv : Nat} {ra sa va : Nat → Nat} {k : Nat} {x : Int32} (hX : h t = some (.inr (0, [.ref a, x1, x2, x3, x4, x5, x6]))) (hL : z_Ln G h w v R S D a lr ls lv ra sa va) (hk : k < S) (hS8 : S ≤ 8) (hx : tw_isS S x = false) : z_C l G yX1_dependsOn 10 4 24 [.ref t, .int (nI k), .int x] h n (z_tf 28 [] h n) := by
  refine z_start zk_X1_dependsOn zpl_RX1 (Nat.le_of_ble_eq_true rfl) ?_
  intro hn0 M hl hG ho hb hN hr hm hH hrm hQ
  subst hl hG
  have ho : zm_o M = RX1 := ho
  obtain ⟨h1, ⟨e0, N0, m0, f0, r1, r2, r3, ⟨r4, r4n⟩, r5⟩, ⟨e, N, m9, f, h3, h4, h5, ⟨h6, h6n⟩, h7⟩, ⟨ev, Nv, mv, fv, v1, v2, v3, ⟨v4, v4n⟩, v5⟩, h9, hs, hv, hi, hrI⟩ := id hL
  show z_V M h n 4 24 0 [(0, .ref t), (1, .int (nI k)), (2, .int x)] []
  refine z_dom (fun hD0 => ?_)
  refine z_aload_n hb dX1_dependsOn_0 rfl ?_
  refine z_get (k := 0) (C := RX1) (T := TX1) (N := 7) hb ho zc0 in_X1 (zf_RX1_41 _) dX1_dependsOn_1 hX (by decide) rfl ?_
  refine z_iload_n hb dX1_dependsOn_4 rfl ?_
  refine z_call1 (b' := 3) (f' := 18) (rest := []) (av := [.ref a, .int (nI k)]) (z_siteV hb ho zc1 h1 q1842 q1506 q1507 ⟨_, _, _, _, zk_X2_step⟩ zy_X2_step zl_X2_step dX1_dependsOn_5 : z_Site M _ _ _ _ _ ([.int (nI k)].reverse ++ .ref a :: []) [] _) zk_X2_step q95 hrm (m_X2_step hL hS8 hk) (by omega) (by decide) (Nat.le_of_ble_eq_true rfl) (by omega) (by omega) ?_
  refine z_astore_n (lv' := [(3, .ref (sa k)), (0, .ref t), (1, .int (nI k)), (2, .int x)]) hb dX1_dependsOn_8 (by rw [hN]; decide) rfl ?_
  refine z_aload_n hb dX1_dependsOn_9 rfl ?_
  refine z_aload_n hb dX1_dependsOn_10 rfl ?_
  refine z_get (k := 0) (C := RX1) (T := TX1) (N := 7) hb ho zc0 in_X1 (zf_RX1_41 _) dX1_dependsOn_11 hX (by decide) rfl ?_
  refine z_iload_n hb dX1_dependsOn_14 rfl ?_
  refine z_callTf (b' := 2) (f' := 12) (rest := [.ref (sa k)]) (av := [.ref a, .int x]) (z_siteV hb ho zc1 h1 q1842 q1506 q1507 ⟨_, _, _, _, zk_X2_step⟩ zy_X2_step zl_X2_step dX1_dependsOn_15 : z_Site M _ _ _ _ _ ([.int x].reverse ++ .ref a :: [.ref (sa k)]) [.ref (sa k)] _) zk_X2_step q95 hrm (z_C.tf (m_X2_step_no hL hS8 hx)) (by omega) (by decide) (Nat.le_of_ble_eq_true rfl) (by omega) (by omega) (fun q_1 n_2 hq_1 hn_2 => ?_)
  exact z_out ho hH zc28 z_up_s (by omega) (fun _ h => nomatch h) (by rw [hQ]; exact ⟨_, rfl, by omega, by omega, rfl⟩)

