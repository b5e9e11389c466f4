/-! marks -/
def z_mor (Mk : Nat → Bool) (a : Nat) : Nat → Bool
  | 0 => false
  | e + 1 => z_mor Mk a e || Mk (7 * a + e)
/-- whether a row of the day dq and the amount aq is marked at a step and a day -/
def z_im (w : Nat → Int32) (Mk : Nat → Bool) (k d : Nat) (dq aq : Int32) : Bool :=
  if tw_base w k then decide (dq = nI d) && decide (w (176 + 4 * k + 1) ≤ aq) else
  if w (176 + 4 * k) = nI 107 then Mk (7 * tw_f w k + d) else
  if w (176 + 4 * k) = nI 114 then z_mor Mk (tw_f w k) (d + 1) else Mk (7 * tw_f w k + d) || Mk (7 * tw_s w k + d)
def z_mt2 (w : Nat → Int32) (dq aq : Int32) (k : Nat) (Mk : Nat → Bool) : Nat → (Nat → Bool)
  | 0 => Mk
  | d + 1 => va_up (z_mt2 w dq aq k Mk d) (7 * k + d) (z_im w (z_mt2 w dq aq k Mk d) k d dq aq)
def z_mt (w : Nat → Int32) (D : Nat) (dq aq : Int32) : Nat → (Nat → Bool)
  | 0 => fun _ => false
  | k + 1 => z_mt2 w dq aq k (z_mt w D dq aq k) (D + 1)
def z_mc (Mk : Nat → Bool) : Nat → Nat
  | 0 => 0
  | i + 1 => z_mc Mk i + (Mk i).toNat
theorem z_mc_le {Mk : Nat → Bool} : ∀ n, z_mc Mk n ≤ n
  | 0 => Nat.le_refl _
  | n + 1 => by
    have := z_mc_le (Mk := Mk) n
    rw [z_mc]
    cases Mk n <;> simp <;> omega
theorem z_bup {F : Nat → Bool} {j : Nat} {c : Bool} : va_up (fun y => z_b (F y)) j (z_b c) = fun y => z_b (va_up F j c y) := by
  funext y
  unfold va_up
  split <;> rfl
section ZIM
variable {w : Nat → Int32} {Mk : Nat → Bool} {k d : Nat} {dq aq : Int32}
theorem z_im_b (h : tw_base w k = true) : z_im w Mk k d dq aq = (decide (dq = nI d) && decide (w (176 + 4 * k + 1) ≤ aq)) := by unfold z_im; rw [if_pos h]
theorem z_im_k (h : w (176 + 4 * k) = nI 107) : z_im w Mk k d dq aq = Mk (7 * tw_f w k + d) := by
  unfold z_im; rw [z_kn h (by simp), h, if_neg (by decide), if_pos rfl]
theorem z_im_r (h : w (176 + 4 * k) = nI 114) : z_im w Mk k d dq aq = z_mor Mk (tw_f w k) (d + 1) := by
  unfold z_im; rw [z_kn h (by simp), h, if_neg (by decide), if_neg (by decide), if_pos rfl]
theorem z_im_p {kd : Nat} (h : w (176 + 4 * k) = nI kd) (hc : kd = 43 ∨ kd = 45) : z_im w Mk k d dq aq = (Mk (7 * tw_f w k + d) || Mk (7 * tw_s w k + d)) := by
  unfold z_im; rw [z_kn h (by omega), h]
  rcases hc with rfl | rfl <;> rw [if_neg (by decide), if_neg (by decide), if_neg (by decide)]
end ZIM
theorem z_exT {h0 h1 h2 : zH} {n0 t : Nat} (d : z_dm h0 n0) (hb : n0 ≤ t) (a : z_ex h0 h1) (b : z_fr (fun y => y = t) h1 h2) : z_ex h0 h2 := fun y c q => b y c (a y c q) fun z => by
  have := d y c q
  omega
def z_ym : Nat → MethodName
  | 11 => yX14_isMarked
  | 12 => yX16_isMarked
  | 13 => yX17_isMarked
  | _ => yX10_isMarked

set_option maxHeartbeats 1000000 in
theorem m_X19_has {l : Launch} {G : zG} {h : zH} {n : Nat} {w : Nat → Int32} {v : Nat → Int64} {R S D a lr ls lv : Nat} {ra sa va : Nat → Nat} {t eb k d : Nat} {Mk : Nat → Bool} (hL : z_Ln G h w v R S D a lr ls lv ra sa va) (hS8 : S ≤ 8) (hD6 : D ≤ 6) (htc : h t = some (.inr (15, [.ref ls, .ref eb]))) (heb : h eb = some (z_az G 56 (fun y => z_b (Mk y)))) (hk : k < S) (hd : d ≤ D) : z_C l G yX19_has 4 0 0 [.ref t, .ref (sa k), .int (nI d)] h n (z_rn (.int (z_b (Mk (7 * k + d)))) h) := by
  refine z_start zk_X19_has zpl_RX19 (Nat.le_of_ble_eq_true rfl) ?_
  intro hn0 M hl hG ho hb hN hr hm hH hrm hQ
  subst hl hG
  have ho : zm_o M = RX19 := ho
  obtain ⟨h1, ⟨e0, N0, m0, f0, r1, r2, r3, ⟨r4, r4n⟩, r5⟩, ⟨e, N, m9, f, h3, h4, h5, ⟨h6, h6n⟩, h7⟩, ⟨ev, Nv, mv, fv, v1, v2, v3, ⟨v4, v4n⟩, v5⟩, h9, hs, hv, hi, hrI⟩ := id hL
  show z_V M h n 0 0 0 [(0, .ref t), (1, .ref (sa k)), (2, .int (nI d))] []
  refine z_dom (fun hD0 => ?_)
  refine z_aload_n hb dX19_has_0 rfl ?_
  refine z_get (k := 1) (C := RX19) (T := TX19) (N := 2) hb ho zc15 in_X19 (zf_RX19_9 _) dX19_has_1 htc (by decide) rfl ?_
  refine z_bipush (x := nI 7) hb dX19_has_4 (by decide) ?_
  refine z_aload_n hb dX19_has_6 rfl ?_
  refine z_get (k := 0) (C := RX19) (T := TX19) (N := 2) hb ho zc15 in_X19 (zf_RX19_21 _) dX19_has_7 htc (by decide) rfl ?_
  refine z_aload_n hb dX19_has_10 rfl ?_
  refine z_callN1 (b' := 0) (f' := 0) (rest := [.int (nI 7), .ref eb]) (av := [.ref ls, .ref (sa k)]) (z_siteF hb ho zc20 h3 q2004 zx5 q608 q610 q611 q609 q321 zxl5 dX19_has_11 : z_Site M _ _ _ _ _ ([.ref (sa k)].reverse ++ .ref ls :: [.int (nI 7), .ref eb]) [.int (nI 7), .ref eb] _) zk_J2_indexOf q98 hrm (m_lsIndexOf hL hk) (by omega) (by decide) (Nat.le_of_ble_eq_true rfl) (by omega) (by omega) (fun n_1 hn_1 => ?_)
  refine z_imul hb dX19_has_16 ?_
  refine z_toI (y := nI (7 * k)) (pk_mul 7 k) ?_
  refine z_iload_n hb dX19_has_17 rfl ?_
  refine z_iadd hb dX19_has_18 ?_
  refine z_toI (y := nI (7 * k + d)) (nI_add (7 * k) d) ?_
  refine z_zald (j := 7 * k + d) hb dX19_has_19 heb rfl (by omega) (by omega) ?_
  refine z_toI (y := z_b (Mk (7 * k + d))) rfl ?_
  refine z_zret hb hr (z_bnar _) dX19_has_20 ?_
  rw [hQ]
  exact ⟨rfl, rfl⟩

set_option maxHeartbeats 1000000 in
theorem m_X10_isMarked_8 {l : Launch} {G : zG} {h : zH} {n : Nat} {w : Nat → Int32} {v : Nat → Int64} {R S D a lr ls lv : Nat} {ra sa va : Nat → Nat} {t eb q k d : Nat} {Mk : Nat → Bool} {nu dq gq aq : Int32} (hL : z_Ln G h w v R S D a lr ls lv ra sa va) (hS8 : S ≤ 8) (hD6 : D ≤ 6) (htc : h t = some (.inr (15, [.ref ls, .ref eb]))) (heb : h eb = some (z_az G 56 (fun y => z_b (Mk y)))) (hq9 : h q = some (.inr (6, [.int nu, .int dq, .int gq, .int aq]))) (hd : d ≤ D) (hx : h (sa k) = some (.inr (8, [.int (w (176 + 4 * k + 1)), .int (nI 115)]))) (hkd : w (176 + 4 * k) = nI 115) : z_C l G yX10_isMarked 8 0 0 [.ref (sa k), .ref q, .ref t, .int (nI d)] h n (z_rn (.int (z_b (z_im w Mk k d dq aq))) h) := by
  refine z_start zk_X10_isMarked zpl_RX10 (Nat.le_of_ble_eq_true rfl) ?_
  intro hn0 M hl hG ho hb hN hr hm hH hrm hQ
  subst hl hG
  have ho : zm_o M = RX10 := ho
  obtain ⟨h1, ⟨e0, N0, m0, f0, r1, r2, r3, ⟨r4, r4n⟩, r5⟩, ⟨e, N, m9, f, h3, h4, h5, ⟨h6, h6n⟩, h7⟩, ⟨ev, Nv, mv, fv, v1, v2, v3, ⟨v4, v4n⟩, v5⟩, h9, hs, hv, hi, hrI⟩ := id hL
  show z_V M h n 0 0 0 [(0, .ref (sa k)), (1, .ref q), (2, .ref t), (3, .int (nI d))] []
  refine z_dom (fun hD0 => ?_)
  refine z_aload_n hb dX10_isMarked_0 rfl ?_
  refine z_get (k := 1) (C := RX7) (T := TX7) (N := 4) hb ho zc6 in_X7 (zf_RX10_54 _) dX10_isMarked_1 hq9 (by decide) rfl ?_
  refine z_iload_n hb dX10_isMarked_4 rfl ?_
  refine z_icmp_ne (tgt := 20) hb dX10_isMarked_5 (by decide) (fun c_5 => ?_) (fun c_5 => ?_)
  · refine z_iconst (x := nI 0) hb dX10_isMarked_20 (by decide) ?_
    refine z_zret hb hr rfl dX10_isMarked_21 ?_
    rw [hQ]
    exact z_rn_e (by rw [z_im_b (z_kb hkd (by simp)), decide_eq_false c_5]; rfl)
  · refine z_aload_n hb dX10_isMarked_8 rfl ?_
    refine z_aload_n hb dX10_isMarked_9 rfl ?_
    refine z_call1 (b' := 0) (f' := 0) (rest := []) (av := [.ref (sa k), .ref q]) (z_siteV hb ho zc8 hx q717 q718 q722 ⟨_, _, _, _, zk_X10_takes⟩ zy_X10_takes zl_X10_takes dX10_isMarked_10 : z_Site M _ _ _ _ _ ([.ref q].reverse ++ .ref (sa k) :: []) [] _) zk_X10_takes q128 hrm (m_X10_takes_8 hx hq9) (by omega) (by decide) (Nat.le_of_ble_eq_true rfl) (by omega) (by omega) ?_
    refine z_ifb_eq (tgt := 20) hb dX10_isMarked_13 (by decide) (fun c_13 => ?_) (fun c_13 => ?_)
    · refine z_iconst (x := nI 0) hb dX10_isMarked_20 (by decide) ?_
      refine z_zret hb hr rfl dX10_isMarked_21 ?_
      rw [hQ]
      exact z_rn_e (by rw [z_im_b (z_kb hkd (by simp)), decide_eq_true c_5, c_13]; rfl)
    · refine z_iconst (x := nI 1) hb dX10_isMarked_16 (by decide) ?_
      refine z_goto (tgt := 21) hb dX10_isMarked_17 (by decide) ?_
      refine z_zret hb hr rfl dX10_isMarked_21 ?_
      rw [hQ]
      exact z_rn_e (by rw [z_im_b (z_kb hkd (by simp)), decide_eq_true c_5, c_13]; rfl)

set_option maxHeartbeats 1000000 in
theorem m_X10_isMarked_9 {l : Launch} {G : zG} {h : zH} {n : Nat} {w : Nat → Int32} {v : Nat → Int64} {R S D a lr ls lv : Nat} {ra sa va : Nat → Nat} {t eb q k d : Nat} {Mk : Nat → Bool} {nu dq gq aq : Int32} (hL : z_Ln G h w v R S D a lr ls lv ra sa va) (hS8 : S ≤ 8) (hD6 : D ≤ 6) (htc : h t = some (.inr (15, [.ref ls, .ref eb]))) (heb : h eb = some (z_az G 56 (fun y => z_b (Mk y)))) (hq9 : h q = some (.inr (6, [.int nu, .int dq, .int gq, .int aq]))) (hd : d ≤ D) (hx : h (sa k) = some (.inr (9, [.int (w (176 + 4 * k + 1)), .int (nI 110)]))) (hkd : w (176 + 4 * k) = nI 110) : z_C l G yX10_isMarked 8 0 0 [.ref (sa k), .ref q, .ref t, .int (nI d)] h n (z_rn (.int (z_b (z_im w Mk k d dq aq))) h) := by
  refine z_start zk_X10_isMarked zpl_RX10 (Nat.le_of_ble_eq_true rfl) ?_
  intro hn0 M hl hG ho hb hN hr hm hH hrm hQ
  subst hl hG
  have ho : zm_o M = RX10 := ho
  obtain ⟨h1, ⟨e0, N0, m0, f0, r1, r2, r3, ⟨r4, r4n⟩, r5⟩, ⟨e, N, m9, f, h3, h4, h5, ⟨h6, h6n⟩, h7⟩, ⟨ev, Nv, mv, fv, v1, v2, v3, ⟨v4, v4n⟩, v5⟩, h9, hs, hv, hi, hrI⟩ := id hL
  show z_V M h n 0 0 0 [(0, .ref (sa k)), (1, .ref q), (2, .ref t), (3, .int (nI d))] []
  refine z_dom (fun hD0 => ?_)
  refine z_aload_n hb dX10_isMarked_0 rfl ?_
  refine z_get (k := 1) (C := RX7) (T := TX7) (N := 4) hb ho zc6 in_X7 (zf_RX10_54 _) dX10_isMarked_1 hq9 (by decide) rfl ?_
  refine z_iload_n hb dX10_isMarked_4 rfl ?_
  refine z_icmp_ne (tgt := 20) hb dX10_isMarked_5 (by decide) (fun c_5 => ?_) (fun c_5 => ?_)
  · refine z_iconst (x := nI 0) hb dX10_isMarked_20 (by decide) ?_
    refine z_zret hb hr rfl dX10_isMarked_21 ?_
    rw [hQ]
    exact z_rn_e (by rw [z_im_b (z_kb hkd (by simp)), decide_eq_false c_5]; rfl)
  · refine z_aload_n hb dX10_isMarked_8 rfl ?_
    refine z_aload_n hb dX10_isMarked_9 rfl ?_
    refine z_call1 (b' := 0) (f' := 0) (rest := []) (av := [.ref (sa k), .ref q]) (z_siteV hb ho zc9 hx q717 q718 q720 ⟨_, _, _, _, zk_X10_takes⟩ zy_X10_takes zl_X10_takes dX10_isMarked_10 : z_Site M _ _ _ _ _ ([.ref q].reverse ++ .ref (sa k) :: []) [] _) zk_X10_takes q128 hrm (m_X10_takes_9 hx hq9) (by omega) (by decide) (Nat.le_of_ble_eq_true rfl) (by omega) (by omega) ?_
    refine z_ifb_eq (tgt := 20) hb dX10_isMarked_13 (by decide) (fun c_13 => ?_) (fun c_13 => ?_)
    · refine z_iconst (x := nI 0) hb dX10_isMarked_20 (by decide) ?_
      refine z_zret hb hr rfl dX10_isMarked_21 ?_
      rw [hQ]
      exact z_rn_e (by rw [z_im_b (z_kb hkd (by simp)), decide_eq_true c_5, c_13]; rfl)
    · refine z_iconst (x := nI 1) hb dX10_isMarked_16 (by decide) ?_
      refine z_goto (tgt := 21) hb dX10_isMarked_17 (by decide) ?_
      refine z_zret hb hr rfl dX10_isMarked_21 ?_
      rw [hQ]
      exact z_rn_e (by rw [z_im_b (z_kb hkd (by simp)), decide_eq_true c_5, c_13]; rfl)

set_option maxHeartbeats 1000000 in
theorem m_X10_isMarked_10 {l : Launch} {G : zG} {h : zH} {n : Nat} {w : Nat → Int32} {v : Nat → Int64} {R S D a lr ls lv : Nat} {ra sa va : Nat → Nat} {t eb q k d : Nat} {Mk : Nat → Bool} {nu dq gq aq : Int32} (hL : z_Ln G h w v R S D a lr ls lv ra sa va) (hS8 : S ≤ 8) (hD6 : D ≤ 6) (htc : h t = some (.inr (15, [.ref ls, .ref eb]))) (heb : h eb = some (z_az G 56 (fun y => z_b (Mk y)))) (hq9 : h q = some (.inr (6, [.int nu, .int dq, .int gq, .int aq]))) (hd : d ≤ D) (hx : h (sa k) = some (.inr (10, [.int (w (176 + 4 * k + 1)), .int (nI 120)]))) (hkd : w (176 + 4 * k) = nI 120) : z_C l G yX10_isMarked 8 0 0 [.ref (sa k), .ref q, .ref t, .int (nI d)] h n (z_rn (.int (z_b (z_im w Mk k d dq aq))) h) := by
  refine z_start zk_X10_isMarked zpl_RX10 (Nat.le_of_ble_eq_true rfl) ?_
  intro hn0 M hl hG ho hb hN hr hm hH hrm hQ
  subst hl hG
  have ho : zm_o M = RX10 := ho
  obtain ⟨h1, ⟨e0, N0, m0, f0, r1, r2, r3, ⟨r4, r4n⟩, r5⟩, ⟨e, N, m9, f, h3, h4, h5, ⟨h6, h6n⟩, h7⟩, ⟨ev, Nv, mv, fv, v1, v2, v3, ⟨v4, v4n⟩, v5⟩, h9, hs, hv, hi, hrI⟩ := id hL
  show z_V M h n 0 0 0 [(0, .ref (sa k)), (1, .ref q), (2, .ref t), (3, .int (nI d))] []
  refine z_dom (fun hD0 => ?_)
  refine z_aload_n hb dX10_isMarked_0 rfl ?_
  refine z_get (k := 1) (C := RX7) (T := TX7) (N := 4) hb ho zc6 in_X7 (zf_RX10_54 _) dX10_isMarked_1 hq9 (by decide) rfl ?_
  refine z_iload_n hb dX10_isMarked_4 rfl ?_
  refine z_icmp_ne (tgt := 20) hb dX10_isMarked_5 (by decide) (fun c_5 => ?_) (fun c_5 => ?_)
  · refine z_iconst (x := nI 0) hb dX10_isMarked_20 (by decide) ?_
    refine z_zret hb hr rfl dX10_isMarked_21 ?_
    rw [hQ]
    exact z_rn_e (by rw [z_im_b (z_kb hkd (by simp)), decide_eq_false c_5]; rfl)
  · refine z_aload_n hb dX10_isMarked_8 rfl ?_
    refine z_aload_n hb dX10_isMarked_9 rfl ?_
    refine z_call1 (b' := 0) (f' := 0) (rest := []) (av := [.ref (sa k), .ref q]) (z_siteV hb ho zc10 hx q717 q718 q721 ⟨_, _, _, _, zk_X10_takes⟩ zy_X10_takes zl_X10_takes dX10_isMarked_10 : z_Site M _ _ _ _ _ ([.ref q].reverse ++ .ref (sa k) :: []) [] _) zk_X10_takes q128 hrm (m_X10_takes_10 hx hq9) (by omega) (by decide) (Nat.le_of_ble_eq_true rfl) (by omega) (by omega) ?_
    refine z_ifb_eq (tgt := 20) hb dX10_isMarked_13 (by decide) (fun c_13 => ?_) (fun c_13 => ?_)
    · refine z_iconst (x := nI 0) hb dX10_isMarked_20 (by decide) ?_
      refine z_zret hb hr rfl dX10_isMarked_21 ?_
      rw [hQ]
      exact z_rn_e (by rw [z_im_b (z_kb hkd (by simp)), decide_eq_true c_5, c_13]; rfl)
    · refine z_iconst (x := nI 1) hb dX10_isMarked_16 (by decide) ?_
      refine z_goto (tgt := 21) hb dX10_isMarked_17 (by decide) ?_
      refine z_zret hb hr rfl dX10_isMarked_21 ?_
      rw [hQ]
      exact z_rn_e (by rw [z_im_b (z_kb hkd (by simp)), decide_eq_true c_5, c_13]; rfl)

set_option maxHeartbeats 1000000 in
theorem m_X14_isMarked {l : Launch} {G : zG} {h : zH} {n : Nat} {w : Nat → Int32} {v : Nat → Int64} {R S D a lr ls lv : Nat} {ra sa va : Nat → Nat} {t eb q k d : Nat} {Mk : Nat → Bool} {nu dq gq aq : Int32} {kd : Nat} {s9 : Int32} (hL : z_Ln G h w v R S D a lr ls lv ra sa va) (hS8 : S ≤ 8) (hD6 : D ≤ 6) (htc : h t = some (.inr (15, [.ref ls, .ref eb]))) (heb : h eb = some (z_az G 56 (fun y => z_b (Mk y)))) (hq9 : h q = some (.inr (6, [.int nu, .int dq, .int gq, .int aq]))) (hd : d ≤ D) (hk : k < S) (hf : tw_f w k < k) (hs2 : tw_s w k < k) (hx : h (sa k) = some (.inr (11, [.int (nI kd), .ref (sa (tw_f w k)), .ref (sa (tw_s w k)), .int s9]))) (hkd : w (176 + 4 * k) = nI kd) (hkc : kd = 43 ∨ kd = 45) : z_C l G yX14_isMarked 8 0 0 [.ref (sa k), .ref q, .ref t, .int (nI d)] h n (z_rn (.int (z_b (z_im w Mk k d dq aq))) h) := by
  refine z_start zk_X14_isMarked zpl_RX14 (Nat.le_of_ble_eq_true rfl) ?_
  intro hn0 M hl hG ho hb hN hr hm hH hrm hQ
  subst hl hG
  have ho : zm_o M = RX14 := ho
  obtain ⟨h1, ⟨e0, N0, m0, f0, r1, r2, r3, ⟨r4, r4n⟩, r5⟩, ⟨e, N, m9, f, h3, h4, h5, ⟨h6, h6n⟩, h7⟩, ⟨ev, Nv, mv, fv, v1, v2, v3, ⟨v4, v4n⟩, v5⟩, h9, hs, hv, hi, hrI⟩ := id hL
  show z_V M h n 0 0 0 [(0, .ref (sa k)), (1, .ref q), (2, .ref t), (3, .int (nI d))] []
  refine z_dom (fun hD0 => ?_)
  refine z_aload_n hb dX14_isMarked_0 rfl ?_
  refine z_aload_n hb dX14_isMarked_1 rfl ?_
  refine z_get (k := 1) (C := RX14) (T := TX14) (N := 4) hb ho zc11 in_X14 (zf_RX14_7 _) dX14_isMarked_2 hx (by decide) rfl ?_
  refine z_iload_n hb dX14_isMarked_5 rfl ?_
  refine z_callN1 (b' := 0) (f' := 0) (rest := []) (av := [.ref t, .ref (sa (tw_f w k)), .int (nI d)]) (z_siteV hb ho zc15 htc q2012 q2000 q2001 ⟨_, _, _, _, zk_X19_has⟩ zy_X19_has zl_X19_has dX14_isMarked_6 : z_Site M _ _ _ _ _ ([.ref (sa (tw_f w k)), .int (nI d)].reverse ++ .ref t :: []) [] _) zk_X19_has q142 hrm (m_X19_has hL hS8 hD6 htc heb (show tw_f w k < S by omega) (show d ≤ D by omega)) (by omega) (by decide) (Nat.le_of_ble_eq_true rfl) (by omega) (by omega) (fun n_1 hn_1 => ?_)
  refine z_ifb_ne (tgt := 24) hb dX14_isMarked_9 (by decide) (fun c_9 => ?_) (fun c_9 => ?_)
  · refine z_iconst (x := nI 1) hb dX14_isMarked_24 (by decide) ?_
    refine z_goto (tgt := 29) hb dX14_isMarked_25 (by decide) ?_
    refine z_zret hb hr rfl dX14_isMarked_29 ?_
    rw [hQ]
    exact z_rn_e (by rw [z_im_p hkd hkc, c_9]; rfl)
  · refine z_aload_n hb dX14_isMarked_12 rfl ?_
    refine z_aload_n hb dX14_isMarked_13 rfl ?_
    refine z_get (k := 2) (C := RX14) (T := TX14) (N := 4) hb ho zc11 in_X14 (zf_RX14_13 _) dX14_isMarked_14 hx (by decide) rfl ?_
    refine z_iload_n hb dX14_isMarked_17 rfl ?_
    refine z_callN1 (b' := 0) (f' := 0) (rest := []) (av := [.ref t, .ref (sa (tw_s w k)), .int (nI d)]) (z_siteV hb ho zc15 htc q2012 q2000 q2001 ⟨_, _, _, _, zk_X19_has⟩ zy_X19_has zl_X19_has dX14_isMarked_18 : z_Site M _ _ _ _ _ ([.ref (sa (tw_s w k)), .int (nI d)].reverse ++ .ref t :: []) [] _) zk_X19_has q142 hrm (m_X19_has hL hS8 hD6 htc heb (show tw_s w k < S by omega) (show d ≤ D by omega)) (by omega) (by decide) (Nat.le_of_ble_eq_true rfl) (by omega) (by omega) (fun n_2 hn_2 => ?_)
    refine z_ifb_eq (tgt := 28) hb dX14_isMarked_21 (by decide) (fun c_21 => ?_) (fun c_21 => ?_)
    · refine z_iconst (x := nI 0) hb dX14_isMarked_28 (by decide) ?_
      refine z_zret hb hr rfl dX14_isMarked_29 ?_
      rw [hQ]
      exact z_rn_e (by rw [z_im_p hkd hkc, c_9, c_21]; rfl)
    · refine z_iconst (x := nI 1) hb dX14_isMarked_24 (by decide) ?_
      refine z_goto (tgt := 29) hb dX14_isMarked_25 (by decide) ?_
      refine z_zret hb hr rfl dX14_isMarked_29 ?_
      rw [hQ]
      exact z_rn_e (by rw [z_im_p hkd hkc, c_9, c_21]; rfl)

set_option maxHeartbeats 1000000 in
theorem m_X17_isMarked {l : Launch} {G : zG} {h : zH} {n : Nat} {w : Nat → Int32} {v : Nat → Int64} {R S D a lr ls lv : Nat} {ra sa va : Nat → Nat} {t eb q k d : Nat} {Mk : Nat → Bool} {nu dq gq aq : Int32} (hL : z_Ln G h w v R S D a lr ls lv ra sa va) (hS8 : S ≤ 8) (hD6 : D ≤ 6) (htc : h t = some (.inr (15, [.ref ls, .ref eb]))) (heb : h eb = some (z_az G 56 (fun y => z_b (Mk y)))) (hq9 : h q = some (.inr (6, [.int nu, .int dq, .int gq, .int aq]))) (hd : d ≤ D) (hk : k < S) (hf : tw_f w k < k) (hx : h (sa k) = some (.inr (13, [.ref (sa (tw_f w k)), .int (nI 107), .int (w (176 + 4 * k + 1))]))) (hkd : w (176 + 4 * k) = nI 107) : z_C l G yX17_isMarked 8 0 0 [.ref (sa k), .ref q, .ref t, .int (nI d)] h n (z_rn (.int (z_b (z_im w Mk k d dq aq))) h) := by
  refine z_start zk_X17_isMarked zpl_RX17 (Nat.le_of_ble_eq_true rfl) ?_
  intro hn0 M hl hG ho hb hN hr hm hH hrm hQ
  subst hl hG
  have ho : zm_o M = RX17 := ho
  obtain ⟨h1, ⟨e0, N0, m0, f0, r1, r2, r3, ⟨r4, r4n⟩, r5⟩, ⟨e, N, m9, f, h3, h4, h5, ⟨h6, h6n⟩, h7⟩, ⟨ev, Nv, mv, fv, v1, v2, v3, ⟨v4, v4n⟩, v5⟩, h9, hs, hv, hi, hrI⟩ := id hL
  show z_V M h n 0 0 0 [(0, .ref (sa k)), (1, .ref q), (2, .ref t), (3, .int (nI d))] []
  refine z_dom (fun hD0 => ?_)
  refine z_aload_n hb dX17_isMarked_0 rfl ?_
  refine z_aload_n hb dX17_isMarked_1 rfl ?_
  refine z_call1 (b' := 0) (f' := 0) (rest := [.ref t]) (av := [.ref (sa k)]) (z_siteU hb ho zc13 hx q687 q688 (Or.inl q689) q691 q690 ⟨by decide +kernel, by decide +kernel⟩ (by show _ = some 0; decide +kernel) dX17_isMarked_2 : z_Site M _ _ _ _ _ ([].reverse ++ .ref (sa k) :: [.ref t]) [.ref t] _) zk_X15_input q134 hrm (m_X15_input_13 hx) (by omega) (by decide) (Nat.le_of_ble_eq_true rfl) (by omega) (by omega) ?_
  refine z_iload_n hb dX17_isMarked_5 rfl ?_
  refine z_callN1 (b' := 0) (f' := 0) (rest := []) (av := [.ref t, .ref (sa (tw_f w k)), .int (nI d)]) (z_siteV hb ho zc15 htc q1999 q2000 q2001 ⟨_, _, _, _, zk_X19_has⟩ zy_X19_has zl_X19_has dX17_isMarked_6 : z_Site M _ _ _ _ _ ([.ref (sa (tw_f w k)), .int (nI d)].reverse ++ .ref t :: []) [] _) zk_X19_has q142 hrm (m_X19_has hL hS8 hD6 htc heb (show tw_f w k < S by omega) (show d ≤ D by omega)) (by omega) (by decide) (Nat.le_of_ble_eq_true rfl) (by omega) (by omega) (fun n_1 hn_1 => ?_)
  refine z_zret hb hr (z_bnar _) dX17_isMarked_9 ?_
  rw [hQ]
  exact z_rn_e (by rw [z_im_k hkd])

set_option maxHeartbeats 1000000 in
theorem m_X16_isMarked {l : Launch} {G : zG} {h : zH} {n : Nat} {w : Nat → Int32} {v : Nat → Int64} {R S D a lr ls lv : Nat} {ra sa va : Nat → Nat} {t eb q k d : Nat} {Mk : Nat → Bool} {nu dq gq aq : Int32} (hL : z_Ln G h w v R S D a lr ls lv ra sa va) (hS8 : S ≤ 8) (hD6 : D ≤ 6) (htc : h t = some (.inr (15, [.ref ls, .ref eb]))) (heb : h eb = some (z_az G 56 (fun y => z_b (Mk y)))) (hq9 : h q = some (.inr (6, [.int nu, .int dq, .int gq, .int aq]))) (hd : d ≤ D) (hk : k < S) (hf : tw_f w k < k) (hx : h (sa k) = some (.inr (12, [.ref (sa (tw_f w k)), .int (nI 114)]))) (hkd : w (176 + 4 * k) = nI 114) : z_C l G yX16_isMarked 8 0 0 [.ref (sa k), .ref q, .ref t, .int (nI d)] h n (z_rn (.int (z_b (z_im w Mk k d dq aq))) h) := by
  refine z_start zk_X16_isMarked zpl_RX16 (Nat.le_of_ble_eq_true rfl) ?_
  intro hn0 M hl hG ho hb hN hr hm hH hrm hQ
  subst hl hG
  have ho : zm_o M = RX16 := ho
  obtain ⟨h1, ⟨e0, N0, m0, f0, r1, r2, r3, ⟨r4, r4n⟩, r5⟩, ⟨e, N, m9, f, h3, h4, h5, ⟨h6, h6n⟩, h7⟩, ⟨ev, Nv, mv, fv, v1, v2, v3, ⟨v4, v4n⟩, v5⟩, h9, hs, hv, hi, hrI⟩ := id hL
  show z_V M h n 0 0 0 [(0, .ref (sa k)), (1, .ref q), (2, .ref t), (3, .int (nI d))] []
  refine z_dom (fun hD0 => ?_)
  refine z_iconst (x := nI 0) hb dX16_isMarked_0 (by decide) ?_
  refine z_istore (lv' := [(4, .int (nI 0)), (0, .ref (sa k)), (1, .ref q), (2, .ref t), (3, .int (nI d))]) hb dX16_isMarked_1 (by rw [hN]; decide) rfl ?_
  refine z_iconst (x := nI 0) hb dX16_isMarked_3 (by decide) ?_
  refine z_istore (lv' := [(5, .int (nI 0)), (4, .int (nI 0)), (0, .ref (sa k)), (1, .ref q), (2, .ref t), (3, .int (nI d))]) hb dX16_isMarked_4 (by rw [hN]; decide) rfl ?_
  have lp_6 : ∀ (k9_6 : Nat) (nno : Nat) (e : Nat), d + 2 - e < k9_6 → (n ≤ nno) → (e ≤ d + 1) → z_V M h nno 0 0 6 [(5, .int (nI e)), (4, .int (z_b (z_mor Mk (tw_f w k) e))), (0, .ref (sa k)), (1, .ref q), (2, .ref t), (3, .int (nI d))] [] := by
    intro k9_6
    induction k9_6 with
    | zero => intro nno e hk9_6; exact absurd hk9_6 (Nat.not_lt_zero _)
    | succ k9_6 ih_6 =>
      intro nno e hk9_6 hnno he
      refine z_iload hb dX16_isMarked_6 rfl ?_
      refine z_iload_n hb dX16_isMarked_8 rfl ?_
      refine z_icmp_gtN (tgt := 33) hb dX16_isMarked_9 (by decide) (by omega) (by omega) (fun c_9 => ?_) (fun c_9 => ?_)
      · refine z_iload hb dX16_isMarked_33 rfl ?_
        refine z_zret hb hr (z_bnar _) dX16_isMarked_35 ?_
        rw [hQ]
        obtain rfl : e = d + 1 := by omega
        exact z_rn_e (by rw [z_im_r hkd])
      · refine z_iload hb dX16_isMarked_12 rfl ?_
        refine z_aload_n hb dX16_isMarked_14 rfl ?_
        refine z_aload_n hb dX16_isMarked_15 rfl ?_
        refine z_call1 (b' := 0) (f' := 0) (rest := [.ref t, .int (z_b (z_mor Mk (tw_f w k) e))]) (av := [.ref (sa k)]) (z_siteU hb ho zc12 hx q751 q752 (Or.inl q689) q691 q753 ⟨by decide +kernel, by decide +kernel⟩ (by show _ = some 0; decide +kernel) dX16_isMarked_16 : z_Site M _ _ _ _ _ ([].reverse ++ .ref (sa k) :: [.ref t, .int (z_b (z_mor Mk (tw_f w k) e))]) [.ref t, .int (z_b (z_mor Mk (tw_f w k) e))] _) zk_X15_input q134 hrm (m_X15_input_12 hx) (by omega) (by decide) (Nat.le_of_ble_eq_true rfl) (by omega) (by omega) ?_
        refine z_iload hb dX16_isMarked_19 rfl ?_
        refine z_callN1 (b' := 0) (f' := 0) (rest := [.int (z_b (z_mor Mk (tw_f w k) e))]) (av := [.ref t, .ref (sa (tw_f w k)), .int (nI e)]) (z_siteV hb ho zc15 htc q2016 q2000 q2001 ⟨_, _, _, _, zk_X19_has⟩ zy_X19_has zl_X19_has dX16_isMarked_21 : z_Site M _ _ _ _ _ ([.ref (sa (tw_f w k)), .int (nI e)].reverse ++ .ref t :: [.int (z_b (z_mor Mk (tw_f w k) e))]) [.int (z_b (z_mor Mk (tw_f w k) e))] _) zk_X19_has q142 hrm (m_X19_has hL hS8 hD6 htc heb (show tw_f w k < S by omega) (show e ≤ D by omega)) (by omega) (by decide) (Nat.le_of_ble_eq_true rfl) (by omega) (by omega) (fun n_1 hn_1 => ?_)
        refine z_ior hb dX16_isMarked_24 ?_
        refine z_toI (y := z_b (z_mor Mk (tw_f w k) (e + 1))) (z_b_or _ _) ?_
        refine z_istore (lv' := [(4, .int (z_b (z_mor Mk (tw_f w k) (e + 1)))), (5, .int (nI e)), (0, .ref (sa k)), (1, .ref q), (2, .ref t), (3, .int (nI d))]) hb dX16_isMarked_25 (by rw [hN]; decide) rfl ?_
        refine z_iinc (k0 := 1) (lv' := [(5, .int (nI (e + 1))), (4, .int (z_b (z_mor Mk (tw_f w k) (e + 1)))), (0, .ref (sa k)), (1, .ref q), (2, .ref t), (3, .int (nI d))]) hb dX16_isMarked_27 rfl (nI_1 e) (by rw [hN]; decide) rfl ?_
        refine z_goto (tgt := 6) hb dX16_isMarked_30 (by decide) ?_
        refine z_lv [0, 1, 2, 3, 4, 5] (lv' := [(5, .int (nI (e + 1))), (4, .int (z_b (z_mor Mk (tw_f w k) (e + 1)))), (0, .ref (sa k)), (1, .ref q), (2, .ref t), (3, .int (nI d))]) rfl ?_
        exact ih_6 n_1 (e + 1) (by omega) (by omega) (by omega)
  refine z_lv [0, 1, 2, 3, 4, 5] (lv' := [(5, .int (nI 0)), (4, .int (nI 0)), (0, .ref (sa k)), (1, .ref q), (2, .ref t), (3, .int (nI d))]) rfl ?_
  exact lp_6 _ n 0 (Nat.lt_succ_self _) (by omega) (Nat.zero_le _)

theorem m_isMarked {l : Launch} {G : zG} {h : zH} {w : Nat → Int32} {v : Nat → Int64} {R S D a lr ls lv : Nat} {ra sa va : Nat → Nat} {t eb q k d : Nat} {Mk : Nat → Bool} {nu dq gq aq : Int32} (hL : z_Ln G h w v R S D a lr ls lv ra sa va) (hS8 : S ≤ 8) (hD6 : D ≤ 6) (htc : h t = some (.inr (15, [.ref ls, .ref eb]))) (heb : h eb = some (z_az G 56 (fun y => z_b (Mk y)))) (hq9 : h q = some (.inr (6, [.int nu, .int dq, .int gq, .int aq]))) (hd : d ≤ D) (hk : k < S) : ∀ ci fs, h (sa k) = some (.inr (ci, fs)) → ∀ n : Nat, z_C l G (z_ym ci) 8 0 0 [.ref (sa k), .ref q, .ref t, .int (nI d)] h n (z_rn (.int (z_b (z_im w Mk k d dq aq))) h) := by
  intro ci fs hx n
  obtain ⟨-, -, -, -, -, hs, -⟩ := id hL
  rcases hs k hk with ⟨qk, q⟩ | ⟨qk, q⟩ | ⟨qk, q⟩ | ⟨qk, g1, g2, q⟩ | ⟨qk, g1, g2, q⟩ | ⟨qk, g1, g2, q⟩ | ⟨qk, g1, g2, q⟩
  all_goals obtain ⟨rfl, rfl⟩ := z_inj hx q
  · exact m_X10_isMarked_8 hL hS8 hD6 htc heb hq9 hd hx qk
  · exact m_X10_isMarked_9 hL hS8 hD6 htc heb hq9 hd hx qk
  · exact m_X10_isMarked_10 hL hS8 hD6 htc heb hq9 hd hx qk
  · exact m_X14_isMarked hL hS8 hD6 htc heb hq9 hd hk g1 g2 hx qk (Or.inl rfl)
  · exact m_X14_isMarked hL hS8 hD6 htc heb hq9 hd hk g1 g2 hx qk (Or.inr rfl)
  · exact m_X16_isMarked hL hS8 hD6 htc heb hq9 hd hk g1 hx qk
  · exact m_X17_isMarked hL hS8 hD6 htc heb hq9 hd hk g1 hx qk

set_option maxHeartbeats 1000000 in
theorem m_X19_init {l : Launch} {G : zG} {h : zH} {n : Nat} {w : Nat → Int32} {v : Nat → Int64} {R S D a lr ls lv : Nat} {ra sa va : Nat → Nat} {t q : Nat} {nu dq gq aq : Int32} (hL : z_Ln G h w v R S D a lr ls lv ra sa va) (hS8 : S ≤ 8) (hD6 : D ≤ 6) (ht9 : h t = some (.inr (15, [.null, .null]))) (hnt : z_n0 G ≤ t) (htn : t < n) (hq9 : h q = some (.inr (6, [.int nu, .int dq, .int gq, .int aq]))) : z_C l G yX19_init 10 1 56 [.ref t, .ref a, .ref q] h n (z_q0 (fun h' n' => ∃ eb, h' t = some (.inr (15, [.ref ls, .ref eb])) ∧ h' eb = some (z_az G 56 (fun y => z_b (z_mt w D dq aq S y))) ∧ n ≤ eb ∧ z_fr (fun y => y = t) h h')) := by
  refine z_start zk_X19_init zpl_RX19 (Nat.le_of_ble_eq_true rfl) ?_
  intro hn0 M hl hG ho hb hN hr hm hH hrm hQ
  subst hl hG
  have ho : zm_o M = RX19 := ho
  obtain ⟨h1, ⟨e0, N0, m0, f0, r1, r2, r3, ⟨r4, r4n⟩, r5⟩, ⟨e, N, m9, f, h3, h4, h5, ⟨h6, h6n⟩, h7⟩, ⟨ev, Nv, mv, fv, v1, v2, v3, ⟨v4, v4n⟩, v5⟩, h9, hs, hv, hi, hrI⟩ := id hL
  show z_V M h n 1 56 0 [(0, .ref t), (1, .ref a), (2, .ref q)] []
  refine z_dom (fun hD0 => ?_)
  refine z_aload_n hb dX19_init_0 rfl ?_
  refine z_oinit hb ho hrm (by omega) q1987 q155 q156 (by decide) dX19_init_1 ?_
  refine z_aload_n hb dX19_init_4 rfl ?_
  refine z_bipush (x := nI 56) hb dX19_init_5 (by decide) ?_
  refine z_dom (fun hD_1 => ?_)
  refine z_newz (N := 56) (b' := 0) (f' := 0) hb q583 dX19_init_7 rfl (by omega) (by omega) (by omega) ?_
  refine z_hn (fun h_2 eh_2 => ?_)
  have eh_2 : h_2 = z_up h n (.inl ((zm_G M).2.1 2, 56, .inl (fun _ => 0))) := eh_2
  have k_3 : h_2 a = some (.inr (1, [.ref lr, .ref ls, .ref lv, .int (nI D), .int (w 2), .int (w 4), .int (w 5), .int (w 6)])) := z_nx eh_2 (Nat.ne_of_lt (hD_1 _ _ h1)) h1
  have k_4 : h_2 lr = some (.inr (20, [.int m0, .ref e0, .int (nI R)])) := z_nx eh_2 (Nat.ne_of_lt (hD_1 _ _ r1)) r1
  have k_5 : h_2 e0 = some (.inl ((zm_G M).2.1 5, N0, .inr (.inr (.inr (.inr f0))))) := z_nx eh_2 (Nat.ne_of_lt (hD_1 _ _ r2)) r2
  have k_6 : h_2 ls = some (.inr (20, [.int m9, .ref e, .int (nI S)])) := z_nx eh_2 (Nat.ne_of_lt (hD_1 _ _ h3)) h3
  have k_7 : h_2 e = some (.inl ((zm_G M).2.1 5, N, .inr (.inr (.inr (.inr f))))) := z_nx eh_2 (Nat.ne_of_lt (hD_1 _ _ h4)) h4
  have k_8 : h_2 lv = some (.inr (20, [.int mv, .ref ev, .int (nI S)])) := z_nx eh_2 (Nat.ne_of_lt (hD_1 _ _ v1)) v1
  have k_9 : h_2 ev = some (.inl ((zm_G M).2.1 5, Nv, .inr (.inr (.inr (.inr fv))))) := z_nx eh_2 (Nat.ne_of_lt (hD_1 _ _ v2)) v2
  have k_10 : h_2 t = some (.inr (15, [.null, .null])) := z_nx eh_2 (Nat.ne_of_lt (hD_1 _ _ ht9)) ht9
  have k_11 : h_2 q = some (.inr (6, [.int nu, .int dq, .int gq, .int aq])) := z_nx eh_2 (Nat.ne_of_lt (hD_1 _ _ hq9)) hq9
  refine z_put (k := 1) (C := RX19) (T := TX19) (N := 2) hb ho zc15 in_X19 tyX19_ok nmX19 (zf_RX19_9 _) dX19_init_9 k_10 hnt (by decide) (Or.inr ⟨hm, rfl⟩) rfl rfl rfl (Nat.le_of_ble_eq_true rfl) ?_
  refine z_hn (fun h_12 eh_12 => ?_)
  have eh_12 : h_12 = z_up h_2 t (.inr (15, [.null, .ref n])) := eh_12
  have k_13 : h_12 a = some (.inr (1, [.ref lr, .ref ls, .ref lv, .int (nI D), .int (w 2), .int (w 4), .int (w 5), .int (w 6)])) := z_nx eh_12 (z_neO k_3 k_10 rfl) k_3
  have k_14 : h_12 lr = some (.inr (20, [.int m0, .ref e0, .int (nI R)])) := z_nx eh_12 (z_neO k_4 k_10 rfl) k_4
  have k_15 : h_12 e0 = some (.inl ((zm_G M).2.1 5, N0, .inr (.inr (.inr (.inr f0))))) := z_nx eh_12 (z_neA' k_5 k_10) k_5
  have k_16 : h_12 ls = some (.inr (20, [.int m9, .ref e, .int (nI S)])) := z_nx eh_12 (z_neO k_6 k_10 rfl) k_6
  have k_17 : h_12 e = some (.inl ((zm_G M).2.1 5, N, .inr (.inr (.inr (.inr f))))) := z_nx eh_12 (z_neA' k_7 k_10) k_7
  have k_18 : h_12 lv = some (.inr (20, [.int mv, .ref ev, .int (nI S)])) := z_nx eh_12 (z_neO k_8 k_10 rfl) k_8
  have k_19 : h_12 ev = some (.inl ((zm_G M).2.1 5, Nv, .inr (.inr (.inr (.inr fv))))) := z_nx eh_12 (z_neA' k_9 k_10) k_9
  have k_20 : h_12 q = some (.inr (6, [.int nu, .int dq, .int gq, .int aq])) := z_nx eh_12 (z_neO k_11 k_10 rfl) k_11
  have k_21 : h_12 n = some (.inl ((zm_G M).2.1 2, 56, .inl (fun _ => 0))) := z_nx eh_12 (Nat.ne_of_gt (hD_1 _ _ ht9)) (z_nxs eh_2)
  refine z_aload_n hb dX19_init_12 rfl ?_
  refine z_aload_n hb dX19_init_13 rfl ?_
  refine z_get (k := 1) (C := RX2) (T := TX2) (N := 8) hb ho zc1 in_X2 (zf_RX19_15 _) dX19_init_14 k_13 (by decide) rfl ?_
  refine z_put (k := 0) (C := RX19) (T := TX19) (N := 2) hb ho zc15 in_X19 tyX19_ok nmX19 (zf_RX19_21 _) dX19_init_17 (z_nxs eh_12) hnt (by decide) (Or.inr ⟨hm, rfl⟩) rfl rfl rfl (Nat.le_of_ble_eq_true rfl) ?_
  refine z_hn (fun h_22 eh_22 => ?_)
  have eh_22 : h_22 = z_up h_12 t (.inr (15, [.ref ls, .ref n])) := eh_22
  have k_23 : h_22 a = some (.inr (1, [.ref lr, .ref ls, .ref lv, .int (nI D), .int (w 2), .int (w 4), .int (w 5), .int (w 6)])) := z_nx eh_22 (z_neO k_13 (z_nxs eh_12) rfl) k_13
  have k_24 : h_22 lr = some (.inr (20, [.int m0, .ref e0, .int (nI R)])) := z_nx eh_22 (z_neO k_14 (z_nxs eh_12) rfl) k_14
  have k_25 : h_22 e0 = some (.inl ((zm_G M).2.1 5, N0, .inr (.inr (.inr (.inr f0))))) := z_nx eh_22 (z_neA' k_15 (z_nxs eh_12)) k_15
  have k_26 : h_22 ls = some (.inr (20, [.int m9, .ref e, .int (nI S)])) := z_nx eh_22 (z_neO k_16 (z_nxs eh_12) rfl) k_16
  have k_27 : h_22 e = some (.inl ((zm_G M).2.1 5, N, .inr (.inr (.inr (.inr f))))) := z_nx eh_22 (z_neA' k_17 (z_nxs eh_12)) k_17
  have k_28 : h_22 lv = some (.inr (20, [.int mv, .ref ev, .int (nI S)])) := z_nx eh_22 (z_neO k_18 (z_nxs eh_12) rfl) k_18
  have k_29 : h_22 ev = some (.inl ((zm_G M).2.1 5, Nv, .inr (.inr (.inr (.inr fv))))) := z_nx eh_22 (z_neA' k_19 (z_nxs eh_12)) k_19
  have k_30 : h_22 q = some (.inr (6, [.int nu, .int dq, .int gq, .int aq])) := z_nx eh_22 (z_neO k_20 (z_nxs eh_12) rfl) k_20
  have k_31 : h_22 n = some (.inl ((zm_G M).2.1 2, 56, .inl (fun _ => 0))) := z_nx eh_22 (Nat.ne_of_gt (hD_1 _ _ ht9)) k_21
  refine z_iconst (x := nI 0) hb dX19_init_20 (by decide) ?_
  refine z_istore_n (lv' := [(3, .int (nI 0)), (0, .ref t), (1, .ref a), (2, .ref q)]) hb dX19_init_21 (by rw [hN]; decide) rfl ?_
  have lp_22 : ∀ (k9_22 : Nat) (i : Nat) (nni : Nat) (hhi : zH), S + 1 - i < k9_22 → (i ≤ S) → (n + 1 ≤ nni) → (z_kp h hhi) → (z_fr (fun y => y = t) h hhi) → (hhi t = some (.inr (15, [.ref ls, .ref n]))) → (hhi n = some (.inl ((zm_G M).2.1 2, 56, .inl (fun y => z_b (z_mt w D dq aq i y))))) → z_V M hhi nni 0 0 22 [(3, .int (nI i)), (0, .ref t), (1, .ref a), (2, .ref q)] [] := by
    intro k9_22
    induction k9_22 with
    | zero => intro i nni hhi hk9_22; exact absurd hk9_22 (Nat.not_lt_zero _)
    | succ k9_22 ih_22 =>
      intro i nni hhi hk9_22 hi9 hni hKi hFi hTi hEi
      refine z_iload_n hb dX19_init_22 rfl ?_
      refine z_aload_n hb dX19_init_23 rfl ?_
      refine z_get (k := 0) (C := RX19) (T := TX19) (N := 2) hb ho zc15 in_X19 (zf_RX19_21 _) dX19_init_24 hTi (by decide) rfl ?_
      refine z_call1 (b' := 0) (f' := 0) (rest := [.int (nI i)]) (av := [.ref ls]) (z_siteF hb ho zc20 (hKi _ _ h3 (by simp [z_lnk])) q1989 zx0 q322 q324 q325 q323 q321 zxl0 dX19_init_27 : z_Site M _ _ _ _ _ ([].reverse ++ .ref ls :: [.int (nI i)]) [.int (nI i)] _) zk_J2_size q98 hrm (m_J2_size (hKi _ _ h3 (by simp [z_lnk]))) (by omega) (by decide) (Nat.le_of_ble_eq_true rfl) (by omega) (by omega) ?_
      refine z_icmp_geN (tgt := 91) hb dX19_init_32 (by decide) (by omega) (by omega) (fun c_32 => ?_) (fun c_32 => ?_)
      · refine z_vret hb hr dX19_init_91 ?_
        rw [hQ]
        obtain rfl : i = S := by omega
        exact ⟨rfl, _, hTi, hEi, Nat.le_refl _, hFi⟩
      · refine z_iconst (x := nI 0) hb dX19_init_35 (by decide) ?_
        refine z_istore (lv' := [(4, .int (nI 0)), (3, .int (nI i)), (0, .ref t), (1, .ref a), (2, .ref q)]) hb dX19_init_36 (by rw [hN]; decide) rfl ?_
        have lp_38 : ∀ (k9_38 : Nat) (d : Nat) (nnd : Nat) (hhd : zH), D + 2 - d < k9_38 → (d ≤ D + 1) → (nni ≤ nnd) → (z_kp h hhd) → (z_fr (fun y => y = t) h hhd) → (hhd t = some (.inr (15, [.ref ls, .ref n]))) → (hhd n = some (.inl ((zm_G M).2.1 2, 56, .inl (fun y => z_b (z_mt2 w dq aq i (z_mt w D dq aq i) d y))))) → z_V M hhd nnd 0 0 38 [(4, .int (nI d)), (3, .int (nI i)), (0, .ref t), (1, .ref a), (2, .ref q)] [] := by
          intro k9_38
          induction k9_38 with
          | zero => intro d nnd hhd hk9_38; exact absurd hk9_38 (Nat.not_lt_zero _)
          | succ k9_38 ih_38 =>
            intro d nnd hhd hk9_38 hd9 hnd hKd hFd hTd hEd
            refine z_iload hb dX19_init_38 rfl ?_
            refine z_aload_n hb dX19_init_40 rfl ?_
            refine z_get (k := 3) (C := RX2) (T := TX2) (N := 8) hb ho zc1 in_X2 (zf_RX19_28 _) dX19_init_41 (hKd _ _ h1 (by simp [z_lnk])) (by decide) rfl ?_
            refine z_icmp_gtN (tgt := 85) hb dX19_init_44 (by decide) (by omega) (by omega) (fun c_44 => ?_) (fun c_44 => ?_)
            · refine z_iinc (k0 := 1) (lv' := [(3, .int (nI (i + 1))), (4, .int (nI d)), (0, .ref t), (1, .ref a), (2, .ref q)]) hb dX19_init_85 rfl (nI_1 i) (by rw [hN]; decide) rfl ?_
              refine z_goto (tgt := 22) hb dX19_init_88 (by decide) ?_
              refine z_lv [0, 2, 3, 4] (lv' := [(3, .int (nI (i + 1))), (0, .ref t), (1, .ref a), (2, .ref q)]) rfl ?_
              exact ih_22 (i + 1) nnd hhd (by omega) (by omega) (by omega) hKd hFd hTd (by rw [z_mt]; (obtain rfl : d = D + 1 := by omega); exact hEd)
            · refine z_aload_n hb dX19_init_47 rfl ?_
              refine z_get (k := 1) (C := RX19) (T := TX19) (N := 2) hb ho zc15 in_X19 (zf_RX19_9 _) dX19_init_48 hTd (by decide) rfl ?_
              refine z_bipush (x := nI 7) hb dX19_init_51 (by decide) ?_
              refine z_iload_n hb dX19_init_53 rfl ?_
              refine z_imul hb dX19_init_54 ?_
              refine z_toI (y := nI (7 * i)) (pk_mul 7 i) ?_
              refine z_iload hb dX19_init_55 rfl ?_
              refine z_iadd hb dX19_init_57 ?_
              refine z_toI (y := nI (7 * i + d)) (nI_add (7 * i) d) ?_
              refine z_aload_n hb dX19_init_58 rfl ?_
              refine z_get (k := 0) (C := RX19) (T := TX19) (N := 2) hb ho zc15 in_X19 (zf_RX19_21 _) dX19_init_59 hTd (by decide) rfl ?_
              refine z_iload_n hb dX19_init_62 rfl ?_
              refine z_call1 (b' := 0) (f' := 0) (rest := [.int (nI (7 * i + d)), .ref n]) (av := [.ref ls, .int (nI i)]) (z_siteF hb ho zc20 (hKd _ _ h3 (by simp [z_lnk])) q1991 zx6 q663 q665 q666 q664 q321 zxl6 dX19_init_63 : z_Site M _ _ _ _ _ ([.int (nI i)].reverse ++ .ref ls :: [.int (nI (7 * i + d)), .ref n]) [.int (nI (7 * i + d)), .ref n] _) zk_J2_get q98 hrm (m_J2_get (hKd _ _ h3 (by simp [z_lnk])) (hKd _ _ h4 (by simp [z_lnk])) (by omega) (by omega) h7 (by omega)) (by omega) (by decide) (Nat.le_of_ble_eq_true rfl) (by omega) (by omega) ?_
              have J_71 : z_V M hhd nnd 0 0 71 [(4, .int (nI d)), (3, .int (nI i)), (0, .ref t), (1, .ref a), (2, .ref q)] [.ref (sa i), .int (nI (7 * i + d)), .ref n] := by
                refine z_aload_n hb dX19_init_71 rfl ?_
                refine z_aload_n hb dX19_init_72 rfl ?_
                refine z_iload hb dX19_init_73 rfl ?_
                have J_78 : ∀ n_32 : Nat, nnd ≤ n_32 → z_V M hhd n_32 0 0 78 [(4, .int (nI d)), (3, .int (nI i)), (0, .ref t), (1, .ref a), (2, .ref q)] [.int (z_b (z_im w (z_mt2 w dq aq i (z_mt w D dq aq i) d) i d dq aq)), .int (nI (7 * i + d)), .ref n] := by
                  intro n_32 hn_32
                  refine z_zast (j := 7 * i + d) (v := (z_b (z_im w (z_mt2 w dq aq i (z_mt w D dq aq i) d) i d dq aq))) hb dX19_init_78 hEd (by omega) rfl (by omega) (by omega) (z_bnar _) ?_
                  refine z_hn (fun h_33 eh_33 => ?_)
                  have eh_33 : h_33 = z_up hhd n (.inl ((zm_G M).2.1 2, 56, .inl (va_up (fun y => z_b (z_mt2 w dq aq i (z_mt w D dq aq i) d y)) (7 * i + d) (z_b (z_im w (z_mt2 w dq aq i (z_mt w D dq aq i) d) i d dq aq))))) := eh_33
                  have k_34 : h_33 a = some (.inr (1, [.ref lr, .ref ls, .ref lv, .int (nI D), .int (w 2), .int (w 4), .int (w 5), .int (w 6)])) := z_nx eh_33 (Nat.ne_of_lt (hD_1 _ _ h1)) (hKd _ _ h1 (by simp [z_lnk]))
                  have k_35 : h_33 lr = some (.inr (20, [.int m0, .ref e0, .int (nI R)])) := z_nx eh_33 (Nat.ne_of_lt (hD_1 _ _ r1)) (hKd _ _ r1 (by simp [z_lnk]))
                  have k_36 : h_33 e0 = some (.inl ((zm_G M).2.1 5, N0, .inr (.inr (.inr (.inr f0))))) := z_nx eh_33 (Nat.ne_of_lt (hD_1 _ _ r2)) (hKd _ _ r2 (by simp [z_lnk]))
                  have k_37 : h_33 ls = some (.inr (20, [.int m9, .ref e, .int (nI S)])) := z_nx eh_33 (Nat.ne_of_lt (hD_1 _ _ h3)) (hKd _ _ h3 (by simp [z_lnk]))
                  have k_38 : h_33 e = some (.inl ((zm_G M).2.1 5, N, .inr (.inr (.inr (.inr f))))) := z_nx eh_33 (Nat.ne_of_lt (hD_1 _ _ h4)) (hKd _ _ h4 (by simp [z_lnk]))
                  have k_39 : h_33 lv = some (.inr (20, [.int mv, .ref ev, .int (nI S)])) := z_nx eh_33 (Nat.ne_of_lt (hD_1 _ _ v1)) (hKd _ _ v1 (by simp [z_lnk]))
                  have k_40 : h_33 ev = some (.inl ((zm_G M).2.1 5, Nv, .inr (.inr (.inr (.inr fv))))) := z_nx eh_33 (Nat.ne_of_lt (hD_1 _ _ v2)) (hKd _ _ v2 (by simp [z_lnk]))
                  have k_41 : h_33 q = some (.inr (6, [.int nu, .int dq, .int gq, .int aq])) := z_nx eh_33 (Nat.ne_of_lt (hD_1 _ _ hq9)) (hKd _ _ hq9 (by simp [z_lnk]))
                  have k_42 : h_33 t = some (.inr (15, [.ref ls, .ref n])) := z_nx eh_33 (Nat.ne_of_lt (hD_1 _ _ ht9)) hTd
                  refine z_iinc (k0 := 0) (lv' := [(4, .int (nI (d + 1))), (3, .int (nI i)), (0, .ref t), (1, .ref a), (2, .ref q)]) hb dX19_init_79 rfl (nI_1 d) (by rw [hN]; decide) rfl ?_
                  refine z_goto (tgt := 38) hb dX19_init_82 (by decide) ?_
                  refine z_lv [0, 1, 2, 3, 4] (lv' := [(4, .int (nI (d + 1))), (3, .int (nI i)), (0, .ref t), (1, .ref a), (2, .ref q)]) rfl ?_
                  exact ih_38 (d + 1) n_32 h_33 (by omega) (by omega) (by omega) (z_kpW hD0 (by omega) eh_33 hKd) (z_frW hD0 (by omega) eh_33 hFd) k_42 (by have e9 := (z_nxs eh_33); rw [z_bup] at e9; rw [z_mt2]; exact e9)
                rcases hs i (by omega) with ⟨q1, q9⟩ | ⟨q1, q9⟩ | ⟨q1, q9⟩ | ⟨q1, q2, q3, q9⟩ | ⟨q1, q2, q3, q9⟩ | ⟨q1, q2, q3, q9⟩ | ⟨q1, q2, q3, q9⟩
                · refine z_callN1 (b' := 0) (f' := 0) (rest := [.int (nI (7 * i + d)), .ref n]) (av := [.ref (sa i), .ref q, .ref t, .int (nI d)]) (z_siteU hb ho zc8 (hKd _ _ q9 (by simp [z_lnk])) q1993 q1995 (Or.inl q1994) q2006 q2017 ⟨by decide +kernel, by decide +kernel⟩ (by show _ = some 3; decide +kernel) dX19_init_75 : z_Site M _ _ _ _ _ ([.ref q, .ref t, .int (nI d)].reverse ++ .ref (sa i) :: [.int (nI (7 * i + d)), .ref n]) [.int (nI (7 * i + d)), .ref n] _) zk_X10_isMarked q128 hrm (m_isMarked (hL.kp hKd) hS8 hD6 hTd hEd (hKd _ _ hq9 (by simp [z_lnk])) (show d ≤ D by omega) (show i < S by omega) _ _ (hKd _ _ q9 (by simp [z_lnk])) _) (by omega) (by decide) (Nat.le_of_ble_eq_true rfl) (by omega) (by omega) (fun n_43 hn_43 => ?_)
                  exact J_78 _ (by omega)
                · refine z_callN1 (b' := 0) (f' := 0) (rest := [.int (nI (7 * i + d)), .ref n]) (av := [.ref (sa i), .ref q, .ref t, .int (nI d)]) (z_siteU hb ho zc9 (hKd _ _ q9 (by simp [z_lnk])) q1993 q1995 (Or.inl q1994) q2006 q2005 ⟨by decide +kernel, by decide +kernel⟩ (by show _ = some 3; decide +kernel) dX19_init_75 : z_Site M _ _ _ _ _ ([.ref q, .ref t, .int (nI d)].reverse ++ .ref (sa i) :: [.int (nI (7 * i + d)), .ref n]) [.int (nI (7 * i + d)), .ref n] _) zk_X10_isMarked q128 hrm (m_isMarked (hL.kp hKd) hS8 hD6 hTd hEd (hKd _ _ hq9 (by simp [z_lnk])) (show d ≤ D by omega) (show i < S by omega) _ _ (hKd _ _ q9 (by simp [z_lnk])) _) (by omega) (by decide) (Nat.le_of_ble_eq_true rfl) (by omega) (by omega) (fun n_44 hn_44 => ?_)
                  exact J_78 _ (by omega)
                · refine z_callN1 (b' := 0) (f' := 0) (rest := [.int (nI (7 * i + d)), .ref n]) (av := [.ref (sa i), .ref q, .ref t, .int (nI d)]) (z_siteU hb ho zc10 (hKd _ _ q9 (by simp [z_lnk])) q1993 q1995 (Or.inl q1994) q2006 q2008 ⟨by decide +kernel, by decide +kernel⟩ (by show _ = some 3; decide +kernel) dX19_init_75 : z_Site M _ _ _ _ _ ([.ref q, .ref t, .int (nI d)].reverse ++ .ref (sa i) :: [.int (nI (7 * i + d)), .ref n]) [.int (nI (7 * i + d)), .ref n] _) zk_X10_isMarked q128 hrm (m_isMarked (hL.kp hKd) hS8 hD6 hTd hEd (hKd _ _ hq9 (by simp [z_lnk])) (show d ≤ D by omega) (show i < S by omega) _ _ (hKd _ _ q9 (by simp [z_lnk])) _) (by omega) (by decide) (Nat.le_of_ble_eq_true rfl) (by omega) (by omega) (fun n_45 hn_45 => ?_)
                  exact J_78 _ (by omega)
                · refine z_callN1 (b' := 0) (f' := 0) (rest := [.int (nI (7 * i + d)), .ref n]) (av := [.ref (sa i), .ref q, .ref t, .int (nI d)]) (z_siteU hb ho zc11 (hKd _ _ q9 (by simp [z_lnk])) q1993 q1995 (Or.inl q1994) q2010 q2009 ⟨by decide +kernel, by decide +kernel⟩ (by show _ = some 3; decide +kernel) dX19_init_75 : z_Site M _ _ _ _ _ ([.ref q, .ref t, .int (nI d)].reverse ++ .ref (sa i) :: [.int (nI (7 * i + d)), .ref n]) [.int (nI (7 * i + d)), .ref n] _) zk_X14_isMarked q133 hrm (m_isMarked (hL.kp hKd) hS8 hD6 hTd hEd (hKd _ _ hq9 (by simp [z_lnk])) (show d ≤ D by omega) (show i < S by omega) _ _ (hKd _ _ q9 (by simp [z_lnk])) _) (by omega) (by decide) (Nat.le_of_ble_eq_true rfl) (by omega) (by omega) (fun n_46 hn_46 => ?_)
                  exact J_78 _ (by omega)
                · refine z_callN1 (b' := 0) (f' := 0) (rest := [.int (nI (7 * i + d)), .ref n]) (av := [.ref (sa i), .ref q, .ref t, .int (nI d)]) (z_siteU hb ho zc11 (hKd _ _ q9 (by simp [z_lnk])) q1993 q1995 (Or.inl q1994) q2010 q2009 ⟨by decide +kernel, by decide +kernel⟩ (by show _ = some 3; decide +kernel) dX19_init_75 : z_Site M _ _ _ _ _ ([.ref q, .ref t, .int (nI d)].reverse ++ .ref (sa i) :: [.int (nI (7 * i + d)), .ref n]) [.int (nI (7 * i + d)), .ref n] _) zk_X14_isMarked q133 hrm (m_isMarked (hL.kp hKd) hS8 hD6 hTd hEd (hKd _ _ hq9 (by simp [z_lnk])) (show d ≤ D by omega) (show i < S by omega) _ _ (hKd _ _ q9 (by simp [z_lnk])) _) (by omega) (by decide) (Nat.le_of_ble_eq_true rfl) (by omega) (by omega) (fun n_47 hn_47 => ?_)
                  exact J_78 _ (by omega)
                · refine z_callN1 (b' := 0) (f' := 0) (rest := [.int (nI (7 * i + d)), .ref n]) (av := [.ref (sa i), .ref q, .ref t, .int (nI d)]) (z_siteU hb ho zc12 (hKd _ _ q9 (by simp [z_lnk])) q1993 q1995 (Or.inl q1994) q2014 q2013 ⟨by decide +kernel, by decide +kernel⟩ (by show _ = some 3; decide +kernel) dX19_init_75 : z_Site M _ _ _ _ _ ([.ref q, .ref t, .int (nI d)].reverse ++ .ref (sa i) :: [.int (nI (7 * i + d)), .ref n]) [.int (nI (7 * i + d)), .ref n] _) zk_X16_isMarked q135 hrm (m_isMarked (hL.kp hKd) hS8 hD6 hTd hEd (hKd _ _ hq9 (by simp [z_lnk])) (show d ≤ D by omega) (show i < S by omega) _ _ (hKd _ _ q9 (by simp [z_lnk])) _) (by omega) (by decide) (Nat.le_of_ble_eq_true rfl) (by omega) (by omega) (fun n_48 hn_48 => ?_)
                  exact J_78 _ (by omega)
                · refine z_callN1 (b' := 0) (f' := 0) (rest := [.int (nI (7 * i + d)), .ref n]) (av := [.ref (sa i), .ref q, .ref t, .int (nI d)]) (z_siteU hb ho zc13 (hKd _ _ q9 (by simp [z_lnk])) q1993 q1995 (Or.inl q1994) q1997 q1996 ⟨by decide +kernel, by decide +kernel⟩ (by show _ = some 3; decide +kernel) dX19_init_75 : z_Site M _ _ _ _ _ ([.ref q, .ref t, .int (nI d)].reverse ++ .ref (sa i) :: [.int (nI (7 * i + d)), .ref n]) [.int (nI (7 * i + d)), .ref n] _) zk_X17_isMarked q136 hrm (m_isMarked (hL.kp hKd) hS8 hD6 hTd hEd (hKd _ _ hq9 (by simp [z_lnk])) (show d ≤ D by omega) (show i < S by omega) _ _ (hKd _ _ q9 (by simp [z_lnk])) _) (by omega) (by decide) (Nat.le_of_ble_eq_true rfl) (by omega) (by omega) (fun n_49 hn_49 => ?_)
                  exact J_78 _ (by omega)
              rcases hs i (by omega) with ⟨q1, q9⟩ | ⟨q1, q9⟩ | ⟨q1, q9⟩ | ⟨q1, q2, q3, q9⟩ | ⟨q1, q2, q3, q9⟩ | ⟨q1, q2, q3, q9⟩ | ⟨q1, q2, q3, q9⟩
              · exact z_cast hb ho zc8 (hKd _ _ q9 (by simp [z_lnk])) q1992 (Or.inr q3300) dX19_init_68 J_71
              · exact z_cast hb ho zc9 (hKd _ _ q9 (by simp [z_lnk])) q1992 (Or.inr q3296) dX19_init_68 J_71
              · exact z_cast hb ho zc10 (hKd _ _ q9 (by simp [z_lnk])) q1992 (Or.inr q3297) dX19_init_68 J_71
              · exact z_cast hb ho zc11 (hKd _ _ q9 (by simp [z_lnk])) q1992 (Or.inr q3298) dX19_init_68 J_71
              · exact z_cast hb ho zc11 (hKd _ _ q9 (by simp [z_lnk])) q1992 (Or.inr q3298) dX19_init_68 J_71
              · exact z_cast hb ho zc12 (hKd _ _ q9 (by simp [z_lnk])) q1992 (Or.inr q3299) dX19_init_68 J_71
              · exact z_cast hb ho zc13 (hKd _ _ q9 (by simp [z_lnk])) q1992 (Or.inr q3295) dX19_init_68 J_71
        refine z_lv [0, 1, 2, 3, 4] (lv' := [(4, .int (nI 0)), (3, .int (nI i)), (0, .ref t), (1, .ref a), (2, .ref q)]) rfl ?_
        exact lp_38 _ 0 nni hhi (Nat.lt_succ_self _) (Nat.zero_le _) (by omega) hKi hFi hTi (by rw [z_mt2]; exact hEi)
  refine z_lv [0, 1, 2, 3] (lv' := [(3, .int (nI 0)), (0, .ref t), (1, .ref a), (2, .ref q)]) rfl ?_
  exact lp_22 _ 0 (n + 1) h_22 (Nat.lt_succ_self _) (Nat.zero_le _) (by omega) (((z_exN z_ex_r hD_1 eh_2).kp.t (z_kp_up k_10 (by simp [z_lnk]) eh_12)).t (z_kp_up (z_nxs eh_12) (by simp [z_lnk]) eh_22)) (((z_exN z_ex_r hD_1 eh_2).fr.t (z_fr_up (P := (fun y => y = t)) rfl eh_12)).t (z_fr_up (P := (fun y => y = t)) rfl eh_22)) (z_nxs eh_22) k_31

set_option maxHeartbeats 1000000 in
theorem m_X19_count {l : Launch} {G : zG} {h : zH} {n : Nat} {t ls eb : Nat} {Mk : Nat → Bool} (htc : h t = some (.inr (15, [.ref ls, .ref eb]))) (heb : h eb = some (z_az G 56 (fun y => z_b (Mk y)))) : z_C l G yX19_count 1 0 0 [.ref t] h n (z_rn (.int (nI (z_mc Mk 56))) h) := by
  refine z_start zk_X19_count zpl_RX19 (Nat.le_of_ble_eq_true rfl) ?_
  intro hn0 M hl hG ho hb hN hr hm hH hrm hQ
  subst hl hG
  have ho : zm_o M = RX19 := ho
  show z_V M h n 0 0 0 [(0, .ref t)] []
  refine z_dom (fun hD0 => ?_)
  refine z_iconst (x := nI 0) hb dX19_count_0 (by decide) ?_
  refine z_istore_n (lv' := [(1, .int (nI 0)), (0, .ref t)]) hb dX19_count_1 (by rw [hN]; decide) rfl ?_
  refine z_aload_n hb dX19_count_2 rfl ?_
  refine z_get (k := 1) (C := RX19) (T := TX19) (N := 2) hb ho zc15 in_X19 (zf_RX19_9 _) dX19_count_3 htc (by decide) rfl ?_
  refine z_astore_n (lv' := [(2, .ref eb), (1, .int (nI 0)), (0, .ref t)]) hb dX19_count_6 (by rw [hN]; decide) rfl ?_
  refine z_aload_n hb dX19_count_7 rfl ?_
  refine z_alen (kk := 2) hb rfl dX19_count_8 heb ?_
  refine z_istore_n (lv' := [(3, .int (nI 56)), (2, .ref eb), (1, .int (nI 0)), (0, .ref t)]) hb dX19_count_9 (by rw [hN]; decide) rfl ?_
  refine z_iconst (x := nI 0) hb dX19_count_10 (by decide) ?_
  refine z_istore (lv' := [(4, .int (nI 0)), (3, .int (nI 56)), (2, .ref eb), (1, .int (nI 0)), (0, .ref t)]) hb dX19_count_11 (by rw [hN]; decide) rfl ?_
  have lp_13 : ∀ (k9_13 : Nat) (nno : Nat) (i : Nat), 57 - i < k9_13 → (n ≤ nno) → (i ≤ 56) → z_V M h nno 0 0 13 [(4, .int (nI i)), (3, .int (nI 56)), (2, .ref eb), (1, .int (nI (z_mc Mk i))), (0, .ref t)] [] := by
    intro k9_13
    induction k9_13 with
    | zero => intro nno i hk9_13; exact absurd hk9_13 (Nat.not_lt_zero _)
    | succ k9_13 ih_13 =>
      intro nno i hk9_13 hnno hi
      refine z_iload hb dX19_count_13 rfl ?_
      refine z_iload_n hb dX19_count_15 rfl ?_
      refine z_icmp_geN (tgt := 44) hb dX19_count_16 (by decide) (by omega) (by omega) (fun c_16 => ?_) (fun c_16 => ?_)
      · refine z_iload_n hb dX19_count_44 rfl ?_
        refine z_iret hb hr dX19_count_45 ?_
        rw [hQ]
        obtain rfl : i = 56 := by omega
        exact ⟨rfl, rfl⟩
      · refine z_aload_n hb dX19_count_19 rfl ?_
        refine z_iload hb dX19_count_20 rfl ?_
        refine z_zald (j := i) hb dX19_count_22 heb rfl (by omega) (by omega) ?_
        refine z_toI (y := z_b (Mk i)) rfl ?_
        refine z_istore (lv' := [(5, .int (z_b (Mk i))), (4, .int (nI i)), (3, .int (nI 56)), (2, .ref eb), (1, .int (nI (z_mc Mk i))), (0, .ref t)]) hb dX19_count_23 (by rw [hN]; decide) rfl ?_
        refine z_iload_n hb dX19_count_25 rfl ?_
        refine z_iload hb dX19_count_26 rfl ?_
        refine z_ifb_eq (tgt := 35) hb dX19_count_28 (by decide) (fun c_28 => ?_) (fun c_28 => ?_)
        · refine z_iconst (x := nI 0) hb dX19_count_35 (by decide) ?_
          refine z_iadd hb dX19_count_36 ?_
          refine z_toI (y := nI (z_mc Mk i)) (nI_add (z_mc Mk i) 0) ?_
          refine z_toI (y := nI (z_mc Mk (i + 1))) (by rw [z_mc, c_28]; rfl) ?_
          refine z_istore_n (lv' := [(1, .int (nI (z_mc Mk (i + 1)))), (5, .int (z_b (Mk i))), (4, .int (nI i)), (3, .int (nI 56)), (2, .ref eb), (0, .ref t)]) hb dX19_count_37 (by rw [hN]; decide) rfl ?_
          refine z_iinc (k0 := 2) (lv' := [(4, .int (nI (i + 1))), (1, .int (nI (z_mc Mk (i + 1)))), (5, .int (z_b (Mk i))), (3, .int (nI 56)), (2, .ref eb), (0, .ref t)]) hb dX19_count_38 rfl (nI_1 i) (by rw [hN]; decide) rfl ?_
          refine z_goto (tgt := 13) hb dX19_count_41 (by decide) ?_
          refine z_lv [0, 3, 4, 1, 5] (lv' := [(4, .int (nI (i + 1))), (3, .int (nI 56)), (2, .ref eb), (1, .int (nI (z_mc Mk (i + 1)))), (0, .ref t)]) rfl ?_
          exact ih_13 nno (i + 1) (by omega) (by omega) (by omega)
        · refine z_iconst (x := nI 1) hb dX19_count_31 (by decide) ?_
          refine z_goto (tgt := 36) hb dX19_count_32 (by decide) ?_
          refine z_iadd hb dX19_count_36 ?_
          refine z_toI (y := nI (z_mc Mk i + 1)) (nI_add (z_mc Mk i) 1) ?_
          refine z_toI (y := nI (z_mc Mk (i + 1))) (by rw [z_mc, c_28]; rfl) ?_
          refine z_istore_n (lv' := [(1, .int (nI (z_mc Mk (i + 1)))), (5, .int (z_b (Mk i))), (4, .int (nI i)), (3, .int (nI 56)), (2, .ref eb), (0, .ref t)]) hb dX19_count_37 (by rw [hN]; decide) rfl ?_
          refine z_iinc (k0 := 2) (lv' := [(4, .int (nI (i + 1))), (1, .int (nI (z_mc Mk (i + 1)))), (5, .int (z_b (Mk i))), (3, .int (nI 56)), (2, .ref eb), (0, .ref t)]) hb dX19_count_38 rfl (nI_1 i) (by rw [hN]; decide) rfl ?_
          refine z_goto (tgt := 13) hb dX19_count_41 (by decide) ?_
          refine z_lv [0, 3, 4, 1, 5] (lv' := [(4, .int (nI (i + 1))), (3, .int (nI 56)), (2, .ref eb), (1, .int (nI (z_mc Mk (i + 1)))), (0, .ref t)]) rfl ?_
          exact ih_13 nno (i + 1) (by omega) (by omega) (by omega)
  refine z_lv [0, 1, 2, 3, 4] (lv' := [(4, .int (nI 0)), (3, .int (nI 56)), (2, .ref eb), (1, .int (nI 0)), (0, .ref t)]) rfl ?_
  exact lp_13 _ n 0 (Nat.lt_succ_self _) (by omega) (Nat.zero_le _)

set_option maxHeartbeats 1000000 in
theorem m_X1_reach_ok {l : Launch} {G : zG} {h : zH} {n : Nat} {t : Nat} {x1 x2 x3 x4 x5 x6 : Value} {w : Nat → Int32} {v : Nat → Int64} {R S D a lr ls lv : Nat} {ra sa va : Nat → Nat} {x : Int32} {p0 : Nat} (hX : h t = some (.inr (0, [.ref a, x1, x2, x3, x4, x5, x6]))) (hL : z_Ln G h w v R S D a lr ls lv ra sa va) (hOE : h (G.2.2.1 1003) = some (.inr (25, [.null]))) (hR4 : R ≤ 40) (hp0 : p0 < R) (hx : w (16 + 4 * p0) = x) (hnd : ∀ p q, p < R → q < R → w (16 + 4 * p) = w (16 + 4 * q) → p = q) (hS8 : S ≤ 8) (hD6 : D ≤ 6) : z_C l G yX1_reach 12 45 110 [.ref t, .int x] h n (z_rn (.int (nI (z_mc (z_mt w D (w (16 + 4 * p0 + 1)) (w (16 + 4 * p0 + 3)) S) 56))) h) := by
  refine z_start zk_X1_reach zpl_RX1 (Nat.le_of_ble_eq_true rfl) ?_
  intro hn0 M hl hG ho hb hN hr hm hH hrm hQ
  subst hl hG
  have ho : zm_o M = RX1 := ho
  obtain ⟨h1, ⟨e0, N0, m0, f0, r1, r2, r3, ⟨r4, r4n⟩, r5⟩, ⟨e, N, m9, f, h3, h4, h5, ⟨h6, h6n⟩, h7⟩, ⟨ev, Nv, mv, fv, v1, v2, v3, ⟨v4, v4n⟩, v5⟩, h9, hs, hv, hi, hrI⟩ := id hL
  show z_V M h n 45 110 0 [(0, .ref t), (1, .int x)] []
  refine z_dom (fun hD0 => ?_)
  refine z_dom (fun hD_1 => ?_)
  refine z_new (N0 := 2) (b' := 44) (f' := 108) (fs := [.null, .null]) (C := RX19) (T := TX19) (N := 2) hb ho zc15 in_X19 tyX19_ok q1982 q1983 q142 dX1_reach_0 (zdf_X19) (by omega) (by omega) ?_
  refine z_hn (fun h_2 eh_2 => ?_)
  have eh_2 : h_2 = z_up h n (.inr (15, [.null, .null])) := eh_2
  have k_3 : h_2 t = some (.inr (0, [.ref a, x1, x2, x3, x4, x5, x6])) := z_nx eh_2 (Nat.ne_of_lt (hD_1 _ _ hX)) hX
  have k_4 : h_2 a = some (.inr (1, [.ref lr, .ref ls, .ref lv, .int (nI D), .int (w 2), .int (w 4), .int (w 5), .int (w 6)])) := z_nx eh_2 (Nat.ne_of_lt (hD_1 _ _ h1)) h1
  have k_5 : h_2 lr = some (.inr (20, [.int m0, .ref e0, .int (nI R)])) := z_nx eh_2 (Nat.ne_of_lt (hD_1 _ _ r1)) r1
  have k_6 : h_2 e0 = some (.inl ((zm_G M).2.1 5, N0, .inr (.inr (.inr (.inr f0))))) := z_nx eh_2 (Nat.ne_of_lt (hD_1 _ _ r2)) r2
  have k_7 : h_2 ls = some (.inr (20, [.int m9, .ref e, .int (nI S)])) := z_nx eh_2 (Nat.ne_of_lt (hD_1 _ _ h3)) h3
  have k_8 : h_2 e = some (.inl ((zm_G M).2.1 5, N, .inr (.inr (.inr (.inr f))))) := z_nx eh_2 (Nat.ne_of_lt (hD_1 _ _ h4)) h4
  have k_9 : h_2 lv = some (.inr (20, [.int mv, .ref ev, .int (nI S)])) := z_nx eh_2 (Nat.ne_of_lt (hD_1 _ _ v1)) v1
  have k_10 : h_2 ev = some (.inl ((zm_G M).2.1 5, Nv, .inr (.inr (.inr (.inr fv))))) := z_nx eh_2 (Nat.ne_of_lt (hD_1 _ _ v2)) v2
  refine z_dup hb dX1_reach_3 rfl ?_
  refine z_aload_n hb dX1_reach_4 rfl ?_
  refine z_get (k := 0) (C := RX1) (T := TX1) (N := 7) hb ho zc0 in_X1 (zf_RX1_41 _) dX1_reach_5 k_3 (by decide) rfl ?_
  refine z_aload_n hb dX1_reach_8 rfl ?_
  refine z_get (k := 0) (C := RX1) (T := TX1) (N := 7) hb ho zc0 in_X1 (zf_RX1_41 _) dX1_reach_9 k_3 (by decide) rfl ?_
  refine z_iload_n hb dX1_reach_12 rfl ?_
  refine z_callN1 (b' := 1) (f' := 58) (rest := [.ref a, .ref n, .ref n]) (av := [.ref a, .int x]) (z_siteV hb ho zc1 k_4 q1733 q1339 q1340 ⟨_, _, _, _, zk_X2_row⟩ zy_X2_row zl_X2_row dX1_reach_13 : z_Site M _ _ _ _ _ ([.int x].reverse ++ .ref a :: [.ref a, .ref n, .ref n]) [.ref a, .ref n, .ref n] _) zk_X2_row q95 hrm (m_X2_row_ok (hL.ex (z_exN z_ex_r hD_1 eh_2)) ((z_exN z_ex_r hD_1 eh_2) _ _ hOE) hR4 hp0 hx hnd) (by omega) (by decide) (Nat.le_of_ble_eq_true rfl) (by omega) (by omega) (fun n_11 hn_11 => ?_)
  have hrw_12 := h9 p0 hp0
  unfold z_Rw at hrw_12
  have k_13 : h_2 (ra p0) = some (.inr (6, [.int (w (16 + 4 * p0)), .int (w (16 + 4 * p0 + 1)), .int (w (16 + 4 * p0 + 2)), .int (w (16 + 4 * p0 + 3))])) := (z_exN z_ex_r hD_1 eh_2) _ _ hrw_12
  refine z_callQ0 (b' := 0) (f' := 2) (rest := [.ref n]) (av := [.ref n, .ref a, .ref (ra p0)]) (z_siteI hb ho q1984 q1985 q1986 rfl zy_X19_init zl_X19_init dX1_reach_16 : z_Site M _ _ _ _ _ ([.ref a, .ref (ra p0)].reverse ++ .ref n :: [.ref n]) [.ref n] _) zk_X19_init q142 hrm (m_X19_init (hL.ex (z_exN z_ex_r hD_1 eh_2)) hS8 hD6 (z_nxs eh_2) (by omega) (by omega) k_13) (by omega) (by decide) (Nat.le_of_ble_eq_true rfl) (by omega) (by omega) (fun h_15 n_16 hq_14 hn_16 => ?_)
  obtain ⟨ec16, hct16, hce16, hle16, hfr16⟩ := hq_14
  have k_18 : h_15 t = some (.inr (0, [.ref a, x1, x2, x3, x4, x5, x6])) := hfr16 _ _ k_3 (Nat.ne_of_lt (hD_1 _ _ hX))
  have k_19 : h_15 a = some (.inr (1, [.ref lr, .ref ls, .ref lv, .int (nI D), .int (w 2), .int (w 4), .int (w 5), .int (w 6)])) := hfr16 _ _ k_4 (Nat.ne_of_lt (hD_1 _ _ h1))
  have k_20 : h_15 lr = some (.inr (20, [.int m0, .ref e0, .int (nI R)])) := hfr16 _ _ k_5 (Nat.ne_of_lt (hD_1 _ _ r1))
  have k_21 : h_15 e0 = some (.inl ((zm_G M).2.1 5, N0, .inr (.inr (.inr (.inr f0))))) := hfr16 _ _ k_6 (Nat.ne_of_lt (hD_1 _ _ r2))
  have k_22 : h_15 ls = some (.inr (20, [.int m9, .ref e, .int (nI S)])) := hfr16 _ _ k_7 (Nat.ne_of_lt (hD_1 _ _ h3))
  have k_23 : h_15 e = some (.inl ((zm_G M).2.1 5, N, .inr (.inr (.inr (.inr f))))) := hfr16 _ _ k_8 (Nat.ne_of_lt (hD_1 _ _ h4))
  have k_24 : h_15 lv = some (.inr (20, [.int mv, .ref ev, .int (nI S)])) := hfr16 _ _ k_9 (Nat.ne_of_lt (hD_1 _ _ v1))
  have k_25 : h_15 ev = some (.inl ((zm_G M).2.1 5, Nv, .inr (.inr (.inr (.inr fv))))) := hfr16 _ _ k_10 (Nat.ne_of_lt (hD_1 _ _ v2))
  have k_26 : h_15 (ra p0) = some (.inr (6, [.int (w (16 + 4 * p0)), .int (w (16 + 4 * p0 + 1)), .int (w (16 + 4 * p0 + 2)), .int (w (16 + 4 * p0 + 3))])) := hfr16 _ _ k_13 (z_neO k_13 (z_nxs eh_2) rfl)
  refine z_callN1 (b' := 0) (f' := 2) (rest := []) (av := [.ref n]) (z_siteV hb ho zc15 hct16 q2033 q2034 q2035 ⟨_, _, _, _, zk_X19_count⟩ zy_X19_count zl_X19_count dX1_reach_19 : z_Site M _ _ _ _ _ ([].reverse ++ .ref n :: []) [] _) zk_X19_count q142 hrm (m_X19_count hct16 hce16) (by omega) (by decide) (Nat.le_of_ble_eq_true rfl) (by omega) (by omega) (fun n_27 hn_27 => ?_)
  refine z_less (z_exT hD0 (by omega) (z_exN z_ex_r hD_1 eh_2) hfr16) ?_
  refine z_iret hb hr dX1_reach_22 ?_
  rw [hQ]
  exact ⟨rfl, rfl⟩

set_option maxHeartbeats 1000000 in
theorem m_X1_reach_no {l : Launch} {G : zG} {h : zH} {n : Nat} {t : Nat} {x1 x2 x3 x4 x5 x6 : Value} {w : Nat → Int32} {v : Nat → Int64} {R S D a lr ls lv : Nat} {ra sa va : Nat → Nat} {x : Int32} (hX : h t = some (.inr (0, [.ref a, x1, x2, x3, x4, x5, x6]))) (hL : z_Ln G h w v R S D a lr ls lv ra sa va) (hOE : h (G.2.2.1 1003) = some (.inr (25, [.null]))) (hR4 : R ≤ 40) (hno : ∀ p, p < R → w (16 + 4 * p) ≠ x) : z_C l G yX1_reach 12 45 110 [.ref t, .int x] h n (z_tf 26 [] h n) := by
  refine z_start zk_X1_reach zpl_RX1 (Nat.le_of_ble_eq_true rfl) ?_
  intro hn0 M hl hG ho hb hN hr hm hH hrm hQ
  subst hl hG
  have ho : zm_o M = RX1 := ho
  obtain ⟨h1, ⟨e0, N0, m0, f0, r1, r2, r3, ⟨r4, r4n⟩, r5⟩, ⟨e, N, m9, f, h3, h4, h5, ⟨h6, h6n⟩, h7⟩, ⟨ev, Nv, mv, fv, v1, v2, v3, ⟨v4, v4n⟩, v5⟩, h9, hs, hv, hi, hrI⟩ := id hL
  show z_V M h n 45 110 0 [(0, .ref t), (1, .int x)] []
  refine z_dom (fun hD0 => ?_)
  refine z_dom (fun hD_1 => ?_)
  refine z_new (N0 := 2) (b' := 44) (f' := 108) (fs := [.null, .null]) (C := RX19) (T := TX19) (N := 2) hb ho zc15 in_X19 tyX19_ok q1982 q1983 q142 dX1_reach_0 (zdf_X19) (by omega) (by omega) ?_
  refine z_hn (fun h_2 eh_2 => ?_)
  have eh_2 : h_2 = z_up h n (.inr (15, [.null, .null])) := eh_2
  have k_3 : h_2 t = some (.inr (0, [.ref a, x1, x2, x3, x4, x5, x6])) := z_nx eh_2 (Nat.ne_of_lt (hD_1 _ _ hX)) hX
  have k_4 : h_2 a = some (.inr (1, [.ref lr, .ref ls, .ref lv, .int (nI D), .int (w 2), .int (w 4), .int (w 5), .int (w 6)])) := z_nx eh_2 (Nat.ne_of_lt (hD_1 _ _ h1)) h1
  have k_5 : h_2 lr = some (.inr (20, [.int m0, .ref e0, .int (nI R)])) := z_nx eh_2 (Nat.ne_of_lt (hD_1 _ _ r1)) r1
  have k_6 : h_2 e0 = some (.inl ((zm_G M).2.1 5, N0, .inr (.inr (.inr (.inr f0))))) := z_nx eh_2 (Nat.ne_of_lt (hD_1 _ _ r2)) r2
  have k_7 : h_2 ls = some (.inr (20, [.int m9, .ref e, .int (nI S)])) := z_nx eh_2 (Nat.ne_of_lt (hD_1 _ _ h3)) h3
  have k_8 : h_2 e = some (.inl ((zm_G M).2.1 5, N, .inr (.inr (.inr (.inr f))))) := z_nx eh_2 (Nat.ne_of_lt (hD_1 _ _ h4)) h4
  have k_9 : h_2 lv = some (.inr (20, [.int mv, .ref ev, .int (nI S)])) := z_nx eh_2 (Nat.ne_of_lt (hD_1 _ _ v1)) v1
  have k_10 : h_2 ev = some (.inl ((zm_G M).2.1 5, Nv, .inr (.inr (.inr (.inr fv))))) := z_nx eh_2 (Nat.ne_of_lt (hD_1 _ _ v2)) v2
  refine z_dup hb dX1_reach_3 rfl ?_
  refine z_aload_n hb dX1_reach_4 rfl ?_
  refine z_get (k := 0) (C := RX1) (T := TX1) (N := 7) hb ho zc0 in_X1 (zf_RX1_41 _) dX1_reach_5 k_3 (by decide) rfl ?_
  refine z_aload_n hb dX1_reach_8 rfl ?_
  refine z_get (k := 0) (C := RX1) (T := TX1) (N := 7) hb ho zc0 in_X1 (zf_RX1_41 _) dX1_reach_9 k_3 (by decide) rfl ?_
  refine z_iload_n hb dX1_reach_12 rfl ?_
  refine z_callTf (b' := 1) (f' := 58) (rest := [.ref a, .ref n, .ref n]) (av := [.ref a, .int x]) (z_siteV hb ho zc1 k_4 q1733 q1339 q1340 ⟨_, _, _, _, zk_X2_row⟩ zy_X2_row zl_X2_row dX1_reach_13 : z_Site M _ _ _ _ _ ([.int x].reverse ++ .ref a :: [.ref a, .ref n, .ref n]) [.ref a, .ref n, .ref n] _) zk_X2_row q95 hrm (m_X2_row_no (hL.ex (z_exN z_ex_r hD_1 eh_2)) ((z_exN z_ex_r hD_1 eh_2) _ _ hOE) hR4 hno) (by omega) (by decide) (Nat.le_of_ble_eq_true rfl) (by omega) (by omega) (fun q_11 n_12 hq_11 hn_12 => ?_)
  refine z_lessX (z_ex_up (z_exN z_ex_r hD_1 eh_2)) ?_
  exact z_out ho hH zc26 z_up_s (by omega) (fun _ h => nomatch h) (by rw [hQ]; exact ⟨_, rfl, by omega, by omega, rfl⟩)

def z_rmk (w : Nat → Int32) (S D k d g : Nat) : Nat → Nat
  | 0 => 0
  | p + 1 => z_rmk w S D k d g p + (decide (w (16 + 4 * p + 2) = nI g) && z_mt w D (w (16 + 4 * p + 1)) (w (16 + 4 * p + 3)) S (7 * k + d)).toNat
theorem z_rmk_le {w : Nat → Int32} {S D k d g : Nat} : ∀ n, z_rmk w S D k d g n ≤ n
  | 0 => Nat.le_refl _
  | n + 1 => by
    have := z_rmk_le (w := w) (S := S) (D := D) (k := k) (d := d) (g := g) n
    rw [z_rmk]
    cases decide (w (16 + 4 * n + 2) = nI g) && z_mt w D (w (16 + 4 * n + 1)) (w (16 + 4 * n + 3)) S (7 * k + d) <;> simp <;> omega

set_option maxHeartbeats 1000000 in
theorem m_X1_rowsBehindByMarking_ok {l : Launch} {G : zG} {h : zH} {n : Nat} {t : Nat} {x1 x2 x3 x4 x5 x6 : Value} {w : Nat → Int32} {v : Nat → Int64} {R S D a lr ls lv : Nat} {ra sa va : Nat → Nat} {k d g : Nat} (hX : h t = some (.inr (0, [.ref a, x1, x2, x3, x4, x5, x6]))) (hL : z_Ln G h w v R S D a lr ls lv ra sa va) (hk : k < S) (hS8 : S ≤ 8) (hR4 : R ≤ 40) (hD6 : D ≤ 6) (hd : d ≤ D) (hg : g < 5) : z_C l G yX1_rowsBehindByMarking 12 90 2463 [.ref t, .int (nI k), .int (nI d), .int (nI (97 + g))] h n (z_rn (.int (nI (z_rmk w S D k d g R))) h) := by
  refine z_start zk_X1_rowsBehindByMarking zpl_RX1 (Nat.le_of_ble_eq_true rfl) ?_
  intro hn0 M hl hG ho hb hN hr hm hH hrm hQ
  subst hl hG
  have ho : zm_o M = RX1 := ho
  obtain ⟨h1, ⟨e0, N0, m0, f0, r1, r2, r3, ⟨r4, r4n⟩, r5⟩, ⟨e, N, m9, f, h3, h4, h5, ⟨h6, h6n⟩, h7⟩, ⟨ev, Nv, mv, fv, v1, v2, v3, ⟨v4, v4n⟩, v5⟩, h9, hs, hv, hi, hrI⟩ := id hL
  show z_V M h n 90 2463 0 [(0, .ref t), (1, .int (nI k)), (2, .int (nI d)), (3, .int (nI (97 + g)))] []
  refine z_dom (fun hD0 => ?_)
  refine z_aload_n hb dX1_rowsBehindByMarking_0 rfl ?_
  refine z_get (k := 0) (C := RX1) (T := TX1) (N := 7) hb ho zc0 in_X1 (zf_RX1_41 _) dX1_rowsBehindByMarking_1 hX (by decide) rfl ?_
  refine z_iload_n hb dX1_rowsBehindByMarking_4 rfl ?_
  refine z_call1 (b' := 89) (f' := 2457) (rest := []) (av := [.ref a, .int (nI k)]) (z_siteV hb ho zc1 h1 q1842 q1506 q1507 ⟨_, _, _, _, zk_X2_step⟩ zy_X2_step zl_X2_step dX1_rowsBehindByMarking_5 : z_Site M _ _ _ _ _ ([.int (nI k)].reverse ++ .ref a :: []) [] _) zk_X2_step q95 hrm (m_X2_step hL hS8 hk) (by omega) (by decide) (Nat.le_of_ble_eq_true rfl) (by omega) (by omega) ?_
  refine z_astore (lv' := [(4, .ref (sa k)), (0, .ref t), (1, .int (nI k)), (2, .int (nI d)), (3, .int (nI (97 + g)))]) hb dX1_rowsBehindByMarking_8 (by rw [hN]; decide) rfl ?_
  refine z_aload_n hb dX1_rowsBehindByMarking_10 rfl ?_
  refine z_get (k := 0) (C := RX1) (T := TX1) (N := 7) hb ho zc0 in_X1 (zf_RX1_41 _) dX1_rowsBehindByMarking_11 hX (by decide) rfl ?_
  refine z_iload_n hb dX1_rowsBehindByMarking_14 rfl ?_
  refine z_call0 (b' := 88) (f' := 2451) (rest := []) (av := [.ref a, .int (nI d)]) (z_siteV hb ho zc1 h1 q1894 q1610 q1611 ⟨_, _, _, _, zk_X2_requireDay⟩ zy_X2_requireDay zl_X2_requireDay dX1_rowsBehindByMarking_15 : z_Site M _ _ _ _ _ ([.int (nI d)].reverse ++ .ref a :: []) [] _) zk_X2_requireDay q95 hrm (m_X2_requireDay_ok h1 hD6 hd) (by omega) (by decide) (Nat.le_of_ble_eq_true rfl) (by omega) (by omega) ?_
  refine z_iload_n hb dX1_rowsBehindByMarking_18 rfl ?_
  refine z_call1 (b' := 87) (f' := 2445) (rest := []) (av := [.int (nI (97 + g))]) (z_siteS hb ho q1895 q1132 q94 ⟨_, _, _, _, zk_X1_groupNumber⟩ zy_X1_groupNumber zl_X1_groupNumber dX1_rowsBehindByMarking_19 : z_Site M _ _ _ _ _ ([.int (nI (97 + g))].reverse ++ []) [] _) zk_X1_groupNumber q94 hrm (m_X1_groupNumber_ok hg) (by omega) (by decide) (Nat.le_of_ble_eq_true rfl) (by omega) (by omega) ?_
  refine z_istore (lv' := [(5, .int (nI g)), (4, .ref (sa k)), (0, .ref t), (1, .int (nI k)), (2, .int (nI d)), (3, .int (nI (97 + g)))]) hb dX1_rowsBehindByMarking_22 (by rw [hN]; decide) rfl ?_
  refine z_iconst (x := nI 0) hb dX1_rowsBehindByMarking_24 (by decide) ?_
  refine z_istore (lv' := [(6, .int (nI 0)), (5, .int (nI g)), (4, .ref (sa k)), (0, .ref t), (1, .int (nI k)), (2, .int (nI d)), (3, .int (nI (97 + g)))]) hb dX1_rowsBehindByMarking_25 (by rw [hN]; decide) rfl ?_
  refine z_aload_n hb dX1_rowsBehindByMarking_27 rfl ?_
  refine z_get (k := 0) (C := RX1) (T := TX1) (N := 7) hb ho zc0 in_X1 (zf_RX1_41 _) dX1_rowsBehindByMarking_28 hX (by decide) rfl ?_
  refine z_get (k := 0) (C := RX2) (T := TX2) (N := 8) hb ho zc1 in_X2 (zf_RX1_123 _) dX1_rowsBehindByMarking_31 h1 (by decide) rfl ?_
  refine z_dom (fun hD_1 => ?_)
  refine z_call1 (b' := 86) (f' := 2441) (rest := []) (av := [.ref lr]) (z_siteF hb ho zc20 r1 q586 zx1 q343 q345 q346 q344 q321 zxl1 dX1_rowsBehindByMarking_34 : z_Site M _ _ _ _ _ ([].reverse ++ .ref lr :: []) [] _) zk_J2_iterator q98 hrm (m_J2_iterator r1 (hD_1 _ _ r1)) (by omega) (by decide) (Nat.le_of_ble_eq_true rfl) (by omega) (by omega) ?_
  refine z_hn (fun h_2 eh_2 => ?_)
  have eh_2 : h_2 = z_up h n (.inr (24, [.int (nI 0), .int (-1), .int m0, .ref lr])) := eh_2
  have k_3 : h_2 t = some (.inr (0, [.ref a, x1, x2, x3, x4, x5, x6])) := z_nx eh_2 (Nat.ne_of_lt (hD_1 _ _ hX)) hX
  have k_4 : h_2 a = some (.inr (1, [.ref lr, .ref ls, .ref lv, .int (nI D), .int (w 2), .int (w 4), .int (w 5), .int (w 6)])) := z_nx eh_2 (Nat.ne_of_lt (hD_1 _ _ h1)) h1
  have k_5 : h_2 lr = some (.inr (20, [.int m0, .ref e0, .int (nI R)])) := z_nx eh_2 (Nat.ne_of_lt (hD_1 _ _ r1)) r1
  have k_6 : h_2 e0 = some (.inl ((zm_G M).2.1 5, N0, .inr (.inr (.inr (.inr f0))))) := z_nx eh_2 (Nat.ne_of_lt (hD_1 _ _ r2)) r2
  have k_7 : h_2 ls = some (.inr (20, [.int m9, .ref e, .int (nI S)])) := z_nx eh_2 (Nat.ne_of_lt (hD_1 _ _ h3)) h3
  have k_8 : h_2 e = some (.inl ((zm_G M).2.1 5, N, .inr (.inr (.inr (.inr f))))) := z_nx eh_2 (Nat.ne_of_lt (hD_1 _ _ h4)) h4
  have k_9 : h_2 lv = some (.inr (20, [.int mv, .ref ev, .int (nI S)])) := z_nx eh_2 (Nat.ne_of_lt (hD_1 _ _ v1)) v1
  have k_10 : h_2 ev = some (.inl ((zm_G M).2.1 5, Nv, .inr (.inr (.inr (.inr fv))))) := z_nx eh_2 (Nat.ne_of_lt (hD_1 _ _ v2)) v2
  refine z_astore (lv' := [(7, .ref n), (6, .int (nI 0)), (5, .int (nI g)), (4, .ref (sa k)), (0, .ref t), (1, .int (nI k)), (2, .int (nI d)), (3, .int (nI (97 + g)))]) hb dX1_rowsBehindByMarking_39 (by rw [hN]; decide) rfl ?_
  have lp_41 : ∀ (k9_41 : Nat) (j : Nat) (lr9j : Int32) (nnj : Nat) (hhj : zH), R + 1 - j < k9_41 → (j ≤ R) → (n < nnj) → (z_ex h hhj) → (hhj n = some (.inr (24, [.int (nI j), .int lr9j, .int m0, .ref lr]))) → z_V M hhj nnj (2 * (R - j)) (58 * (R - j)) 41 [(7, .ref n), (6, .int (nI (z_rmk w S D k d g j))), (5, .int (nI g)), (4, .ref (sa k)), (0, .ref t), (1, .int (nI k)), (2, .int (nI d)), (3, .int (nI (97 + g)))] [] := by
    intro k9_41
    induction k9_41 with
    | zero => intro j lr9j nnj hhj hk9_41; exact absurd hk9_41 (Nat.not_lt_zero _)
    | succ k9_41 ih_41 =>
      intro j lr9j nnj hhj hk9_41 hj hnnj hEj hTj
      refine z_aload hb dX1_rowsBehindByMarking_41 rfl ?_
      refine z_call1 (b' := 2 * (R - j)) (f' := 58 * (R - j)) (rest := []) (av := [.ref n]) (z_siteF hb ho zc24 hTj q588 zx2 q372 q374 q375 q373 q371 zxl2 dX1_rowsBehindByMarking_43 : z_Site M _ _ _ _ _ ([].reverse ++ .ref n :: []) [] _) zk_J8_hasNext q105 hrm (m_J8_hasNext hTj (hEj _ _ r1) (by omega) (by omega)) (by omega) (by decide) (Nat.le_of_ble_eq_true rfl) (by omega) (by omega) ?_
      refine z_ifb_eq (tgt := 120) hb dX1_rowsBehindByMarking_48 (by decide) (fun c_48 => ?_) (fun c_48 => ?_)
      · have hx_j : j = R := by simpa using c_48
        refine z_iload hb dX1_rowsBehindByMarking_120 rfl ?_
        refine z_less hEj ?_
        refine z_iret hb hr dX1_rowsBehindByMarking_122 ?_
        rw [hQ]
        subst hx_j
        exact ⟨rfl, rfl⟩
      · have hl_j : j < R := Nat.lt_of_le_of_ne hj (by simpa using c_48)
        refine z_aload hb dX1_rowsBehindByMarking_51 rfl ?_
        refine z_call1 (b' := 2 * (R - j)) (f' := 58 * (R - j)) (rest := []) (av := [.ref n]) (z_siteF hb ho zc24 hTj q590 zx3 q381 q383 q384 q382 q371 zxl3 dX1_rowsBehindByMarking_53 : z_Site M _ _ _ _ _ ([].reverse ++ .ref n :: []) [] _) zk_J8_next q105 hrm (m_J8_next hTj (hEj _ _ r1) (hEj _ _ r2) (by omega) (by omega) r5 (by omega) (by omega)) (by omega) (by decide) (Nat.le_of_ble_eq_true rfl) (by omega) (by omega) ?_
        refine z_hn (fun h_11 eh_11 => ?_)
        have eh_11 : h_11 = z_up hhj n (.inr (24, [.int (nI (j + 1)), .int (nI j), .int m0, .ref lr])) := eh_11
        have k_12 : h_11 t = some (.inr (0, [.ref a, x1, x2, x3, x4, x5, x6])) := z_nx eh_11 (Nat.ne_of_lt (hD_1 _ _ hX)) (hEj _ _ hX)
        have k_13 : h_11 a = some (.inr (1, [.ref lr, .ref ls, .ref lv, .int (nI D), .int (w 2), .int (w 4), .int (w 5), .int (w 6)])) := z_nx eh_11 (Nat.ne_of_lt (hD_1 _ _ h1)) (hEj _ _ h1)
        have k_14 : h_11 lr = some (.inr (20, [.int m0, .ref e0, .int (nI R)])) := z_nx eh_11 (Nat.ne_of_lt (hD_1 _ _ r1)) (hEj _ _ r1)
        have k_15 : h_11 e0 = some (.inl ((zm_G M).2.1 5, N0, .inr (.inr (.inr (.inr f0))))) := z_nx eh_11 (Nat.ne_of_lt (hD_1 _ _ r2)) (hEj _ _ r2)
        have k_16 : h_11 ls = some (.inr (20, [.int m9, .ref e, .int (nI S)])) := z_nx eh_11 (Nat.ne_of_lt (hD_1 _ _ h3)) (hEj _ _ h3)
        have k_17 : h_11 e = some (.inl ((zm_G M).2.1 5, N, .inr (.inr (.inr (.inr f))))) := z_nx eh_11 (Nat.ne_of_lt (hD_1 _ _ h4)) (hEj _ _ h4)
        have k_18 : h_11 lv = some (.inr (20, [.int mv, .ref ev, .int (nI S)])) := z_nx eh_11 (Nat.ne_of_lt (hD_1 _ _ v1)) (hEj _ _ v1)
        have k_19 : h_11 ev = some (.inl ((zm_G M).2.1 5, Nv, .inr (.inr (.inr (.inr fv))))) := z_nx eh_11 (Nat.ne_of_lt (hD_1 _ _ v2)) (hEj _ _ v2)
        have hrw_20 := h9 j (by omega)
        unfold z_Rw at hrw_20
        have k_21 : h_11 (ra j) = some (.inr (6, [.int (w (16 + 4 * j)), .int (w (16 + 4 * j + 1)), .int (w (16 + 4 * j + 2)), .int (w (16 + 4 * j + 3))])) := (z_exW hD0 (by omega) eh_11 hEj) _ _ hrw_20
        refine z_cast hb ho zc6 k_21 q1725 (Or.inl rfl) dX1_rowsBehindByMarking_58 ?_
        refine z_astore (lv' := [(8, .ref (ra j)), (7, .ref n), (6, .int (nI (z_rmk w S D k d g j))), (5, .int (nI g)), (4, .ref (sa k)), (0, .ref t), (1, .int (nI k)), (2, .int (nI d)), (3, .int (nI (97 + g)))]) hb dX1_rowsBehindByMarking_61 (by rw [hN]; decide) rfl ?_
        refine z_aload hb dX1_rowsBehindByMarking_63 rfl ?_
        refine z_get (k := 2) (C := RX7) (T := TX7) (N := 4) hb ho zc6 in_X7 (zf_RX1_148 _) dX1_rowsBehindByMarking_65 k_21 (by decide) rfl ?_
        refine z_iload hb dX1_rowsBehindByMarking_68 rfl ?_
        refine z_icmp_ne (tgt := 99) hb dX1_rowsBehindByMarking_70 (by decide) (fun c_70 => ?_) (fun c_70 => ?_)
        · refine z_iconst (x := nI 0) hb dX1_rowsBehindByMarking_99 (by decide) ?_
          refine z_istore (lv' := [(9, .int (nI 0)), (8, .ref (ra j)), (7, .ref n), (6, .int (nI (z_rmk w S D k d g j))), (5, .int (nI g)), (4, .ref (sa k)), (0, .ref t), (1, .int (nI k)), (2, .int (nI d)), (3, .int (nI (97 + g)))]) hb dX1_rowsBehindByMarking_100 (by rw [hN]; decide) rfl ?_
          refine z_iload hb dX1_rowsBehindByMarking_102 rfl ?_
          refine z_iload hb dX1_rowsBehindByMarking_104 rfl ?_
          refine z_if_eqN (tgt := 113) hb dX1_rowsBehindByMarking_106 (by decide) (by omega) (fun c_106 => ?_) (fun c_106 => ?_)
          · refine z_iconst (x := nI 0) hb dX1_rowsBehindByMarking_113 (by decide) ?_
            refine z_iadd hb dX1_rowsBehindByMarking_114 ?_
            refine z_toI (y := nI (z_rmk w S D k d g j)) (nI_add (z_rmk w S D k d g j) 0) ?_
            refine z_toI (y := nI (z_rmk w S D k d g (j + 1))) (by rw [z_rmk, decide_eq_false c_70]; rfl) ?_
            refine z_istore (lv' := [(6, .int (nI (z_rmk w S D k d g (j + 1)))), (9, .int (nI 0)), (8, .ref (ra j)), (7, .ref n), (5, .int (nI g)), (4, .ref (sa k)), (0, .ref t), (1, .int (nI k)), (2, .int (nI d)), (3, .int (nI (97 + g)))]) hb dX1_rowsBehindByMarking_115 (by rw [hN]; decide) rfl ?_
            refine z_goto (tgt := 41) hb dX1_rowsBehindByMarking_117 (by decide) ?_
            refine z_lv [3, 0, 4, 5, 6, 7, 8, 9] (lv' := [(7, .ref n), (6, .int (nI (z_rmk w S D k d g (j + 1)))), (5, .int (nI g)), (4, .ref (sa k)), (0, .ref t), (1, .int (nI k)), (2, .int (nI d)), (3, .int (nI (97 + g)))]) rfl ?_
            exact z_bf (by omega) (by omega) (ih_41 (j + 1) _ nnj h_11  (by omega) (by omega) (by omega) (z_exW hD_1 (by omega) eh_11 hEj) (z_nxs eh_11) )
          · exact absurd c_106 (by omega)
        · refine z_dom (fun hD_22 => ?_)
          refine z_new (N0 := 2) (b' := (2 * (R - j)) - 1) (f' := (58 * (R - j)) - 2) (fs := [.null, .null]) (C := RX19) (T := TX19) (N := 2) hb ho zc15 in_X19 tyX19_ok q1982 q1983 q142 dX1_rowsBehindByMarking_73 (zdf_X19) (by omega) (by omega) ?_
          refine z_hn (fun h_23 eh_23 => ?_)
          have eh_23 : h_23 = z_up h_11 nnj (.inr (15, [.null, .null])) := eh_23
          have k_24 : h_23 t = some (.inr (0, [.ref a, x1, x2, x3, x4, x5, x6])) := z_nx eh_23 (Nat.ne_of_lt (hD_22 _ _ k_12)) k_12
          have k_25 : h_23 a = some (.inr (1, [.ref lr, .ref ls, .ref lv, .int (nI D), .int (w 2), .int (w 4), .int (w 5), .int (w 6)])) := z_nx eh_23 (Nat.ne_of_lt (hD_22 _ _ k_13)) k_13
          have k_26 : h_23 lr = some (.inr (20, [.int m0, .ref e0, .int (nI R)])) := z_nx eh_23 (Nat.ne_of_lt (hD_22 _ _ k_14)) k_14
          have k_27 : h_23 e0 = some (.inl ((zm_G M).2.1 5, N0, .inr (.inr (.inr (.inr f0))))) := z_nx eh_23 (Nat.ne_of_lt (hD_22 _ _ k_15)) k_15
          have k_28 : h_23 ls = some (.inr (20, [.int m9, .ref e, .int (nI S)])) := z_nx eh_23 (Nat.ne_of_lt (hD_22 _ _ k_16)) k_16
          have k_29 : h_23 e = some (.inl ((zm_G M).2.1 5, N, .inr (.inr (.inr (.inr f))))) := z_nx eh_23 (Nat.ne_of_lt (hD_22 _ _ k_17)) k_17
          have k_30 : h_23 lv = some (.inr (20, [.int mv, .ref ev, .int (nI S)])) := z_nx eh_23 (Nat.ne_of_lt (hD_22 _ _ k_18)) k_18
          have k_31 : h_23 ev = some (.inl ((zm_G M).2.1 5, Nv, .inr (.inr (.inr (.inr fv))))) := z_nx eh_23 (Nat.ne_of_lt (hD_22 _ _ k_19)) k_19
          have k_32 : h_23 n = some (.inr (24, [.int (nI (j + 1)), .int (nI j), .int m0, .ref lr])) := z_nx eh_23 (Nat.ne_of_lt (hD_22 _ _ (z_nxs eh_11))) (z_nxs eh_11)
          have k_33 : h_23 (ra j) = some (.inr (6, [.int (w (16 + 4 * j)), .int (w (16 + 4 * j + 1)), .int (w (16 + 4 * j + 2)), .int (w (16 + 4 * j + 3))])) := z_nx eh_23 (Nat.ne_of_lt (hD_22 _ _ k_21)) k_21
          refine z_dup hb dX1_rowsBehindByMarking_76 rfl ?_
          refine z_aload_n hb dX1_rowsBehindByMarking_77 rfl ?_
          refine z_get (k := 0) (C := RX1) (T := TX1) (N := 7) hb ho zc0 in_X1 (zf_RX1_41 _) dX1_rowsBehindByMarking_78 k_24 (by decide) rfl ?_
          refine z_aload hb dX1_rowsBehindByMarking_81 rfl ?_
          refine z_callQ0 (b' := ((2 * (R - j)) - 1) - 1) (f' := ((58 * (R - j)) - 2) - 56) (rest := [.ref nnj]) (av := [.ref nnj, .ref a, .ref (ra j)]) (z_siteI hb ho q1984 q1985 q1986 rfl zy_X19_init zl_X19_init dX1_rowsBehindByMarking_83 : z_Site M _ _ _ _ _ ([.ref a, .ref (ra j)].reverse ++ .ref nnj :: [.ref nnj]) [.ref nnj] _) zk_X19_init q142 hrm (m_X19_init (hL.ex (z_exN (z_exW hD0 (by omega) eh_11 hEj) hD_22 eh_23)) hS8 hD6 (z_nxs eh_23) (by omega) (by omega) k_33) (by omega) (by decide) (Nat.le_of_ble_eq_true rfl) (by omega) (by omega) (fun h_35 n_36 hq_34 hn_36 => ?_)
          obtain ⟨ec36, hct36, hce36, hle36, hfr36⟩ := hq_34
          have k_38 : h_35 t = some (.inr (0, [.ref a, x1, x2, x3, x4, x5, x6])) := hfr36 _ _ k_24 (Nat.ne_of_lt (hD_22 _ _ k_12))
          have k_39 : h_35 a = some (.inr (1, [.ref lr, .ref ls, .ref lv, .int (nI D), .int (w 2), .int (w 4), .int (w 5), .int (w 6)])) := hfr36 _ _ k_25 (Nat.ne_of_lt (hD_22 _ _ k_13))
          have k_40 : h_35 lr = some (.inr (20, [.int m0, .ref e0, .int (nI R)])) := hfr36 _ _ k_26 (Nat.ne_of_lt (hD_22 _ _ k_14))
          have k_41 : h_35 e0 = some (.inl ((zm_G M).2.1 5, N0, .inr (.inr (.inr (.inr f0))))) := hfr36 _ _ k_27 (Nat.ne_of_lt (hD_22 _ _ k_15))
          have k_42 : h_35 ls = some (.inr (20, [.int m9, .ref e, .int (nI S)])) := hfr36 _ _ k_28 (Nat.ne_of_lt (hD_22 _ _ k_16))
          have k_43 : h_35 e = some (.inl ((zm_G M).2.1 5, N, .inr (.inr (.inr (.inr f))))) := hfr36 _ _ k_29 (Nat.ne_of_lt (hD_22 _ _ k_17))
          have k_44 : h_35 lv = some (.inr (20, [.int mv, .ref ev, .int (nI S)])) := hfr36 _ _ k_30 (Nat.ne_of_lt (hD_22 _ _ k_18))
          have k_45 : h_35 ev = some (.inl ((zm_G M).2.1 5, Nv, .inr (.inr (.inr (.inr fv))))) := hfr36 _ _ k_31 (Nat.ne_of_lt (hD_22 _ _ k_19))
          have k_46 : h_35 n = some (.inr (24, [.int (nI (j + 1)), .int (nI j), .int m0, .ref lr])) := hfr36 _ _ k_32 (Nat.ne_of_lt (hD_22 _ _ (z_nxs eh_11)))
          have k_47 : h_35 (ra j) = some (.inr (6, [.int (w (16 + 4 * j)), .int (w (16 + 4 * j + 1)), .int (w (16 + 4 * j + 2)), .int (w (16 + 4 * j + 3))])) := hfr36 _ _ k_33 (Nat.ne_of_lt (hD_22 _ _ k_21))
          refine z_aload hb dX1_rowsBehindByMarking_86 rfl ?_
          refine z_iload_n hb dX1_rowsBehindByMarking_88 rfl ?_
          refine z_callN1 (b' := ((2 * (R - j)) - 1) - 1) (f' := ((58 * (R - j)) - 2) - 56) (rest := []) (av := [.ref nnj, .ref (sa k), .int (nI d)]) (z_siteV hb ho zc15 hct36 q2025 q2000 q2001 ⟨_, _, _, _, zk_X19_has⟩ zy_X19_has zl_X19_has dX1_rowsBehindByMarking_89 : z_Site M _ _ _ _ _ ([.ref (sa k), .int (nI d)].reverse ++ .ref nnj :: []) [] _) zk_X19_has q142 hrm (m_X19_has (hL.ex (z_exT hD0 (by omega) (z_exN (z_exW hD0 (by omega) eh_11 hEj) hD_22 eh_23) hfr36)) hS8 hD6 hct36 hce36 hk hd) (by omega) (by decide) (Nat.le_of_ble_eq_true rfl) (by omega) (by omega) (fun n_48 hn_48 => ?_)
          refine z_ifb_eq (tgt := 99) hb dX1_rowsBehindByMarking_92 (by decide) (fun c_92 => ?_) (fun c_92 => ?_)
          · refine z_iconst (x := nI 0) hb dX1_rowsBehindByMarking_99 (by decide) ?_
            refine z_istore (lv' := [(9, .int (nI 0)), (8, .ref (ra j)), (7, .ref n), (6, .int (nI (z_rmk w S D k d g j))), (5, .int (nI g)), (4, .ref (sa k)), (0, .ref t), (1, .int (nI k)), (2, .int (nI d)), (3, .int (nI (97 + g)))]) hb dX1_rowsBehindByMarking_100 (by rw [hN]; decide) rfl ?_
            refine z_iload hb dX1_rowsBehindByMarking_102 rfl ?_
            refine z_iload hb dX1_rowsBehindByMarking_104 rfl ?_
            refine z_if_eqN (tgt := 113) hb dX1_rowsBehindByMarking_106 (by decide) (by omega) (fun c_106 => ?_) (fun c_106 => ?_)
            · refine z_iconst (x := nI 0) hb dX1_rowsBehindByMarking_113 (by decide) ?_
              refine z_iadd hb dX1_rowsBehindByMarking_114 ?_
              refine z_toI (y := nI (z_rmk w S D k d g j)) (nI_add (z_rmk w S D k d g j) 0) ?_
              refine z_toI (y := nI (z_rmk w S D k d g (j + 1))) (by rw [z_rmk, decide_eq_true c_70, c_92]; rfl) ?_
              refine z_istore (lv' := [(6, .int (nI (z_rmk w S D k d g (j + 1)))), (9, .int (nI 0)), (8, .ref (ra j)), (7, .ref n), (5, .int (nI g)), (4, .ref (sa k)), (0, .ref t), (1, .int (nI k)), (2, .int (nI d)), (3, .int (nI (97 + g)))]) hb dX1_rowsBehindByMarking_115 (by rw [hN]; decide) rfl ?_
              refine z_goto (tgt := 41) hb dX1_rowsBehindByMarking_117 (by decide) ?_
              refine z_lv [3, 0, 4, 5, 6, 7, 8, 9] (lv' := [(7, .ref n), (6, .int (nI (z_rmk w S D k d g (j + 1)))), (5, .int (nI g)), (4, .ref (sa k)), (0, .ref t), (1, .int (nI k)), (2, .int (nI d)), (3, .int (nI (97 + g)))]) rfl ?_
              exact z_bf (by omega) (by omega) (ih_41 (j + 1) _ n_48 h_35  (by omega) (by omega) (by omega) (z_exT hD_1 (by omega) (z_exN (z_exW hD_1 (by omega) eh_11 hEj) hD_22 eh_23) hfr36) k_46 )
            · exact absurd c_106 (by omega)
          · refine z_iconst (x := nI 1) hb dX1_rowsBehindByMarking_95 (by decide) ?_
            refine z_goto (tgt := 100) hb dX1_rowsBehindByMarking_96 (by decide) ?_
            refine z_istore (lv' := [(9, .int (nI 1)), (8, .ref (ra j)), (7, .ref n), (6, .int (nI (z_rmk w S D k d g j))), (5, .int (nI g)), (4, .ref (sa k)), (0, .ref t), (1, .int (nI k)), (2, .int (nI d)), (3, .int (nI (97 + g)))]) hb dX1_rowsBehindByMarking_100 (by rw [hN]; decide) rfl ?_
            refine z_iload hb dX1_rowsBehindByMarking_102 rfl ?_
            refine z_iload hb dX1_rowsBehindByMarking_104 rfl ?_
            refine z_if_eqN (tgt := 113) hb dX1_rowsBehindByMarking_106 (by decide) (by omega) (fun c_106 => ?_) (fun c_106 => ?_)
            · exact absurd c_106 (by omega)
            · refine z_iconst (x := nI 1) hb dX1_rowsBehindByMarking_109 (by decide) ?_
              refine z_goto (tgt := 114) hb dX1_rowsBehindByMarking_110 (by decide) ?_
              refine z_iadd hb dX1_rowsBehindByMarking_114 ?_
              refine z_toI (y := nI (z_rmk w S D k d g j + 1)) (nI_add (z_rmk w S D k d g j) 1) ?_
              refine z_toI (y := nI (z_rmk w S D k d g (j + 1))) (by rw [z_rmk, decide_eq_true c_70, c_92]; rfl) ?_
              refine z_istore (lv' := [(6, .int (nI (z_rmk w S D k d g (j + 1)))), (9, .int (nI 1)), (8, .ref (ra j)), (7, .ref n), (5, .int (nI g)), (4, .ref (sa k)), (0, .ref t), (1, .int (nI k)), (2, .int (nI d)), (3, .int (nI (97 + g)))]) hb dX1_rowsBehindByMarking_115 (by rw [hN]; decide) rfl ?_
              refine z_goto (tgt := 41) hb dX1_rowsBehindByMarking_117 (by decide) ?_
              refine z_lv [3, 0, 4, 5, 6, 7, 8, 9] (lv' := [(7, .ref n), (6, .int (nI (z_rmk w S D k d g (j + 1)))), (5, .int (nI g)), (4, .ref (sa k)), (0, .ref t), (1, .int (nI k)), (2, .int (nI d)), (3, .int (nI (97 + g)))]) rfl ?_
              exact z_bf (by omega) (by omega) (ih_41 (j + 1) _ n_48 h_35  (by omega) (by omega) (by omega) (z_exT hD_1 (by omega) (z_exN (z_exW hD_1 (by omega) eh_11 hEj) hD_22 eh_23) hfr36) k_46 )
  refine z_lv [0, 1, 2, 3, 4, 5, 6, 7] (lv' := [(7, .ref n), (6, .int (nI 0)), (5, .int (nI g)), (4, .ref (sa k)), (0, .ref t), (1, .int (nI k)), (2, .int (nI d)), (3, .int (nI (97 + g)))]) rfl ?_
  exact z_bf (by omega) (by omega) (lp_41 _ 0 (-1) (n + 1) h_2  (Nat.lt_succ_self _) (Nat.zero_le _) (by omega) (z_exN z_ex_r hD_1 eh_2) (z_nxs eh_2) )

set_option maxHeartbeats 1000000 in
theorem m_X1_rowsBehindByMarking_no1 {l : Launch} {G : zG} {h : zH} {n : Nat} {t : Nat} {x1 x2 x3 x4 x5 x6 : Value} {w : Nat → Int32} {v : Nat → Int64} {R S D a lr ls lv : Nat} {ra sa va : Nat → Nat} {x y z : Int32} (hX : h t = some (.inr (0, [.ref a, x1, x2, x3, x4, x5, x6]))) (hL : z_Ln G h w v R S D a lr ls lv ra sa va) (hx : tw_isS S x = false) (hS8 : S ≤ 8) : z_C l G yX1_rowsBehindByMarking 10 4 24 [.ref t, .int x, .int y, .int z] h n (z_tf 28 [] h n) := by
  refine z_start zk_X1_rowsBehindByMarking zpl_RX1 (Nat.le_of_ble_eq_true rfl) ?_
  intro hn0 M hl hG ho hb hN hr hm hH hrm hQ
  subst hl hG
  have ho : zm_o M = RX1 := ho
  obtain ⟨h1, ⟨e0, N0, m0, f0, r1, r2, r3, ⟨r4, r4n⟩, r5⟩, ⟨e, N, m9, f, h3, h4, h5, ⟨h6, h6n⟩, h7⟩, ⟨ev, Nv, mv, fv, v1, v2, v3, ⟨v4, v4n⟩, v5⟩, h9, hs, hv, hi, hrI⟩ := id hL
  show z_V M h n 4 24 0 [(0, .ref t), (1, .int x), (2, .int y), (3, .int z)] []
  refine z_dom (fun hD0 => ?_)
  refine z_aload_n hb dX1_rowsBehindByMarking_0 rfl ?_
  refine z_get (k := 0) (C := RX1) (T := TX1) (N := 7) hb ho zc0 in_X1 (zf_RX1_41 _) dX1_rowsBehindByMarking_1 hX (by decide) rfl ?_
  refine z_iload_n hb dX1_rowsBehindByMarking_4 rfl ?_
  refine z_callTf (b' := 3) (f' := 18) (rest := []) (av := [.ref a, .int x]) (z_siteV hb ho zc1 h1 q1842 q1506 q1507 ⟨_, _, _, _, zk_X2_step⟩ zy_X2_step zl_X2_step dX1_rowsBehindByMarking_5 : z_Site M _ _ _ _ _ ([.int x].reverse ++ .ref a :: []) [] _) zk_X2_step q95 hrm (z_C.tf (m_X2_step_no hL hS8 hx)) (by omega) (by decide) (Nat.le_of_ble_eq_true rfl) (by omega) (by omega) (fun q_1 n_2 hq_1 hn_2 => ?_)
  exact z_out ho hH zc28 z_up_s (by omega) (fun _ h => nomatch h) (by rw [hQ]; exact ⟨_, rfl, by omega, by omega, rfl⟩)

set_option maxHeartbeats 1000000 in
theorem m_X1_rowsBehindByMarking_no2 {l : Launch} {G : zG} {h : zH} {n : Nat} {t : Nat} {x1 x2 x3 x4 x5 x6 : Value} {w : Nat → Int32} {v : Nat → Int64} {R S D a lr ls lv : Nat} {ra sa va : Nat → Nat} {k : Nat} {x z : Int32} (hX : h t = some (.inr (0, [.ref a, x1, x2, x3, x4, x5, x6]))) (hL : z_Ln G h w v R S D a lr ls lv ra sa va) (hk : k < S) (hS8 : S ≤ 8) (hD6 : D ≤ 6) (hx : decide (nI 0 ≤ x ∧ x ≤ nI D) = false) : z_C l G yX1_rowsBehindByMarking 10 4 24 [.ref t, .int (nI k), .int x, .int z] h n (z_tf 27 [] h n) := by
  refine z_start zk_X1_rowsBehindByMarking zpl_RX1 (Nat.le_of_ble_eq_true rfl) ?_
  intro hn0 M hl hG ho hb hN hr hm hH hrm hQ
  subst hl hG
  have ho : zm_o M = RX1 := ho
  obtain ⟨h1, ⟨e0, N0, m0, f0, r1, r2, r3, ⟨r4, r4n⟩, r5⟩, ⟨e, N, m9, f, h3, h4, h5, ⟨h6, h6n⟩, h7⟩, ⟨ev, Nv, mv, fv, v1, v2, v3, ⟨v4, v4n⟩, v5⟩, h9, hs, hv, hi, hrI⟩ := id hL
  show z_V M h n 4 24 0 [(0, .ref t), (1, .int (nI k)), (2, .int x), (3, .int z)] []
  refine z_dom (fun hD0 => ?_)
  refine z_aload_n hb dX1_rowsBehindByMarking_0 rfl ?_
  refine z_get (k := 0) (C := RX1) (T := TX1) (N := 7) hb ho zc0 in_X1 (zf_RX1_41 _) dX1_rowsBehindByMarking_1 hX (by decide) rfl ?_
  refine z_iload_n hb dX1_rowsBehindByMarking_4 rfl ?_
  refine z_call1 (b' := 3) (f' := 18) (rest := []) (av := [.ref a, .int (nI k)]) (z_siteV hb ho zc1 h1 q1842 q1506 q1507 ⟨_, _, _, _, zk_X2_step⟩ zy_X2_step zl_X2_step dX1_rowsBehindByMarking_5 : z_Site M _ _ _ _ _ ([.int (nI k)].reverse ++ .ref a :: []) [] _) zk_X2_step q95 hrm (m_X2_step hL hS8 hk) (by omega) (by decide) (Nat.le_of_ble_eq_true rfl) (by omega) (by omega) ?_
  refine z_astore (lv' := [(4, .ref (sa k)), (0, .ref t), (1, .int (nI k)), (2, .int x), (3, .int z)]) hb dX1_rowsBehindByMarking_8 (by rw [hN]; decide) rfl ?_
  refine z_aload_n hb dX1_rowsBehindByMarking_10 rfl ?_
  refine z_get (k := 0) (C := RX1) (T := TX1) (N := 7) hb ho zc0 in_X1 (zf_RX1_41 _) dX1_rowsBehindByMarking_11 hX (by decide) rfl ?_
  refine z_iload_n hb dX1_rowsBehindByMarking_14 rfl ?_
  refine z_callTf (b' := 2) (f' := 12) (rest := []) (av := [.ref a, .int x]) (z_siteV hb ho zc1 h1 q1894 q1610 q1611 ⟨_, _, _, _, zk_X2_requireDay⟩ zy_X2_requireDay zl_X2_requireDay dX1_rowsBehindByMarking_15 : z_Site M _ _ _ _ _ ([.int x].reverse ++ .ref a :: []) [] _) zk_X2_requireDay q95 hrm (z_C.tf (m_X2_requireDay_no h1 hD6 hx)) (by omega) (by decide) (Nat.le_of_ble_eq_true rfl) (by omega) (by omega) (fun q_1 n_2 hq_1 hn_2 => ?_)
  exact z_out ho hH zc27 z_up_s (by omega) (fun _ h => nomatch h) (by rw [hQ]; exact ⟨_, rfl, by omega, by omega, rfl⟩)

set_option maxHeartbeats 1000000 in
theorem m_X1_rowsBehindByMarking_no3 {l : Launch} {G : zG} {h : zH} {n : Nat} {t : Nat} {x1 x2 x3 x4 x5 x6 : Value} {w : Nat → Int32} {v : Nat → Int64} {R S D a lr ls lv : Nat} {ra sa va : Nat → Nat} {k d : Nat} {x : Int32} (hX : h t = some (.inr (0, [.ref a, x1, x2, x3, x4, x5, x6]))) (hL : z_Ln G h w v R S D a lr ls lv ra sa va) (hk : k < S) (hS8 : S ≤ 8) (hD6 : D ≤ 6) (hd : d ≤ D) (hx : decide (nI 97 ≤ x ∧ x ≤ nI 101) = false) : z_C l G yX1_rowsBehindByMarking 10 4 24 [.ref t, .int (nI k), .int (nI d), .int x] h n (z_tf 27 [] h n) := by
  refine z_start zk_X1_rowsBehindByMarking zpl_RX1 (Nat.le_of_ble_eq_true rfl) ?_
  intro hn0 M hl hG ho hb hN hr hm hH hrm hQ
  subst hl hG
  have ho : zm_o M = RX1 := ho
  obtain ⟨h1, ⟨e0, N0, m0, f0, r1, r2, r3, ⟨r4, r4n⟩, r5⟩, ⟨e, N, m9, f, h3, h4, h5, ⟨h6, h6n⟩, h7⟩, ⟨ev, Nv, mv, fv, v1, v2, v3, ⟨v4, v4n⟩, v5⟩, h9, hs, hv, hi, hrI⟩ := id hL
  show z_V M h n 4 24 0 [(0, .ref t), (1, .int (nI k)), (2, .int (nI d)), (3, .int x)] []
  refine z_dom (fun hD0 => ?_)
  refine z_aload_n hb dX1_rowsBehindByMarking_0 rfl ?_
  refine z_get (k := 0) (C := RX1) (T := TX1) (N := 7) hb ho zc0 in_X1 (zf_RX1_41 _) dX1_rowsBehindByMarking_1 hX (by decide) rfl ?_
  refine z_iload_n hb dX1_rowsBehindByMarking_4 rfl ?_
  refine z_call1 (b' := 3) (f' := 18) (rest := []) (av := [.ref a, .int (nI k)]) (z_siteV hb ho zc1 h1 q1842 q1506 q1507 ⟨_, _, _, _, zk_X2_step⟩ zy_X2_step zl_X2_step dX1_rowsBehindByMarking_5 : z_Site M _ _ _ _ _ ([.int (nI k)].reverse ++ .ref a :: []) [] _) zk_X2_step q95 hrm (m_X2_step hL hS8 hk) (by omega) (by decide) (Nat.le_of_ble_eq_true rfl) (by omega) (by omega) ?_
  refine z_astore (lv' := [(4, .ref (sa k)), (0, .ref t), (1, .int (nI k)), (2, .int (nI d)), (3, .int x)]) hb dX1_rowsBehindByMarking_8 (by rw [hN]; decide) rfl ?_
  refine z_aload_n hb dX1_rowsBehindByMarking_10 rfl ?_
  refine z_get (k := 0) (C := RX1) (T := TX1) (N := 7) hb ho zc0 in_X1 (zf_RX1_41 _) dX1_rowsBehindByMarking_11 hX (by decide) rfl ?_
  refine z_iload_n hb dX1_rowsBehindByMarking_14 rfl ?_
  refine z_call0 (b' := 2) (f' := 12) (rest := []) (av := [.ref a, .int (nI d)]) (z_siteV hb ho zc1 h1 q1894 q1610 q1611 ⟨_, _, _, _, zk_X2_requireDay⟩ zy_X2_requireDay zl_X2_requireDay dX1_rowsBehindByMarking_15 : z_Site M _ _ _ _ _ ([.int (nI d)].reverse ++ .ref a :: []) [] _) zk_X2_requireDay q95 hrm (m_X2_requireDay_ok h1 hD6 hd) (by omega) (by decide) (Nat.le_of_ble_eq_true rfl) (by omega) (by omega) ?_
  refine z_iload_n hb dX1_rowsBehindByMarking_18 rfl ?_
  refine z_callTf (b' := 1) (f' := 6) (rest := []) (av := [.int x]) (z_siteS hb ho q1895 q1132 q94 ⟨_, _, _, _, zk_X1_groupNumber⟩ zy_X1_groupNumber zl_X1_groupNumber dX1_rowsBehindByMarking_19 : z_Site M _ _ _ _ _ ([.int x].reverse ++ []) [] _) zk_X1_groupNumber q94 hrm (z_C.tf (m_X1_groupNumber_no hx)) (by omega) (by decide) (Nat.le_of_ble_eq_true rfl) (by omega) (by omega) (fun q_1 n_2 hq_1 hn_2 => ?_)
  exact z_out ho hH zc27 z_up_s (by omega) (fun _ h => nomatch h) (by rw [hQ]; exact ⟨_, rfl, by omega, by omega, rfl⟩)

set_option maxHeartbeats 1000000 in
theorem m_X1_rowsBehind_no1 {l : Launch} {G : zG} {h : zH} {n : Nat} {t : Nat} {x1 x2 x3 x4 x5 x6 : Value} {w : Nat → Int32} {v : Nat → Int64} {R S D a lr ls lv : Nat} {ra sa va : Nat → Nat} {x y z : Int32} (hX : h t = some (.inr (0, [.ref a, x1, x2, x3, x4, x5, x6]))) (hL : z_Ln G h w v R S D a lr ls lv ra sa va) (hx : tw_isS S x = false) (hS8 : S ≤ 8) : z_C l G yX1_rowsBehind 10 4 24 [.ref t, .int x, .int y, .int z] h n (z_tf 28 [] h n) := by
  refine z_start zk_X1_rowsBehind zpl_RX1 (Nat.le_of_ble_eq_true rfl) ?_
  intro hn0 M hl hG ho hb hN hr hm hH hrm hQ
  subst hl hG
  have ho : zm_o M = RX1 := ho
  obtain ⟨h1, ⟨e0, N0, m0, f0, r1, r2, r3, ⟨r4, r4n⟩, r5⟩, ⟨e, N, m9, f, h3, h4, h5, ⟨h6, h6n⟩, h7⟩, ⟨ev, Nv, mv, fv, v1, v2, v3, ⟨v4, v4n⟩, v5⟩, h9, hs, hv, hi, hrI⟩ := id hL
  show z_V M h n 4 24 0 [(0, .ref t), (1, .int x), (2, .int y), (3, .int z)] []
  refine z_dom (fun hD0 => ?_)
  refine z_aload_n hb dX1_rowsBehind_0 rfl ?_
  refine z_get (k := 0) (C := RX1) (T := TX1) (N := 7) hb ho zc0 in_X1 (zf_RX1_41 _) dX1_rowsBehind_1 hX (by decide) rfl ?_
  refine z_iload_n hb dX1_rowsBehind_4 rfl ?_
  refine z_callTf (b' := 3) (f' := 18) (rest := []) (av := [.ref a, .int x]) (z_siteV hb ho zc1 h1 q1842 q1506 q1507 ⟨_, _, _, _, zk_X2_step⟩ zy_X2_step zl_X2_step dX1_rowsBehind_5 : z_Site M _ _ _ _ _ ([.int x].reverse ++ .ref a :: []) [] _) zk_X2_step q95 hrm (z_C.tf (m_X2_step_no hL hS8 hx)) (by omega) (by decide) (Nat.le_of_ble_eq_true rfl) (by omega) (by omega) (fun q_1 n_2 hq_1 hn_2 => ?_)
  exact z_out ho hH zc28 z_up_s (by omega) (fun _ h => nomatch h) (by rw [hQ]; exact ⟨_, rfl, by omega, by omega, rfl⟩)

set_option maxHeartbeats 1000000 in
theorem m_X1_rowsBehind_no2 {l : Launch} {G : zG} {h : zH} {n : Nat} {t : Nat} {x1 x2 x3 x4 x5 x6 : Value} {w : Nat → Int32} {v : Nat → Int64} {R S D a lr ls lv : Nat} {ra sa va : Nat → Nat} {k : Nat} {x z : Int32} (hX : h t = some (.inr (0, [.ref a, x1, x2, x3, x4, x5, x6]))) (hL : z_Ln G h w v R S D a lr ls lv ra sa va) (hk : k < S) (hS8 : S ≤ 8) (hD6 : D ≤ 6) (hx : decide (nI 0 ≤ x ∧ x ≤ nI D) = false) : z_C l G yX1_rowsBehind 10 4 24 [.ref t, .int (nI k), .int x, .int z] h n (z_tf 27 [] h n) := by
  refine z_start zk_X1_rowsBehind zpl_RX1 (Nat.le_of_ble_eq_true rfl) ?_
  intro hn0 M hl hG ho hb hN hr hm hH hrm hQ
  subst hl hG
  have ho : zm_o M = RX1 := ho
  obtain ⟨h1, ⟨e0, N0, m0, f0, r1, r2, r3, ⟨r4, r4n⟩, r5⟩, ⟨e, N, m9, f, h3, h4, h5, ⟨h6, h6n⟩, h7⟩, ⟨ev, Nv, mv, fv, v1, v2, v3, ⟨v4, v4n⟩, v5⟩, h9, hs, hv, hi, hrI⟩ := id hL
  show z_V M h n 4 24 0 [(0, .ref t), (1, .int (nI k)), (2, .int x), (3, .int z)] []
  refine z_dom (fun hD0 => ?_)
  refine z_aload_n hb dX1_rowsBehind_0 rfl ?_
  refine z_get (k := 0) (C := RX1) (T := TX1) (N := 7) hb ho zc0 in_X1 (zf_RX1_41 _) dX1_rowsBehind_1 hX (by decide) rfl ?_
  refine z_iload_n hb dX1_rowsBehind_4 rfl ?_
  refine z_call1 (b' := 3) (f' := 18) (rest := []) (av := [.ref a, .int (nI k)]) (z_siteV hb ho zc1 h1 q1842 q1506 q1507 ⟨_, _, _, _, zk_X2_step⟩ zy_X2_step zl_X2_step dX1_rowsBehind_5 : z_Site M _ _ _ _ _ ([.int (nI k)].reverse ++ .ref a :: []) [] _) zk_X2_step q95 hrm (m_X2_step hL hS8 hk) (by omega) (by decide) (Nat.le_of_ble_eq_true rfl) (by omega) (by omega) ?_
  refine z_astore (lv' := [(4, .ref (sa k)), (0, .ref t), (1, .int (nI k)), (2, .int x), (3, .int z)]) hb dX1_rowsBehind_8 (by rw [hN]; decide) rfl ?_
  refine z_aload_n hb dX1_rowsBehind_10 rfl ?_
  refine z_get (k := 0) (C := RX1) (T := TX1) (N := 7) hb ho zc0 in_X1 (zf_RX1_41 _) dX1_rowsBehind_11 hX (by decide) rfl ?_
  refine z_iload_n hb dX1_rowsBehind_14 rfl ?_
  refine z_callTf (b' := 2) (f' := 12) (rest := []) (av := [.ref a, .int x]) (z_siteV hb ho zc1 h1 q1894 q1610 q1611 ⟨_, _, _, _, zk_X2_requireDay⟩ zy_X2_requireDay zl_X2_requireDay dX1_rowsBehind_15 : z_Site M _ _ _ _ _ ([.int x].reverse ++ .ref a :: []) [] _) zk_X2_requireDay q95 hrm (z_C.tf (m_X2_requireDay_no h1 hD6 hx)) (by omega) (by decide) (Nat.le_of_ble_eq_true rfl) (by omega) (by omega) (fun q_1 n_2 hq_1 hn_2 => ?_)
  exact z_out ho hH zc27 z_up_s (by omega) (fun _ h => nomatch h) (by rw [hQ]; exact ⟨_, rfl, by omega, by omega, rfl⟩)

set_option maxHeartbeats 1000000 in
theorem m_X1_rowsBehind_no3 {l : Launch} {G : zG} {h : zH} {n : Nat} {t : Nat} {x1 x2 x3 x4 x5 x6 : Value} {w : Nat → Int32} {v : Nat → Int64} {R S D a lr ls lv : Nat} {ra sa va : Nat → Nat} {k d : Nat} {x : Int32} (hX : h t = some (.inr (0, [.ref a, x1, x2, x3, x4, x5, x6]))) (hL : z_Ln G h w v R S D a lr ls lv ra sa va) (hk : k < S) (hS8 : S ≤ 8) (hD6 : D ≤ 6) (hd : d ≤ D) (hx : decide (nI 97 ≤ x ∧ x ≤ nI 101) = false) : z_C l G yX1_rowsBehind 10 4 24 [.ref t, .int (nI k), .int (nI d), .int x] h n (z_tf 27 [] h n) := by
  refine z_start zk_X1_rowsBehind zpl_RX1 (Nat.le_of_ble_eq_true rfl) ?_
  intro hn0 M hl hG ho hb hN hr hm hH hrm hQ
  subst hl hG
  have ho : zm_o M = RX1 := ho
  obtain ⟨h1, ⟨e0, N0, m0, f0, r1, r2, r3, ⟨r4, r4n⟩, r5⟩, ⟨e, N, m9, f, h3, h4, h5, ⟨h6, h6n⟩, h7⟩, ⟨ev, Nv, mv, fv, v1, v2, v3, ⟨v4, v4n⟩, v5⟩, h9, hs, hv, hi, hrI⟩ := id hL
  show z_V M h n 4 24 0 [(0, .ref t), (1, .int (nI k)), (2, .int (nI d)), (3, .int x)] []
  refine z_dom (fun hD0 => ?_)
  refine z_aload_n hb dX1_rowsBehind_0 rfl ?_
  refine z_get (k := 0) (C := RX1) (T := TX1) (N := 7) hb ho zc0 in_X1 (zf_RX1_41 _) dX1_rowsBehind_1 hX (by decide) rfl ?_
  refine z_iload_n hb dX1_rowsBehind_4 rfl ?_
  refine z_call1 (b' := 3) (f' := 18) (rest := []) (av := [.ref a, .int (nI k)]) (z_siteV hb ho zc1 h1 q1842 q1506 q1507 ⟨_, _, _, _, zk_X2_step⟩ zy_X2_step zl_X2_step dX1_rowsBehind_5 : z_Site M _ _ _ _ _ ([.int (nI k)].reverse ++ .ref a :: []) [] _) zk_X2_step q95 hrm (m_X2_step hL hS8 hk) (by omega) (by decide) (Nat.le_of_ble_eq_true rfl) (by omega) (by omega) ?_
  refine z_astore (lv' := [(4, .ref (sa k)), (0, .ref t), (1, .int (nI k)), (2, .int (nI d)), (3, .int x)]) hb dX1_rowsBehind_8 (by rw [hN]; decide) rfl ?_
  refine z_aload_n hb dX1_rowsBehind_10 rfl ?_
  refine z_get (k := 0) (C := RX1) (T := TX1) (N := 7) hb ho zc0 in_X1 (zf_RX1_41 _) dX1_rowsBehind_11 hX (by decide) rfl ?_
  refine z_iload_n hb dX1_rowsBehind_14 rfl ?_
  refine z_call0 (b' := 2) (f' := 12) (rest := []) (av := [.ref a, .int (nI d)]) (z_siteV hb ho zc1 h1 q1894 q1610 q1611 ⟨_, _, _, _, zk_X2_requireDay⟩ zy_X2_requireDay zl_X2_requireDay dX1_rowsBehind_15 : z_Site M _ _ _ _ _ ([.int (nI d)].reverse ++ .ref a :: []) [] _) zk_X2_requireDay q95 hrm (m_X2_requireDay_ok h1 hD6 hd) (by omega) (by decide) (Nat.le_of_ble_eq_true rfl) (by omega) (by omega) ?_
  refine z_aload hb dX1_rowsBehind_18 rfl ?_
  refine z_aload_n hb dX1_rowsBehind_20 rfl ?_
  refine z_get (k := 0) (C := RX1) (T := TX1) (N := 7) hb ho zc0 in_X1 (zf_RX1_41 _) dX1_rowsBehind_21 hX (by decide) rfl ?_
  refine z_get (k := 0) (C := RX2) (T := TX2) (N := 8) hb ho zc1 in_X2 (zf_RX1_123 _) dX1_rowsBehind_24 h1 (by decide) rfl ?_
  refine z_iload_n hb dX1_rowsBehind_27 rfl ?_
  refine z_iload_n hb dX1_rowsBehind_28 rfl ?_
  refine z_callTf (b' := 1) (f' := 6) (rest := [.int (nI d), .ref lr, .ref (sa k)]) (av := [.int x]) (z_siteS hb ho q1895 q1132 q94 ⟨_, _, _, _, zk_X1_groupNumber⟩ zy_X1_groupNumber zl_X1_groupNumber dX1_rowsBehind_29 : z_Site M _ _ _ _ _ ([.int x].reverse ++ [.int (nI d), .ref lr, .ref (sa k)]) [.int (nI d), .ref lr, .ref (sa k)] _) zk_X1_groupNumber q94 hrm (z_C.tf (m_X1_groupNumber_no hx)) (by omega) (by decide) (Nat.le_of_ble_eq_true rfl) (by omega) (by omega) (fun q_1 n_2 hq_1 hn_2 => ?_)
  exact z_out ho hH zc27 z_up_s (by omega) (fun _ h => nomatch h) (by rw [hQ]; exact ⟨_, rfl, by omega, by omega, rfl⟩)

