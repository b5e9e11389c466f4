/-! costs -/
def z_cw (w : Nat → Int32) (R k : Nat) (C : Nat → Int64) : Int64 := 1 + (if tw_base w k then (nI R).toInt64 else
  if w (176 + 4 * k) = nI 107 then C (tw_f w k) else if w (176 + 4 * k) = nI 114 then 7 * C (tw_f w k) else C (tw_f w k) + C (tw_s w k))
section ZCW
variable {w : Nat → Int32} {R k : Nat} {C : Nat → Int64}
theorem z_cw_b (h : tw_base w k = true) (hR : R ≤ 40) : (nI (1 + R)).toInt64 = z_cw w R k C := by
  unfold z_cw; rw [if_pos h]
  have : ∀ R, R ≤ 40 → (nI (1 + R)).toInt64 = 1 + (nI R).toInt64 := by decide
  exact this R hR
theorem z_cw_k (h : w (176 + 4 * k) = nI 107) : 1 + C (tw_f w k) = z_cw w R k C := by
  unfold z_cw; rw [z_kn h (by simp), h, if_neg (by decide), if_pos rfl]
theorem z_cw_r (h : w (176 + 4 * k) = nI 114) : 1 + 7 * C (tw_f w k) = z_cw w R k C := by
  unfold z_cw; rw [z_kn h (by simp), h, if_neg (by decide), if_neg (by decide), if_pos rfl]
theorem z_cw_p {kd : Nat} (h : w (176 + 4 * k) = nI kd) (hc : kd = 43 ∨ kd = 45) : 1 + C (tw_f w k) + C (tw_s w k) = z_cw w R k C := by
  unfold z_cw; rw [z_kn h (by omega), h, Int64.add_assoc]
  rcases hc with rfl | rfl <;> rw [if_neg (by decide), if_neg (by decide), if_neg (by decide)]
theorem z_lc1_t {x : Int32} (h : (x >>> (nI k &&& 31)) &&& nI 1 = nI 1) : tw_lc1 w R x C k = 1 := by
  unfold tw_lc1 tw_pl; rw [decide_eq_true h]; rfl
theorem z_lc1_f {x : Int32} (h : ¬ (x >>> (nI k &&& 31)) &&& nI 1 = nI 1) : tw_lc1 w R x C k = z_cw w R k C := by
  unfold tw_lc1 tw_pl; rw [decide_eq_false h]; rfl
theorem z_sum8_c {C C' : Nat → Int64} : ∀ {n : Nat}, (∀ j, j < n → C j = C' j) → tw_sum8 C n = tw_sum8 C' n
  | 0, _ => rfl
  | n + 1, h => by rw [tw_sum8, tw_sum8, z_sum8_c fun j hj => h j (by omega), h n (by omega)]
theorem z_sum8_s {x : Int32} {i : Nat} : tw_sum8 (tw_lc w R x C (i + 1)) (i + 1) = tw_sum8 (tw_lc w R x C i) i + tw_lc1 w R x (tw_lc w R x C i) i := by
  rw [tw_sum8, z_sum8_c (C' := tw_lc w R x C i) fun j hj => ?_]
  · congr 1
    show va_up (tw_lc w R x C i) i (tw_lc1 w R x (tw_lc w R x C i) i) i = _
    unfold va_up; rw [if_pos rfl]
  · show va_up (tw_lc w R x C i) i (tw_lc1 w R x (tw_lc w R x C i) i) j = _
    unfold va_up; rw [if_neg (by omega)]
end ZCW
theorem z_upl {f : Nat → Int64} {k : Nat} {x : Int64} : va_up f k x k = x := by unfold va_up; rw [if_pos rfl]
theorem z_kq8 {G : zG} {h h2 : zH} {ec : Nat} {C : Nat → Int64} {c : va_E} (q : h ec = some (z_al G 8 C)) (e : h2 = z_up h ec c) : z_kq h h2 := fun y c0 q0 l => by
  rw [e, z_up_n (fun z => by
    rw [z, q] at q0
    cases q0
    exact absurd l (by simp [z_lnj]))]
  exact q0
def z_yw : Nat → MethodName
  | 11 => yX14_costWith
  | 12 => yX16_costWith
  | 13 => yX17_costWith
  | _ => yX10_costWith

set_option maxHeartbeats 1000000 in
theorem m_X20_of {l : Launch} {G : zG} {h : zH} {n : Nat} {w : Nat → Int32} {v : Nat → Int64} {R S D a lr ls lv : Nat} {ra sa va : Nat → Nat} {t ec k : Nat} {C : Nat → Int64} (hL : z_Ln G h w v R S D a lr ls lv ra sa va) (hS8 : S ≤ 8) (hR4 : R ≤ 40) (htc : h t = some (.inr (16, [.ref ls, .int (nI R), .ref ec]))) (hec : h ec = some (z_al G 8 C)) (hk : k < S) : z_C l G yX20_of 4 0 0 [.ref t, .ref (sa k)] h n (z_rn (.long (C k)) h) := by
  refine z_start zk_X20_of zpl_RX20 (Nat.le_of_ble_eq_true rfl) ?_
  intro hn0 M hl hG ho hb hN hr hm hH hrm hQ
  subst hl hG
  have ho : zm_o M = RX20 := ho
  obtain ⟨h1, ⟨e0, N0, m0, f0, r1, r2, r3, ⟨r4, r4n⟩, r5⟩, ⟨e, N, m9, f, h3, h4, h5, ⟨h6, h6n⟩, h7⟩, ⟨ev, Nv, mv, fv, v1, v2, v3, ⟨v4, v4n⟩, v5⟩, h9, hs, hv, hi, hrI⟩ := id hL
  show z_V M h n 0 0 0 [(0, .ref t), (1, .ref (sa k))] []
  refine z_dom (fun hD0 => ?_)
  refine z_aload_n hb dX20_of_0 rfl ?_
  refine z_get (k := 2) (C := RX20) (T := TX20) (N := 3) hb ho zc16 in_X20 (zf_RX20_9 _) dX20_of_1 htc (by decide) rfl ?_
  refine z_aload_n hb dX20_of_4 rfl ?_
  refine z_get (k := 0) (C := RX20) (T := TX20) (N := 3) hb ho zc16 in_X20 (zf_RX20_21 _) dX20_of_5 htc (by decide) rfl ?_
  refine z_aload_n hb dX20_of_8 rfl ?_
  refine z_callN1 (b' := 0) (f' := 0) (rest := [.ref ec]) (av := [.ref ls, .ref (sa k)]) (z_siteF hb ho zc20 h3 q2089 zx5 q608 q610 q611 q609 q321 zxl5 dX20_of_9 : z_Site M _ _ _ _ _ ([.ref (sa k)].reverse ++ .ref ls :: [.ref ec]) [.ref ec] _) zk_J2_indexOf q98 hrm (m_lsIndexOf hL hk) (by omega) (by decide) (Nat.le_of_ble_eq_true rfl) (by omega) (by omega) (fun n_1 hn_1 => ?_)
  refine z_lald (j := k) hb dX20_of_14 hec rfl (by omega) (by omega) ?_
  refine z_lret hb hr dX20_of_15 ?_
  rw [hQ]
  exact ⟨rfl, rfl⟩

set_option maxHeartbeats 1000000 in
theorem m_X10_costWith_8 {l : Launch} {G : zG} {h : zH} {n : Nat} {w : Nat → Int32} {v : Nat → Int64} {R S D a lr ls lv : Nat} {ra sa va : Nat → Nat} {t ec k : Nat} {C : Nat → Int64} (hL : z_Ln G h w v R S D a lr ls lv ra sa va) (hS8 : S ≤ 8) (hR4 : R ≤ 40) (htc : h t = some (.inr (16, [.ref ls, .int (nI R), .ref ec]))) (hec : h ec = some (z_al G 8 C)) (hkd : w (176 + 4 * k) = nI 115) : z_C l G yX10_costWith 5 0 0 [.ref (sa k), .ref t] h n (z_rn (.long (z_cw w R k C)) h) := by
  refine z_start zk_X10_costWith zpl_RX10 (Nat.le_of_ble_eq_true rfl) ?_
  intro hn0 M hl hG ho hb hN hr hm hH hrm hQ
  subst hl hG
  have ho : zm_o M = RX10 := ho
  obtain ⟨h1, ⟨e0, N0, m0, f0, r1, r2, r3, ⟨r4, r4n⟩, r5⟩, ⟨e, N, m9, f, h3, h4, h5, ⟨h6, h6n⟩, h7⟩, ⟨ev, Nv, mv, fv, v1, v2, v3, ⟨v4, v4n⟩, v5⟩, h9, hs, hv, hi, hrI⟩ := id hL
  show z_V M h n 0 0 0 [(0, .ref (sa k)), (1, .ref t)] []
  refine z_dom (fun hD0 => ?_)
  refine z_iconst (x := nI 1) hb dX10_costWith_0 (by decide) ?_
  refine z_aload_n hb dX10_costWith_1 rfl ?_
  refine z_get (k := 1) (C := RX20) (T := TX20) (N := 3) hb ho zc16 in_X20 (zf_RX10_57 _) dX10_costWith_2 htc (by decide) rfl ?_
  refine z_iadd hb dX10_costWith_5 ?_
  refine z_toI (y := nI (1 + R)) (nI_add 1 R) ?_
  refine z_i2l (v := (nI (1 + R)).toInt64) hb dX10_costWith_6 rfl ?_
  refine z_lret hb hr dX10_costWith_7 ?_
  rw [hQ]
  exact z_rn_e (by rw [← z_cw_b (z_kb hkd (by simp)) hR4])

set_option maxHeartbeats 1000000 in
theorem m_X10_costWith_9 {l : Launch} {G : zG} {h : zH} {n : Nat} {w : Nat → Int32} {v : Nat → Int64} {R S D a lr ls lv : Nat} {ra sa va : Nat → Nat} {t ec k : Nat} {C : Nat → Int64} (hL : z_Ln G h w v R S D a lr ls lv ra sa va) (hS8 : S ≤ 8) (hR4 : R ≤ 40) (htc : h t = some (.inr (16, [.ref ls, .int (nI R), .ref ec]))) (hec : h ec = some (z_al G 8 C)) (hkd : w (176 + 4 * k) = nI 110) : z_C l G yX10_costWith 5 0 0 [.ref (sa k), .ref t] h n (z_rn (.long (z_cw w R k C)) h) := by
  refine z_start zk_X10_costWith zpl_RX10 (Nat.le_of_ble_eq_true rfl) ?_
  intro hn0 M hl hG ho hb hN hr hm hH hrm hQ
  subst hl hG
  have ho : zm_o M = RX10 := ho
  obtain ⟨h1, ⟨e0, N0, m0, f0, r1, r2, r3, ⟨r4, r4n⟩, r5⟩, ⟨e, N, m9, f, h3, h4, h5, ⟨h6, h6n⟩, h7⟩, ⟨ev, Nv, mv, fv, v1, v2, v3, ⟨v4, v4n⟩, v5⟩, h9, hs, hv, hi, hrI⟩ := id hL
  show z_V M h n 0 0 0 [(0, .ref (sa k)), (1, .ref t)] []
  refine z_dom (fun hD0 => ?_)
  refine z_iconst (x := nI 1) hb dX10_costWith_0 (by decide) ?_
  refine z_aload_n hb dX10_costWith_1 rfl ?_
  refine z_get (k := 1) (C := RX20) (T := TX20) (N := 3) hb ho zc16 in_X20 (zf_RX10_57 _) dX10_costWith_2 htc (by decide) rfl ?_
  refine z_iadd hb dX10_costWith_5 ?_
  refine z_toI (y := nI (1 + R)) (nI_add 1 R) ?_
  refine z_i2l (v := (nI (1 + R)).toInt64) hb dX10_costWith_6 rfl ?_
  refine z_lret hb hr dX10_costWith_7 ?_
  rw [hQ]
  exact z_rn_e (by rw [← z_cw_b (z_kb hkd (by simp)) hR4])

set_option maxHeartbeats 1000000 in
theorem m_X10_costWith_10 {l : Launch} {G : zG} {h : zH} {n : Nat} {w : Nat → Int32} {v : Nat → Int64} {R S D a lr ls lv : Nat} {ra sa va : Nat → Nat} {t ec k : Nat} {C : Nat → Int64} (hL : z_Ln G h w v R S D a lr ls lv ra sa va) (hS8 : S ≤ 8) (hR4 : R ≤ 40) (htc : h t = some (.inr (16, [.ref ls, .int (nI R), .ref ec]))) (hec : h ec = some (z_al G 8 C)) (hkd : w (176 + 4 * k) = nI 120) : z_C l G yX10_costWith 5 0 0 [.ref (sa k), .ref t] h n (z_rn (.long (z_cw w R k C)) h) := by
  refine z_start zk_X10_costWith zpl_RX10 (Nat.le_of_ble_eq_true rfl) ?_
  intro hn0 M hl hG ho hb hN hr hm hH hrm hQ
  subst hl hG
  have ho : zm_o M = RX10 := ho
  obtain ⟨h1, ⟨e0, N0, m0, f0, r1, r2, r3, ⟨r4, r4n⟩, r5⟩, ⟨e, N, m9, f, h3, h4, h5, ⟨h6, h6n⟩, h7⟩, ⟨ev, Nv, mv, fv, v1, v2, v3, ⟨v4, v4n⟩, v5⟩, h9, hs, hv, hi, hrI⟩ := id hL
  show z_V M h n 0 0 0 [(0, .ref (sa k)), (1, .ref t)] []
  refine z_dom (fun hD0 => ?_)
  refine z_iconst (x := nI 1) hb dX10_costWith_0 (by decide) ?_
  refine z_aload_n hb dX10_costWith_1 rfl ?_
  refine z_get (k := 1) (C := RX20) (T := TX20) (N := 3) hb ho zc16 in_X20 (zf_RX10_57 _) dX10_costWith_2 htc (by decide) rfl ?_
  refine z_iadd hb dX10_costWith_5 ?_
  refine z_toI (y := nI (1 + R)) (nI_add 1 R) ?_
  refine z_i2l (v := (nI (1 + R)).toInt64) hb dX10_costWith_6 rfl ?_
  refine z_lret hb hr dX10_costWith_7 ?_
  rw [hQ]
  exact z_rn_e (by rw [← z_cw_b (z_kb hkd (by simp)) hR4])

set_option maxHeartbeats 1000000 in
theorem m_X14_costWith {l : Launch} {G : zG} {h : zH} {n : Nat} {w : Nat → Int32} {v : Nat → Int64} {R S D a lr ls lv : Nat} {ra sa va : Nat → Nat} {t ec k : Nat} {C : Nat → Int64} {kd : Nat} {s9 : Int32} (hL : z_Ln G h w v R S D a lr ls lv ra sa va) (hS8 : S ≤ 8) (hR4 : R ≤ 40) (htc : h t = some (.inr (16, [.ref ls, .int (nI R), .ref ec]))) (hec : h ec = some (z_al G 8 C)) (hk : k < S) (hf : tw_f w k < k) (hs2 : tw_s w k < k) (hx : h (sa k) = some (.inr (11, [.int (nI kd), .ref (sa (tw_f w k)), .ref (sa (tw_s w k)), .int s9]))) (hkd : w (176 + 4 * k) = nI kd) (hkc : kd = 43 ∨ kd = 45) : z_C l G yX14_costWith 5 0 0 [.ref (sa k), .ref t] h n (z_rn (.long (z_cw w R k C)) h) := by
  refine z_start zk_X14_costWith zpl_RX14 (Nat.le_of_ble_eq_true rfl) ?_
  intro hn0 M hl hG ho hb hN hr hm hH hrm hQ
  subst hl hG
  have ho : zm_o M = RX14 := ho
  obtain ⟨h1, ⟨e0, N0, m0, f0, r1, r2, r3, ⟨r4, r4n⟩, r5⟩, ⟨e, N, m9, f, h3, h4, h5, ⟨h6, h6n⟩, h7⟩, ⟨ev, Nv, mv, fv, v1, v2, v3, ⟨v4, v4n⟩, v5⟩, h9, hs, hv, hi, hrI⟩ := id hL
  show z_V M h n 0 0 0 [(0, .ref (sa k)), (1, .ref t)] []
  refine z_dom (fun hD0 => ?_)
  refine z_lconst (x := 1) hb dX14_costWith_0 rfl ?_
  refine z_aload_n hb dX14_costWith_1 rfl ?_
  refine z_aload_n hb dX14_costWith_2 rfl ?_
  refine z_get (k := 1) (C := RX14) (T := TX14) (N := 4) hb ho zc11 in_X14 (zf_RX14_7 _) dX14_costWith_3 hx (by decide) rfl ?_
  refine z_dom (fun hD_1 => ?_)
  refine z_callN1 (b' := 0) (f' := 0) (rest := [.long 1]) (av := [.ref t, .ref (sa (tw_f w k))]) (z_siteV hb ho zc16 htc q2097 q2085 q2086 ⟨_, _, _, _, zk_X20_of⟩ zy_X20_of zl_X20_of dX14_costWith_6 : z_Site M _ _ _ _ _ ([.ref (sa (tw_f w k))].reverse ++ .ref t :: [.long 1]) [.long 1] _) zk_X20_of q143 hrm (m_X20_of hL hS8 hR4 htc hec (show tw_f w k < S by omega)) (by omega) (by decide) (Nat.le_of_ble_eq_true rfl) (by omega) (by omega) (fun n_2 hn_2 => ?_)
  refine z_ladd hb dX14_costWith_9 ?_
  refine z_aload_n hb dX14_costWith_10 rfl ?_
  refine z_aload_n hb dX14_costWith_11 rfl ?_
  refine z_get (k := 2) (C := RX14) (T := TX14) (N := 4) hb ho zc11 in_X14 (zf_RX14_13 _) dX14_costWith_12 hx (by decide) rfl ?_
  refine z_dom (fun hD_3 => ?_)
  refine z_callN1 (b' := 0) (f' := 0) (rest := [.long (1 + (C (tw_f w k)))]) (av := [.ref t, .ref (sa (tw_s w k))]) (z_siteV hb ho zc16 htc q2097 q2085 q2086 ⟨_, _, _, _, zk_X20_of⟩ zy_X20_of zl_X20_of dX14_costWith_15 : z_Site M _ _ _ _ _ ([.ref (sa (tw_s w k))].reverse ++ .ref t :: [.long (1 + (C (tw_f w k)))]) [.long (1 + (C (tw_f w k)))] _) zk_X20_of q143 hrm (m_X20_of hL hS8 hR4 htc hec (show tw_s w k < S by omega)) (by omega) (by decide) (Nat.le_of_ble_eq_true rfl) (by omega) (by omega) (fun n_4 hn_4 => ?_)
  refine z_ladd hb dX14_costWith_18 ?_
  refine z_lret hb hr dX14_costWith_19 ?_
  rw [hQ]
  exact z_rn_e (by rw [← z_cw_p hkd hkc])

set_option maxHeartbeats 1000000 in
theorem m_X17_costWith {l : Launch} {G : zG} {h : zH} {n : Nat} {w : Nat → Int32} {v : Nat → Int64} {R S D a lr ls lv : Nat} {ra sa va : Nat → Nat} {t ec k : Nat} {C : Nat → Int64} (hL : z_Ln G h w v R S D a lr ls lv ra sa va) (hS8 : S ≤ 8) (hR4 : R ≤ 40) (htc : h t = some (.inr (16, [.ref ls, .int (nI R), .ref ec]))) (hec : h ec = some (z_al G 8 C)) (hk : k < S) (hf : tw_f w k < k) (hx : h (sa k) = some (.inr (13, [.ref (sa (tw_f w k)), .int (nI 107), .int (w (176 + 4 * k + 1))]))) (hkd : w (176 + 4 * k) = nI 107) : z_C l G yX17_costWith 5 0 0 [.ref (sa k), .ref t] h n (z_rn (.long (z_cw w R k C)) h) := by
  refine z_start zk_X17_costWith zpl_RX17 (Nat.le_of_ble_eq_true rfl) ?_
  intro hn0 M hl hG ho hb hN hr hm hH hrm hQ
  subst hl hG
  have ho : zm_o M = RX17 := ho
  obtain ⟨h1, ⟨e0, N0, m0, f0, r1, r2, r3, ⟨r4, r4n⟩, r5⟩, ⟨e, N, m9, f, h3, h4, h5, ⟨h6, h6n⟩, h7⟩, ⟨ev, Nv, mv, fv, v1, v2, v3, ⟨v4, v4n⟩, v5⟩, h9, hs, hv, hi, hrI⟩ := id hL
  show z_V M h n 0 0 0 [(0, .ref (sa k)), (1, .ref t)] []
  refine z_dom (fun hD0 => ?_)
  refine z_lconst (x := 1) hb dX17_costWith_0 rfl ?_
  refine z_aload_n hb dX17_costWith_1 rfl ?_
  refine z_aload_n hb dX17_costWith_2 rfl ?_
  refine z_call1 (b' := 0) (f' := 0) (rest := [.ref t, .long 1]) (av := [.ref (sa k)]) (z_siteU hb ho zc13 hx q687 q688 (Or.inl q689) q691 q690 ⟨by decide +kernel, by decide +kernel⟩ (by show _ = some 0; decide +kernel) dX17_costWith_3 : z_Site M _ _ _ _ _ ([].reverse ++ .ref (sa k) :: [.ref t, .long 1]) [.ref t, .long 1] _) zk_X15_input q134 hrm (m_X15_input_13 hx) (by omega) (by decide) (Nat.le_of_ble_eq_true rfl) (by omega) (by omega) ?_
  refine z_dom (fun hD_1 => ?_)
  refine z_callN1 (b' := 0) (f' := 0) (rest := [.long 1]) (av := [.ref t, .ref (sa (tw_f w k))]) (z_siteV hb ho zc16 htc q2084 q2085 q2086 ⟨_, _, _, _, zk_X20_of⟩ zy_X20_of zl_X20_of dX17_costWith_6 : z_Site M _ _ _ _ _ ([.ref (sa (tw_f w k))].reverse ++ .ref t :: [.long 1]) [.long 1] _) zk_X20_of q143 hrm (m_X20_of hL hS8 hR4 htc hec (show tw_f w k < S by omega)) (by omega) (by decide) (Nat.le_of_ble_eq_true rfl) (by omega) (by omega) (fun n_2 hn_2 => ?_)
  refine z_ladd hb dX17_costWith_9 ?_
  refine z_lret hb hr dX17_costWith_10 ?_
  rw [hQ]
  exact z_rn_e (by rw [← z_cw_k hkd])

set_option maxHeartbeats 1000000 in
theorem m_X16_costWith {l : Launch} {G : zG} {h : zH} {n : Nat} {w : Nat → Int32} {v : Nat → Int64} {R S D a lr ls lv : Nat} {ra sa va : Nat → Nat} {t ec k : Nat} {C : Nat → Int64} (hL : z_Ln G h w v R S D a lr ls lv ra sa va) (hS8 : S ≤ 8) (hR4 : R ≤ 40) (htc : h t = some (.inr (16, [.ref ls, .int (nI R), .ref ec]))) (hec : h ec = some (z_al G 8 C)) (hk : k < S) (hf : tw_f w k < k) (hx : h (sa k) = some (.inr (12, [.ref (sa (tw_f w k)), .int (nI 114)]))) (hkd : w (176 + 4 * k) = nI 114) : z_C l G yX16_costWith 5 0 0 [.ref (sa k), .ref t] h n (z_rn (.long (z_cw w R k C)) h) := by
  refine z_start zk_X16_costWith zpl_RX16 (Nat.le_of_ble_eq_true rfl) ?_
  intro hn0 M hl hG ho hb hN hr hm hH hrm hQ
  subst hl hG
  have ho : zm_o M = RX16 := ho
  obtain ⟨h1, ⟨e0, N0, m0, f0, r1, r2, r3, ⟨r4, r4n⟩, r5⟩, ⟨e, N, m9, f, h3, h4, h5, ⟨h6, h6n⟩, h7⟩, ⟨ev, Nv, mv, fv, v1, v2, v3, ⟨v4, v4n⟩, v5⟩, h9, hs, hv, hi, hrI⟩ := id hL
  show z_V M h n 0 0 0 [(0, .ref (sa k)), (1, .ref t)] []
  refine z_dom (fun hD0 => ?_)
  refine z_lconst (x := 1) hb dX16_costWith_0 rfl ?_
  refine z_ldc2 hb ho q2101 dX16_costWith_1 ?_
  refine z_aload_n hb dX16_costWith_4 rfl ?_
  refine z_aload_n hb dX16_costWith_5 rfl ?_
  refine z_call1 (b' := 0) (f' := 0) (rest := [.ref t, .long (7 : Int64), .long 1]) (av := [.ref (sa k)]) (z_siteU hb ho zc12 hx q751 q752 (Or.inl q689) q691 q753 ⟨by decide +kernel, by decide +kernel⟩ (by show _ = some 0; decide +kernel) dX16_costWith_6 : z_Site M _ _ _ _ _ ([].reverse ++ .ref (sa k) :: [.ref t, .long (7 : Int64), .long 1]) [.ref t, .long (7 : Int64), .long 1] _) zk_X15_input q134 hrm (m_X15_input_12 hx) (by omega) (by decide) (Nat.le_of_ble_eq_true rfl) (by omega) (by omega) ?_
  refine z_dom (fun hD_1 => ?_)
  refine z_callN1 (b' := 0) (f' := 0) (rest := [.long (7 : Int64), .long 1]) (av := [.ref t, .ref (sa (tw_f w k))]) (z_siteV hb ho zc16 htc q2102 q2085 q2086 ⟨_, _, _, _, zk_X20_of⟩ zy_X20_of zl_X20_of dX16_costWith_9 : z_Site M _ _ _ _ _ ([.ref (sa (tw_f w k))].reverse ++ .ref t :: [.long (7 : Int64), .long 1]) [.long (7 : Int64), .long 1] _) zk_X20_of q143 hrm (m_X20_of hL hS8 hR4 htc hec (show tw_f w k < S by omega)) (by omega) (by decide) (Nat.le_of_ble_eq_true rfl) (by omega) (by omega) (fun n_2 hn_2 => ?_)
  refine z_lmul hb dX16_costWith_12 ?_
  refine z_ladd hb dX16_costWith_13 ?_
  refine z_lret hb hr dX16_costWith_14 ?_
  rw [hQ]
  exact z_rn_e (by rw [← z_cw_r hkd])

theorem m_costWith {l : Launch} {G : zG} {h : zH} {w : Nat → Int32} {v : Nat → Int64} {R S D a lr ls lv : Nat} {ra sa va : Nat → Nat} {t ec k : Nat} {C : Nat → Int64} (hL : z_Ln G h w v R S D a lr ls lv ra sa va) (hS8 : S ≤ 8) (hR4 : R ≤ 40) (htc : h t = some (.inr (16, [.ref ls, .int (nI R), .ref ec]))) (hec : h ec = some (z_al G 8 C)) (hk : k < S) : ∀ ci fs, h (sa k) = some (.inr (ci, fs)) → ∀ n : Nat, z_C l G (z_yw ci) 5 0 0 [.ref (sa k), .ref t] h n (z_rn (.long (z_cw w R k C)) h) := by
  intro ci fs hx n
  obtain ⟨-, -, -, -, -, hs, -⟩ := id hL
  rcases hs k hk with ⟨qk, q⟩ | ⟨qk, q⟩ | ⟨qk, q⟩ | ⟨qk, g1, g2, q⟩ | ⟨qk, g1, g2, q⟩ | ⟨qk, g1, g2, q⟩ | ⟨qk, g1, g2, q⟩
  all_goals obtain ⟨rfl, rfl⟩ := z_inj hx q
  · exact m_X10_costWith_8 hL hS8 hR4 htc hec qk
  · exact m_X10_costWith_9 hL hS8 hR4 htc hec qk
  · exact m_X10_costWith_10 hL hS8 hR4 htc hec qk
  · exact m_X14_costWith hL hS8 hR4 htc hec hk g1 g2 hx qk (Or.inl rfl)
  · exact m_X14_costWith hL hS8 hR4 htc hec hk g1 g2 hx qk (Or.inr rfl)
  · exact m_X16_costWith hL hS8 hR4 htc hec hk g1 hx qk
  · exact m_X17_costWith hL hS8 hR4 htc hec hk g1 hx qk

set_option maxHeartbeats 1000000 in
theorem m_X20_find_1 {l : Launch} {G : zG} {h : zH} {n : Nat} {w : Nat → Int32} {v : Nat → Int64} {R S D a lr ls lv : Nat} {ra sa va : Nat → Nat} {t ec k : Nat} {C : Nat → Int64} (hL : z_Ln G h w v R S D a lr ls lv ra sa va) (hS8 : S ≤ 8) (hR4 : R ≤ 40) (htc : h t = some (.inr (16, [.ref ls, .int (nI R), .ref ec]))) (hec : h ec = some (z_al G 8 C)) (hk : k < S) (he0 : z_n0 G ≤ ec) : z_C l G yX20_find 6 0 0 [.ref t, .int (nI k), .int (nI 1)] h n (z_q1 (fun r9 h' n' => r9 = .long (1) ∧ h' = z_up h ec (z_al G 8 (va_up C k (1))))) := by
  refine z_start zk_X20_find zpl_RX20 (Nat.le_of_ble_eq_true rfl) ?_
  intro hn0 M hl hG ho hb hN hr hm hH hrm hQ
  subst hl hG
  have ho : zm_o M = RX20 := ho
  obtain ⟨h1, ⟨e0, N0, m0, f0, r1, r2, r3, ⟨r4, r4n⟩, r5⟩, ⟨e, N, m9, f, h3, h4, h5, ⟨h6, h6n⟩, h7⟩, ⟨ev, Nv, mv, fv, v1, v2, v3, ⟨v4, v4n⟩, v5⟩, h9, hs, hv, hi, hrI⟩ := id hL
  show z_V M h n 0 0 0 [(0, .ref t), (1, .int (nI k)), (2, .int (nI 1))] []
  refine z_dom (fun hD0 => ?_)
  refine z_aload_n hb dX20_find_0 rfl ?_
  refine z_get (k := 2) (C := RX20) (T := TX20) (N := 3) hb ho zc16 in_X20 (zf_RX20_9 _) dX20_find_1 htc (by decide) rfl ?_
  refine z_iload_n hb dX20_find_4 rfl ?_
  refine z_iload_n hb dX20_find_5 rfl ?_
  refine z_if_eqN (tgt := 13) hb dX20_find_6 (by decide) (by omega) (fun c_6 => ?_) (fun c_6 => ?_)
  · exact absurd c_6 (by omega)
  · refine z_lconst (x := 1) hb dX20_find_9 rfl ?_
    refine z_goto (tgt := 30) hb dX20_find_10 (by decide) ?_
    refine z_last (j := k) hb dX20_find_30 hec he0 rfl (by omega) (by omega) ?_
    refine z_hn (fun h_1 eh_1 => ?_)
    have eh_1 : h_1 = z_up h ec (.inl ((zm_G M).2.1 1, 8, .inr (.inl (va_up C k 1)))) := eh_1
    have k_2 : h_1 a = some (.inr (1, [.ref lr, .ref ls, .ref lv, .int (nI D), .int (w 2), .int (w 4), .int (w 5), .int (w 6)])) := z_nx eh_1 (z_neA h1 hec) h1
    have k_3 : h_1 lr = some (.inr (20, [.int m0, .ref e0, .int (nI R)])) := z_nx eh_1 (z_neA r1 hec) r1
    have k_4 : h_1 ls = some (.inr (20, [.int m9, .ref e, .int (nI S)])) := z_nx eh_1 (z_neA h3 hec) h3
    have k_5 : h_1 lv = some (.inr (20, [.int mv, .ref ev, .int (nI S)])) := z_nx eh_1 (z_neA v1 hec) v1
    have k_6 : h_1 t = some (.inr (16, [.ref ls, .int (nI R), .ref ec])) := z_nx eh_1 (z_neA htc hec) htc
    refine z_aload_n hb dX20_find_31 rfl ?_
    refine z_get (k := 2) (C := RX20) (T := TX20) (N := 3) hb ho zc16 in_X20 (zf_RX20_9 _) dX20_find_32 k_6 (by decide) rfl ?_
    refine z_iload_n hb dX20_find_35 rfl ?_
    refine z_lald (j := k) hb dX20_find_36 (z_nxs eh_1) rfl (by omega) (by omega) ?_
    refine z_toL (y := 1) z_upl ?_
    refine z_lret hb hr dX20_find_37 ?_
    rw [hQ]
    exact ⟨_, rfl, rfl, eh_1⟩

set_option maxHeartbeats 1000000 in
theorem m_X20_find_0 {l : Launch} {G : zG} {h : zH} {n : Nat} {w : Nat → Int32} {v : Nat → Int64} {R S D a lr ls lv : Nat} {ra sa va : Nat → Nat} {t ec k : Nat} {C : Nat → Int64} (hL : z_Ln G h w v R S D a lr ls lv ra sa va) (hS8 : S ≤ 8) (hR4 : R ≤ 40) (htc : h t = some (.inr (16, [.ref ls, .int (nI R), .ref ec]))) (hec : h ec = some (z_al G 8 C)) (hk : k < S) (he0 : z_n0 G ≤ ec) : z_C l G yX20_find 6 0 0 [.ref t, .int (nI k), .int (nI 0)] h n (z_q1 (fun r9 h' n' => r9 = .long (z_cw w R k C) ∧ h' = z_up h ec (z_al G 8 (va_up C k (z_cw w R k C))))) := by
  refine z_start zk_X20_find zpl_RX20 (Nat.le_of_ble_eq_true rfl) ?_
  intro hn0 M hl hG ho hb hN hr hm hH hrm hQ
  subst hl hG
  have ho : zm_o M = RX20 := ho
  obtain ⟨h1, ⟨e0, N0, m0, f0, r1, r2, r3, ⟨r4, r4n⟩, r5⟩, ⟨e, N, m9, f, h3, h4, h5, ⟨h6, h6n⟩, h7⟩, ⟨ev, Nv, mv, fv, v1, v2, v3, ⟨v4, v4n⟩, v5⟩, h9, hs, hv, hi, hrI⟩ := id hL
  show z_V M h n 0 0 0 [(0, .ref t), (1, .int (nI k)), (2, .int (nI 0))] []
  refine z_dom (fun hD0 => ?_)
  refine z_aload_n hb dX20_find_0 rfl ?_
  refine z_get (k := 2) (C := RX20) (T := TX20) (N := 3) hb ho zc16 in_X20 (zf_RX20_9 _) dX20_find_1 htc (by decide) rfl ?_
  refine z_iload_n hb dX20_find_4 rfl ?_
  refine z_iload_n hb dX20_find_5 rfl ?_
  refine z_if_eqN (tgt := 13) hb dX20_find_6 (by decide) (by omega) (fun c_6 => ?_) (fun c_6 => ?_)
  · refine z_aload_n hb dX20_find_13 rfl ?_
    refine z_get (k := 0) (C := RX20) (T := TX20) (N := 3) hb ho zc16 in_X20 (zf_RX20_21 _) dX20_find_14 htc (by decide) rfl ?_
    refine z_iload_n hb dX20_find_17 rfl ?_
    refine z_call1 (b' := 0) (f' := 0) (rest := [.int (nI k), .ref ec]) (av := [.ref ls, .int (nI k)]) (z_siteF hb ho zc20 h3 q2076 zx6 q663 q665 q666 q664 q321 zxl6 dX20_find_18 : z_Site M _ _ _ _ _ ([.int (nI k)].reverse ++ .ref ls :: [.int (nI k), .ref ec]) [.int (nI k), .ref ec] _) zk_J2_get q98 hrm (m_J2_get h3 h4 (by omega) (by omega) h7 (by omega)) (by omega) (by decide) (Nat.le_of_ble_eq_true rfl) (by omega) (by omega) ?_
    have J_26 : z_V M h n 0 0 26 [(0, .ref t), (1, .int (nI k)), (2, .int (nI 0))] [.ref (sa k), .int (nI k), .ref ec] := by
      refine z_aload_n hb dX20_find_26 rfl ?_
      have J_30 : ∀ n_1 : Nat, n ≤ n_1 → z_V M h n_1 0 0 30 [(0, .ref t), (1, .int (nI k)), (2, .int (nI 0))] [.long (z_cw w R k C), .int (nI k), .ref ec] := by
        intro n_1 hn_1
        refine z_last (j := k) hb dX20_find_30 hec he0 rfl (by omega) (by omega) ?_
        refine z_hn (fun h_2 eh_2 => ?_)
        have eh_2 : h_2 = z_up h ec (.inl ((zm_G M).2.1 1, 8, .inr (.inl (va_up C k (z_cw w R k C))))) := eh_2
        have k_3 : h_2 a = some (.inr (1, [.ref lr, .ref ls, .ref lv, .int (nI D), .int (w 2), .int (w 4), .int (w 5), .int (w 6)])) := z_nx eh_2 (z_neA h1 hec) h1
        have k_4 : h_2 lr = some (.inr (20, [.int m0, .ref e0, .int (nI R)])) := z_nx eh_2 (z_neA r1 hec) r1
        have k_5 : h_2 ls = some (.inr (20, [.int m9, .ref e, .int (nI S)])) := z_nx eh_2 (z_neA h3 hec) h3
        have k_6 : h_2 lv = some (.inr (20, [.int mv, .ref ev, .int (nI S)])) := z_nx eh_2 (z_neA v1 hec) v1
        have k_7 : h_2 t = some (.inr (16, [.ref ls, .int (nI R), .ref ec])) := z_nx eh_2 (z_neA htc hec) htc
        refine z_aload_n hb dX20_find_31 rfl ?_
        refine z_get (k := 2) (C := RX20) (T := TX20) (N := 3) hb ho zc16 in_X20 (zf_RX20_9 _) dX20_find_32 k_7 (by decide) rfl ?_
        refine z_iload_n hb dX20_find_35 rfl ?_
        refine z_lald (j := k) hb dX20_find_36 (z_nxs eh_2) rfl (by omega) (by omega) ?_
        refine z_toL (y := z_cw w R k C) z_upl ?_
        refine z_lret hb hr dX20_find_37 ?_
        rw [hQ]
        exact ⟨_, rfl, rfl, eh_2⟩
      rcases hs k hk with ⟨q1, q9⟩ | ⟨q1, q9⟩ | ⟨q1, q9⟩ | ⟨q1, q2, q3, q9⟩ | ⟨q1, q2, q3, q9⟩ | ⟨q1, q2, q3, q9⟩ | ⟨q1, q2, q3, q9⟩
      · refine z_callN1 (b' := 0) (f' := 0) (rest := [.int (nI k), .ref ec]) (av := [.ref (sa k), .ref t]) (z_siteU hb ho zc8 q9 q2078 q2080 (Or.inl q2079) q2091 q2103 ⟨by decide +kernel, by decide +kernel⟩ (by show _ = some 1; decide +kernel) dX20_find_27 : z_Site M _ _ _ _ _ ([.ref t].reverse ++ .ref (sa k) :: [.int (nI k), .ref ec]) [.int (nI k), .ref ec] _) zk_X10_costWith q128 hrm (m_costWith hL hS8 hR4 htc hec hk _ _ q9 _) (by omega) (by decide) (Nat.le_of_ble_eq_true rfl) (by omega) (by omega) (fun n_8 hn_8 => ?_)
        exact J_30 _ (by omega)
      · refine z_callN1 (b' := 0) (f' := 0) (rest := [.int (nI k), .ref ec]) (av := [.ref (sa k), .ref t]) (z_siteU hb ho zc9 q9 q2078 q2080 (Or.inl q2079) q2091 q2090 ⟨by decide +kernel, by decide +kernel⟩ (by show _ = some 1; decide +kernel) dX20_find_27 : z_Site M _ _ _ _ _ ([.ref t].reverse ++ .ref (sa k) :: [.int (nI k), .ref ec]) [.int (nI k), .ref ec] _) zk_X10_costWith q128 hrm (m_costWith hL hS8 hR4 htc hec hk _ _ q9 _) (by omega) (by decide) (Nat.le_of_ble_eq_true rfl) (by omega) (by omega) (fun n_9 hn_9 => ?_)
        exact J_30 _ (by omega)
      · refine z_callN1 (b' := 0) (f' := 0) (rest := [.int (nI k), .ref ec]) (av := [.ref (sa k), .ref t]) (z_siteU hb ho zc10 q9 q2078 q2080 (Or.inl q2079) q2091 q2093 ⟨by decide +kernel, by decide +kernel⟩ (by show _ = some 1; decide +kernel) dX20_find_27 : z_Site M _ _ _ _ _ ([.ref t].reverse ++ .ref (sa k) :: [.int (nI k), .ref ec]) [.int (nI k), .ref ec] _) zk_X10_costWith q128 hrm (m_costWith hL hS8 hR4 htc hec hk _ _ q9 _) (by omega) (by decide) (Nat.le_of_ble_eq_true rfl) (by omega) (by omega) (fun n_10 hn_10 => ?_)
        exact J_30 _ (by omega)
      · refine z_callN1 (b' := 0) (f' := 0) (rest := [.int (nI k), .ref ec]) (av := [.ref (sa k), .ref t]) (z_siteU hb ho zc11 q9 q2078 q2080 (Or.inl q2079) q2095 q2094 ⟨by decide +kernel, by decide +kernel⟩ (by show _ = some 1; decide +kernel) dX20_find_27 : z_Site M _ _ _ _ _ ([.ref t].reverse ++ .ref (sa k) :: [.int (nI k), .ref ec]) [.int (nI k), .ref ec] _) zk_X14_costWith q133 hrm (m_costWith hL hS8 hR4 htc hec hk _ _ q9 _) (by omega) (by decide) (Nat.le_of_ble_eq_true rfl) (by omega) (by omega) (fun n_11 hn_11 => ?_)
        exact J_30 _ (by omega)
      · refine z_callN1 (b' := 0) (f' := 0) (rest := [.int (nI k), .ref ec]) (av := [.ref (sa k), .ref t]) (z_siteU hb ho zc11 q9 q2078 q2080 (Or.inl q2079) q2095 q2094 ⟨by decide +kernel, by decide +kernel⟩ (by show _ = some 1; decide +kernel) dX20_find_27 : z_Site M _ _ _ _ _ ([.ref t].reverse ++ .ref (sa k) :: [.int (nI k), .ref ec]) [.int (nI k), .ref ec] _) zk_X14_costWith q133 hrm (m_costWith hL hS8 hR4 htc hec hk _ _ q9 _) (by omega) (by decide) (Nat.le_of_ble_eq_true rfl) (by omega) (by omega) (fun n_12 hn_12 => ?_)
        exact J_30 _ (by omega)
      · refine z_callN1 (b' := 0) (f' := 0) (rest := [.int (nI k), .ref ec]) (av := [.ref (sa k), .ref t]) (z_siteU hb ho zc12 q9 q2078 q2080 (Or.inl q2079) q2099 q2098 ⟨by decide +kernel, by decide +kernel⟩ (by show _ = some 1; decide +kernel) dX20_find_27 : z_Site M _ _ _ _ _ ([.ref t].reverse ++ .ref (sa k) :: [.int (nI k), .ref ec]) [.int (nI k), .ref ec] _) zk_X16_costWith q135 hrm (m_costWith hL hS8 hR4 htc hec hk _ _ q9 _) (by omega) (by decide) (Nat.le_of_ble_eq_true rfl) (by omega) (by omega) (fun n_13 hn_13 => ?_)
        exact J_30 _ (by omega)
      · refine z_callN1 (b' := 0) (f' := 0) (rest := [.int (nI k), .ref ec]) (av := [.ref (sa k), .ref t]) (z_siteU hb ho zc13 q9 q2078 q2080 (Or.inl q2079) q2082 q2081 ⟨by decide +kernel, by decide +kernel⟩ (by show _ = some 1; decide +kernel) dX20_find_27 : z_Site M _ _ _ _ _ ([.ref t].reverse ++ .ref (sa k) :: [.int (nI k), .ref ec]) [.int (nI k), .ref ec] _) zk_X17_costWith q136 hrm (m_costWith hL hS8 hR4 htc hec hk _ _ q9 _) (by omega) (by decide) (Nat.le_of_ble_eq_true rfl) (by omega) (by omega) (fun n_14 hn_14 => ?_)
        exact J_30 _ (by omega)
    rcases hs k (by omega) with ⟨q1, q9⟩ | ⟨q1, q9⟩ | ⟨q1, q9⟩ | ⟨q1, q2, q3, q9⟩ | ⟨q1, q2, q3, q9⟩ | ⟨q1, q2, q3, q9⟩ | ⟨q1, q2, q3, q9⟩
    · exact z_cast hb ho zc8 q9 q2077 (Or.inr q3300) dX20_find_23 J_26
    · exact z_cast hb ho zc9 q9 q2077 (Or.inr q3296) dX20_find_23 J_26
    · exact z_cast hb ho zc10 q9 q2077 (Or.inr q3297) dX20_find_23 J_26
    · exact z_cast hb ho zc11 q9 q2077 (Or.inr q3298) dX20_find_23 J_26
    · exact z_cast hb ho zc11 q9 q2077 (Or.inr q3298) dX20_find_23 J_26
    · exact z_cast hb ho zc12 q9 q2077 (Or.inr q3299) dX20_find_23 J_26
    · exact z_cast hb ho zc13 q9 q2077 (Or.inr q3295) dX20_find_23 J_26
  · exact absurd c_6 (by omega)

set_option maxHeartbeats 1000000 in
theorem m_X20_init {l : Launch} {G : zG} {h : zH} {n : Nat} {w : Nat → Int32} {v : Nat → Int64} {R S D a lr ls lv : Nat} {ra sa va : Nat → Nat} {t : Nat} (hL : z_Ln G h w v R S D a lr ls lv ra sa va) (ht9 : h t = some (.inr (16, [.null, .int (nI 0), .null]))) (hnt : z_n0 G ≤ t) (htn : t < n) : z_C l G yX20_init 2 1 8 [.ref t, .ref a] h n (z_q0 (fun h' n' => ∃ ec, h' t = some (.inr (16, [.ref ls, .int (nI R), .ref ec])) ∧ h' ec = some (z_al G 8 (fun _ => 0)) ∧ n ≤ ec ∧ z_fr (fun y => y = t) h h')) := by
  refine z_start zk_X20_init zpl_RX20 (Nat.le_of_ble_eq_true rfl) ?_
  intro hn0 M hl hG ho hb hN hr hm hH hrm hQ
  subst hl hG
  have ho : zm_o M = RX20 := ho
  obtain ⟨h1, ⟨e0, N0, m0, f0, r1, r2, r3, ⟨r4, r4n⟩, r5⟩, ⟨e, N, m9, f, h3, h4, h5, ⟨h6, h6n⟩, h7⟩, ⟨ev, Nv, mv, fv, v1, v2, v3, ⟨v4, v4n⟩, v5⟩, h9, hs, hv, hi, hrI⟩ := id hL
  show z_V M h n 1 8 0 [(0, .ref t), (1, .ref a)] []
  refine z_dom (fun hD0 => ?_)
  refine z_aload_n hb dX20_init_0 rfl ?_
  refine z_oinit hb ho hrm (by omega) q2053 q155 q156 (by decide) dX20_init_1 ?_
  refine z_aload_n hb dX20_init_4 rfl ?_
  refine z_bipush (x := nI 8) hb dX20_init_5 (by decide) ?_
  refine z_dom (fun hD_1 => ?_)
  refine z_newl (N := 8) (b' := 0) (f' := 0) hb q582 dX20_init_7 rfl (by omega) (by omega) (by omega) ?_
  refine z_hn (fun h_2 eh_2 => ?_)
  have eh_2 : h_2 = z_up h n (.inl ((zm_G M).2.1 1, 8, .inr (.inl (fun _ => 0)))) := eh_2
  have k_3 : h_2 a = some (.inr (1, [.ref lr, .ref ls, .ref lv, .int (nI D), .int (w 2), .int (w 4), .int (w 5), .int (w 6)])) := z_nx eh_2 (Nat.ne_of_lt (hD_1 _ _ h1)) h1
  have k_4 : h_2 lr = some (.inr (20, [.int m0, .ref e0, .int (nI R)])) := z_nx eh_2 (Nat.ne_of_lt (hD_1 _ _ r1)) r1
  have k_5 : h_2 e0 = some (.inl ((zm_G M).2.1 5, N0, .inr (.inr (.inr (.inr f0))))) := z_nx eh_2 (Nat.ne_of_lt (hD_1 _ _ r2)) r2
  have k_6 : h_2 ls = some (.inr (20, [.int m9, .ref e, .int (nI S)])) := z_nx eh_2 (Nat.ne_of_lt (hD_1 _ _ h3)) h3
  have k_7 : h_2 e = some (.inl ((zm_G M).2.1 5, N, .inr (.inr (.inr (.inr f))))) := z_nx eh_2 (Nat.ne_of_lt (hD_1 _ _ h4)) h4
  have k_8 : h_2 lv = some (.inr (20, [.int mv, .ref ev, .int (nI S)])) := z_nx eh_2 (Nat.ne_of_lt (hD_1 _ _ v1)) v1
  have k_9 : h_2 ev = some (.inl ((zm_G M).2.1 5, Nv, .inr (.inr (.inr (.inr fv))))) := z_nx eh_2 (Nat.ne_of_lt (hD_1 _ _ v2)) v2
  have k_10 : h_2 t = some (.inr (16, [.null, .int (nI 0), .null])) := z_nx eh_2 (Nat.ne_of_lt (hD_1 _ _ ht9)) ht9
  refine z_put (k := 2) (C := RX20) (T := TX20) (N := 3) hb ho zc16 in_X20 tyX20_ok nmX20 (zf_RX20_9 _) dX20_init_9 k_10 hnt (by decide) (Or.inr ⟨hm, rfl⟩) rfl rfl rfl (Nat.le_of_ble_eq_true rfl) ?_
  refine z_hn (fun h_11 eh_11 => ?_)
  have eh_11 : h_11 = z_up h_2 t (.inr (16, [.null, .int (nI 0), .ref n])) := eh_11
  have k_12 : h_11 a = some (.inr (1, [.ref lr, .ref ls, .ref lv, .int (nI D), .int (w 2), .int (w 4), .int (w 5), .int (w 6)])) := z_nx eh_11 (z_neO k_3 k_10 rfl) k_3
  have k_13 : h_11 lr = some (.inr (20, [.int m0, .ref e0, .int (nI R)])) := z_nx eh_11 (z_neO k_4 k_10 rfl) k_4
  have k_14 : h_11 e0 = some (.inl ((zm_G M).2.1 5, N0, .inr (.inr (.inr (.inr f0))))) := z_nx eh_11 (z_neA' k_5 k_10) k_5
  have k_15 : h_11 ls = some (.inr (20, [.int m9, .ref e, .int (nI S)])) := z_nx eh_11 (z_neO k_6 k_10 rfl) k_6
  have k_16 : h_11 e = some (.inl ((zm_G M).2.1 5, N, .inr (.inr (.inr (.inr f))))) := z_nx eh_11 (z_neA' k_7 k_10) k_7
  have k_17 : h_11 lv = some (.inr (20, [.int mv, .ref ev, .int (nI S)])) := z_nx eh_11 (z_neO k_8 k_10 rfl) k_8
  have k_18 : h_11 ev = some (.inl ((zm_G M).2.1 5, Nv, .inr (.inr (.inr (.inr fv))))) := z_nx eh_11 (z_neA' k_9 k_10) k_9
  have k_19 : h_11 n = some (.inl ((zm_G M).2.1 1, 8, .inr (.inl (fun _ => 0)))) := z_nx eh_11 (Nat.ne_of_gt (hD_1 _ _ ht9)) (z_nxs eh_2)
  refine z_aload_n hb dX20_init_12 rfl ?_
  refine z_aload_n hb dX20_init_13 rfl ?_
  refine z_get (k := 1) (C := RX2) (T := TX2) (N := 8) hb ho zc1 in_X2 (zf_RX20_15 _) dX20_init_14 k_12 (by decide) rfl ?_
  refine z_put (k := 0) (C := RX20) (T := TX20) (N := 3) hb ho zc16 in_X20 tyX20_ok nmX20 (zf_RX20_21 _) dX20_init_17 (z_nxs eh_11) hnt (by decide) (Or.inr ⟨hm, rfl⟩) rfl rfl rfl (Nat.le_of_ble_eq_true rfl) ?_
  refine z_hn (fun h_20 eh_20 => ?_)
  have eh_20 : h_20 = z_up h_11 t (.inr (16, [.ref ls, .int (nI 0), .ref n])) := eh_20
  have k_21 : h_20 a = some (.inr (1, [.ref lr, .ref ls, .ref lv, .int (nI D), .int (w 2), .int (w 4), .int (w 5), .int (w 6)])) := z_nx eh_20 (z_neO k_12 (z_nxs eh_11) rfl) k_12
  have k_22 : h_20 lr = some (.inr (20, [.int m0, .ref e0, .int (nI R)])) := z_nx eh_20 (z_neO k_13 (z_nxs eh_11) rfl) k_13
  have k_23 : h_20 e0 = some (.inl ((zm_G M).2.1 5, N0, .inr (.inr (.inr (.inr f0))))) := z_nx eh_20 (z_neA' k_14 (z_nxs eh_11)) k_14
  have k_24 : h_20 ls = some (.inr (20, [.int m9, .ref e, .int (nI S)])) := z_nx eh_20 (z_neO k_15 (z_nxs eh_11) rfl) k_15
  have k_25 : h_20 e = some (.inl ((zm_G M).2.1 5, N, .inr (.inr (.inr (.inr f))))) := z_nx eh_20 (z_neA' k_16 (z_nxs eh_11)) k_16
  have k_26 : h_20 lv = some (.inr (20, [.int mv, .ref ev, .int (nI S)])) := z_nx eh_20 (z_neO k_17 (z_nxs eh_11) rfl) k_17
  have k_27 : h_20 ev = some (.inl ((zm_G M).2.1 5, Nv, .inr (.inr (.inr (.inr fv))))) := z_nx eh_20 (z_neA' k_18 (z_nxs eh_11)) k_18
  have k_28 : h_20 n = some (.inl ((zm_G M).2.1 1, 8, .inr (.inl (fun _ => 0)))) := z_nx eh_20 (Nat.ne_of_gt (hD_1 _ _ ht9)) k_19
  refine z_aload_n hb dX20_init_20 rfl ?_
  refine z_aload_n hb dX20_init_21 rfl ?_
  refine z_get (k := 0) (C := RX2) (T := TX2) (N := 8) hb ho zc1 in_X2 (zf_RX20_22 _) dX20_init_22 k_21 (by decide) rfl ?_
  refine z_call1 (b' := 0) (f' := 0) (rest := [.ref t]) (av := [.ref lr]) (z_siteF hb ho zc20 k_22 q2055 zx0 q322 q324 q325 q323 q321 zxl0 dX20_init_25 : z_Site M _ _ _ _ _ ([].reverse ++ .ref lr :: [.ref t]) [.ref t] _) zk_J2_size q98 hrm (m_J2_size k_22) (by omega) (by decide) (Nat.le_of_ble_eq_true rfl) (by omega) (by omega) ?_
  refine z_put (k := 1) (C := RX20) (T := TX20) (N := 3) hb ho zc16 in_X20 tyX20_ok nmX20 (zf_RX20_31 _) dX20_init_30 (z_nxs eh_20) hnt (by decide) (Or.inr ⟨hm, rfl⟩) rfl rfl rfl (Nat.le_of_ble_eq_true rfl) ?_
  refine z_hn (fun h_29 eh_29 => ?_)
  have eh_29 : h_29 = z_up h_20 t (.inr (16, [.ref ls, .int (nI R), .ref n])) := eh_29
  have k_30 : h_29 a = some (.inr (1, [.ref lr, .ref ls, .ref lv, .int (nI D), .int (w 2), .int (w 4), .int (w 5), .int (w 6)])) := z_nx eh_29 (z_neO k_21 (z_nxs eh_20) rfl) k_21
  have k_31 : h_29 lr = some (.inr (20, [.int m0, .ref e0, .int (nI R)])) := z_nx eh_29 (z_neO k_22 (z_nxs eh_20) rfl) k_22
  have k_32 : h_29 e0 = some (.inl ((zm_G M).2.1 5, N0, .inr (.inr (.inr (.inr f0))))) := z_nx eh_29 (z_neA' k_23 (z_nxs eh_20)) k_23
  have k_33 : h_29 ls = some (.inr (20, [.int m9, .ref e, .int (nI S)])) := z_nx eh_29 (z_neO k_24 (z_nxs eh_20) rfl) k_24
  have k_34 : h_29 e = some (.inl ((zm_G M).2.1 5, N, .inr (.inr (.inr (.inr f))))) := z_nx eh_29 (z_neA' k_25 (z_nxs eh_20)) k_25
  have k_35 : h_29 lv = some (.inr (20, [.int mv, .ref ev, .int (nI S)])) := z_nx eh_29 (z_neO k_26 (z_nxs eh_20) rfl) k_26
  have k_36 : h_29 ev = some (.inl ((zm_G M).2.1 5, Nv, .inr (.inr (.inr (.inr fv))))) := z_nx eh_29 (z_neA' k_27 (z_nxs eh_20)) k_27
  have k_37 : h_29 n = some (.inl ((zm_G M).2.1 1, 8, .inr (.inl (fun _ => 0)))) := z_nx eh_29 (Nat.ne_of_gt (hD_1 _ _ ht9)) k_28
  refine z_vret hb hr dX20_init_33 ?_
  rw [hQ]
  exact ⟨rfl, _, (z_nxs eh_29), k_37, Nat.le_refl _, ((((z_exN z_ex_r hD_1 eh_2).fr.t (z_fr_up (P := (fun y => y = t)) rfl eh_11)).t (z_fr_up (P := (fun y => y = t)) rfl eh_20)).t (z_fr_up (P := (fun y => y = t)) rfl eh_29))⟩

set_option maxHeartbeats 1000000 in
theorem m_X20_findAll {l : Launch} {G : zG} {h : zH} {n : Nat} {w : Nat → Int32} {v : Nat → Int64} {R S D a lr ls lv : Nat} {ra sa va : Nat → Nat} {t ec : Nat} {C : Nat → Int64} {x : Int32} (hL : z_Ln G h w v R S D a lr ls lv ra sa va) (hS8 : S ≤ 8) (hR4 : R ≤ 40) (htc : h t = some (.inr (16, [.ref ls, .int (nI R), .ref ec]))) (hec : h ec = some (z_al G 8 C)) (he0 : z_n0 G ≤ ec) : z_C l G yX20_findAll 7 0 0 [.ref t, .int x] h n (z_q1 (fun r9 h' n' => r9 = .long (tw_wh w R S x C) ∧ h' = z_up h ec (z_al G 8 (tw_lc w R x C S)))) := by
  refine z_start zk_X20_findAll zpl_RX20 (Nat.le_of_ble_eq_true rfl) ?_
  intro hn0 M hl hG ho hb hN hr hm hH hrm hQ
  subst hl hG
  have ho : zm_o M = RX20 := ho
  obtain ⟨h1, ⟨e0, N0, m0, f0, r1, r2, r3, ⟨r4, r4n⟩, r5⟩, ⟨e, N, m9, f, h3, h4, h5, ⟨h6, h6n⟩, h7⟩, ⟨ev, Nv, mv, fv, v1, v2, v3, ⟨v4, v4n⟩, v5⟩, h9, hs, hv, hi, hrI⟩ := id hL
  show z_V M h n 0 0 0 [(0, .ref t), (1, .int x)] []
  refine z_dom (fun hD0 => ?_)
  refine z_lconst (x := 0) hb dX20_findAll_0 rfl ?_
  refine z_lstore_n (lv' := [(2, .long 0), (0, .ref t), (1, .int x)]) hb dX20_findAll_1 (by rw [hN]; decide) rfl ?_
  refine z_iconst (x := nI 0) hb dX20_findAll_2 (by decide) ?_
  refine z_istore (lv' := [(4, .int (nI 0)), (2, .long 0), (0, .ref t), (1, .int x)]) hb dX20_findAll_3 (by rw [hN]; decide) rfl ?_
  have lp_5 : ∀ (k9_5 : Nat) (i : Nat) (nn : Nat) (hh : zH), S + 1 - i < k9_5 → (i ≤ S) → (n ≤ nn) → (hh = z_up h ec (z_al (zm_G M) 8 (tw_lc w R x C i))) → z_V M hh nn 0 0 5 [(4, .int (nI i)), (2, .long (tw_sum8 (tw_lc w R x C i) i)), (0, .ref t), (1, .int x)] [] := by
    intro k9_5
    induction k9_5 with
    | zero => intro i nn hh hk9_5; exact absurd hk9_5 (Nat.not_lt_zero _)
    | succ k9_5 ih_5 =>
      intro i nn hh hk9_5 hi hnn hE
      refine z_iload hb dX20_findAll_5 rfl ?_
      refine z_aload_n hb dX20_findAll_7 rfl ?_
      refine z_get (k := 0) (C := RX20) (T := TX20) (N := 3) hb ho zc16 in_X20 (zf_RX20_21 _) dX20_findAll_8 (z_nx hE (z_neA htc hec) htc) (by decide) rfl ?_
      refine z_call1 (b' := 0) (f' := 0) (rest := [.int (nI i)]) (av := [.ref ls]) (z_siteF hb ho zc20 (z_nx hE (z_neA h3 hec) h3) q2055 zx0 q322 q324 q325 q323 q321 zxl0 dX20_findAll_11 : z_Site M _ _ _ _ _ ([].reverse ++ .ref ls :: [.int (nI i)]) [.int (nI i)] _) zk_J2_size q98 hrm (m_J2_size (z_nx hE (z_neA h3 hec) h3)) (by omega) (by decide) (Nat.le_of_ble_eq_true rfl) (by omega) (by omega) ?_
      refine z_icmp_geN (tgt := 49) hb dX20_findAll_16 (by decide) (by omega) (by omega) (fun c_16 => ?_) (fun c_16 => ?_)
      · refine z_lload_n hb dX20_findAll_49 rfl ?_
        refine z_lret hb hr dX20_findAll_50 ?_
        rw [hQ]
        obtain rfl : i = S := by omega
        exact ⟨_, rfl, rfl, hE⟩
      · refine z_lload_n hb dX20_findAll_19 rfl ?_
        refine z_aload_n hb dX20_findAll_20 rfl ?_
        refine z_iload hb dX20_findAll_21 rfl ?_
        refine z_iload_n hb dX20_findAll_23 rfl ?_
        refine z_iload hb dX20_findAll_24 rfl ?_
        refine z_ishr hb dX20_findAll_26 ?_
        refine z_iconst (x := nI 1) hb dX20_findAll_27 (by decide) ?_
        refine z_iand hb dX20_findAll_28 ?_
        refine z_iconst (x := nI 1) hb dX20_findAll_29 (by decide) ?_
        refine z_icmp_ne (tgt := 37) hb dX20_findAll_30 (by decide) (fun c_30 => ?_) (fun c_30 => ?_)
        · refine z_iconst (x := nI 0) hb dX20_findAll_37 (by decide) ?_
          refine z_callQ1 (b' := 0) (f' := 0) (rest := [.long (tw_sum8 (tw_lc w R x C i) i)]) (av := [.ref t, .int (nI i), .int (nI 0)]) (z_siteV hb ho zc16 (z_nx hE (z_neA htc hec) htc) q2071 q2072 q2073 ⟨_, _, _, _, zk_X20_find⟩ zy_X20_find zl_X20_find dX20_findAll_38 : z_Site M _ _ _ _ _ ([.int (nI i), .int (nI 0)].reverse ++ .ref t :: [.long (tw_sum8 (tw_lc w R x C i) i)]) [.long (tw_sum8 (tw_lc w R x C i) i)] _) zk_X20_find q143 hrm (m_X20_find_0 (hL.kq (z_kq8 hec hE)) hS8 hR4 (z_nx hE (z_neA htc hec) htc) (z_nxs hE) (show i < S by omega) he0) (by omega) (by decide) (Nat.le_of_ble_eq_true rfl) (by omega) (by omega) (fun rhq_1 h_2 n_3 hq_1 hn_3 => ?_)
          obtain ⟨rfl, hq_1⟩ := hq_1
          refine z_ladd hb dX20_findAll_41 ?_
          refine z_toL (y := tw_sum8 (tw_lc w R x C (i + 1)) (i + 1)) (by rw [z_sum8_s, z_lc1_f c_30]) ?_
          refine z_lstore_n (lv' := [(2, .long (tw_sum8 (tw_lc w R x C (i + 1)) (i + 1))), (4, .int (nI i)), (0, .ref t), (1, .int x)]) hb dX20_findAll_42 (by rw [hN]; decide) rfl ?_
          refine z_iinc (k0 := 1) (lv' := [(4, .int (nI (i + 1))), (2, .long (tw_sum8 (tw_lc w R x C (i + 1)) (i + 1))), (0, .ref t), (1, .int x)]) hb dX20_findAll_43 rfl (nI_1 i) (by rw [hN]; decide) rfl ?_
          refine z_goto (tgt := 5) hb dX20_findAll_46 (by decide) ?_
          refine z_lv [0, 1, 2, 3] (lv' := [(4, .int (nI (i + 1))), (2, .long (tw_sum8 (tw_lc w R x C (i + 1)) (i + 1))), (0, .ref t), (1, .int x)]) rfl ?_
          exact ih_5 (i + 1) n_3 h_2 (by omega) (by omega) (by omega) (by rw [hq_1, hE, z_up_up, tw_lc, z_lc1_f c_30])
        · refine z_iconst (x := nI 1) hb dX20_findAll_33 (by decide) ?_
          refine z_goto (tgt := 38) hb dX20_findAll_34 (by decide) ?_
          refine z_callQ1 (b' := 0) (f' := 0) (rest := [.long (tw_sum8 (tw_lc w R x C i) i)]) (av := [.ref t, .int (nI i), .int (nI 1)]) (z_siteV hb ho zc16 (z_nx hE (z_neA htc hec) htc) q2071 q2072 q2073 ⟨_, _, _, _, zk_X20_find⟩ zy_X20_find zl_X20_find dX20_findAll_38 : z_Site M _ _ _ _ _ ([.int (nI i), .int (nI 1)].reverse ++ .ref t :: [.long (tw_sum8 (tw_lc w R x C i) i)]) [.long (tw_sum8 (tw_lc w R x C i) i)] _) zk_X20_find q143 hrm (m_X20_find_1 (hL.kq (z_kq8 hec hE)) hS8 hR4 (z_nx hE (z_neA htc hec) htc) (z_nxs hE) (show i < S by omega) he0) (by omega) (by decide) (Nat.le_of_ble_eq_true rfl) (by omega) (by omega) (fun rhq_4 h_5 n_6 hq_4 hn_6 => ?_)
          obtain ⟨rfl, hq_4⟩ := hq_4
          refine z_ladd hb dX20_findAll_41 ?_
          refine z_toL (y := tw_sum8 (tw_lc w R x C (i + 1)) (i + 1)) (by rw [z_sum8_s, z_lc1_t c_30]) ?_
          refine z_lstore_n (lv' := [(2, .long (tw_sum8 (tw_lc w R x C (i + 1)) (i + 1))), (4, .int (nI i)), (0, .ref t), (1, .int x)]) hb dX20_findAll_42 (by rw [hN]; decide) rfl ?_
          refine z_iinc (k0 := 1) (lv' := [(4, .int (nI (i + 1))), (2, .long (tw_sum8 (tw_lc w R x C (i + 1)) (i + 1))), (0, .ref t), (1, .int x)]) hb dX20_findAll_43 rfl (nI_1 i) (by rw [hN]; decide) rfl ?_
          refine z_goto (tgt := 5) hb dX20_findAll_46 (by decide) ?_
          refine z_lv [0, 1, 2, 3] (lv' := [(4, .int (nI (i + 1))), (2, .long (tw_sum8 (tw_lc w R x C (i + 1)) (i + 1))), (0, .ref t), (1, .int x)]) rfl ?_
          exact ih_5 (i + 1) n_6 h_5 (by omega) (by omega) (by omega) (by rw [hq_4, hE, z_up_up, tw_lc, z_lc1_t c_30])
  refine z_lv [0, 1, 2, 3] (lv' := [(4, .int (nI 0)), (2, .long 0), (0, .ref t), (1, .int x)]) rfl ?_
  exact lp_5 _ 0 _ _ (Nat.lt_succ_self _) (Nat.zero_le _) (Nat.le_refl _) (z_up_self hec).symm

theorem z_1sh {S : Nat} (h : S ≤ 8) : nI 1 <<< (nI S &&& 31) = nI (2 ^ S) := by
  have : ∀ S, S ≤ 8 → nI 1 <<< (nI S &&& 31) = nI (2 ^ S) := by decide
  exact this S h

set_option maxHeartbeats 1000000 in
theorem m_X1_plans {l : Launch} {G : zG} {h : zH} {n : Nat} {t : Nat} {x1 x2 x3 x4 x5 x6 : Value} {w : Nat → Int32} {v : Nat → Int64} {R S D a lr ls lv : Nat} {ra sa va : Nat → Nat}  (hX : h t = some (.inr (0, [.ref a, x1, x2, x3, x4, x5, x6]))) (hL : z_Ln G h w v R S D a lr ls lv ra sa va) (hS8 : S ≤ 8) : z_C l G yX1_plans 3 0 0 [.ref t] h n (z_rn (.int (nI (2 ^ S))) h) := by
  refine z_start zk_X1_plans zpl_RX1 (Nat.le_of_ble_eq_true rfl) ?_
  intro hn0 M hl hG ho hb hN hr hm hH hrm hQ
  subst hl hG
  have ho : zm_o M = RX1 := ho
  obtain ⟨h1, ⟨e0, N0, m0, f0, r1, r2, r3, ⟨r4, r4n⟩, r5⟩, ⟨e, N, m9, f, h3, h4, h5, ⟨h6, h6n⟩, h7⟩, ⟨ev, Nv, mv, fv, v1, v2, v3, ⟨v4, v4n⟩, v5⟩, h9, hs, hv, hi, hrI⟩ := id hL
  show z_V M h n 0 0 0 [(0, .ref t)] []
  refine z_dom (fun hD0 => ?_)
  refine z_iconst (x := nI 1) hb dX1_plans_0 (by decide) ?_
  refine z_aload_n hb dX1_plans_1 rfl ?_
  refine z_call1 (b' := 0) (f' := 0) (rest := [.int (nI 1)]) (av := [.ref t]) (z_siteV hb ho zc0 hX q766 q328 q329 ⟨_, _, _, _, zk_X1_steps⟩ zy_X1_steps zl_X1_steps dX1_plans_2 : z_Site M _ _ _ _ _ ([].reverse ++ .ref t :: [.int (nI 1)]) [.int (nI 1)] _) zk_X1_steps q94 hrm (m_X1_steps hX hL) (by omega) (by decide) (Nat.le_of_ble_eq_true rfl) (by omega) (by omega) ?_
  refine z_ishl hb dX1_plans_5 ?_
  refine z_toI (y := nI (2 ^ S)) (z_1sh hS8) ?_
  refine z_iret hb hr dX1_plans_6 ?_
  rw [hQ]
  exact ⟨rfl, rfl⟩

set_option maxHeartbeats 1000000 in
theorem m_X1_cost_ok {l : Launch} {G : zG} {h : zH} {n : Nat} {t : Nat} {x1 x2 x3 x4 x5 x6 : Value} {w : Nat → Int32} {v : Nat → Int64} {R S D a lr ls lv : Nat} {ra sa va : Nat → Nat} {k : Nat} {x : Int32} (hX : h t = some (.inr (0, [.ref a, x1, x2, x3, x4, x5, x6]))) (hL : z_Ln G h w v R S D a lr ls lv ra sa va) (hk : k < S) (hS8 : S ≤ 8) (hR4 : R ≤ 40) (hx : decide (nI 0 ≤ x ∧ x ≤ nI (2 ^ S) - nI 1) = true) : z_C l G yX1_cost 9 4 33 [.ref t, .int (nI k), .int x] h n (z_rn (.long (tw_lc w R x (fun _ => 0) S k)) h) := by
  refine z_start zk_X1_cost zpl_RX1 (Nat.le_of_ble_eq_true rfl) ?_
  intro hn0 M hl hG ho hb hN hr hm hH hrm hQ
  subst hl hG
  have ho : zm_o M = RX1 := ho
  obtain ⟨h1, ⟨e0, N0, m0, f0, r1, r2, r3, ⟨r4, r4n⟩, r5⟩, ⟨e, N, m9, f, h3, h4, h5, ⟨h6, h6n⟩, h7⟩, ⟨ev, Nv, mv, fv, v1, v2, v3, ⟨v4, v4n⟩, v5⟩, h9, hs, hv, hi, hrI⟩ := id hL
  show z_V M h n 4 33 0 [(0, .ref t), (1, .int (nI k)), (2, .int x)] []
  refine z_dom (fun hD0 => ?_)
  refine z_aload_n hb dX1_cost_0 rfl ?_
  refine z_get (k := 0) (C := RX1) (T := TX1) (N := 7) hb ho zc0 in_X1 (zf_RX1_41 _) dX1_cost_1 hX (by decide) rfl ?_
  refine z_iload_n hb dX1_cost_4 rfl ?_
  refine z_call1 (b' := 3) (f' := 27) (rest := []) (av := [.ref a, .int (nI k)]) (z_siteV hb ho zc1 h1 q1842 q1506 q1507 ⟨_, _, _, _, zk_X2_step⟩ zy_X2_step zl_X2_step dX1_cost_5 : z_Site M _ _ _ _ _ ([.int (nI k)].reverse ++ .ref a :: []) [] _) zk_X2_step q95 hrm (m_X2_step hL hS8 hk) (by omega) (by decide) (Nat.le_of_ble_eq_true rfl) (by omega) (by omega) ?_
  refine z_astore_n (lv' := [(3, .ref (sa k)), (0, .ref t), (1, .int (nI k)), (2, .int x)]) hb dX1_cost_8 (by rw [hN]; decide) rfl ?_
  refine z_iload_n hb dX1_cost_9 rfl ?_
  refine z_iconst (x := nI 0) hb dX1_cost_10 (by decide) ?_
  refine z_aload_n hb dX1_cost_11 rfl ?_
  refine z_callN1 (b' := 3) (f' := 27) (rest := [.int (nI 0), .int x]) (av := [.ref t]) (z_siteV hb ho zc0 hX q2044 q2046 qs20 ⟨_, _, _, _, zk_X1_plans⟩ zy_X1_plans zl_X1_plans dX1_cost_12 : z_Site M _ _ _ _ _ ([].reverse ++ .ref t :: [.int (nI 0), .int x]) [.int (nI 0), .int x] _) zk_X1_plans q94 hrm (m_X1_plans hX hL hS8) (by omega) (by decide) (Nat.le_of_ble_eq_true rfl) (by omega) (by omega) (fun n_1 hn_1 => ?_)
  refine z_iconst (x := nI 1) hb dX1_cost_15 (by decide) ?_
  refine z_isub hb dX1_cost_16 ?_
  refine z_callC0 (b' := 2) (f' := 21) (rest := []) (av := [.int x, .int (nI 0), .int ((nI (2 ^ S)) - (nI 1))]) (z_siteS hb ho q1134 q1135 q94 ⟨_, _, _, _, zk_X1_requireRange⟩ zy_X1_requireRange zl_X1_requireRange dX1_cost_17 : z_Site M _ _ _ _ _ ([.int x, .int (nI 0), .int ((nI (2 ^ S)) - (nI 1))].reverse ++ []) [] _) zk_X1_requireRange q94 hrm (m_X1_requireRange x (nI 0) ((nI (2 ^ S)) - (nI 1))) (by omega) (by decide) (Nat.le_of_ble_eq_true rfl) (by omega) (by omega) (fun c_17 => ?_) (fun c_17 => ?_)
  · refine z_dom (fun hD_2 => ?_)
    refine z_new (N0 := 3) (b' := 1) (f' := 18) (fs := [.null, .int (nI 0), .null]) (C := RX20) (T := TX20) (N := 3) hb ho zc16 in_X20 tyX20_ok q2048 q2049 q143 dX1_cost_20 (zdf_X20) (by omega) (by omega) ?_
    refine z_hn (fun h_3 eh_3 => ?_)
    have eh_3 : h_3 = z_up h n_1 (.inr (16, [.null, .int (nI 0), .null])) := eh_3
    have k_4 : h_3 t = some (.inr (0, [.ref a, x1, x2, x3, x4, x5, x6])) := z_nx eh_3 (Nat.ne_of_lt (hD_2 _ _ hX)) hX
    have k_5 : h_3 a = some (.inr (1, [.ref lr, .ref ls, .ref lv, .int (nI D), .int (w 2), .int (w 4), .int (w 5), .int (w 6)])) := z_nx eh_3 (Nat.ne_of_lt (hD_2 _ _ h1)) h1
    have k_6 : h_3 lr = some (.inr (20, [.int m0, .ref e0, .int (nI R)])) := z_nx eh_3 (Nat.ne_of_lt (hD_2 _ _ r1)) r1
    have k_7 : h_3 e0 = some (.inl ((zm_G M).2.1 5, N0, .inr (.inr (.inr (.inr f0))))) := z_nx eh_3 (Nat.ne_of_lt (hD_2 _ _ r2)) r2
    have k_8 : h_3 ls = some (.inr (20, [.int m9, .ref e, .int (nI S)])) := z_nx eh_3 (Nat.ne_of_lt (hD_2 _ _ h3)) h3
    have k_9 : h_3 e = some (.inl ((zm_G M).2.1 5, N, .inr (.inr (.inr (.inr f))))) := z_nx eh_3 (Nat.ne_of_lt (hD_2 _ _ h4)) h4
    have k_10 : h_3 lv = some (.inr (20, [.int mv, .ref ev, .int (nI S)])) := z_nx eh_3 (Nat.ne_of_lt (hD_2 _ _ v1)) v1
    have k_11 : h_3 ev = some (.inl ((zm_G M).2.1 5, Nv, .inr (.inr (.inr (.inr fv))))) := z_nx eh_3 (Nat.ne_of_lt (hD_2 _ _ v2)) v2
    refine z_dup hb dX1_cost_23 rfl ?_
    refine z_aload_n hb dX1_cost_24 rfl ?_
    refine z_get (k := 0) (C := RX1) (T := TX1) (N := 7) hb ho zc0 in_X1 (zf_RX1_41 _) dX1_cost_25 k_4 (by decide) rfl ?_
    refine z_callQ0 (b' := 0) (f' := 10) (rest := [.ref n_1]) (av := [.ref n_1, .ref a]) (z_siteI hb ho q2050 q2051 q2052 rfl zy_X20_init zl_X20_init dX1_cost_28 : z_Site M _ _ _ _ _ ([.ref a].reverse ++ .ref n_1 :: [.ref n_1]) [.ref n_1] _) zk_X20_init q143 hrm (m_X20_init (hL.ex (z_exN z_ex_r hD_2 eh_3)) (z_nxs eh_3) (by omega) (by omega)) (by omega) (by decide) (Nat.le_of_ble_eq_true rfl) (by omega) (by omega) (fun h_13 n_14 hq_12 hn_14 => ?_)
    obtain ⟨ec14, hct14, hce14, hle14, hfr14⟩ := hq_12
    have k_16 : h_13 t = some (.inr (0, [.ref a, x1, x2, x3, x4, x5, x6])) := hfr14 _ _ k_4 (Nat.ne_of_lt (hD_2 _ _ hX))
    have k_17 : h_13 a = some (.inr (1, [.ref lr, .ref ls, .ref lv, .int (nI D), .int (w 2), .int (w 4), .int (w 5), .int (w 6)])) := hfr14 _ _ k_5 (Nat.ne_of_lt (hD_2 _ _ h1))
    have k_18 : h_13 lr = some (.inr (20, [.int m0, .ref e0, .int (nI R)])) := hfr14 _ _ k_6 (Nat.ne_of_lt (hD_2 _ _ r1))
    have k_19 : h_13 e0 = some (.inl ((zm_G M).2.1 5, N0, .inr (.inr (.inr (.inr f0))))) := hfr14 _ _ k_7 (Nat.ne_of_lt (hD_2 _ _ r2))
    have k_20 : h_13 ls = some (.inr (20, [.int m9, .ref e, .int (nI S)])) := hfr14 _ _ k_8 (Nat.ne_of_lt (hD_2 _ _ h3))
    have k_21 : h_13 e = some (.inl ((zm_G M).2.1 5, N, .inr (.inr (.inr (.inr f))))) := hfr14 _ _ k_9 (Nat.ne_of_lt (hD_2 _ _ h4))
    have k_22 : h_13 lv = some (.inr (20, [.int mv, .ref ev, .int (nI S)])) := hfr14 _ _ k_10 (Nat.ne_of_lt (hD_2 _ _ v1))
    have k_23 : h_13 ev = some (.inl ((zm_G M).2.1 5, Nv, .inr (.inr (.inr (.inr fv))))) := hfr14 _ _ k_11 (Nat.ne_of_lt (hD_2 _ _ v2))
    refine z_astore (lv' := [(4, .ref n_1), (3, .ref (sa k)), (0, .ref t), (1, .int (nI k)), (2, .int x)]) hb dX1_cost_31 (by rw [hN]; decide) rfl ?_
    refine z_aload hb dX1_cost_33 rfl ?_
    refine z_iload_n hb dX1_cost_35 rfl ?_
    refine z_callQ1 (b' := 0) (f' := 10) (rest := []) (av := [.ref n_1, .int x]) (z_siteV hb ho zc16 hct14 q2067 q2068 q2069 ⟨_, _, _, _, zk_X20_findAll⟩ zy_X20_findAll zl_X20_findAll dX1_cost_36 : z_Site M _ _ _ _ _ ([.int x].reverse ++ .ref n_1 :: []) [] _) zk_X20_findAll q143 hrm (m_X20_findAll (x := x) (hL.ex (z_exT hD0 (by omega) (z_exN z_ex_r hD_2 eh_3) hfr14)) hS8 hR4 hct14 hce14 (by omega)) (by omega) (by decide) (Nat.le_of_ble_eq_true rfl) (by omega) (by omega) (fun rhq_24 h_25 n_26 hq_24 hn_26 => ?_)
    obtain ⟨rfl, hq_24⟩ := hq_24
    have k_27 : h_25 t = some (.inr (0, [.ref a, x1, x2, x3, x4, x5, x6])) := z_nx hq_24 (z_neA k_16 hce14) k_16
    have k_28 : h_25 a = some (.inr (1, [.ref lr, .ref ls, .ref lv, .int (nI D), .int (w 2), .int (w 4), .int (w 5), .int (w 6)])) := z_nx hq_24 (z_neA k_17 hce14) k_17
    have k_29 : h_25 lr = some (.inr (20, [.int m0, .ref e0, .int (nI R)])) := z_nx hq_24 (z_neA k_18 hce14) k_18
    have k_30 : h_25 e0 = some (.inl ((zm_G M).2.1 5, N0, .inr (.inr (.inr (.inr f0))))) := z_nx hq_24 (z_neXol k_19 hce14) k_19
    have k_31 : h_25 ls = some (.inr (20, [.int m9, .ref e, .int (nI S)])) := z_nx hq_24 (z_neA k_20 hce14) k_20
    have k_32 : h_25 e = some (.inl ((zm_G M).2.1 5, N, .inr (.inr (.inr (.inr f))))) := z_nx hq_24 (z_neXol k_21 hce14) k_21
    have k_33 : h_25 lv = some (.inr (20, [.int mv, .ref ev, .int (nI S)])) := z_nx hq_24 (z_neA k_22 hce14) k_22
    have k_34 : h_25 ev = some (.inl ((zm_G M).2.1 5, Nv, .inr (.inr (.inr (.inr fv))))) := z_nx hq_24 (z_neXol k_23 hce14) k_23
    have k_35 : h_25 n_1 = some (.inr (16, [.ref ls, .int (nI R), .ref ec14])) := z_nx hq_24 (z_neA hct14 hce14) hct14
    refine z_lstore (lv' := [(5, .long (tw_wh w R S x (fun _ => 0))), (4, .ref n_1), (3, .ref (sa k)), (0, .ref t), (1, .int (nI k)), (2, .int x)]) hb dX1_cost_39 (by rw [hN]; decide) rfl ?_
    refine z_aload hb dX1_cost_41 rfl ?_
    refine z_aload_n hb dX1_cost_43 rfl ?_
    refine z_dom (fun hD_36 => ?_)
    refine z_callN1 (b' := 0) (f' := 10) (rest := []) (av := [.ref n_1, .ref (sa k)]) (z_siteV hb ho zc16 k_35 q2104 q2085 q2086 ⟨_, _, _, _, zk_X20_of⟩ zy_X20_of zl_X20_of dX1_cost_44 : z_Site M _ _ _ _ _ ([.ref (sa k)].reverse ++ .ref n_1 :: []) [] _) zk_X20_of q143 hrm (m_X20_of (hL.ex (z_exW hD0 (by omega) hq_24 (z_exT hD0 (by omega) (z_exN z_ex_r hD_2 eh_3) hfr14))) hS8 hR4 k_35 (z_nxs hq_24) hk) (by omega) (by decide) (Nat.le_of_ble_eq_true rfl) (by omega) (by omega) (fun n_37 hn_37 => ?_)
    refine z_less (z_exW hD0 (by omega) hq_24 (z_exT hD0 (by omega) (z_exN z_ex_r hD_2 eh_3) hfr14)) ?_
    refine z_lret hb hr dX1_cost_47 ?_
    rw [hQ]
    exact ⟨rfl, rfl⟩
  · rw [hx] at c_17; cases c_17

set_option maxHeartbeats 1000000 in
theorem m_X1_cost_no1 {l : Launch} {G : zG} {h : zH} {n : Nat} {t : Nat} {x1 x2 x3 x4 x5 x6 : Value} {w : Nat → Int32} {v : Nat → Int64} {R S D a lr ls lv : Nat} {ra sa va : Nat → Nat} {x y : Int32} (hX : h t = some (.inr (0, [.ref a, x1, x2, x3, x4, x5, x6]))) (hL : z_Ln G h w v R S D a lr ls lv ra sa va) (hx : tw_isS S x = false) (hS8 : S ≤ 8) : z_C l G yX1_cost 10 4 33 [.ref t, .int x, .int y] h n (z_tf 28 [] h n) := by
  refine z_start zk_X1_cost zpl_RX1 (Nat.le_of_ble_eq_true rfl) ?_
  intro hn0 M hl hG ho hb hN hr hm hH hrm hQ
  subst hl hG
  have ho : zm_o M = RX1 := ho
  obtain ⟨h1, ⟨e0, N0, m0, f0, r1, r2, r3, ⟨r4, r4n⟩, r5⟩, ⟨e, N, m9, f, h3, h4, h5, ⟨h6, h6n⟩, h7⟩, ⟨ev, Nv, mv, fv, v1, v2, v3, ⟨v4, v4n⟩, v5⟩, h9, hs, hv, hi, hrI⟩ := id hL
  show z_V M h n 4 33 0 [(0, .ref t), (1, .int x), (2, .int y)] []
  refine z_dom (fun hD0 => ?_)
  refine z_aload_n hb dX1_cost_0 rfl ?_
  refine z_get (k := 0) (C := RX1) (T := TX1) (N := 7) hb ho zc0 in_X1 (zf_RX1_41 _) dX1_cost_1 hX (by decide) rfl ?_
  refine z_iload_n hb dX1_cost_4 rfl ?_
  refine z_callTf (b' := 3) (f' := 27) (rest := []) (av := [.ref a, .int x]) (z_siteV hb ho zc1 h1 q1842 q1506 q1507 ⟨_, _, _, _, zk_X2_step⟩ zy_X2_step zl_X2_step dX1_cost_5 : z_Site M _ _ _ _ _ ([.int x].reverse ++ .ref a :: []) [] _) zk_X2_step q95 hrm (z_C.tf (m_X2_step_no hL hS8 hx)) (by omega) (by decide) (Nat.le_of_ble_eq_true rfl) (by omega) (by omega) (fun q_1 n_2 hq_1 hn_2 => ?_)
  exact z_out ho hH zc28 z_up_s (by omega) (fun _ h => nomatch h) (by rw [hQ]; exact ⟨_, rfl, by omega, by omega, rfl⟩)

set_option maxHeartbeats 1000000 in
theorem m_X1_cost_no2 {l : Launch} {G : zG} {h : zH} {n : Nat} {t : Nat} {x1 x2 x3 x4 x5 x6 : Value} {w : Nat → Int32} {v : Nat → Int64} {R S D a lr ls lv : Nat} {ra sa va : Nat → Nat} {k : Nat} {x : Int32} (hX : h t = some (.inr (0, [.ref a, x1, x2, x3, x4, x5, x6]))) (hL : z_Ln G h w v R S D a lr ls lv ra sa va) (hk : k < S) (hS8 : S ≤ 8) (hx : decide (nI 0 ≤ x ∧ x ≤ nI (2 ^ S) - nI 1) = false) : z_C l G yX1_cost 9 4 33 [.ref t, .int (nI k), .int x] h n (z_tf 27 [] h n) := by
  refine z_start zk_X1_cost zpl_RX1 (Nat.le_of_ble_eq_true rfl) ?_
  intro hn0 M hl hG ho hb hN hr hm hH hrm hQ
  subst hl hG
  have ho : zm_o M = RX1 := ho
  obtain ⟨h1, ⟨e0, N0, m0, f0, r1, r2, r3, ⟨r4, r4n⟩, r5⟩, ⟨e, N, m9, f, h3, h4, h5, ⟨h6, h6n⟩, h7⟩, ⟨ev, Nv, mv, fv, v1, v2, v3, ⟨v4, v4n⟩, v5⟩, h9, hs, hv, hi, hrI⟩ := id hL
  show z_V M h n 4 33 0 [(0, .ref t), (1, .int (nI k)), (2, .int x)] []
  refine z_dom (fun hD0 => ?_)
  refine z_aload_n hb dX1_cost_0 rfl ?_
  refine z_get (k := 0) (C := RX1) (T := TX1) (N := 7) hb ho zc0 in_X1 (zf_RX1_41 _) dX1_cost_1 hX (by decide) rfl ?_
  refine z_iload_n hb dX1_cost_4 rfl ?_
  refine z_call1 (b' := 3) (f' := 27) (rest := []) (av := [.ref a, .int (nI k)]) (z_siteV hb ho zc1 h1 q1842 q1506 q1507 ⟨_, _, _, _, zk_X2_step⟩ zy_X2_step zl_X2_step dX1_cost_5 : z_Site M _ _ _ _ _ ([.int (nI k)].reverse ++ .ref a :: []) [] _) zk_X2_step q95 hrm (m_X2_step hL hS8 hk) (by omega) (by decide) (Nat.le_of_ble_eq_true rfl) (by omega) (by omega) ?_
  refine z_astore_n (lv' := [(3, .ref (sa k)), (0, .ref t), (1, .int (nI k)), (2, .int x)]) hb dX1_cost_8 (by rw [hN]; decide) rfl ?_
  refine z_iload_n hb dX1_cost_9 rfl ?_
  refine z_iconst (x := nI 0) hb dX1_cost_10 (by decide) ?_
  refine z_aload_n hb dX1_cost_11 rfl ?_
  refine z_callN1 (b' := 3) (f' := 27) (rest := [.int (nI 0), .int x]) (av := [.ref t]) (z_siteV hb ho zc0 hX q2044 q2046 qs20 ⟨_, _, _, _, zk_X1_plans⟩ zy_X1_plans zl_X1_plans dX1_cost_12 : z_Site M _ _ _ _ _ ([].reverse ++ .ref t :: [.int (nI 0), .int x]) [.int (nI 0), .int x] _) zk_X1_plans q94 hrm (m_X1_plans hX hL hS8) (by omega) (by decide) (Nat.le_of_ble_eq_true rfl) (by omega) (by omega) (fun n_1 hn_1 => ?_)
  refine z_iconst (x := nI 1) hb dX1_cost_15 (by decide) ?_
  refine z_isub hb dX1_cost_16 ?_
  refine z_callC0 (b' := 2) (f' := 21) (rest := []) (av := [.int x, .int (nI 0), .int ((nI (2 ^ S)) - (nI 1))]) (z_siteS hb ho q1134 q1135 q94 ⟨_, _, _, _, zk_X1_requireRange⟩ zy_X1_requireRange zl_X1_requireRange dX1_cost_17 : z_Site M _ _ _ _ _ ([.int x, .int (nI 0), .int ((nI (2 ^ S)) - (nI 1))].reverse ++ []) [] _) zk_X1_requireRange q94 hrm (m_X1_requireRange x (nI 0) ((nI (2 ^ S)) - (nI 1))) (by omega) (by decide) (Nat.le_of_ble_eq_true rfl) (by omega) (by omega) (fun c_17 => ?_) (fun c_17 => ?_)
  · rw [hx] at c_17; cases c_17
  · exact z_out ho hH zc27 z_up_s (by omega) (fun _ h => nomatch h) (by rw [hQ]; exact ⟨_, rfl, by omega, Nat.lt_succ_self _, rfl⟩)

