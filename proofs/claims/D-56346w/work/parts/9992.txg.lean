theorem z_neX {h : zH} {a e : Nat} {o : Nat × List Value} {x : ClassId × vp_A} (q1 : h a = some (.inr o)) (q2 : h e = some (.inl x)) : a ≠ e := fun z => by rw [z, q2] at q1; cases q1
/-- an array's function beyond its length doesn't matter -/
theorem z_arq {M : zM} {h h2 : zH} {n b f pc : Nat} {lv : List (Nat × Value)} {st : List Value} (hq : ∀ a e, h2 a = some e → h a = some e ∨ ∃ N x y, z_n0 (zm_G M) ≤ a ∧ h a = some (z_ab (zm_G M) N x) ∧ e = z_ab (zm_G M) N y ∧ ∀ j, j < N → x j = y j) (k : z_V M h2 n b f pc lv st) : z_V M h n b f pc lv st := by
  intro p e s m args below meth c hAt H locs ls k1 j1 hR hn hl hv hk hj
  refine k p e s m args below meth c hAt H locs ls k1 j1 ⟨hR.1, hR.2.1, hR.2.2.1, fun a e he => ?_, hR.2.2.2.2⟩ hn hl hv hk hj
  rcases hq a e he with q | ⟨N, x, y, q1, q2, rfl, q4⟩
  · exact hR.2.2.2.1 a e q
  · have h1 : H[a]? = some (vp_cell ((zm_G M).2.1 3) (N, .inl x)) := z_rs hR hAt.2.2.2.2.1 q1 q2
    refine Or.inl ?_
    show H[a]? = some (vp_cell ((zm_G M).2.1 3) (N, .inl y))
    rw [h1]
    congr 1
    show arrV _ N (fun j => Value.int (x j)) = arrV _ N (fun j => Value.int (y j))
    unfold arrV
    congr 1
    exact congrArg Array.ofFn (funext fun j => congrArg Value.int (q4 j.1 j.2))
theorem z_arU {M : zM} {h h1 : zH} {t N n b f pc : Nat} {x y : Nat → Int32} {lv : List (Nat × Value)} {st : List Value} (e1 : h1 = z_up h t (z_ab (zm_G M) N x)) (ht : z_n0 (zm_G M) ≤ t) (hq : ∀ j, j < N → x j = y j) (k : ∀ h2, h2 = z_up h t (z_ab (zm_G M) N y) → z_V M h2 n b f pc lv st) : z_V M h1 n b f pc lv st := by
  refine z_arq (h2 := z_up h t (z_ab (zm_G M) N y)) (fun a e he => ?_) (k _ rfl)
  by_cases z : a = t
  · subst z
    rw [z_up_s] at he
    cases he
    exact Or.inr ⟨N, x, y, ht, by rw [e1, z_up_s], rfl, hq⟩
  · rw [z_up_n z] at he
    exact Or.inl (by rw [e1, z_up_n z]; exact he)

set_option maxHeartbeats 1000000 in
theorem m_J4_init {l : Launch} {G : zG} {h : zH} {n : Nat} {t : Nat} (ht9 : h t = some (.inr (22, [.null, .int (nI 0), .int (nI 0), .int (nI 0)]))) (hnt : z_n0 G ≤ t) : z_C l G yJ4_init 1 1 16 [.ref t, .int (nI 16)] h n (z_r0 (z_up (z_up h n (z_ab G 16 (fun _ => 0))) t (z_sb n 0 false 0)) (n + 1)) := by
  refine z_start zk_J4_init zpl_RJ4 (Nat.le_of_ble_eq_true rfl) ?_
  intro hn0 M hl hG ho hb hN hr hm hH hrm hQ
  subst hl hG
  have ho : zm_o M = RJ4 := ho
  refine z_dom (fun hdm => ?_)
  have htn := hdm _ _ ht9
  show z_V M h n 1 16 0 [(0, .ref t), (1, .int (nI 16))] []
  refine z_aload_n hb dJ4_init_0 rfl ?_
  refine z_oinit hb ho hrm (by omega) q260 q155 q156 (by decide) dJ4_init_1 ?_
  refine z_gets (i := 0) hb ho rfl (zf_RJ4_18 _) dJ4_init_4 ?_
  refine z_toI (y := nI 1) rfl ?_
  refine z_if_eqN (tgt := 25) hb dJ4_init_7 (by decide) (by omega) (fun c_7 => ?_) (fun c_7 => ?_)
  · exact absurd c_7 (by omega)
  · refine z_aload_n hb dJ4_init_10 rfl ?_
    refine z_iload_n hb dJ4_init_11 rfl ?_
    refine z_newb (N := 16) (b' := 0) (f' := 0) hb q284 dJ4_init_12 rfl (by omega) (by omega) (by omega) ?_
    refine z_hn (fun h_1 eh_1 => ?_)
    have eh_1 : h_1 = z_up h n (.inl ((zm_G M).2.1 3, 16, .inl (fun _ => 0))) := eh_1
    have k_2 : h_1 t = some (.inr (22, [.null, .int (nI 0), .int (nI 0), .int (nI 0)])) := z_nx eh_1 (Nat.ne_of_lt htn) ht9
    refine z_put (k := 0) (C := RJ5) (T := TJ5) (N := 4) hb ho zc22 in_J5 tyJ5_ok nmJ5 (zf_RJ4_15 _) dJ4_init_14 k_2 hnt (by decide) (Or.inl rfl) rfl rfl rfl (Nat.le_of_ble_eq_true rfl) ?_
    refine z_hn (fun h_3 eh_3 => ?_)
    have eh_3 : h_3 = z_up h_1 t (.inr (22, [.ref n, .int (nI 0), .int (nI 0), .int (nI 0)])) := eh_3
    have k_4 : h_3 n = some (.inl ((zm_G M).2.1 3, 16, .inl (fun _ => 0))) := z_nx eh_3 (Nat.ne_of_gt htn) (z_nxs eh_1)
    refine z_aload_n hb dJ4_init_17 rfl ?_
    refine z_iconst (x := nI 0) hb dJ4_init_18 (by decide) ?_
    refine z_put (k := 1) (C := RJ5) (T := TJ5) (N := 4) hb ho zc22 in_J5 tyJ5_ok nmJ5 (zf_RJ4_22 _) dJ4_init_19 (z_nxs eh_3) hnt (by decide) (Or.inl rfl) rfl rfl rfl (Nat.le_of_ble_eq_true rfl) ?_
    refine z_hn (fun h_5 eh_5 => ?_)
    have eh_5 : h_5 = z_up h_3 t (.inr (22, [.ref n, .int (nI 0), .int (nI 0), .int (nI 0)])) := eh_5
    have k_6 : h_5 n = some (.inl ((zm_G M).2.1 3, 16, .inl (fun _ => 0))) := z_nx eh_5 (Nat.ne_of_gt htn) k_4
    refine z_goto (tgt := 38) hb dJ4_init_22 (by decide) ?_
    refine z_vret hb hr dJ4_init_38 ?_
    rw [hQ]
    exact ⟨rfl, (by rw [eh_5, eh_3, eh_1] <;> simp only [z_up_up] <;> rfl), rfl⟩

set_option maxHeartbeats 1000000 in
theorem m_J5_init {l : Launch} {G : zG} {h : zH} {n : Nat} {t : Nat} (ht9 : h t = some (.inr (22, [.null, .int (nI 0), .int (nI 0), .int (nI 0)]))) (hnt : z_n0 G ≤ t) : z_C l G yJ5_init 2 1 16 [.ref t] h n (z_r0 (z_up (z_up h n (z_ab G 16 (fun _ => 0))) t (z_sb n 0 false 0)) (n + 1)) := by
  refine z_start zk_J5_init zpl_RJ5 (Nat.le_of_ble_eq_true rfl) ?_
  intro hn0 M hl hG ho hb hN hr hm hH hrm hQ
  subst hl hG
  have ho : zm_o M = RJ5 := ho
  show z_V M h n 1 16 0 [(0, .ref t)] []
  refine z_aload_n hb dJ5_init_0 rfl ?_
  refine z_bipush (x := nI 16) hb dJ5_init_1 (by decide) ?_
  refine z_call0 (b' := 0) (f' := 0) (rest := []) (av := [.ref t, .int (nI 16)]) (z_siteI hb ho q257 q258 q259 rfl zy_J4_init zl_J4_init dJ5_init_3 : z_Site M _ _ _ _ _ ([.int (nI 16)].reverse ++ .ref t :: []) [] _) zk_J4_init q100 hrm (m_J4_init ht9 hnt) (by omega) (by decide) (Nat.le_of_ble_eq_true rfl) (by omega) (by omega) ?_
  refine z_vret hb hr dJ5_init_6 ?_
  rw [hQ]
  exact ⟨rfl, rfl, rfl⟩

theorem z_byfit {ch : List Nat} (h : ∀ b ∈ ch, b < 128) (j : Nat) : fits .byte (.int (z_by ch j)) = true := by
  have h1 : ch.getD j 0 < 128 := by
    rw [List.getD_eq_getElem?_getD]
    by_cases q : j < ch.length
    · rw [List.getElem?_eq_getElem q]; exact h _ (List.getElem_mem q)
    · rw [List.getElem?_eq_none (by omega)]; decide
  show fits .byte (.int (nI (ch.getD j 0))) = true
  rw [← z_bt_lo h1]; exact z_bt_fit (by omega)
theorem z_Sg.frb {G : zG} {h h2 : zH} {s b : Nat} {ch : List Nat} {hs9 : Int32} {fs : List Value} (q : z_Sg G h s ch hs9) (hb : h b = some (.inr (22, fs))) (f : z_fr (fun y => y = b) h h2) : z_Sg G h2 s ch hs9 := by
  obtain ⟨e, hz, q1, q2, q3, q4⟩ := q
  exact ⟨e, hz, f _ _ q1 (fun z => by rw [z, hb] at q1; cases q1), f _ _ q2 (fun z => by rw [z, hb] at q2; cases q2), q3, q4⟩
theorem z_getA {cs ch : List Nat} {j : Nat} (h : j < cs.length) : (cs ++ ch).getD j 0 = cs.getD j 0 := by
  rw [List.getD_eq_getElem?_getD, List.getD_eq_getElem?_getD, List.getElem?_append_left h]
theorem z_getB {cs ch : List Nat} {j : Nat} (h : cs.length ≤ j) : (cs ++ ch).getD j 0 = ch.getD (j - cs.length) 0 := by
  rw [List.getD_eq_getElem?_getD, List.getD_eq_getElem?_getD, List.getElem?_append_right h]
theorem z_cpyfB2 {f g : Nat → Int32} {N k L : Nat} (h : z_fB f N) (hg : ∀ j, fits .byte (.int (g j)) = true) : z_fB (va_cpy g f 0 k L) N := fun j hj => by
  unfold va_cpy
  by_cases q : k ≤ j ∧ j < k + L
  · rw [if_pos q]; exact hg _
  · rw [if_neg q]; exact h j hj
/-- letters that come behind the chars of a builder of bytes -/
theorem z_BF_app {G : zG} {h : zH} {b e N : Nat} {ml : Bool} {f f1 : Nat → Int32} {cs ch : List Nat} (q1 : h b = some (z_sb e 0 ml (cs.length + ch.length))) (q2 : h e = some (z_ab G N f1)) (hb : z_n0 G ≤ b) (he : z_n0 G ≤ e) (h16 : 16 ≤ N) (h3 : N ≤ 300) (hfb : z_fB f1 N) (hc : ∀ c ∈ ch, c < 128) (hk : cs.length + ch.length ≤ N) (hf : ∀ j, j < cs.length → cs.getD j 0 < 256 ∧ f j = z_bt (cs.getD j 0)) (h1 : ∀ j, j < cs.length → f1 j = f j) (h2 : ∀ j, j < ch.length → f1 (cs.length + j) = nI (ch.getD j 0)) : z_BF G h b e 0 (cs ++ ch) := by
  refine ⟨N, _, ml, by rw [List.length_append]; exact q1, q2, hb, he, h16, by omega, hfb, Or.inl ⟨rfl, by rw [List.length_append]; exact hk, fun j hj => ?_⟩⟩
  rw [List.length_append] at hj
  by_cases z : j < cs.length
  · rw [z_getA z]
    exact ⟨(hf j z).1, by rw [h1 j z]; exact (hf j z).2⟩
  · rw [z_getB (by omega)]
    have h9 : ch.getD (j - cs.length) 0 < 128 := by
      rw [List.getD_eq_getElem?_getD, List.getElem?_eq_getElem (show j - cs.length < ch.length by omega)]
      exact hc _ (List.getElem_mem _)
    refine ⟨by omega, ?_⟩
    have := h2 (j - cs.length) (by omega)
    rw [show cs.length + (j - cs.length) = j by omega] at this
    rw [this, z_bt_lo h9]

set_option maxHeartbeats 1000000 in
theorem m_J6_getBytes {l : Launch} {G : zG} {h : zH} {n : Nat} {s e2 N k : Nat} {ch : List Nat} {hs9 : Int32} {f : Nat → Int32} (hSg : z_Sg G h s ch hs9) (hE : h e2 = some (z_ab G N f)) (he2 : z_n0 G ≤ e2) (hkN : k + ch.length ≤ N) (hN9 : N < 1000) : z_C l G yJ6_getBytes 2 0 0 [.ref s, .ref e2, .int (nI k), .int (nI 0)] h n (z_q0 (fun h9 n9 => h9 = z_up h e2 (z_ab G N (va_cpy (z_by ch) f 0 k ch.length)))) := by
  refine z_start zk_J6_getBytes zpl_RJ6 (Nat.le_of_ble_eq_true rfl) ?_
  intro hn0 M hl hG ho hb hN hr hm hH hrm hQ
  subst hl hG
  have ho : zm_o M = RJ6 := ho
  obtain ⟨es, hz9, hs1, hs2, hs3, hs4⟩ := id hSg
  show z_V M h n 0 0 0 [(0, .ref s), (1, .ref e2), (2, .int (nI k)), (3, .int (nI 0))] []
  refine z_aload_n hb dJ6_getBytes_0 rfl ?_
  refine z_callN1 (b' := 0) (f' := 0) (rest := []) (av := [.ref s]) (z_siteV hb ho zc23 hs1 q969 q970 q971 ⟨_, _, _, _, zk_J6_coder⟩ zy_J6_coder zl_J6_coder dJ6_getBytes_1 : z_Site M _ _ _ _ _ ([].reverse ++ .ref s :: []) [] _) zk_J6_coder q102 hrm (m_J6_coder hSg) (by omega) (by decide) (Nat.le_of_ble_eq_true rfl) (by omega) (by omega) (fun n_1 hn_1 => ?_)
  refine z_iload_n hb dJ6_getBytes_4 rfl ?_
  refine z_icmp_neN (tgt := 28) hb dJ6_getBytes_5 (by decide) (by omega) (by omega) (fun c_5 => ?_) (fun c_5 => ?_)
  · exact absurd c_5 (by omega)
  · refine z_aload_n hb dJ6_getBytes_8 rfl ?_
    refine z_get (k := 0) (C := RJ6) (T := TJ6) (N := 4) hb ho zc23 in_J6 (zf_RJ6_9 _) dJ6_getBytes_9 hs1 (by decide) rfl ?_
    refine z_iconst (x := nI 0) hb dJ6_getBytes_12 (by decide) ?_
    refine z_aload_n hb dJ6_getBytes_13 rfl ?_
    refine z_iload_n hb dJ6_getBytes_14 rfl ?_
    refine z_iload_n hb dJ6_getBytes_15 rfl ?_
    refine z_ishl hb dJ6_getBytes_16 ?_
    refine z_toI (y := nI k) (z_sl0 (by omega)) ?_
    refine z_aload_n hb dJ6_getBytes_17 rfl ?_
    refine z_get (k := 0) (C := RJ6) (T := TJ6) (N := 4) hb ho zc23 in_J6 (zf_RJ6_9 _) dJ6_getBytes_18 hs1 (by decide) rfl ?_
    refine z_alen (kk := 3) hb rfl dJ6_getBytes_21 hs2 ?_
    refine z_copyb hb ho hrm (by omega) q1005 q557 q556 q113 dJ6_getBytes_22 hs2 hE he2 rfl rfl rfl (by omega) (by omega) (by omega) (by omega) (fun i hi => z_byfit hs4 _) (Nat.le_of_ble_eq_true rfl) ?_
    refine z_hn (fun h_2 eh_2 => ?_)
    have eh_2 : h_2 = z_up h e2 (.inl ((zm_G M).2.1 3, N, .inl (va_cpy (z_by ch) f 0 k ch.length))) := eh_2
    have k_3 : h_2 s = some (.inr (23, [.ref es, .int (nI 0), .int hs9, .int hz9])) := z_nx eh_2 (z_neA hs1 hE) hs1
    refine z_goto (tgt := 43) hb dJ6_getBytes_25 (by decide) ?_
    refine z_vret hb hr dJ6_getBytes_43 ?_
    rw [hQ]
    exact ⟨rfl, eh_2⟩

set_option maxHeartbeats 1000000 in
theorem m_J4_inflateIfNeededFor {l : Launch} {G : zG} {h : zH} {n : Nat} {b e k : Nat} {ml : Bool} {s : Nat} {ch : List Nat} {hs9 : Int32} (hB : h b = some (z_sb e 0 ml k)) (hSg : z_Sg G h s ch hs9) : z_C l G yJ4_inflateIfNeededFor 2 0 0 [.ref b, .ref s] h n (z_q0 (fun h9 n9 => h9 = h)) := by
  refine z_start zk_J4_inflateIfNeededFor zpl_RJ4 (Nat.le_of_ble_eq_true rfl) ?_
  intro hn0 M hl hG ho hb hN hr hm hH hrm hQ
  subst hl hG
  have ho : zm_o M = RJ4 := ho
  obtain ⟨es, hz9, hs1, hs2, hs3, hs4⟩ := id hSg
  show z_V M h n 0 0 0 [(0, .ref b), (1, .ref s)] []
  refine z_gets (i := 0) hb ho rfl (zf_RJ4_18 _) dJ4_inflateIfNeededFor_0 ?_
  refine z_toI (y := nI 1) rfl ?_
  refine z_if_eqN (tgt := 21) hb dJ4_inflateIfNeededFor_3 (by decide) (by omega) (fun c_3 => ?_) (fun c_3 => ?_)
  · exact absurd c_3 (by omega)
  · refine z_aload_n hb dJ4_inflateIfNeededFor_6 rfl ?_
    refine z_get (k := 1) (C := RJ5) (T := TJ5) (N := 4) hb ho zc22 in_J5 (zf_RJ4_22 _) dJ4_inflateIfNeededFor_7 hB (by decide) rfl ?_
    refine z_aload_n hb dJ4_inflateIfNeededFor_10 rfl ?_
    refine z_callN1 (b' := 0) (f' := 0) (rest := [.int (nI 0)]) (av := [.ref s]) (z_siteV hb ho zc23 hs1 q981 q970 q971 ⟨_, _, _, _, zk_J6_coder⟩ zy_J6_coder zl_J6_coder dJ4_inflateIfNeededFor_11 : z_Site M _ _ _ _ _ ([].reverse ++ .ref s :: [.int (nI 0)]) [.int (nI 0)] _) zk_J6_coder q102 hrm (m_J6_coder hSg) (by omega) (by decide) (Nat.le_of_ble_eq_true rfl) (by omega) (by omega) (fun n_1 hn_1 => ?_)
    refine z_icmp_eqN (tgt := 21) hb dJ4_inflateIfNeededFor_14 (by decide) (by omega) (by omega) (fun c_14 => ?_) (fun c_14 => ?_)
    · refine z_vret hb hr dJ4_inflateIfNeededFor_21 ?_
      rw [hQ]
      exact ⟨rfl, rfl⟩
    · exact absurd c_14 (by omega)

set_option maxHeartbeats 1000000 in
theorem m_J4_putStringAt {l : Launch} {G : zG} {h : zH} {n : Nat} {b e N k kk : Nat} {ml : Bool} {f : Nat → Int32} {s : Nat} {ch : List Nat} {hs9 : Int32} (hB : h b = some (z_sb e 0 ml kk)) (hA : h e = some (z_ab G N f)) (he0 : z_n0 G ≤ e) (hSg : z_Sg G h s ch hs9) (hkN : k + ch.length ≤ N) (hN9 : N < 1000) : z_C l G yJ4_putStringAt 3 0 0 [.ref b, .int (nI k), .ref s] h n (z_q0 (fun h9 n9 => h9 = z_up h e (z_ab G N (va_cpy (z_by ch) f 0 k ch.length)))) := by
  refine z_start zk_J4_putStringAt zpl_RJ4 (Nat.le_of_ble_eq_true rfl) ?_
  intro hn0 M hl hG ho hb hN hr hm hH hrm hQ
  subst hl hG
  have ho : zm_o M = RJ4 := ho
  obtain ⟨es, hz9, hs1, hs2, hs3, hs4⟩ := id hSg
  show z_V M h n 0 0 0 [(0, .ref b), (1, .int (nI k)), (2, .ref s)] []
  refine z_aload_n hb dJ4_putStringAt_0 rfl ?_
  refine z_aload_n hb dJ4_putStringAt_1 rfl ?_
  refine z_callQ0 (b' := 0) (f' := 0) (rest := []) (av := [.ref b, .ref s]) (z_siteQ hb ho zc22 hB q977 q979 q978 q3281 ⟨_, _, _, _, zk_J4_inflateIfNeededFor⟩ zy_J4_inflateIfNeededFor zl_J4_inflateIfNeededFor dJ4_putStringAt_2 : z_Site M _ _ _ _ _ ([.ref s].reverse ++ .ref b :: []) [] _) zk_J4_inflateIfNeededFor q100 hrm (m_J4_inflateIfNeededFor hB hSg) (by omega) (by decide) (Nat.le_of_ble_eq_true rfl) (by omega) (by omega) (fun h2 n2 hq2 hn2 => ?_)
  subst hq2
  refine z_aload_n hb dJ4_putStringAt_5 rfl ?_
  refine z_aload_n hb dJ4_putStringAt_6 rfl ?_
  refine z_get (k := 0) (C := RJ5) (T := TJ5) (N := 4) hb ho zc22 in_J5 (zf_RJ4_15 _) dJ4_putStringAt_7 hB (by decide) rfl ?_
  refine z_iload_n hb dJ4_putStringAt_10 rfl ?_
  refine z_aload_n hb dJ4_putStringAt_11 rfl ?_
  refine z_get (k := 1) (C := RJ5) (T := TJ5) (N := 4) hb ho zc22 in_J5 (zf_RJ4_22 _) dJ4_putStringAt_12 hB (by decide) rfl ?_
  refine z_callQ0 (b' := 0) (f' := 0) (rest := []) (av := [.ref s, .ref e, .int (nI k), .int (nI 0)]) (z_siteV hb ho zc23 hs1 q1001 q1002 q1003 ⟨_, _, _, _, zk_J6_getBytes⟩ zy_J6_getBytes zl_J6_getBytes dJ4_putStringAt_15 : z_Site M _ _ _ _ _ ([.ref e, .int (nI k), .int (nI 0)].reverse ++ .ref s :: []) [] _) zk_J6_getBytes q102 hrm (m_J6_getBytes hSg hA he0 hkN hN9) (by omega) (by decide) (Nat.le_of_ble_eq_true rfl) (by omega) (by omega) (fun h15 n15 hq15 hn15 => ?_)
  have eh9 := hq15
  refine z_vret hb hr dJ4_putStringAt_18 ?_
  rw [hQ]
  exact ⟨rfl, eh9⟩

theorem z_frA2 {h h1 h2 h3 : zH} {n b e e2 : Nat} {c1 c2 : va_E} (d : z_dm h n) (f : z_fr (fun y => y = b) h h1) (q2 : h2 = z_up h1 e2 c2) (q3 : h3 = z_up h2 b c1) (he : e2 = e ∨ n ≤ e2) : z_fr (fun y => y = b ∨ y = e) h h3 := fun y c q l => by
  have := d y c q
  rw [q3, z_up_n (fun z => l (Or.inl z)), q2, z_up_n (fun z => by rcases he with w | w <;> first | exact l (Or.inr (z.trans w)) | omega)]
  exact f y c q (fun z => l (Or.inl z))

set_option maxHeartbeats 1000000 in
theorem m_J4_append {l : Launch} {G : zG} {h : zH} {n : Nat} {b e N : Nat} {ml : Bool} {f : Nat → Int32} {cs : List Nat} {s : Nat} {ch : List Nat} {hs9 : Int32} (hB : h b = some (z_sb e 0 ml cs.length)) (hA : h e = some (z_ab G N f)) (hb9 : z_n0 G ≤ b) (he0 : z_n0 G ≤ e) (hN16 : 16 ≤ N) (hN3 : N ≤ 300) (hfb : z_fB f N) (hkN : cs.length ≤ N) (hf : ∀ j, j < cs.length → cs.getD j 0 < 256 ∧ f j = z_bt (cs.getD j 0)) (hSg : z_Sg G h s ch hs9) (hk9 : cs.length + ch.length ≤ 100) : z_C l G yJ4_append 5 1 300 [.ref b, .ref s] h n (z_q1 (fun r9 h9 n9 => r9 = .ref b ∧ ∃ e9, z_BF G h9 b e9 0 (cs ++ ch) ∧ (e9 = e ∨ n ≤ e9) ∧ z_fr (fun y => y = b ∨ y = e) h h9)) := by
  refine z_start zk_J4_append zpl_RJ4 (Nat.le_of_ble_eq_true rfl) ?_
  intro hn0 M hl hG ho hb hN hr hm hH hrm hQ
  subst hl hG
  have ho : zm_o M = RJ4 := ho
  refine z_dom (fun hdm => ?_)
  obtain ⟨es, hz9, hs1, hs2, hs3, hs4⟩ := id hSg
  show z_V M h n 1 300 0 [(0, .ref b), (1, .ref s)] []
  refine z_aload_n hb dJ4_append_0 rfl ?_
  refine z_ifnonnull (tgt := 9) hb dJ4_append_1 (by decide) ?_
  refine z_aload_n hb dJ4_append_9 rfl ?_
  refine z_callN1 (b' := 1) (f' := 300) (rest := []) (av := [.ref s]) (z_siteV hb ho zc23 hs1 q965 q966 q967 ⟨_, _, _, _, zk_J6_length⟩ zy_J6_length zl_J6_length dJ4_append_10 : z_Site M _ _ _ _ _ ([].reverse ++ .ref s :: []) [] _) zk_J6_length q102 hrm (m_J6_length hSg) (by omega) (by decide) (Nat.le_of_ble_eq_true rfl) (by omega) (by omega) (fun n_1 hn_1 => ?_)
  refine z_istore_n (lv' := [(2, .int (nI ch.length)), (0, .ref b), (1, .ref s)]) hb dJ4_append_13 (by rw [hN]; decide) rfl ?_
  refine z_aload_n hb dJ4_append_14 rfl ?_
  refine z_aload_n hb dJ4_append_15 rfl ?_
  refine z_get (k := 3) (C := RJ5) (T := TJ5) (N := 4) hb ho zc22 in_J5 (zf_RJ4_79 _) dJ4_append_16 hB (by decide) rfl ?_
  refine z_iload_n hb dJ4_append_19 rfl ?_
  refine z_iadd hb dJ4_append_20 ?_
  refine z_toI (y := nI (cs.length + ch.length)) (nI_add cs.length ch.length) ?_
  refine z_callQ0 (b' := 0) (f' := 0) (rest := []) (av := [.ref b, .int (nI (cs.length + ch.length))]) (z_siteQ hb ho zc22 hB q923 q925 q924 q3278 ⟨_, _, _, _, zk_J4_ensureCapacityInternal⟩ zy_J4_ensureCapacityInternal zl_J4_ensureCapacityInternal dJ4_append_21 : z_Site M _ _ _ _ _ ([.int (nI (cs.length + ch.length))].reverse ++ .ref b :: []) [] _) zk_J4_ensureCapacityInternal q100 hrm (m_J4_ensureCapacity_0 hB hA hb9 he0 (by omega) hN3 (Or.inr rfl) hfb) (by omega) (by decide) (Nat.le_of_ble_eq_true rfl) (by omega) (by omega) (fun h21 n21 hq21 hn21 => ?_)
  obtain ⟨e2, N2, f2, hB2, hA2, he2, hcap, hNN, hN2, hev2, hfp, hfb2, hee, hfr1⟩ := hq21
  have hSg2 := hSg.frb hB hfr1
  refine z_aload_n hb dJ4_append_24 rfl ?_
  refine z_aload_n hb dJ4_append_25 rfl ?_
  refine z_get (k := 3) (C := RJ5) (T := TJ5) (N := 4) hb ho zc22 in_J5 (zf_RJ4_79 _) dJ4_append_26 hB2 (by decide) rfl ?_
  refine z_aload_n hb dJ4_append_29 rfl ?_
  refine z_callQ0 (b' := 0) (f' := 0) (rest := []) (av := [.ref b, .int (nI cs.length), .ref s]) (z_siteQ hb ho zc22 hB2 q973 q975 q974 q3280 ⟨_, _, _, _, zk_J4_putStringAt⟩ zy_J4_putStringAt zl_J4_putStringAt dJ4_append_30 : z_Site M _ _ _ _ _ ([.int (nI cs.length), .ref s].reverse ++ .ref b :: []) [] _) zk_J4_putStringAt q100 hrm (m_J4_putStringAt hB2 hA2 he2 hSg2 (by omega) (by omega)) (by omega) (by decide) (Nat.le_of_ble_eq_true rfl) (by omega) (by omega) (fun h30 n30 hq30 hn30 => ?_)
  have eh30 := hq30
  have kb30 : h30 b = some (z_sb e2 0 ml cs.length) := by rw [eh30, z_up_n (z_neX hB2 hA2)]; exact hB2
  have ke30 : h30 e2 = some (z_ab (zm_G M) N2 (va_cpy (z_by ch) f2 0 cs.length ch.length)) := by rw [eh30]; exact z_up_s
  refine z_aload_n hb dJ4_append_33 rfl ?_
  refine z_dup hb dJ4_append_34 rfl ?_
  refine z_get (k := 3) (C := RJ5) (T := TJ5) (N := 4) hb ho zc22 in_J5 (zf_RJ4_79 _) dJ4_append_35 kb30 (by decide) rfl ?_
  refine z_iload_n hb dJ4_append_38 rfl ?_
  refine z_iadd hb dJ4_append_39 ?_
  refine z_toI (y := nI (cs.length + ch.length)) (nI_add cs.length ch.length) ?_
  refine z_put (k := 3) (C := RJ5) (T := TJ5) (N := 4) hb ho zc22 in_J5 tyJ5_ok nmJ5 (zf_RJ4_79 _) dJ4_append_40 kb30 hb9 (by decide) (Or.inl rfl) rfl rfl rfl (Nat.le_of_ble_eq_true rfl) ?_
  refine z_hn (fun h_2 eh_2 => ?_)
  have eh_2 : h_2 = z_up h30 b (.inr (22, [.ref e2, .int (nI 0), .int (z_b ml), .int (nI (cs.length + ch.length))])) := eh_2
  have k_3 : h_2 e2 = some (.inl ((zm_G M).2.1 3, N2, .inl (va_cpy (z_by ch) f2 0 cs.length ch.length))) := z_nx eh_2 (z_neA' ke30 kb30) ke30
  refine z_aload_n hb dJ4_append_43 rfl ?_
  refine z_aret hb hr (Or.inl ⟨_, rfl⟩) (Or.inr ⟨_, rfl⟩) dJ4_append_44 ?_
  rw [hQ]
  exact ⟨_, rfl, rfl, e2, z_BF_app (f := f) (z_nxs eh_2) k_3 hb9 he2 (by omega) (by omega) (z_cpyfB2 hfb2 (z_byfit hs4)) hs4 (by omega) hf (fun j hj => by unfold va_cpy; rw [if_neg (by omega)]; exact hfp j (by omega)) (fun j hj => by unfold va_cpy; rw [if_pos (by omega), show 0 + (cs.length + j - cs.length) = j by omega]; rfl), by omega, z_frA2 hdm hfr1 eh30 eh_2 (by omega)⟩

theorem m_J4_append_s {l : Launch} {G : zG} {h : zH} {n b e s : Nat} {cs ch : List Nat} {hs9 : Int32} (hBF : z_BF G h b e 0 cs) (hSg : z_Sg G h s ch hs9) (hk9 : cs.length + ch.length ≤ 100) : z_C l G yJ4_append 5 1 300 [.ref b, .ref s] h n (z_q1 (fun r9 h9 n9 => r9 = .ref b ∧ ∃ e9, z_BF G h9 b e9 0 (cs ++ ch) ∧ (e9 = e ∨ n ≤ e9) ∧ z_fr (fun y => y = b ∨ y = e) h h9)) := by
  obtain ⟨N, f, ml, q1, q2, q3, q4, q5, q6, q7, q8⟩ := hBF
  rcases q8 with ⟨-, q9, q10⟩ | ⟨q8, -⟩
  · exact m_J4_append q1 q2 q3 q4 q5 (by omega) q7 q9 q10 hSg hk9
  · exact absurd q8 (by decide)

set_option maxHeartbeats 1000000 in
theorem m_J5_append_s {l : Launch} {G : zG} {h : zH} {n : Nat} {b e : Nat} {cs : List Nat} {s : Nat} {ch : List Nat} {hs9 : Int32} (hBF : z_BF G h b e 0 cs) (hSg : z_Sg G h s ch hs9) (hk9 : cs.length + ch.length ≤ 100) : z_C l G yJ5_append 6 1 300 [.ref b, .ref s] h n (z_q1 (fun r9 h9 n9 => r9 = .ref b ∧ ∃ e9, z_BF G h9 b e9 0 (cs ++ ch) ∧ (e9 = e ∨ n ≤ e9) ∧ z_fr (fun y => y = b ∨ y = e) h h9)) := by
  refine z_start zk_J5_append zpl_RJ5 (Nat.le_of_ble_eq_true rfl) ?_
  intro hn0 M hl hG ho hb hN hr hm hH hrm hQ
  subst hl hG
  have ho : zm_o M = RJ5 := ho
  obtain ⟨N, f, ml, hB, hA, hb9, he0, hN16, hN3, hfb, hct⟩ := id hBF
  show z_V M h n 1 300 0 [(0, .ref b), (1, .ref s)] []
  refine z_aload_n hb dJ5_append_0 rfl ?_
  refine z_aload_n hb dJ5_append_1 rfl ?_
  refine z_callQ1 (b' := 0) (f' := 0) (rest := []) (av := [.ref b, .ref s]) (z_siteP hb ho zc22 hB q916 q3276 q917 q283 ⟨_, _, _, _, zk_J4_append⟩ (by decide) zl_J4_append dJ5_append_2 : z_Site M _ _ _ _ _ ([.ref s].reverse ++ .ref b :: []) [] _) zk_J4_append q100 hrm (m_J4_append_s hBF hSg hk9) (by omega) (by decide) (Nat.le_of_ble_eq_true rfl) (by omega) (by omega) (fun rhq2 h2 n2 hq2 hn2 => ?_)
  obtain ⟨rfl, hq2⟩ := hq2
  have hz2 := hq2
  refine z_pop hb dJ5_append_5 rfl ?_
  refine z_aload_n hb dJ5_append_6 rfl ?_
  refine z_aret hb hr (Or.inl ⟨_, rfl⟩) (Or.inr ⟨_, rfl⟩) dJ5_append_7 ?_
  rw [hQ]
  exact ⟨_, rfl, rfl, hz2⟩

