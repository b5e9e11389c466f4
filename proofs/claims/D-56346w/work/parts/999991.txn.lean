theorem z_Sg.lo {G : zG} {h : zH} {s : Nat} {l : List Nat} {hs : Int32} (q : z_Sg G h s l hs) : ∀ b ∈ l, b < 128 := by
  obtain ⟨e, hz, -, -, -, h4⟩ := q
  exact h4
theorem z_Sg.frx {G : zG} {h h2 : zH} {s t ci : Nat} {l : List Nat} {hs : Int32} {fs : List Value} (q : z_Sg G h s l hs) (ht : h t = some (.inr (ci, fs))) (hc : ci ≠ 23) (f : z_fr (fun y => y = t) h h2) : z_Sg G h2 s l hs := by
  obtain ⟨e, hz, q1, q2, q3⟩ := q
  exact ⟨e, hz, f _ _ q1 (fun z => hc (by rw [z, ht] at q1; cases q1; rfl)), f _ _ q2 (fun z => by rw [z, ht] at q2; cases q2), q3⟩
/-- the letters of a partition -/
def z_pt (v : Nat → Int64) (k d : Nat) : Nat → List Nat
  | 0 => []
  | g + 1 => z_pt v k d g ++ ((if g = 0 then [] else [44]) ++ z_cv (v (5 * (7 * k + d) + g)))
theorem z_pt_len {v : Nat → Int64} {k d : Nat} : ∀ g, (z_pt v k d g).length ≤ 15 * g
  | 0 => Nat.le_refl _
  | g + 1 => by
    have h1 := z_pt_len (v := v) (k := k) (d := d) g
    have h2 := z_cv_len (v := v (5 * (7 * k + d) + g))
    rw [z_pt, List.length_append, List.length_append]
    split
    · rw [List.length_nil]; omega
    · rw [List.length_singleton]; omega
theorem z_pt_lt {v : Nat → Int64} {k d : Nat} : ∀ g, ∀ b ∈ z_pt v k d g, b < 128
  | 0 => fun b hb => nomatch hb
  | g + 1 => by
    refine z_alw (z_pt_lt g) (z_alw ?_ z_cv_lt)
    split
    · exact fun b hb => nomatch hb
    · exact z_alw1 (by decide)

set_option maxHeartbeats 1000000 in
theorem m_X1_writeStep_ok {l : Launch} {G : zG} {h : zH} {n : Nat} {t : Nat} {x1 x2 x3 x4 x5 x6 : Value} {w : Nat → Int32} {v : Nat → Int64} {R S D a lr ls lv : Nat} {ra sa va : Nat → Nat} {k : Nat} (hX : h t = some (.inr (0, [.ref a, x1, x2, x3, x4, x5, x6]))) (hL : z_Ln G h w v R S D a lr ls lv ra sa va) (hKS : z_KS G h) (hS8 : S ≤ 8) (hd1 : h (G.2.2.1 1000) = some (z_ab G 100 z_on)) (hd2 : h (G.2.2.1 1001) = some (z_ab G 100 z_tn)) (hn1 : G.2.2.1 1000 < z_n0 G ∧ G.2.2.1 1001 < z_n0 G) (hk : k < S) (ht0 : z_n0 G ≤ t) : z_C l G yX1_writeStep 12 20 5216 [.ref t, .int (nI k)] h n (z_q1 (fun r9 h9 n9 => r9 = .int (nI (z_cI (nI k) ++ 58 :: z_tx w k).length) ∧ ∃ s, h9 t = some (.inr (0, [.ref a, x1, x2, .ref s, x4, x5, x6])) ∧ z_Sg G h9 s (z_cI (nI k) ++ 58 :: z_tx w k) (nI 0) ∧ n ≤ s ∧ z_fr (fun y => y = t) h h9)) := by
  refine z_start zk_X1_writeStep zpl_RX1 (Nat.le_of_ble_eq_true rfl) ?_
  intro hn0 M hl hG ho hb hN hr hm hH hrm hQ
  subst hl hG
  have ho : zm_o M = RX1 := ho
  obtain ⟨h1, ⟨e0, N0, m0, f0, r1, r2, r3, ⟨r4, r4n⟩, r5⟩, ⟨e, N, m9, f, h3, h4, h5, ⟨h6, h6n⟩, h7⟩, ⟨ev, Nv, mv, fv, v1, v2, v3, ⟨v4, v4n⟩, v5⟩, h9, hs, hv, hi, hrI⟩ := id hL
  show z_V M h n 20 5216 0 [(0, .ref t), (1, .int (nI k))] []
  refine z_dom (fun hD0 => ?_)
  refine z_aload_n hb dX1_writeStep_0 rfl ?_
  refine z_dom (fun hD_1 => ?_)
  refine z_new (N0 := 4) (b' := 19) (f' := 5212) (fs := [.null, .int (nI 0), .int (nI 0), .int (nI 0)]) (C := RJ5) (T := TJ5) (N := 4) hb ho zc22 in_J5 tyJ5_ok q252 q253 q101 dX1_writeStep_1 (zdf_J5) (by omega) (by omega) ?_
  refine z_hn (fun h_2 eh_2 => ?_)
  have eh_2 : h_2 = z_up h n (.inr (22, [.null, .int (nI 0), .int (nI 0), .int (nI 0)])) := eh_2
  have k_3 : h_2 t = some (.inr (0, [.ref a, x1, x2, x3, x4, x5, x6])) := z_nx eh_2 (Nat.ne_of_lt (hD_1 _ _ hX)) hX
  have k_4 : h_2 a = some (.inr (1, [.ref lr, .ref ls, .ref lv, .int (nI D), .int (w 2), .int (w 4), .int (w 5), .int (w 6)])) := z_nx eh_2 (Nat.ne_of_lt (hD_1 _ _ h1)) h1
  have k_5 : h_2 lr = some (.inr (20, [.int m0, .ref e0, .int (nI R)])) := z_nx eh_2 (Nat.ne_of_lt (hD_1 _ _ r1)) r1
  have k_6 : h_2 e0 = some (.inl ((zm_G M).2.1 5, N0, .inr (.inr (.inr (.inr f0))))) := z_nx eh_2 (Nat.ne_of_lt (hD_1 _ _ r2)) r2
  have k_7 : h_2 ls = some (.inr (20, [.int m9, .ref e, .int (nI S)])) := z_nx eh_2 (Nat.ne_of_lt (hD_1 _ _ h3)) h3
  have k_8 : h_2 e = some (.inl ((zm_G M).2.1 5, N, .inr (.inr (.inr (.inr f))))) := z_nx eh_2 (Nat.ne_of_lt (hD_1 _ _ h4)) h4
  have k_9 : h_2 lv = some (.inr (20, [.int mv, .ref ev, .int (nI S)])) := z_nx eh_2 (Nat.ne_of_lt (hD_1 _ _ v1)) v1
  have k_10 : h_2 ev = some (.inl ((zm_G M).2.1 5, Nv, .inr (.inr (.inr (.inr fv))))) := z_nx eh_2 (Nat.ne_of_lt (hD_1 _ _ v2)) v2
  refine z_dup hb dX1_writeStep_4 rfl ?_
  refine z_callQ0 (b' := 18) (f' := 5196) (rest := [.ref n, .ref t]) (av := [.ref n]) (z_siteI hb ho q254 q255 q256 rfl zy_J5_init zl_J5_init dX1_writeStep_5 : z_Site M _ _ _ _ _ ([].reverse ++ .ref n :: [.ref n, .ref t]) [.ref n, .ref t] _) zk_J5_init q101 hrm (m_J5_init_b (z_nxs eh_2) (by omega) (by omega)) (by omega) (by decide) (Nat.le_of_ble_eq_true rfl) (by omega) (by omega) (fun h_12 n_13 hq_11 hn_13 => ?_)
  obtain ⟨hnnhq_11, hbfhq_11, hfrhq_11⟩ := hq_11
  have k_14 : h_12 t = some (.inr (0, [.ref a, x1, x2, x3, x4, x5, x6])) := (z_exT hD0 (by omega) (z_exN z_ex_r hD_1 eh_2) hfrhq_11) _ _ hX
  have k_15 : h_12 a = some (.inr (1, [.ref lr, .ref ls, .ref lv, .int (nI D), .int (w 2), .int (w 4), .int (w 5), .int (w 6)])) := (z_exT hD0 (by omega) (z_exN z_ex_r hD_1 eh_2) hfrhq_11) _ _ h1
  have k_16 : h_12 lr = some (.inr (20, [.int m0, .ref e0, .int (nI R)])) := (z_exT hD0 (by omega) (z_exN z_ex_r hD_1 eh_2) hfrhq_11) _ _ r1
  have k_17 : h_12 e0 = some (.inl ((zm_G M).2.1 5, N0, .inr (.inr (.inr (.inr f0))))) := (z_exT hD0 (by omega) (z_exN z_ex_r hD_1 eh_2) hfrhq_11) _ _ r2
  have k_18 : h_12 ls = some (.inr (20, [.int m9, .ref e, .int (nI S)])) := (z_exT hD0 (by omega) (z_exN z_ex_r hD_1 eh_2) hfrhq_11) _ _ h3
  have k_19 : h_12 e = some (.inl ((zm_G M).2.1 5, N, .inr (.inr (.inr (.inr f))))) := (z_exT hD0 (by omega) (z_exN z_ex_r hD_1 eh_2) hfrhq_11) _ _ h4
  have k_20 : h_12 lv = some (.inr (20, [.int mv, .ref ev, .int (nI S)])) := (z_exT hD0 (by omega) (z_exN z_ex_r hD_1 eh_2) hfrhq_11) _ _ v1
  have k_21 : h_12 ev = some (.inl ((zm_G M).2.1 5, Nv, .inr (.inr (.inr (.inr fv))))) := (z_exT hD0 (by omega) (z_exN z_ex_r hD_1 eh_2) hfrhq_11) _ _ v2
  obtain ⟨fsob_22, ob_22⟩ := z_BF.o hbfhq_11
  refine z_iload_n hb dX1_writeStep_8 rfl ?_
  refine z_callQ1 (b' := 17) (f' := 4896) (rest := [.ref t]) (av := [.ref n, .int (nI k)]) (z_siteV hb ho zc22 ob_22 q2487 q1008 q1009 ⟨_, _, _, _, zk_J5_append_2⟩ zy_J5_append_2 zl_J5_append_2 dX1_writeStep_9 : z_Site M _ _ _ _ _ ([.int (nI k)].reverse ++ .ref n :: [.ref t]) [.ref t] _) zk_J5_append_2 q101 hrm (m_J5_append_I hbfhq_11 ((z_exT hD0 (by omega) (z_exN z_ex_r hD_1 eh_2) hfrhq_11) _ _ hd1) ((z_exT hD0 (by omega) (z_exN z_ex_r hD_1 eh_2) hfrhq_11) _ _ hd2) hn1 (by have := (show ([] : List Nat).length ≤ 0 from Nat.le_refl 0); omega)) (by omega) (by decide) (Nat.le_of_ble_eq_true rfl) (by omega) (by omega) (fun rhq_23 h_24 n_25 hq_23 hn_25 => ?_)
  obtain ⟨rfl, hq_23⟩ := hq_23
  obtain ⟨e9hq_23, hbfhq_23, heehq_23, hfrhq_23⟩ := hq_23
  have hlnhq_23 : (([] : List Nat) ++ z_cI (nI k)).length ≤ 14 := by rw [List.length_append]; have := (show ([] : List Nat).length ≤ 0 from Nat.le_refl 0); have := (z_cI_len (x := nI k)); show _ + _ ≤ _; omega
  have hlohq_23 := z_alw (show ∀ b ∈ ([] : List Nat), b < 128 from fun b hb => nomatch hb) (z_cI_lt (x := nI k))
  have k_26 : h_24 t = some (.inr (0, [.ref a, x1, x2, x3, x4, x5, x6])) := (z_exB hD0 (by omega) (by omega) (z_exT hD0 (by omega) (z_exN z_ex_r hD_1 eh_2) hfrhq_11) hfrhq_23) _ _ hX
  have k_27 : h_24 a = some (.inr (1, [.ref lr, .ref ls, .ref lv, .int (nI D), .int (w 2), .int (w 4), .int (w 5), .int (w 6)])) := (z_exB hD0 (by omega) (by omega) (z_exT hD0 (by omega) (z_exN z_ex_r hD_1 eh_2) hfrhq_11) hfrhq_23) _ _ h1
  have k_28 : h_24 lr = some (.inr (20, [.int m0, .ref e0, .int (nI R)])) := (z_exB hD0 (by omega) (by omega) (z_exT hD0 (by omega) (z_exN z_ex_r hD_1 eh_2) hfrhq_11) hfrhq_23) _ _ r1
  have k_29 : h_24 e0 = some (.inl ((zm_G M).2.1 5, N0, .inr (.inr (.inr (.inr f0))))) := (z_exB hD0 (by omega) (by omega) (z_exT hD0 (by omega) (z_exN z_ex_r hD_1 eh_2) hfrhq_11) hfrhq_23) _ _ r2
  have k_30 : h_24 ls = some (.inr (20, [.int m9, .ref e, .int (nI S)])) := (z_exB hD0 (by omega) (by omega) (z_exT hD0 (by omega) (z_exN z_ex_r hD_1 eh_2) hfrhq_11) hfrhq_23) _ _ h3
  have k_31 : h_24 e = some (.inl ((zm_G M).2.1 5, N, .inr (.inr (.inr (.inr f))))) := (z_exB hD0 (by omega) (by omega) (z_exT hD0 (by omega) (z_exN z_ex_r hD_1 eh_2) hfrhq_11) hfrhq_23) _ _ h4
  have k_32 : h_24 lv = some (.inr (20, [.int mv, .ref ev, .int (nI S)])) := (z_exB hD0 (by omega) (by omega) (z_exT hD0 (by omega) (z_exN z_ex_r hD_1 eh_2) hfrhq_11) hfrhq_23) _ _ v1
  have k_33 : h_24 ev = some (.inl ((zm_G M).2.1 5, Nv, .inr (.inr (.inr (.inr fv))))) := (z_exB hD0 (by omega) (by omega) (z_exT hD0 (by omega) (z_exN z_ex_r hD_1 eh_2) hfrhq_11) hfrhq_23) _ _ v2
  obtain ⟨fsob_34, ob_34⟩ := z_BF.o hbfhq_23
  refine z_ldcwS (i := 47) hb ho rfl rfl rfl dX1_writeStep_12 ?_
  refine z_callQ1 (b' := 16) (f' := 4596) (rest := [.ref t]) (av := [.ref n, .ref ((zm_G M).2.2.1 47)]) (z_siteV hb ho zc22 ob_34 q2489 q913 q914 ⟨_, _, _, _, zk_J5_append⟩ zy_J5_append zl_J5_append dX1_writeStep_15 : z_Site M _ _ _ _ _ ([.ref ((zm_G M).2.2.1 47)].reverse ++ .ref n :: [.ref t]) [.ref t] _) zk_J5_append q101 hrm (m_J5_append_s hbfhq_23 ((hKS 47 (by decide)).ex (z_exB hD0 (by omega) (by omega) (z_exT hD0 (by omega) (z_exN z_ex_r hD_1 eh_2) hfrhq_11) hfrhq_23)) (by have := hlnhq_23; have := (show (z_lits.getD 47 []).length ≤ 1 by decide); omega)) (by omega) (by decide) (Nat.le_of_ble_eq_true rfl) (by omega) (by omega) (fun rhq_35 h_36 n_37 hq_35 hn_37 => ?_)
  obtain ⟨rfl, hq_35⟩ := hq_35
  obtain ⟨e9hq_35, hbfhq_35, heehq_35, hfrhq_35⟩ := hq_35
  have hlnhq_35 : ((([] : List Nat) ++ z_cI (nI k)) ++ (z_lits.getD 47 [])).length ≤ 15 := by rw [List.length_append]; have := hlnhq_23; have := (show (z_lits.getD 47 []).length ≤ 1 by decide); show _ + _ ≤ _; omega
  have hlohq_35 := z_alw hlohq_23 (z_lit_lt 47 (by decide))
  have k_38 : h_36 t = some (.inr (0, [.ref a, x1, x2, x3, x4, x5, x6])) := (z_exB hD0 (by omega) (by omega) (z_exB hD0 (by omega) (by omega) (z_exT hD0 (by omega) (z_exN z_ex_r hD_1 eh_2) hfrhq_11) hfrhq_23) hfrhq_35) _ _ hX
  have k_39 : h_36 a = some (.inr (1, [.ref lr, .ref ls, .ref lv, .int (nI D), .int (w 2), .int (w 4), .int (w 5), .int (w 6)])) := (z_exB hD0 (by omega) (by omega) (z_exB hD0 (by omega) (by omega) (z_exT hD0 (by omega) (z_exN z_ex_r hD_1 eh_2) hfrhq_11) hfrhq_23) hfrhq_35) _ _ h1
  have k_40 : h_36 lr = some (.inr (20, [.int m0, .ref e0, .int (nI R)])) := (z_exB hD0 (by omega) (by omega) (z_exB hD0 (by omega) (by omega) (z_exT hD0 (by omega) (z_exN z_ex_r hD_1 eh_2) hfrhq_11) hfrhq_23) hfrhq_35) _ _ r1
  have k_41 : h_36 e0 = some (.inl ((zm_G M).2.1 5, N0, .inr (.inr (.inr (.inr f0))))) := (z_exB hD0 (by omega) (by omega) (z_exB hD0 (by omega) (by omega) (z_exT hD0 (by omega) (z_exN z_ex_r hD_1 eh_2) hfrhq_11) hfrhq_23) hfrhq_35) _ _ r2
  have k_42 : h_36 ls = some (.inr (20, [.int m9, .ref e, .int (nI S)])) := (z_exB hD0 (by omega) (by omega) (z_exB hD0 (by omega) (by omega) (z_exT hD0 (by omega) (z_exN z_ex_r hD_1 eh_2) hfrhq_11) hfrhq_23) hfrhq_35) _ _ h3
  have k_43 : h_36 e = some (.inl ((zm_G M).2.1 5, N, .inr (.inr (.inr (.inr f))))) := (z_exB hD0 (by omega) (by omega) (z_exB hD0 (by omega) (by omega) (z_exT hD0 (by omega) (z_exN z_ex_r hD_1 eh_2) hfrhq_11) hfrhq_23) hfrhq_35) _ _ h4
  have k_44 : h_36 lv = some (.inr (20, [.int mv, .ref ev, .int (nI S)])) := (z_exB hD0 (by omega) (by omega) (z_exB hD0 (by omega) (by omega) (z_exT hD0 (by omega) (z_exN z_ex_r hD_1 eh_2) hfrhq_11) hfrhq_23) hfrhq_35) _ _ v1
  have k_45 : h_36 ev = some (.inl ((zm_G M).2.1 5, Nv, .inr (.inr (.inr (.inr fv))))) := (z_exB hD0 (by omega) (by omega) (z_exB hD0 (by omega) (by omega) (z_exT hD0 (by omega) (z_exN z_ex_r hD_1 eh_2) hfrhq_11) hfrhq_23) hfrhq_35) _ _ v2
  obtain ⟨fsob_46, ob_46⟩ := z_BF.o hbfhq_35
  refine z_aload_n hb dX1_writeStep_18 rfl ?_
  refine z_get (k := 0) (C := RX1) (T := TX1) (N := 7) hb ho zc0 in_X1 (zf_RX1_41 _) dX1_writeStep_19 k_38 (by decide) rfl ?_
  refine z_iload_n hb dX1_writeStep_22 rfl ?_
  refine z_call1 (b' := 15) (f' := 4590) (rest := [.ref n, .ref t]) (av := [.ref a, .int (nI k)]) (z_siteV hb ho zc1 k_39 q1842 q1506 q1507 ⟨_, _, _, _, zk_X2_step⟩ zy_X2_step zl_X2_step dX1_writeStep_23 : z_Site M _ _ _ _ _ ([.int (nI k)].reverse ++ .ref a :: [.ref n, .ref t]) [.ref n, .ref t] _) zk_X2_step q95 hrm (m_X2_step (hL.ex (z_exB hD0 (by omega) (by omega) (z_exB hD0 (by omega) (by omega) (z_exT hD0 (by omega) (z_exN z_ex_r hD_1 eh_2) hfrhq_11) hfrhq_23) hfrhq_35)) hS8 hk) (by omega) (by decide) (Nat.le_of_ble_eq_true rfl) (by omega) (by omega) ?_
  refine z_aload_n hb dX1_writeStep_26 rfl ?_
  refine z_get (k := 0) (C := RX1) (T := TX1) (N := 7) hb ho zc0 in_X1 (zf_RX1_41 _) dX1_writeStep_27 k_38 (by decide) rfl ?_
  rcases hs k hk with ⟨q1, q9⟩ | ⟨q1, q9⟩ | ⟨q1, q9⟩ | ⟨q1, q2, q3, q9⟩ | ⟨q1, q2, q3, q9⟩ | ⟨q1, q2, q3, q9⟩ | ⟨q1, q2, q3, q9⟩
  · refine z_callQ1 (b' := 3) (f' := 982) (rest := [.ref n, .ref t]) (av := [.ref (sa k), .ref a]) (z_siteU hb ho zc8 ((z_exB hD0 (by omega) (by omega) (z_exB hD0 (by omega) (by omega) (z_exT hD0 (by omega) (z_exN z_ex_r hD_1 eh_2) hfrhq_11) hfrhq_23) hfrhq_35) _ _ q9) q2490 q2492 (Or.inl q2491) q2510 q2553 ⟨by decide +kernel, by decide +kernel⟩ (by show _ = some 1; decide +kernel) dX1_writeStep_30 : z_Site M _ _ _ _ _ ([.ref a].reverse ++ .ref (sa k) :: [.ref n, .ref t]) [.ref n, .ref t] _) zk_X10_text q128 hrm (m_text (hL.ex (z_exB hD0 (by omega) (by omega) (z_exB hD0 (by omega) (by omega) (z_exT hD0 (by omega) (z_exN z_ex_r hD_1 eh_2) hfrhq_11) hfrhq_23) hfrhq_35)) (hKS.ex (z_exB hD0 (by omega) (by omega) (z_exB hD0 (by omega) (by omega) (z_exT hD0 (by omega) (z_exN z_ex_r hD_1 eh_2) hfrhq_11) hfrhq_23) hfrhq_35)) hS8 ((z_exB hD0 (by omega) (by omega) (z_exB hD0 (by omega) (by omega) (z_exT hD0 (by omega) (z_exN z_ex_r hD_1 eh_2) hfrhq_11) hfrhq_23) hfrhq_35) _ _ hd1) ((z_exB hD0 (by omega) (by omega) (z_exB hD0 (by omega) (by omega) (z_exT hD0 (by omega) (z_exN z_ex_r hD_1 eh_2) hfrhq_11) hfrhq_23) hfrhq_35) _ _ hd2) hn1 hk _ _ ((z_exB hD0 (by omega) (by omega) (z_exB hD0 (by omega) (by omega) (z_exT hD0 (by omega) (z_exN z_ex_r hD_1 eh_2) hfrhq_11) hfrhq_23) hfrhq_35) _ _ q9) _) (by omega) (by decide) (Nat.le_of_ble_eq_true rfl) (by omega) (by omega) (fun rhq_47 h_48 n_49 hq_47 hn_49 => ?_)
    obtain ⟨s_50, rfl, hq_47⟩ := hq_47
    obtain ⟨hnshq_47, hsnhq_47, hsghq_47, hexhq_47⟩ := hq_47
    have k_51 : h_48 t = some (.inr (0, [.ref a, x1, x2, x3, x4, x5, x6])) := (z_ex_t (z_exB hD0 (by omega) (by omega) (z_exB hD0 (by omega) (by omega) (z_exT hD0 (by omega) (z_exN z_ex_r hD_1 eh_2) hfrhq_11) hfrhq_23) hfrhq_35) hexhq_47) _ _ hX
    have k_52 : h_48 a = some (.inr (1, [.ref lr, .ref ls, .ref lv, .int (nI D), .int (w 2), .int (w 4), .int (w 5), .int (w 6)])) := (z_ex_t (z_exB hD0 (by omega) (by omega) (z_exB hD0 (by omega) (by omega) (z_exT hD0 (by omega) (z_exN z_ex_r hD_1 eh_2) hfrhq_11) hfrhq_23) hfrhq_35) hexhq_47) _ _ h1
    have k_53 : h_48 lr = some (.inr (20, [.int m0, .ref e0, .int (nI R)])) := (z_ex_t (z_exB hD0 (by omega) (by omega) (z_exB hD0 (by omega) (by omega) (z_exT hD0 (by omega) (z_exN z_ex_r hD_1 eh_2) hfrhq_11) hfrhq_23) hfrhq_35) hexhq_47) _ _ r1
    have k_54 : h_48 e0 = some (.inl ((zm_G M).2.1 5, N0, .inr (.inr (.inr (.inr f0))))) := (z_ex_t (z_exB hD0 (by omega) (by omega) (z_exB hD0 (by omega) (by omega) (z_exT hD0 (by omega) (z_exN z_ex_r hD_1 eh_2) hfrhq_11) hfrhq_23) hfrhq_35) hexhq_47) _ _ r2
    have k_55 : h_48 ls = some (.inr (20, [.int m9, .ref e, .int (nI S)])) := (z_ex_t (z_exB hD0 (by omega) (by omega) (z_exB hD0 (by omega) (by omega) (z_exT hD0 (by omega) (z_exN z_ex_r hD_1 eh_2) hfrhq_11) hfrhq_23) hfrhq_35) hexhq_47) _ _ h3
    have k_56 : h_48 e = some (.inl ((zm_G M).2.1 5, N, .inr (.inr (.inr (.inr f))))) := (z_ex_t (z_exB hD0 (by omega) (by omega) (z_exB hD0 (by omega) (by omega) (z_exT hD0 (by omega) (z_exN z_ex_r hD_1 eh_2) hfrhq_11) hfrhq_23) hfrhq_35) hexhq_47) _ _ h4
    have k_57 : h_48 lv = some (.inr (20, [.int mv, .ref ev, .int (nI S)])) := (z_ex_t (z_exB hD0 (by omega) (by omega) (z_exB hD0 (by omega) (by omega) (z_exT hD0 (by omega) (z_exN z_ex_r hD_1 eh_2) hfrhq_11) hfrhq_23) hfrhq_35) hexhq_47) _ _ v1
    have k_58 : h_48 ev = some (.inl ((zm_G M).2.1 5, Nv, .inr (.inr (.inr (.inr fv))))) := (z_ex_t (z_exB hD0 (by omega) (by omega) (z_exB hD0 (by omega) (by omega) (z_exT hD0 (by omega) (z_exN z_ex_r hD_1 eh_2) hfrhq_11) hfrhq_23) hfrhq_35) hexhq_47) _ _ v2
    obtain ⟨fsob_59, ob_59⟩ := z_BF.o (hbfhq_35.exx hexhq_47)
    refine z_callQ1 (b' := 2) (f' := 682) (rest := [.ref t]) (av := [.ref n, .ref s_50]) (z_siteV hb ho zc22 ob_59 q2489 q913 q914 ⟨_, _, _, _, zk_J5_append⟩ zy_J5_append zl_J5_append dX1_writeStep_33 : z_Site M _ _ _ _ _ ([.ref s_50].reverse ++ .ref n :: [.ref t]) [.ref t] _) zk_J5_append q101 hrm (m_J5_append_s (hbfhq_35.exx hexhq_47) hsghq_47 (by have := hlnhq_35; have := (z_tx_len (w := w) (k := k)); omega)) (by omega) (by decide) (Nat.le_of_ble_eq_true rfl) (by omega) (by omega) (fun rhq_60 h_61 n_62 hq_60 hn_62 => ?_)
    obtain ⟨rfl, hq_60⟩ := hq_60
    obtain ⟨e9hq_60, hbfhq_60, heehq_60, hfrhq_60⟩ := hq_60
    have hlnhq_60 : (((([] : List Nat) ++ z_cI (nI k)) ++ (z_lits.getD 47 [])) ++ z_tx w k).length ≤ 45 := by rw [List.length_append]; have := hlnhq_35; have := (z_tx_len (w := w) (k := k)); show _ + _ ≤ _; omega
    have hlohq_60 := z_alw hlohq_35 hsghq_47.lo
    have k_63 : h_61 t = some (.inr (0, [.ref a, x1, x2, x3, x4, x5, x6])) := (z_exB hD0 (by omega) (by omega) (z_ex_t (z_exB hD0 (by omega) (by omega) (z_exB hD0 (by omega) (by omega) (z_exT hD0 (by omega) (z_exN z_ex_r hD_1 eh_2) hfrhq_11) hfrhq_23) hfrhq_35) hexhq_47) hfrhq_60) _ _ hX
    have k_64 : h_61 a = some (.inr (1, [.ref lr, .ref ls, .ref lv, .int (nI D), .int (w 2), .int (w 4), .int (w 5), .int (w 6)])) := (z_exB hD0 (by omega) (by omega) (z_ex_t (z_exB hD0 (by omega) (by omega) (z_exB hD0 (by omega) (by omega) (z_exT hD0 (by omega) (z_exN z_ex_r hD_1 eh_2) hfrhq_11) hfrhq_23) hfrhq_35) hexhq_47) hfrhq_60) _ _ h1
    have k_65 : h_61 lr = some (.inr (20, [.int m0, .ref e0, .int (nI R)])) := (z_exB hD0 (by omega) (by omega) (z_ex_t (z_exB hD0 (by omega) (by omega) (z_exB hD0 (by omega) (by omega) (z_exT hD0 (by omega) (z_exN z_ex_r hD_1 eh_2) hfrhq_11) hfrhq_23) hfrhq_35) hexhq_47) hfrhq_60) _ _ r1
    have k_66 : h_61 e0 = some (.inl ((zm_G M).2.1 5, N0, .inr (.inr (.inr (.inr f0))))) := (z_exB hD0 (by omega) (by omega) (z_ex_t (z_exB hD0 (by omega) (by omega) (z_exB hD0 (by omega) (by omega) (z_exT hD0 (by omega) (z_exN z_ex_r hD_1 eh_2) hfrhq_11) hfrhq_23) hfrhq_35) hexhq_47) hfrhq_60) _ _ r2
    have k_67 : h_61 ls = some (.inr (20, [.int m9, .ref e, .int (nI S)])) := (z_exB hD0 (by omega) (by omega) (z_ex_t (z_exB hD0 (by omega) (by omega) (z_exB hD0 (by omega) (by omega) (z_exT hD0 (by omega) (z_exN z_ex_r hD_1 eh_2) hfrhq_11) hfrhq_23) hfrhq_35) hexhq_47) hfrhq_60) _ _ h3
    have k_68 : h_61 e = some (.inl ((zm_G M).2.1 5, N, .inr (.inr (.inr (.inr f))))) := (z_exB hD0 (by omega) (by omega) (z_ex_t (z_exB hD0 (by omega) (by omega) (z_exB hD0 (by omega) (by omega) (z_exT hD0 (by omega) (z_exN z_ex_r hD_1 eh_2) hfrhq_11) hfrhq_23) hfrhq_35) hexhq_47) hfrhq_60) _ _ h4
    have k_69 : h_61 lv = some (.inr (20, [.int mv, .ref ev, .int (nI S)])) := (z_exB hD0 (by omega) (by omega) (z_ex_t (z_exB hD0 (by omega) (by omega) (z_exB hD0 (by omega) (by omega) (z_exT hD0 (by omega) (z_exN z_ex_r hD_1 eh_2) hfrhq_11) hfrhq_23) hfrhq_35) hexhq_47) hfrhq_60) _ _ v1
    have k_70 : h_61 ev = some (.inl ((zm_G M).2.1 5, Nv, .inr (.inr (.inr (.inr fv))))) := (z_exB hD0 (by omega) (by omega) (z_ex_t (z_exB hD0 (by omega) (by omega) (z_exB hD0 (by omega) (by omega) (z_exT hD0 (by omega) (z_exN z_ex_r hD_1 eh_2) hfrhq_11) hfrhq_23) hfrhq_35) hexhq_47) hfrhq_60) _ _ v2
    obtain ⟨fsob_71, ob_71⟩ := z_BF.o hbfhq_60
    refine z_callQ1 (b' := 0) (f' := 378) (rest := [.ref t]) (av := [.ref n]) (z_siteV hb ho zc22 ob_71 q2554 q1033 q1034 ⟨_, _, _, _, zk_J5_toString⟩ zy_J5_toString zl_J5_toString dX1_writeStep_36 : z_Site M _ _ _ _ _ ([].reverse ++ .ref n :: [.ref t]) [.ref t] _) zk_J5_toString q101 hrm (m_J5_toString hbfhq_60 (by have := hlnhq_60; omega) hlohq_60) (by omega) (by decide) (Nat.le_of_ble_eq_true rfl) (by omega) (by omega) (fun rhq_72 h_73 n_74 hq_72 hn_74 => ?_)
    obtain ⟨rfl, hq_72⟩ := hq_72
    obtain ⟨hnnhq_72, hsghq_72, hexhq_72⟩ := hq_72
    have k_75 : h_73 t = some (.inr (0, [.ref a, x1, x2, x3, x4, x5, x6])) := (z_ex_t (z_exB hD0 (by omega) (by omega) (z_ex_t (z_exB hD0 (by omega) (by omega) (z_exB hD0 (by omega) (by omega) (z_exT hD0 (by omega) (z_exN z_ex_r hD_1 eh_2) hfrhq_11) hfrhq_23) hfrhq_35) hexhq_47) hfrhq_60) hexhq_72) _ _ hX
    have k_76 : h_73 a = some (.inr (1, [.ref lr, .ref ls, .ref lv, .int (nI D), .int (w 2), .int (w 4), .int (w 5), .int (w 6)])) := (z_ex_t (z_exB hD0 (by omega) (by omega) (z_ex_t (z_exB hD0 (by omega) (by omega) (z_exB hD0 (by omega) (by omega) (z_exT hD0 (by omega) (z_exN z_ex_r hD_1 eh_2) hfrhq_11) hfrhq_23) hfrhq_35) hexhq_47) hfrhq_60) hexhq_72) _ _ h1
    have k_77 : h_73 lr = some (.inr (20, [.int m0, .ref e0, .int (nI R)])) := (z_ex_t (z_exB hD0 (by omega) (by omega) (z_ex_t (z_exB hD0 (by omega) (by omega) (z_exB hD0 (by omega) (by omega) (z_exT hD0 (by omega) (z_exN z_ex_r hD_1 eh_2) hfrhq_11) hfrhq_23) hfrhq_35) hexhq_47) hfrhq_60) hexhq_72) _ _ r1
    have k_78 : h_73 e0 = some (.inl ((zm_G M).2.1 5, N0, .inr (.inr (.inr (.inr f0))))) := (z_ex_t (z_exB hD0 (by omega) (by omega) (z_ex_t (z_exB hD0 (by omega) (by omega) (z_exB hD0 (by omega) (by omega) (z_exT hD0 (by omega) (z_exN z_ex_r hD_1 eh_2) hfrhq_11) hfrhq_23) hfrhq_35) hexhq_47) hfrhq_60) hexhq_72) _ _ r2
    have k_79 : h_73 ls = some (.inr (20, [.int m9, .ref e, .int (nI S)])) := (z_ex_t (z_exB hD0 (by omega) (by omega) (z_ex_t (z_exB hD0 (by omega) (by omega) (z_exB hD0 (by omega) (by omega) (z_exT hD0 (by omega) (z_exN z_ex_r hD_1 eh_2) hfrhq_11) hfrhq_23) hfrhq_35) hexhq_47) hfrhq_60) hexhq_72) _ _ h3
    have k_80 : h_73 e = some (.inl ((zm_G M).2.1 5, N, .inr (.inr (.inr (.inr f))))) := (z_ex_t (z_exB hD0 (by omega) (by omega) (z_ex_t (z_exB hD0 (by omega) (by omega) (z_exB hD0 (by omega) (by omega) (z_exT hD0 (by omega) (z_exN z_ex_r hD_1 eh_2) hfrhq_11) hfrhq_23) hfrhq_35) hexhq_47) hfrhq_60) hexhq_72) _ _ h4
    have k_81 : h_73 lv = some (.inr (20, [.int mv, .ref ev, .int (nI S)])) := (z_ex_t (z_exB hD0 (by omega) (by omega) (z_ex_t (z_exB hD0 (by omega) (by omega) (z_exB hD0 (by omega) (by omega) (z_exT hD0 (by omega) (z_exN z_ex_r hD_1 eh_2) hfrhq_11) hfrhq_23) hfrhq_35) hexhq_47) hfrhq_60) hexhq_72) _ _ v1
    have k_82 : h_73 ev = some (.inl ((zm_G M).2.1 5, Nv, .inr (.inr (.inr (.inr fv))))) := (z_ex_t (z_exB hD0 (by omega) (by omega) (z_ex_t (z_exB hD0 (by omega) (by omega) (z_exB hD0 (by omega) (by omega) (z_exT hD0 (by omega) (z_exN z_ex_r hD_1 eh_2) hfrhq_11) hfrhq_23) hfrhq_35) hexhq_47) hfrhq_60) hexhq_72) _ _ v2
    refine z_put (k := 3) (C := RX1) (T := TX1) (N := 7) hb ho zc0 in_X1 tyX1_ok nmX1 (zf_RX1_61 _) dX1_writeStep_39 k_75 ht0 (by decide) (Or.inl rfl) rfl rfl rfl (Nat.le_of_ble_eq_true rfl) ?_
    refine z_hn (fun h_83 eh_83 => ?_)
    have eh_83 : h_83 = z_up h_73 t (.inr (0, [.ref a, x1, x2, .ref n_62, x4, x5, x6])) := eh_83
    have k_84 : h_83 a = some (.inr (1, [.ref lr, .ref ls, .ref lv, .int (nI D), .int (w 2), .int (w 4), .int (w 5), .int (w 6)])) := z_nx eh_83 (z_neO k_76 k_75 rfl) k_76
    have k_85 : h_83 lr = some (.inr (20, [.int m0, .ref e0, .int (nI R)])) := z_nx eh_83 (z_neO k_77 k_75 rfl) k_77
    have k_86 : h_83 e0 = some (.inl ((zm_G M).2.1 5, N0, .inr (.inr (.inr (.inr f0))))) := z_nx eh_83 (z_neA' k_78 k_75) k_78
    have k_87 : h_83 ls = some (.inr (20, [.int m9, .ref e, .int (nI S)])) := z_nx eh_83 (z_neO k_79 k_75 rfl) k_79
    have k_88 : h_83 e = some (.inl ((zm_G M).2.1 5, N, .inr (.inr (.inr (.inr f))))) := z_nx eh_83 (z_neA' k_80 k_75) k_80
    have k_89 : h_83 lv = some (.inr (20, [.int mv, .ref ev, .int (nI S)])) := z_nx eh_83 (z_neO k_81 k_75 rfl) k_81
    have k_90 : h_83 ev = some (.inl ((zm_G M).2.1 5, Nv, .inr (.inr (.inr (.inr fv))))) := z_nx eh_83 (z_neA' k_82 k_75) k_82
    obtain ⟨esso_91, hzso_91, so_91, -⟩ := id (hsghq_72.frx k_75 (by decide) (z_fr_up (P := fun y => y = t) rfl eh_83))
    refine z_aload_n hb dX1_writeStep_42 rfl ?_
    refine z_get (k := 3) (C := RX1) (T := TX1) (N := 7) hb ho zc0 in_X1 (zf_RX1_61 _) dX1_writeStep_43 (z_nxs eh_83) (by decide) rfl ?_
    refine z_callN1 (b' := 0) (f' := 378) (rest := []) (av := [.ref n_62]) (z_siteV hb ho zc23 so_91 q2555 q966 q967 ⟨_, _, _, _, zk_J6_length⟩ zy_J6_length zl_J6_length dX1_writeStep_46 : z_Site M _ _ _ _ _ ([].reverse ++ .ref n_62 :: []) [] _) zk_J6_length q102 hrm (m_J6_length (hsghq_72.frx k_75 (by decide) (z_fr_up (P := fun y => y = t) rfl eh_83))) (by omega) (by decide) (Nat.le_of_ble_eq_true rfl) (by omega) (by omega) (fun n_92 hn_92 => ?_)
    refine z_iret hb hr dX1_writeStep_49 ?_
    rw [hQ]
    have el9 : (((([] : List Nat) ++ z_cI (nI k)) ++ (z_lits.getD 47 [])) ++ z_tx w k) = z_cI (nI k) ++ 58 :: z_tx w k := by show (z_cI (nI k) ++ [58]) ++ z_tx w k = _; rw [List.append_assoc]; rfl
    have e9 := (hsghq_72.frx k_75 (by decide) (z_fr_up (P := fun y => y = t) rfl eh_83))
    rw [el9] at e9 ⊢
    exact ⟨_, rfl, rfl, n_62, (z_nxs eh_83), e9, by omega, ((z_fr_up (P := fun y => y = t) rfl eh_83).t0 (z_ex_t (z_exB hD0 (by omega) (by omega) (z_ex_t (z_exB hD0 (by omega) (by omega) (z_exB hD0 (by omega) (by omega) (z_exT hD0 (by omega) (z_exN z_ex_r hD_1 eh_2) hfrhq_11) hfrhq_23) hfrhq_35) hexhq_47) hfrhq_60) hexhq_72))⟩
  · refine z_callQ1 (b' := 3) (f' := 982) (rest := [.ref n, .ref t]) (av := [.ref (sa k), .ref a]) (z_siteU hb ho zc9 ((z_exB hD0 (by omega) (by omega) (z_exB hD0 (by omega) (by omega) (z_exT hD0 (by omega) (z_exN z_ex_r hD_1 eh_2) hfrhq_11) hfrhq_23) hfrhq_35) _ _ q9) q2490 q2492 (Or.inl q2491) q2510 q2509 ⟨by decide +kernel, by decide +kernel⟩ (by show _ = some 1; decide +kernel) dX1_writeStep_30 : z_Site M _ _ _ _ _ ([.ref a].reverse ++ .ref (sa k) :: [.ref n, .ref t]) [.ref n, .ref t] _) zk_X10_text q128 hrm (m_text (hL.ex (z_exB hD0 (by omega) (by omega) (z_exB hD0 (by omega) (by omega) (z_exT hD0 (by omega) (z_exN z_ex_r hD_1 eh_2) hfrhq_11) hfrhq_23) hfrhq_35)) (hKS.ex (z_exB hD0 (by omega) (by omega) (z_exB hD0 (by omega) (by omega) (z_exT hD0 (by omega) (z_exN z_ex_r hD_1 eh_2) hfrhq_11) hfrhq_23) hfrhq_35)) hS8 ((z_exB hD0 (by omega) (by omega) (z_exB hD0 (by omega) (by omega) (z_exT hD0 (by omega) (z_exN z_ex_r hD_1 eh_2) hfrhq_11) hfrhq_23) hfrhq_35) _ _ hd1) ((z_exB hD0 (by omega) (by omega) (z_exB hD0 (by omega) (by omega) (z_exT hD0 (by omega) (z_exN z_ex_r hD_1 eh_2) hfrhq_11) hfrhq_23) hfrhq_35) _ _ hd2) hn1 hk _ _ ((z_exB hD0 (by omega) (by omega) (z_exB hD0 (by omega) (by omega) (z_exT hD0 (by omega) (z_exN z_ex_r hD_1 eh_2) hfrhq_11) hfrhq_23) hfrhq_35) _ _ q9) _) (by omega) (by decide) (Nat.le_of_ble_eq_true rfl) (by omega) (by omega) (fun rhq_93 h_94 n_95 hq_93 hn_95 => ?_)
    obtain ⟨s_96, rfl, hq_93⟩ := hq_93
    obtain ⟨hnshq_93, hsnhq_93, hsghq_93, hexhq_93⟩ := hq_93
    have k_97 : h_94 t = some (.inr (0, [.ref a, x1, x2, x3, x4, x5, x6])) := (z_ex_t (z_exB hD0 (by omega) (by omega) (z_exB hD0 (by omega) (by omega) (z_exT hD0 (by omega) (z_exN z_ex_r hD_1 eh_2) hfrhq_11) hfrhq_23) hfrhq_35) hexhq_93) _ _ hX
    have k_98 : h_94 a = some (.inr (1, [.ref lr, .ref ls, .ref lv, .int (nI D), .int (w 2), .int (w 4), .int (w 5), .int (w 6)])) := (z_ex_t (z_exB hD0 (by omega) (by omega) (z_exB hD0 (by omega) (by omega) (z_exT hD0 (by omega) (z_exN z_ex_r hD_1 eh_2) hfrhq_11) hfrhq_23) hfrhq_35) hexhq_93) _ _ h1
    have k_99 : h_94 lr = some (.inr (20, [.int m0, .ref e0, .int (nI R)])) := (z_ex_t (z_exB hD0 (by omega) (by omega) (z_exB hD0 (by omega) (by omega) (z_exT hD0 (by omega) (z_exN z_ex_r hD_1 eh_2) hfrhq_11) hfrhq_23) hfrhq_35) hexhq_93) _ _ r1
    have k_100 : h_94 e0 = some (.inl ((zm_G M).2.1 5, N0, .inr (.inr (.inr (.inr f0))))) := (z_ex_t (z_exB hD0 (by omega) (by omega) (z_exB hD0 (by omega) (by omega) (z_exT hD0 (by omega) (z_exN z_ex_r hD_1 eh_2) hfrhq_11) hfrhq_23) hfrhq_35) hexhq_93) _ _ r2
    have k_101 : h_94 ls = some (.inr (20, [.int m9, .ref e, .int (nI S)])) := (z_ex_t (z_exB hD0 (by omega) (by omega) (z_exB hD0 (by omega) (by omega) (z_exT hD0 (by omega) (z_exN z_ex_r hD_1 eh_2) hfrhq_11) hfrhq_23) hfrhq_35) hexhq_93) _ _ h3
    have k_102 : h_94 e = some (.inl ((zm_G M).2.1 5, N, .inr (.inr (.inr (.inr f))))) := (z_ex_t (z_exB hD0 (by omega) (by omega) (z_exB hD0 (by omega) (by omega) (z_exT hD0 (by omega) (z_exN z_ex_r hD_1 eh_2) hfrhq_11) hfrhq_23) hfrhq_35) hexhq_93) _ _ h4
    have k_103 : h_94 lv = some (.inr (20, [.int mv, .ref ev, .int (nI S)])) := (z_ex_t (z_exB hD0 (by omega) (by omega) (z_exB hD0 (by omega) (by omega) (z_exT hD0 (by omega) (z_exN z_ex_r hD_1 eh_2) hfrhq_11) hfrhq_23) hfrhq_35) hexhq_93) _ _ v1
    have k_104 : h_94 ev = some (.inl ((zm_G M).2.1 5, Nv, .inr (.inr (.inr (.inr fv))))) := (z_ex_t (z_exB hD0 (by omega) (by omega) (z_exB hD0 (by omega) (by omega) (z_exT hD0 (by omega) (z_exN z_ex_r hD_1 eh_2) hfrhq_11) hfrhq_23) hfrhq_35) hexhq_93) _ _ v2
    obtain ⟨fsob_105, ob_105⟩ := z_BF.o (hbfhq_35.exx hexhq_93)
    refine z_callQ1 (b' := 2) (f' := 682) (rest := [.ref t]) (av := [.ref n, .ref s_96]) (z_siteV hb ho zc22 ob_105 q2489 q913 q914 ⟨_, _, _, _, zk_J5_append⟩ zy_J5_append zl_J5_append dX1_writeStep_33 : z_Site M _ _ _ _ _ ([.ref s_96].reverse ++ .ref n :: [.ref t]) [.ref t] _) zk_J5_append q101 hrm (m_J5_append_s (hbfhq_35.exx hexhq_93) hsghq_93 (by have := hlnhq_35; have := (z_tx_len (w := w) (k := k)); omega)) (by omega) (by decide) (Nat.le_of_ble_eq_true rfl) (by omega) (by omega) (fun rhq_106 h_107 n_108 hq_106 hn_108 => ?_)
    obtain ⟨rfl, hq_106⟩ := hq_106
    obtain ⟨e9hq_106, hbfhq_106, heehq_106, hfrhq_106⟩ := hq_106
    have hlnhq_106 : (((([] : List Nat) ++ z_cI (nI k)) ++ (z_lits.getD 47 [])) ++ z_tx w k).length ≤ 45 := by rw [List.length_append]; have := hlnhq_35; have := (z_tx_len (w := w) (k := k)); show _ + _ ≤ _; omega
    have hlohq_106 := z_alw hlohq_35 hsghq_93.lo
    have k_109 : h_107 t = some (.inr (0, [.ref a, x1, x2, x3, x4, x5, x6])) := (z_exB hD0 (by omega) (by omega) (z_ex_t (z_exB hD0 (by omega) (by omega) (z_exB hD0 (by omega) (by omega) (z_exT hD0 (by omega) (z_exN z_ex_r hD_1 eh_2) hfrhq_11) hfrhq_23) hfrhq_35) hexhq_93) hfrhq_106) _ _ hX
    have k_110 : h_107 a = some (.inr (1, [.ref lr, .ref ls, .ref lv, .int (nI D), .int (w 2), .int (w 4), .int (w 5), .int (w 6)])) := (z_exB hD0 (by omega) (by omega) (z_ex_t (z_exB hD0 (by omega) (by omega) (z_exB hD0 (by omega) (by omega) (z_exT hD0 (by omega) (z_exN z_ex_r hD_1 eh_2) hfrhq_11) hfrhq_23) hfrhq_35) hexhq_93) hfrhq_106) _ _ h1
    have k_111 : h_107 lr = some (.inr (20, [.int m0, .ref e0, .int (nI R)])) := (z_exB hD0 (by omega) (by omega) (z_ex_t (z_exB hD0 (by omega) (by omega) (z_exB hD0 (by omega) (by omega) (z_exT hD0 (by omega) (z_exN z_ex_r hD_1 eh_2) hfrhq_11) hfrhq_23) hfrhq_35) hexhq_93) hfrhq_106) _ _ r1
    have k_112 : h_107 e0 = some (.inl ((zm_G M).2.1 5, N0, .inr (.inr (.inr (.inr f0))))) := (z_exB hD0 (by omega) (by omega) (z_ex_t (z_exB hD0 (by omega) (by omega) (z_exB hD0 (by omega) (by omega) (z_exT hD0 (by omega) (z_exN z_ex_r hD_1 eh_2) hfrhq_11) hfrhq_23) hfrhq_35) hexhq_93) hfrhq_106) _ _ r2
    have k_113 : h_107 ls = some (.inr (20, [.int m9, .ref e, .int (nI S)])) := (z_exB hD0 (by omega) (by omega) (z_ex_t (z_exB hD0 (by omega) (by omega) (z_exB hD0 (by omega) (by omega) (z_exT hD0 (by omega) (z_exN z_ex_r hD_1 eh_2) hfrhq_11) hfrhq_23) hfrhq_35) hexhq_93) hfrhq_106) _ _ h3
    have k_114 : h_107 e = some (.inl ((zm_G M).2.1 5, N, .inr (.inr (.inr (.inr f))))) := (z_exB hD0 (by omega) (by omega) (z_ex_t (z_exB hD0 (by omega) (by omega) (z_exB hD0 (by omega) (by omega) (z_exT hD0 (by omega) (z_exN z_ex_r hD_1 eh_2) hfrhq_11) hfrhq_23) hfrhq_35) hexhq_93) hfrhq_106) _ _ h4
    have k_115 : h_107 lv = some (.inr (20, [.int mv, .ref ev, .int (nI S)])) := (z_exB hD0 (by omega) (by omega) (z_ex_t (z_exB hD0 (by omega) (by omega) (z_exB hD0 (by omega) (by omega) (z_exT hD0 (by omega) (z_exN z_ex_r hD_1 eh_2) hfrhq_11) hfrhq_23) hfrhq_35) hexhq_93) hfrhq_106) _ _ v1
    have k_116 : h_107 ev = some (.inl ((zm_G M).2.1 5, Nv, .inr (.inr (.inr (.inr fv))))) := (z_exB hD0 (by omega) (by omega) (z_ex_t (z_exB hD0 (by omega) (by omega) (z_exB hD0 (by omega) (by omega) (z_exT hD0 (by omega) (z_exN z_ex_r hD_1 eh_2) hfrhq_11) hfrhq_23) hfrhq_35) hexhq_93) hfrhq_106) _ _ v2
    obtain ⟨fsob_117, ob_117⟩ := z_BF.o hbfhq_106
    refine z_callQ1 (b' := 0) (f' := 378) (rest := [.ref t]) (av := [.ref n]) (z_siteV hb ho zc22 ob_117 q2554 q1033 q1034 ⟨_, _, _, _, zk_J5_toString⟩ zy_J5_toString zl_J5_toString dX1_writeStep_36 : z_Site M _ _ _ _ _ ([].reverse ++ .ref n :: [.ref t]) [.ref t] _) zk_J5_toString q101 hrm (m_J5_toString hbfhq_106 (by have := hlnhq_106; omega) hlohq_106) (by omega) (by decide) (Nat.le_of_ble_eq_true rfl) (by omega) (by omega) (fun rhq_118 h_119 n_120 hq_118 hn_120 => ?_)
    obtain ⟨rfl, hq_118⟩ := hq_118
    obtain ⟨hnnhq_118, hsghq_118, hexhq_118⟩ := hq_118
    have k_121 : h_119 t = some (.inr (0, [.ref a, x1, x2, x3, x4, x5, x6])) := (z_ex_t (z_exB hD0 (by omega) (by omega) (z_ex_t (z_exB hD0 (by omega) (by omega) (z_exB hD0 (by omega) (by omega) (z_exT hD0 (by omega) (z_exN z_ex_r hD_1 eh_2) hfrhq_11) hfrhq_23) hfrhq_35) hexhq_93) hfrhq_106) hexhq_118) _ _ hX
    have k_122 : h_119 a = some (.inr (1, [.ref lr, .ref ls, .ref lv, .int (nI D), .int (w 2), .int (w 4), .int (w 5), .int (w 6)])) := (z_ex_t (z_exB hD0 (by omega) (by omega) (z_ex_t (z_exB hD0 (by omega) (by omega) (z_exB hD0 (by omega) (by omega) (z_exT hD0 (by omega) (z_exN z_ex_r hD_1 eh_2) hfrhq_11) hfrhq_23) hfrhq_35) hexhq_93) hfrhq_106) hexhq_118) _ _ h1
    have k_123 : h_119 lr = some (.inr (20, [.int m0, .ref e0, .int (nI R)])) := (z_ex_t (z_exB hD0 (by omega) (by omega) (z_ex_t (z_exB hD0 (by omega) (by omega) (z_exB hD0 (by omega) (by omega) (z_exT hD0 (by omega) (z_exN z_ex_r hD_1 eh_2) hfrhq_11) hfrhq_23) hfrhq_35) hexhq_93) hfrhq_106) hexhq_118) _ _ r1
    have k_124 : h_119 e0 = some (.inl ((zm_G M).2.1 5, N0, .inr (.inr (.inr (.inr f0))))) := (z_ex_t (z_exB hD0 (by omega) (by omega) (z_ex_t (z_exB hD0 (by omega) (by omega) (z_exB hD0 (by omega) (by omega) (z_exT hD0 (by omega) (z_exN z_ex_r hD_1 eh_2) hfrhq_11) hfrhq_23) hfrhq_35) hexhq_93) hfrhq_106) hexhq_118) _ _ r2
    have k_125 : h_119 ls = some (.inr (20, [.int m9, .ref e, .int (nI S)])) := (z_ex_t (z_exB hD0 (by omega) (by omega) (z_ex_t (z_exB hD0 (by omega) (by omega) (z_exB hD0 (by omega) (by omega) (z_exT hD0 (by omega) (z_exN z_ex_r hD_1 eh_2) hfrhq_11) hfrhq_23) hfrhq_35) hexhq_93) hfrhq_106) hexhq_118) _ _ h3
    have k_126 : h_119 e = some (.inl ((zm_G M).2.1 5, N, .inr (.inr (.inr (.inr f))))) := (z_ex_t (z_exB hD0 (by omega) (by omega) (z_ex_t (z_exB hD0 (by omega) (by omega) (z_exB hD0 (by omega) (by omega) (z_exT hD0 (by omega) (z_exN z_ex_r hD_1 eh_2) hfrhq_11) hfrhq_23) hfrhq_35) hexhq_93) hfrhq_106) hexhq_118) _ _ h4
    have k_127 : h_119 lv = some (.inr (20, [.int mv, .ref ev, .int (nI S)])) := (z_ex_t (z_exB hD0 (by omega) (by omega) (z_ex_t (z_exB hD0 (by omega) (by omega) (z_exB hD0 (by omega) (by omega) (z_exT hD0 (by omega) (z_exN z_ex_r hD_1 eh_2) hfrhq_11) hfrhq_23) hfrhq_35) hexhq_93) hfrhq_106) hexhq_118) _ _ v1
    have k_128 : h_119 ev = some (.inl ((zm_G M).2.1 5, Nv, .inr (.inr (.inr (.inr fv))))) := (z_ex_t (z_exB hD0 (by omega) (by omega) (z_ex_t (z_exB hD0 (by omega) (by omega) (z_exB hD0 (by omega) (by omega) (z_exT hD0 (by omega) (z_exN z_ex_r hD_1 eh_2) hfrhq_11) hfrhq_23) hfrhq_35) hexhq_93) hfrhq_106) hexhq_118) _ _ v2
    refine z_put (k := 3) (C := RX1) (T := TX1) (N := 7) hb ho zc0 in_X1 tyX1_ok nmX1 (zf_RX1_61 _) dX1_writeStep_39 k_121 ht0 (by decide) (Or.inl rfl) rfl rfl rfl (Nat.le_of_ble_eq_true rfl) ?_
    refine z_hn (fun h_129 eh_129 => ?_)
    have eh_129 : h_129 = z_up h_119 t (.inr (0, [.ref a, x1, x2, .ref n_108, x4, x5, x6])) := eh_129
    have k_130 : h_129 a = some (.inr (1, [.ref lr, .ref ls, .ref lv, .int (nI D), .int (w 2), .int (w 4), .int (w 5), .int (w 6)])) := z_nx eh_129 (z_neO k_122 k_121 rfl) k_122
    have k_131 : h_129 lr = some (.inr (20, [.int m0, .ref e0, .int (nI R)])) := z_nx eh_129 (z_neO k_123 k_121 rfl) k_123
    have k_132 : h_129 e0 = some (.inl ((zm_G M).2.1 5, N0, .inr (.inr (.inr (.inr f0))))) := z_nx eh_129 (z_neA' k_124 k_121) k_124
    have k_133 : h_129 ls = some (.inr (20, [.int m9, .ref e, .int (nI S)])) := z_nx eh_129 (z_neO k_125 k_121 rfl) k_125
    have k_134 : h_129 e = some (.inl ((zm_G M).2.1 5, N, .inr (.inr (.inr (.inr f))))) := z_nx eh_129 (z_neA' k_126 k_121) k_126
    have k_135 : h_129 lv = some (.inr (20, [.int mv, .ref ev, .int (nI S)])) := z_nx eh_129 (z_neO k_127 k_121 rfl) k_127
    have k_136 : h_129 ev = some (.inl ((zm_G M).2.1 5, Nv, .inr (.inr (.inr (.inr fv))))) := z_nx eh_129 (z_neA' k_128 k_121) k_128
    obtain ⟨esso_137, hzso_137, so_137, -⟩ := id (hsghq_118.frx k_121 (by decide) (z_fr_up (P := fun y => y = t) rfl eh_129))
    refine z_aload_n hb dX1_writeStep_42 rfl ?_
    refine z_get (k := 3) (C := RX1) (T := TX1) (N := 7) hb ho zc0 in_X1 (zf_RX1_61 _) dX1_writeStep_43 (z_nxs eh_129) (by decide) rfl ?_
    refine z_callN1 (b' := 0) (f' := 378) (rest := []) (av := [.ref n_108]) (z_siteV hb ho zc23 so_137 q2555 q966 q967 ⟨_, _, _, _, zk_J6_length⟩ zy_J6_length zl_J6_length dX1_writeStep_46 : z_Site M _ _ _ _ _ ([].reverse ++ .ref n_108 :: []) [] _) zk_J6_length q102 hrm (m_J6_length (hsghq_118.frx k_121 (by decide) (z_fr_up (P := fun y => y = t) rfl eh_129))) (by omega) (by decide) (Nat.le_of_ble_eq_true rfl) (by omega) (by omega) (fun n_138 hn_138 => ?_)
    refine z_iret hb hr dX1_writeStep_49 ?_
    rw [hQ]
    have el9 : (((([] : List Nat) ++ z_cI (nI k)) ++ (z_lits.getD 47 [])) ++ z_tx w k) = z_cI (nI k) ++ 58 :: z_tx w k := by show (z_cI (nI k) ++ [58]) ++ z_tx w k = _; rw [List.append_assoc]; rfl
    have e9 := (hsghq_118.frx k_121 (by decide) (z_fr_up (P := fun y => y = t) rfl eh_129))
    rw [el9] at e9 ⊢
    exact ⟨_, rfl, rfl, n_108, (z_nxs eh_129), e9, by omega, ((z_fr_up (P := fun y => y = t) rfl eh_129).t0 (z_ex_t (z_exB hD0 (by omega) (by omega) (z_ex_t (z_exB hD0 (by omega) (by omega) (z_exB hD0 (by omega) (by omega) (z_exT hD0 (by omega) (z_exN z_ex_r hD_1 eh_2) hfrhq_11) hfrhq_23) hfrhq_35) hexhq_93) hfrhq_106) hexhq_118))⟩
  · refine z_callQ1 (b' := 3) (f' := 982) (rest := [.ref n, .ref t]) (av := [.ref (sa k), .ref a]) (z_siteU hb ho zc10 ((z_exB hD0 (by omega) (by omega) (z_exB hD0 (by omega) (by omega) (z_exT hD0 (by omega) (z_exN z_ex_r hD_1 eh_2) hfrhq_11) hfrhq_23) hfrhq_35) _ _ q9) q2490 q2492 (Or.inl q2491) q2510 q2524 ⟨by decide +kernel, by decide +kernel⟩ (by show _ = some 1; decide +kernel) dX1_writeStep_30 : z_Site M _ _ _ _ _ ([.ref a].reverse ++ .ref (sa k) :: [.ref n, .ref t]) [.ref n, .ref t] _) zk_X10_text q128 hrm (m_text (hL.ex (z_exB hD0 (by omega) (by omega) (z_exB hD0 (by omega) (by omega) (z_exT hD0 (by omega) (z_exN z_ex_r hD_1 eh_2) hfrhq_11) hfrhq_23) hfrhq_35)) (hKS.ex (z_exB hD0 (by omega) (by omega) (z_exB hD0 (by omega) (by omega) (z_exT hD0 (by omega) (z_exN z_ex_r hD_1 eh_2) hfrhq_11) hfrhq_23) hfrhq_35)) hS8 ((z_exB hD0 (by omega) (by omega) (z_exB hD0 (by omega) (by omega) (z_exT hD0 (by omega) (z_exN z_ex_r hD_1 eh_2) hfrhq_11) hfrhq_23) hfrhq_35) _ _ hd1) ((z_exB hD0 (by omega) (by omega) (z_exB hD0 (by omega) (by omega) (z_exT hD0 (by omega) (z_exN z_ex_r hD_1 eh_2) hfrhq_11) hfrhq_23) hfrhq_35) _ _ hd2) hn1 hk _ _ ((z_exB hD0 (by omega) (by omega) (z_exB hD0 (by omega) (by omega) (z_exT hD0 (by omega) (z_exN z_ex_r hD_1 eh_2) hfrhq_11) hfrhq_23) hfrhq_35) _ _ q9) _) (by omega) (by decide) (Nat.le_of_ble_eq_true rfl) (by omega) (by omega) (fun rhq_139 h_140 n_141 hq_139 hn_141 => ?_)
    obtain ⟨s_142, rfl, hq_139⟩ := hq_139
    obtain ⟨hnshq_139, hsnhq_139, hsghq_139, hexhq_139⟩ := hq_139
    have k_143 : h_140 t = some (.inr (0, [.ref a, x1, x2, x3, x4, x5, x6])) := (z_ex_t (z_exB hD0 (by omega) (by omega) (z_exB hD0 (by omega) (by omega) (z_exT hD0 (by omega) (z_exN z_ex_r hD_1 eh_2) hfrhq_11) hfrhq_23) hfrhq_35) hexhq_139) _ _ hX
    have k_144 : h_140 a = some (.inr (1, [.ref lr, .ref ls, .ref lv, .int (nI D), .int (w 2), .int (w 4), .int (w 5), .int (w 6)])) := (z_ex_t (z_exB hD0 (by omega) (by omega) (z_exB hD0 (by omega) (by omega) (z_exT hD0 (by omega) (z_exN z_ex_r hD_1 eh_2) hfrhq_11) hfrhq_23) hfrhq_35) hexhq_139) _ _ h1
    have k_145 : h_140 lr = some (.inr (20, [.int m0, .ref e0, .int (nI R)])) := (z_ex_t (z_exB hD0 (by omega) (by omega) (z_exB hD0 (by omega) (by omega) (z_exT hD0 (by omega) (z_exN z_ex_r hD_1 eh_2) hfrhq_11) hfrhq_23) hfrhq_35) hexhq_139) _ _ r1
    have k_146 : h_140 e0 = some (.inl ((zm_G M).2.1 5, N0, .inr (.inr (.inr (.inr f0))))) := (z_ex_t (z_exB hD0 (by omega) (by omega) (z_exB hD0 (by omega) (by omega) (z_exT hD0 (by omega) (z_exN z_ex_r hD_1 eh_2) hfrhq_11) hfrhq_23) hfrhq_35) hexhq_139) _ _ r2
    have k_147 : h_140 ls = some (.inr (20, [.int m9, .ref e, .int (nI S)])) := (z_ex_t (z_exB hD0 (by omega) (by omega) (z_exB hD0 (by omega) (by omega) (z_exT hD0 (by omega) (z_exN z_ex_r hD_1 eh_2) hfrhq_11) hfrhq_23) hfrhq_35) hexhq_139) _ _ h3
    have k_148 : h_140 e = some (.inl ((zm_G M).2.1 5, N, .inr (.inr (.inr (.inr f))))) := (z_ex_t (z_exB hD0 (by omega) (by omega) (z_exB hD0 (by omega) (by omega) (z_exT hD0 (by omega) (z_exN z_ex_r hD_1 eh_2) hfrhq_11) hfrhq_23) hfrhq_35) hexhq_139) _ _ h4
    have k_149 : h_140 lv = some (.inr (20, [.int mv, .ref ev, .int (nI S)])) := (z_ex_t (z_exB hD0 (by omega) (by omega) (z_exB hD0 (by omega) (by omega) (z_exT hD0 (by omega) (z_exN z_ex_r hD_1 eh_2) hfrhq_11) hfrhq_23) hfrhq_35) hexhq_139) _ _ v1
    have k_150 : h_140 ev = some (.inl ((zm_G M).2.1 5, Nv, .inr (.inr (.inr (.inr fv))))) := (z_ex_t (z_exB hD0 (by omega) (by omega) (z_exB hD0 (by omega) (by omega) (z_exT hD0 (by omega) (z_exN z_ex_r hD_1 eh_2) hfrhq_11) hfrhq_23) hfrhq_35) hexhq_139) _ _ v2
    obtain ⟨fsob_151, ob_151⟩ := z_BF.o (hbfhq_35.exx hexhq_139)
    refine z_callQ1 (b' := 2) (f' := 682) (rest := [.ref t]) (av := [.ref n, .ref s_142]) (z_siteV hb ho zc22 ob_151 q2489 q913 q914 ⟨_, _, _, _, zk_J5_append⟩ zy_J5_append zl_J5_append dX1_writeStep_33 : z_Site M _ _ _ _ _ ([.ref s_142].reverse ++ .ref n :: [.ref t]) [.ref t] _) zk_J5_append q101 hrm (m_J5_append_s (hbfhq_35.exx hexhq_139) hsghq_139 (by have := hlnhq_35; have := (z_tx_len (w := w) (k := k)); omega)) (by omega) (by decide) (Nat.le_of_ble_eq_true rfl) (by omega) (by omega) (fun rhq_152 h_153 n_154 hq_152 hn_154 => ?_)
    obtain ⟨rfl, hq_152⟩ := hq_152
    obtain ⟨e9hq_152, hbfhq_152, heehq_152, hfrhq_152⟩ := hq_152
    have hlnhq_152 : (((([] : List Nat) ++ z_cI (nI k)) ++ (z_lits.getD 47 [])) ++ z_tx w k).length ≤ 45 := by rw [List.length_append]; have := hlnhq_35; have := (z_tx_len (w := w) (k := k)); show _ + _ ≤ _; omega
    have hlohq_152 := z_alw hlohq_35 hsghq_139.lo
    have k_155 : h_153 t = some (.inr (0, [.ref a, x1, x2, x3, x4, x5, x6])) := (z_exB hD0 (by omega) (by omega) (z_ex_t (z_exB hD0 (by omega) (by omega) (z_exB hD0 (by omega) (by omega) (z_exT hD0 (by omega) (z_exN z_ex_r hD_1 eh_2) hfrhq_11) hfrhq_23) hfrhq_35) hexhq_139) hfrhq_152) _ _ hX
    have k_156 : h_153 a = some (.inr (1, [.ref lr, .ref ls, .ref lv, .int (nI D), .int (w 2), .int (w 4), .int (w 5), .int (w 6)])) := (z_exB hD0 (by omega) (by omega) (z_ex_t (z_exB hD0 (by omega) (by omega) (z_exB hD0 (by omega) (by omega) (z_exT hD0 (by omega) (z_exN z_ex_r hD_1 eh_2) hfrhq_11) hfrhq_23) hfrhq_35) hexhq_139) hfrhq_152) _ _ h1
    have k_157 : h_153 lr = some (.inr (20, [.int m0, .ref e0, .int (nI R)])) := (z_exB hD0 (by omega) (by omega) (z_ex_t (z_exB hD0 (by omega) (by omega) (z_exB hD0 (by omega) (by omega) (z_exT hD0 (by omega) (z_exN z_ex_r hD_1 eh_2) hfrhq_11) hfrhq_23) hfrhq_35) hexhq_139) hfrhq_152) _ _ r1
    have k_158 : h_153 e0 = some (.inl ((zm_G M).2.1 5, N0, .inr (.inr (.inr (.inr f0))))) := (z_exB hD0 (by omega) (by omega) (z_ex_t (z_exB hD0 (by omega) (by omega) (z_exB hD0 (by omega) (by omega) (z_exT hD0 (by omega) (z_exN z_ex_r hD_1 eh_2) hfrhq_11) hfrhq_23) hfrhq_35) hexhq_139) hfrhq_152) _ _ r2
    have k_159 : h_153 ls = some (.inr (20, [.int m9, .ref e, .int (nI S)])) := (z_exB hD0 (by omega) (by omega) (z_ex_t (z_exB hD0 (by omega) (by omega) (z_exB hD0 (by omega) (by omega) (z_exT hD0 (by omega) (z_exN z_ex_r hD_1 eh_2) hfrhq_11) hfrhq_23) hfrhq_35) hexhq_139) hfrhq_152) _ _ h3
    have k_160 : h_153 e = some (.inl ((zm_G M).2.1 5, N, .inr (.inr (.inr (.inr f))))) := (z_exB hD0 (by omega) (by omega) (z_ex_t (z_exB hD0 (by omega) (by omega) (z_exB hD0 (by omega) (by omega) (z_exT hD0 (by omega) (z_exN z_ex_r hD_1 eh_2) hfrhq_11) hfrhq_23) hfrhq_35) hexhq_139) hfrhq_152) _ _ h4
    have k_161 : h_153 lv = some (.inr (20, [.int mv, .ref ev, .int (nI S)])) := (z_exB hD0 (by omega) (by omega) (z_ex_t (z_exB hD0 (by omega) (by omega) (z_exB hD0 (by omega) (by omega) (z_exT hD0 (by omega) (z_exN z_ex_r hD_1 eh_2) hfrhq_11) hfrhq_23) hfrhq_35) hexhq_139) hfrhq_152) _ _ v1
    have k_162 : h_153 ev = some (.inl ((zm_G M).2.1 5, Nv, .inr (.inr (.inr (.inr fv))))) := (z_exB hD0 (by omega) (by omega) (z_ex_t (z_exB hD0 (by omega) (by omega) (z_exB hD0 (by omega) (by omega) (z_exT hD0 (by omega) (z_exN z_ex_r hD_1 eh_2) hfrhq_11) hfrhq_23) hfrhq_35) hexhq_139) hfrhq_152) _ _ v2
    obtain ⟨fsob_163, ob_163⟩ := z_BF.o hbfhq_152
    refine z_callQ1 (b' := 0) (f' := 378) (rest := [.ref t]) (av := [.ref n]) (z_siteV hb ho zc22 ob_163 q2554 q1033 q1034 ⟨_, _, _, _, zk_J5_toString⟩ zy_J5_toString zl_J5_toString dX1_writeStep_36 : z_Site M _ _ _ _ _ ([].reverse ++ .ref n :: [.ref t]) [.ref t] _) zk_J5_toString q101 hrm (m_J5_toString hbfhq_152 (by have := hlnhq_152; omega) hlohq_152) (by omega) (by decide) (Nat.le_of_ble_eq_true rfl) (by omega) (by omega) (fun rhq_164 h_165 n_166 hq_164 hn_166 => ?_)
    obtain ⟨rfl, hq_164⟩ := hq_164
    obtain ⟨hnnhq_164, hsghq_164, hexhq_164⟩ := hq_164
    have k_167 : h_165 t = some (.inr (0, [.ref a, x1, x2, x3, x4, x5, x6])) := (z_ex_t (z_exB hD0 (by omega) (by omega) (z_ex_t (z_exB hD0 (by omega) (by omega) (z_exB hD0 (by omega) (by omega) (z_exT hD0 (by omega) (z_exN z_ex_r hD_1 eh_2) hfrhq_11) hfrhq_23) hfrhq_35) hexhq_139) hfrhq_152) hexhq_164) _ _ hX
    have k_168 : h_165 a = some (.inr (1, [.ref lr, .ref ls, .ref lv, .int (nI D), .int (w 2), .int (w 4), .int (w 5), .int (w 6)])) := (z_ex_t (z_exB hD0 (by omega) (by omega) (z_ex_t (z_exB hD0 (by omega) (by omega) (z_exB hD0 (by omega) (by omega) (z_exT hD0 (by omega) (z_exN z_ex_r hD_1 eh_2) hfrhq_11) hfrhq_23) hfrhq_35) hexhq_139) hfrhq_152) hexhq_164) _ _ h1
    have k_169 : h_165 lr = some (.inr (20, [.int m0, .ref e0, .int (nI R)])) := (z_ex_t (z_exB hD0 (by omega) (by omega) (z_ex_t (z_exB hD0 (by omega) (by omega) (z_exB hD0 (by omega) (by omega) (z_exT hD0 (by omega) (z_exN z_ex_r hD_1 eh_2) hfrhq_11) hfrhq_23) hfrhq_35) hexhq_139) hfrhq_152) hexhq_164) _ _ r1
    have k_170 : h_165 e0 = some (.inl ((zm_G M).2.1 5, N0, .inr (.inr (.inr (.inr f0))))) := (z_ex_t (z_exB hD0 (by omega) (by omega) (z_ex_t (z_exB hD0 (by omega) (by omega) (z_exB hD0 (by omega) (by omega) (z_exT hD0 (by omega) (z_exN z_ex_r hD_1 eh_2) hfrhq_11) hfrhq_23) hfrhq_35) hexhq_139) hfrhq_152) hexhq_164) _ _ r2
    have k_171 : h_165 ls = some (.inr (20, [.int m9, .ref e, .int (nI S)])) := (z_ex_t (z_exB hD0 (by omega) (by omega) (z_ex_t (z_exB hD0 (by omega) (by omega) (z_exB hD0 (by omega) (by omega) (z_exT hD0 (by omega) (z_exN z_ex_r hD_1 eh_2) hfrhq_11) hfrhq_23) hfrhq_35) hexhq_139) hfrhq_152) hexhq_164) _ _ h3
    have k_172 : h_165 e = some (.inl ((zm_G M).2.1 5, N, .inr (.inr (.inr (.inr f))))) := (z_ex_t (z_exB hD0 (by omega) (by omega) (z_ex_t (z_exB hD0 (by omega) (by omega) (z_exB hD0 (by omega) (by omega) (z_exT hD0 (by omega) (z_exN z_ex_r hD_1 eh_2) hfrhq_11) hfrhq_23) hfrhq_35) hexhq_139) hfrhq_152) hexhq_164) _ _ h4
    have k_173 : h_165 lv = some (.inr (20, [.int mv, .ref ev, .int (nI S)])) := (z_ex_t (z_exB hD0 (by omega) (by omega) (z_ex_t (z_exB hD0 (by omega) (by omega) (z_exB hD0 (by omega) (by omega) (z_exT hD0 (by omega) (z_exN z_ex_r hD_1 eh_2) hfrhq_11) hfrhq_23) hfrhq_35) hexhq_139) hfrhq_152) hexhq_164) _ _ v1
    have k_174 : h_165 ev = some (.inl ((zm_G M).2.1 5, Nv, .inr (.inr (.inr (.inr fv))))) := (z_ex_t (z_exB hD0 (by omega) (by omega) (z_ex_t (z_exB hD0 (by omega) (by omega) (z_exB hD0 (by omega) (by omega) (z_exT hD0 (by omega) (z_exN z_ex_r hD_1 eh_2) hfrhq_11) hfrhq_23) hfrhq_35) hexhq_139) hfrhq_152) hexhq_164) _ _ v2
    refine z_put (k := 3) (C := RX1) (T := TX1) (N := 7) hb ho zc0 in_X1 tyX1_ok nmX1 (zf_RX1_61 _) dX1_writeStep_39 k_167 ht0 (by decide) (Or.inl rfl) rfl rfl rfl (Nat.le_of_ble_eq_true rfl) ?_
    refine z_hn (fun h_175 eh_175 => ?_)
    have eh_175 : h_175 = z_up h_165 t (.inr (0, [.ref a, x1, x2, .ref n_154, x4, x5, x6])) := eh_175
    have k_176 : h_175 a = some (.inr (1, [.ref lr, .ref ls, .ref lv, .int (nI D), .int (w 2), .int (w 4), .int (w 5), .int (w 6)])) := z_nx eh_175 (z_neO k_168 k_167 rfl) k_168
    have k_177 : h_175 lr = some (.inr (20, [.int m0, .ref e0, .int (nI R)])) := z_nx eh_175 (z_neO k_169 k_167 rfl) k_169
    have k_178 : h_175 e0 = some (.inl ((zm_G M).2.1 5, N0, .inr (.inr (.inr (.inr f0))))) := z_nx eh_175 (z_neA' k_170 k_167) k_170
    have k_179 : h_175 ls = some (.inr (20, [.int m9, .ref e, .int (nI S)])) := z_nx eh_175 (z_neO k_171 k_167 rfl) k_171
    have k_180 : h_175 e = some (.inl ((zm_G M).2.1 5, N, .inr (.inr (.inr (.inr f))))) := z_nx eh_175 (z_neA' k_172 k_167) k_172
    have k_181 : h_175 lv = some (.inr (20, [.int mv, .ref ev, .int (nI S)])) := z_nx eh_175 (z_neO k_173 k_167 rfl) k_173
    have k_182 : h_175 ev = some (.inl ((zm_G M).2.1 5, Nv, .inr (.inr (.inr (.inr fv))))) := z_nx eh_175 (z_neA' k_174 k_167) k_174
    obtain ⟨esso_183, hzso_183, so_183, -⟩ := id (hsghq_164.frx k_167 (by decide) (z_fr_up (P := fun y => y = t) rfl eh_175))
    refine z_aload_n hb dX1_writeStep_42 rfl ?_
    refine z_get (k := 3) (C := RX1) (T := TX1) (N := 7) hb ho zc0 in_X1 (zf_RX1_61 _) dX1_writeStep_43 (z_nxs eh_175) (by decide) rfl ?_
    refine z_callN1 (b' := 0) (f' := 378) (rest := []) (av := [.ref n_154]) (z_siteV hb ho zc23 so_183 q2555 q966 q967 ⟨_, _, _, _, zk_J6_length⟩ zy_J6_length zl_J6_length dX1_writeStep_46 : z_Site M _ _ _ _ _ ([].reverse ++ .ref n_154 :: []) [] _) zk_J6_length q102 hrm (m_J6_length (hsghq_164.frx k_167 (by decide) (z_fr_up (P := fun y => y = t) rfl eh_175))) (by omega) (by decide) (Nat.le_of_ble_eq_true rfl) (by omega) (by omega) (fun n_184 hn_184 => ?_)
    refine z_iret hb hr dX1_writeStep_49 ?_
    rw [hQ]
    have el9 : (((([] : List Nat) ++ z_cI (nI k)) ++ (z_lits.getD 47 [])) ++ z_tx w k) = z_cI (nI k) ++ 58 :: z_tx w k := by show (z_cI (nI k) ++ [58]) ++ z_tx w k = _; rw [List.append_assoc]; rfl
    have e9 := (hsghq_164.frx k_167 (by decide) (z_fr_up (P := fun y => y = t) rfl eh_175))
    rw [el9] at e9 ⊢
    exact ⟨_, rfl, rfl, n_154, (z_nxs eh_175), e9, by omega, ((z_fr_up (P := fun y => y = t) rfl eh_175).t0 (z_ex_t (z_exB hD0 (by omega) (by omega) (z_ex_t (z_exB hD0 (by omega) (by omega) (z_exB hD0 (by omega) (by omega) (z_exT hD0 (by omega) (z_exN z_ex_r hD_1 eh_2) hfrhq_11) hfrhq_23) hfrhq_35) hexhq_139) hfrhq_152) hexhq_164))⟩
  · refine z_callQ1 (b' := 3) (f' := 982) (rest := [.ref n, .ref t]) (av := [.ref (sa k), .ref a]) (z_siteU hb ho zc11 ((z_exB hD0 (by omega) (by omega) (z_exB hD0 (by omega) (by omega) (z_exT hD0 (by omega) (z_exN z_ex_r hD_1 eh_2) hfrhq_11) hfrhq_23) hfrhq_35) _ _ q9) q2490 q2492 (Or.inl q2491) q2526 q2525 ⟨by decide +kernel, by decide +kernel⟩ (by show _ = some 1; decide +kernel) dX1_writeStep_30 : z_Site M _ _ _ _ _ ([.ref a].reverse ++ .ref (sa k) :: [.ref n, .ref t]) [.ref n, .ref t] _) zk_X14_text q133 hrm (m_text (hL.ex (z_exB hD0 (by omega) (by omega) (z_exB hD0 (by omega) (by omega) (z_exT hD0 (by omega) (z_exN z_ex_r hD_1 eh_2) hfrhq_11) hfrhq_23) hfrhq_35)) (hKS.ex (z_exB hD0 (by omega) (by omega) (z_exB hD0 (by omega) (by omega) (z_exT hD0 (by omega) (z_exN z_ex_r hD_1 eh_2) hfrhq_11) hfrhq_23) hfrhq_35)) hS8 ((z_exB hD0 (by omega) (by omega) (z_exB hD0 (by omega) (by omega) (z_exT hD0 (by omega) (z_exN z_ex_r hD_1 eh_2) hfrhq_11) hfrhq_23) hfrhq_35) _ _ hd1) ((z_exB hD0 (by omega) (by omega) (z_exB hD0 (by omega) (by omega) (z_exT hD0 (by omega) (z_exN z_ex_r hD_1 eh_2) hfrhq_11) hfrhq_23) hfrhq_35) _ _ hd2) hn1 hk _ _ ((z_exB hD0 (by omega) (by omega) (z_exB hD0 (by omega) (by omega) (z_exT hD0 (by omega) (z_exN z_ex_r hD_1 eh_2) hfrhq_11) hfrhq_23) hfrhq_35) _ _ q9) _) (by omega) (by decide) (Nat.le_of_ble_eq_true rfl) (by omega) (by omega) (fun rhq_185 h_186 n_187 hq_185 hn_187 => ?_)
    obtain ⟨s_188, rfl, hq_185⟩ := hq_185
    obtain ⟨hnshq_185, hsnhq_185, hsghq_185, hexhq_185⟩ := hq_185
    have k_189 : h_186 t = some (.inr (0, [.ref a, x1, x2, x3, x4, x5, x6])) := (z_ex_t (z_exB hD0 (by omega) (by omega) (z_exB hD0 (by omega) (by omega) (z_exT hD0 (by omega) (z_exN z_ex_r hD_1 eh_2) hfrhq_11) hfrhq_23) hfrhq_35) hexhq_185) _ _ hX
    have k_190 : h_186 a = some (.inr (1, [.ref lr, .ref ls, .ref lv, .int (nI D), .int (w 2), .int (w 4), .int (w 5), .int (w 6)])) := (z_ex_t (z_exB hD0 (by omega) (by omega) (z_exB hD0 (by omega) (by omega) (z_exT hD0 (by omega) (z_exN z_ex_r hD_1 eh_2) hfrhq_11) hfrhq_23) hfrhq_35) hexhq_185) _ _ h1
    have k_191 : h_186 lr = some (.inr (20, [.int m0, .ref e0, .int (nI R)])) := (z_ex_t (z_exB hD0 (by omega) (by omega) (z_exB hD0 (by omega) (by omega) (z_exT hD0 (by omega) (z_exN z_ex_r hD_1 eh_2) hfrhq_11) hfrhq_23) hfrhq_35) hexhq_185) _ _ r1
    have k_192 : h_186 e0 = some (.inl ((zm_G M).2.1 5, N0, .inr (.inr (.inr (.inr f0))))) := (z_ex_t (z_exB hD0 (by omega) (by omega) (z_exB hD0 (by omega) (by omega) (z_exT hD0 (by omega) (z_exN z_ex_r hD_1 eh_2) hfrhq_11) hfrhq_23) hfrhq_35) hexhq_185) _ _ r2
    have k_193 : h_186 ls = some (.inr (20, [.int m9, .ref e, .int (nI S)])) := (z_ex_t (z_exB hD0 (by omega) (by omega) (z_exB hD0 (by omega) (by omega) (z_exT hD0 (by omega) (z_exN z_ex_r hD_1 eh_2) hfrhq_11) hfrhq_23) hfrhq_35) hexhq_185) _ _ h3
    have k_194 : h_186 e = some (.inl ((zm_G M).2.1 5, N, .inr (.inr (.inr (.inr f))))) := (z_ex_t (z_exB hD0 (by omega) (by omega) (z_exB hD0 (by omega) (by omega) (z_exT hD0 (by omega) (z_exN z_ex_r hD_1 eh_2) hfrhq_11) hfrhq_23) hfrhq_35) hexhq_185) _ _ h4
    have k_195 : h_186 lv = some (.inr (20, [.int mv, .ref ev, .int (nI S)])) := (z_ex_t (z_exB hD0 (by omega) (by omega) (z_exB hD0 (by omega) (by omega) (z_exT hD0 (by omega) (z_exN z_ex_r hD_1 eh_2) hfrhq_11) hfrhq_23) hfrhq_35) hexhq_185) _ _ v1
    have k_196 : h_186 ev = some (.inl ((zm_G M).2.1 5, Nv, .inr (.inr (.inr (.inr fv))))) := (z_ex_t (z_exB hD0 (by omega) (by omega) (z_exB hD0 (by omega) (by omega) (z_exT hD0 (by omega) (z_exN z_ex_r hD_1 eh_2) hfrhq_11) hfrhq_23) hfrhq_35) hexhq_185) _ _ v2
    obtain ⟨fsob_197, ob_197⟩ := z_BF.o (hbfhq_35.exx hexhq_185)
    refine z_callQ1 (b' := 2) (f' := 682) (rest := [.ref t]) (av := [.ref n, .ref s_188]) (z_siteV hb ho zc22 ob_197 q2489 q913 q914 ⟨_, _, _, _, zk_J5_append⟩ zy_J5_append zl_J5_append dX1_writeStep_33 : z_Site M _ _ _ _ _ ([.ref s_188].reverse ++ .ref n :: [.ref t]) [.ref t] _) zk_J5_append q101 hrm (m_J5_append_s (hbfhq_35.exx hexhq_185) hsghq_185 (by have := hlnhq_35; have := (z_tx_len (w := w) (k := k)); omega)) (by omega) (by decide) (Nat.le_of_ble_eq_true rfl) (by omega) (by omega) (fun rhq_198 h_199 n_200 hq_198 hn_200 => ?_)
    obtain ⟨rfl, hq_198⟩ := hq_198
    obtain ⟨e9hq_198, hbfhq_198, heehq_198, hfrhq_198⟩ := hq_198
    have hlnhq_198 : (((([] : List Nat) ++ z_cI (nI k)) ++ (z_lits.getD 47 [])) ++ z_tx w k).length ≤ 45 := by rw [List.length_append]; have := hlnhq_35; have := (z_tx_len (w := w) (k := k)); show _ + _ ≤ _; omega
    have hlohq_198 := z_alw hlohq_35 hsghq_185.lo
    have k_201 : h_199 t = some (.inr (0, [.ref a, x1, x2, x3, x4, x5, x6])) := (z_exB hD0 (by omega) (by omega) (z_ex_t (z_exB hD0 (by omega) (by omega) (z_exB hD0 (by omega) (by omega) (z_exT hD0 (by omega) (z_exN z_ex_r hD_1 eh_2) hfrhq_11) hfrhq_23) hfrhq_35) hexhq_185) hfrhq_198) _ _ hX
    have k_202 : h_199 a = some (.inr (1, [.ref lr, .ref ls, .ref lv, .int (nI D), .int (w 2), .int (w 4), .int (w 5), .int (w 6)])) := (z_exB hD0 (by omega) (by omega) (z_ex_t (z_exB hD0 (by omega) (by omega) (z_exB hD0 (by omega) (by omega) (z_exT hD0 (by omega) (z_exN z_ex_r hD_1 eh_2) hfrhq_11) hfrhq_23) hfrhq_35) hexhq_185) hfrhq_198) _ _ h1
    have k_203 : h_199 lr = some (.inr (20, [.int m0, .ref e0, .int (nI R)])) := (z_exB hD0 (by omega) (by omega) (z_ex_t (z_exB hD0 (by omega) (by omega) (z_exB hD0 (by omega) (by omega) (z_exT hD0 (by omega) (z_exN z_ex_r hD_1 eh_2) hfrhq_11) hfrhq_23) hfrhq_35) hexhq_185) hfrhq_198) _ _ r1
    have k_204 : h_199 e0 = some (.inl ((zm_G M).2.1 5, N0, .inr (.inr (.inr (.inr f0))))) := (z_exB hD0 (by omega) (by omega) (z_ex_t (z_exB hD0 (by omega) (by omega) (z_exB hD0 (by omega) (by omega) (z_exT hD0 (by omega) (z_exN z_ex_r hD_1 eh_2) hfrhq_11) hfrhq_23) hfrhq_35) hexhq_185) hfrhq_198) _ _ r2
    have k_205 : h_199 ls = some (.inr (20, [.int m9, .ref e, .int (nI S)])) := (z_exB hD0 (by omega) (by omega) (z_ex_t (z_exB hD0 (by omega) (by omega) (z_exB hD0 (by omega) (by omega) (z_exT hD0 (by omega) (z_exN z_ex_r hD_1 eh_2) hfrhq_11) hfrhq_23) hfrhq_35) hexhq_185) hfrhq_198) _ _ h3
    have k_206 : h_199 e = some (.inl ((zm_G M).2.1 5, N, .inr (.inr (.inr (.inr f))))) := (z_exB hD0 (by omega) (by omega) (z_ex_t (z_exB hD0 (by omega) (by omega) (z_exB hD0 (by omega) (by omega) (z_exT hD0 (by omega) (z_exN z_ex_r hD_1 eh_2) hfrhq_11) hfrhq_23) hfrhq_35) hexhq_185) hfrhq_198) _ _ h4
    have k_207 : h_199 lv = some (.inr (20, [.int mv, .ref ev, .int (nI S)])) := (z_exB hD0 (by omega) (by omega) (z_ex_t (z_exB hD0 (by omega) (by omega) (z_exB hD0 (by omega) (by omega) (z_exT hD0 (by omega) (z_exN z_ex_r hD_1 eh_2) hfrhq_11) hfrhq_23) hfrhq_35) hexhq_185) hfrhq_198) _ _ v1
    have k_208 : h_199 ev = some (.inl ((zm_G M).2.1 5, Nv, .inr (.inr (.inr (.inr fv))))) := (z_exB hD0 (by omega) (by omega) (z_ex_t (z_exB hD0 (by omega) (by omega) (z_exB hD0 (by omega) (by omega) (z_exT hD0 (by omega) (z_exN z_ex_r hD_1 eh_2) hfrhq_11) hfrhq_23) hfrhq_35) hexhq_185) hfrhq_198) _ _ v2
    obtain ⟨fsob_209, ob_209⟩ := z_BF.o hbfhq_198
    refine z_callQ1 (b' := 0) (f' := 378) (rest := [.ref t]) (av := [.ref n]) (z_siteV hb ho zc22 ob_209 q2554 q1033 q1034 ⟨_, _, _, _, zk_J5_toString⟩ zy_J5_toString zl_J5_toString dX1_writeStep_36 : z_Site M _ _ _ _ _ ([].reverse ++ .ref n :: [.ref t]) [.ref t] _) zk_J5_toString q101 hrm (m_J5_toString hbfhq_198 (by have := hlnhq_198; omega) hlohq_198) (by omega) (by decide) (Nat.le_of_ble_eq_true rfl) (by omega) (by omega) (fun rhq_210 h_211 n_212 hq_210 hn_212 => ?_)
    obtain ⟨rfl, hq_210⟩ := hq_210
    obtain ⟨hnnhq_210, hsghq_210, hexhq_210⟩ := hq_210
    have k_213 : h_211 t = some (.inr (0, [.ref a, x1, x2, x3, x4, x5, x6])) := (z_ex_t (z_exB hD0 (by omega) (by omega) (z_ex_t (z_exB hD0 (by omega) (by omega) (z_exB hD0 (by omega) (by omega) (z_exT hD0 (by omega) (z_exN z_ex_r hD_1 eh_2) hfrhq_11) hfrhq_23) hfrhq_35) hexhq_185) hfrhq_198) hexhq_210) _ _ hX
    have k_214 : h_211 a = some (.inr (1, [.ref lr, .ref ls, .ref lv, .int (nI D), .int (w 2), .int (w 4), .int (w 5), .int (w 6)])) := (z_ex_t (z_exB hD0 (by omega) (by omega) (z_ex_t (z_exB hD0 (by omega) (by omega) (z_exB hD0 (by omega) (by omega) (z_exT hD0 (by omega) (z_exN z_ex_r hD_1 eh_2) hfrhq_11) hfrhq_23) hfrhq_35) hexhq_185) hfrhq_198) hexhq_210) _ _ h1
    have k_215 : h_211 lr = some (.inr (20, [.int m0, .ref e0, .int (nI R)])) := (z_ex_t (z_exB hD0 (by omega) (by omega) (z_ex_t (z_exB hD0 (by omega) (by omega) (z_exB hD0 (by omega) (by omega) (z_exT hD0 (by omega) (z_exN z_ex_r hD_1 eh_2) hfrhq_11) hfrhq_23) hfrhq_35) hexhq_185) hfrhq_198) hexhq_210) _ _ r1
    have k_216 : h_211 e0 = some (.inl ((zm_G M).2.1 5, N0, .inr (.inr (.inr (.inr f0))))) := (z_ex_t (z_exB hD0 (by omega) (by omega) (z_ex_t (z_exB hD0 (by omega) (by omega) (z_exB hD0 (by omega) (by omega) (z_exT hD0 (by omega) (z_exN z_ex_r hD_1 eh_2) hfrhq_11) hfrhq_23) hfrhq_35) hexhq_185) hfrhq_198) hexhq_210) _ _ r2
    have k_217 : h_211 ls = some (.inr (20, [.int m9, .ref e, .int (nI S)])) := (z_ex_t (z_exB hD0 (by omega) (by omega) (z_ex_t (z_exB hD0 (by omega) (by omega) (z_exB hD0 (by omega) (by omega) (z_exT hD0 (by omega) (z_exN z_ex_r hD_1 eh_2) hfrhq_11) hfrhq_23) hfrhq_35) hexhq_185) hfrhq_198) hexhq_210) _ _ h3
    have k_218 : h_211 e = some (.inl ((zm_G M).2.1 5, N, .inr (.inr (.inr (.inr f))))) := (z_ex_t (z_exB hD0 (by omega) (by omega) (z_ex_t (z_exB hD0 (by omega) (by omega) (z_exB hD0 (by omega) (by omega) (z_exT hD0 (by omega) (z_exN z_ex_r hD_1 eh_2) hfrhq_11) hfrhq_23) hfrhq_35) hexhq_185) hfrhq_198) hexhq_210) _ _ h4
    have k_219 : h_211 lv = some (.inr (20, [.int mv, .ref ev, .int (nI S)])) := (z_ex_t (z_exB hD0 (by omega) (by omega) (z_ex_t (z_exB hD0 (by omega) (by omega) (z_exB hD0 (by omega) (by omega) (z_exT hD0 (by omega) (z_exN z_ex_r hD_1 eh_2) hfrhq_11) hfrhq_23) hfrhq_35) hexhq_185) hfrhq_198) hexhq_210) _ _ v1
    have k_220 : h_211 ev = some (.inl ((zm_G M).2.1 5, Nv, .inr (.inr (.inr (.inr fv))))) := (z_ex_t (z_exB hD0 (by omega) (by omega) (z_ex_t (z_exB hD0 (by omega) (by omega) (z_exB hD0 (by omega) (by omega) (z_exT hD0 (by omega) (z_exN z_ex_r hD_1 eh_2) hfrhq_11) hfrhq_23) hfrhq_35) hexhq_185) hfrhq_198) hexhq_210) _ _ v2
    refine z_put (k := 3) (C := RX1) (T := TX1) (N := 7) hb ho zc0 in_X1 tyX1_ok nmX1 (zf_RX1_61 _) dX1_writeStep_39 k_213 ht0 (by decide) (Or.inl rfl) rfl rfl rfl (Nat.le_of_ble_eq_true rfl) ?_
    refine z_hn (fun h_221 eh_221 => ?_)
    have eh_221 : h_221 = z_up h_211 t (.inr (0, [.ref a, x1, x2, .ref n_200, x4, x5, x6])) := eh_221
    have k_222 : h_221 a = some (.inr (1, [.ref lr, .ref ls, .ref lv, .int (nI D), .int (w 2), .int (w 4), .int (w 5), .int (w 6)])) := z_nx eh_221 (z_neO k_214 k_213 rfl) k_214
    have k_223 : h_221 lr = some (.inr (20, [.int m0, .ref e0, .int (nI R)])) := z_nx eh_221 (z_neO k_215 k_213 rfl) k_215
    have k_224 : h_221 e0 = some (.inl ((zm_G M).2.1 5, N0, .inr (.inr (.inr (.inr f0))))) := z_nx eh_221 (z_neA' k_216 k_213) k_216
    have k_225 : h_221 ls = some (.inr (20, [.int m9, .ref e, .int (nI S)])) := z_nx eh_221 (z_neO k_217 k_213 rfl) k_217
    have k_226 : h_221 e = some (.inl ((zm_G M).2.1 5, N, .inr (.inr (.inr (.inr f))))) := z_nx eh_221 (z_neA' k_218 k_213) k_218
    have k_227 : h_221 lv = some (.inr (20, [.int mv, .ref ev, .int (nI S)])) := z_nx eh_221 (z_neO k_219 k_213 rfl) k_219
    have k_228 : h_221 ev = some (.inl ((zm_G M).2.1 5, Nv, .inr (.inr (.inr (.inr fv))))) := z_nx eh_221 (z_neA' k_220 k_213) k_220
    obtain ⟨esso_229, hzso_229, so_229, -⟩ := id (hsghq_210.frx k_213 (by decide) (z_fr_up (P := fun y => y = t) rfl eh_221))
    refine z_aload_n hb dX1_writeStep_42 rfl ?_
    refine z_get (k := 3) (C := RX1) (T := TX1) (N := 7) hb ho zc0 in_X1 (zf_RX1_61 _) dX1_writeStep_43 (z_nxs eh_221) (by decide) rfl ?_
    refine z_callN1 (b' := 0) (f' := 378) (rest := []) (av := [.ref n_200]) (z_siteV hb ho zc23 so_229 q2555 q966 q967 ⟨_, _, _, _, zk_J6_length⟩ zy_J6_length zl_J6_length dX1_writeStep_46 : z_Site M _ _ _ _ _ ([].reverse ++ .ref n_200 :: []) [] _) zk_J6_length q102 hrm (m_J6_length (hsghq_210.frx k_213 (by decide) (z_fr_up (P := fun y => y = t) rfl eh_221))) (by omega) (by decide) (Nat.le_of_ble_eq_true rfl) (by omega) (by omega) (fun n_230 hn_230 => ?_)
    refine z_iret hb hr dX1_writeStep_49 ?_
    rw [hQ]
    have el9 : (((([] : List Nat) ++ z_cI (nI k)) ++ (z_lits.getD 47 [])) ++ z_tx w k) = z_cI (nI k) ++ 58 :: z_tx w k := by show (z_cI (nI k) ++ [58]) ++ z_tx w k = _; rw [List.append_assoc]; rfl
    have e9 := (hsghq_210.frx k_213 (by decide) (z_fr_up (P := fun y => y = t) rfl eh_221))
    rw [el9] at e9 ⊢
    exact ⟨_, rfl, rfl, n_200, (z_nxs eh_221), e9, by omega, ((z_fr_up (P := fun y => y = t) rfl eh_221).t0 (z_ex_t (z_exB hD0 (by omega) (by omega) (z_ex_t (z_exB hD0 (by omega) (by omega) (z_exB hD0 (by omega) (by omega) (z_exT hD0 (by omega) (z_exN z_ex_r hD_1 eh_2) hfrhq_11) hfrhq_23) hfrhq_35) hexhq_185) hfrhq_198) hexhq_210))⟩
  · refine z_callQ1 (b' := 3) (f' := 982) (rest := [.ref n, .ref t]) (av := [.ref (sa k), .ref a]) (z_siteU hb ho zc11 ((z_exB hD0 (by omega) (by omega) (z_exB hD0 (by omega) (by omega) (z_exT hD0 (by omega) (z_exN z_ex_r hD_1 eh_2) hfrhq_11) hfrhq_23) hfrhq_35) _ _ q9) q2490 q2492 (Or.inl q2491) q2526 q2525 ⟨by decide +kernel, by decide +kernel⟩ (by show _ = some 1; decide +kernel) dX1_writeStep_30 : z_Site M _ _ _ _ _ ([.ref a].reverse ++ .ref (sa k) :: [.ref n, .ref t]) [.ref n, .ref t] _) zk_X14_text q133 hrm (m_text (hL.ex (z_exB hD0 (by omega) (by omega) (z_exB hD0 (by omega) (by omega) (z_exT hD0 (by omega) (z_exN z_ex_r hD_1 eh_2) hfrhq_11) hfrhq_23) hfrhq_35)) (hKS.ex (z_exB hD0 (by omega) (by omega) (z_exB hD0 (by omega) (by omega) (z_exT hD0 (by omega) (z_exN z_ex_r hD_1 eh_2) hfrhq_11) hfrhq_23) hfrhq_35)) hS8 ((z_exB hD0 (by omega) (by omega) (z_exB hD0 (by omega) (by omega) (z_exT hD0 (by omega) (z_exN z_ex_r hD_1 eh_2) hfrhq_11) hfrhq_23) hfrhq_35) _ _ hd1) ((z_exB hD0 (by omega) (by omega) (z_exB hD0 (by omega) (by omega) (z_exT hD0 (by omega) (z_exN z_ex_r hD_1 eh_2) hfrhq_11) hfrhq_23) hfrhq_35) _ _ hd2) hn1 hk _ _ ((z_exB hD0 (by omega) (by omega) (z_exB hD0 (by omega) (by omega) (z_exT hD0 (by omega) (z_exN z_ex_r hD_1 eh_2) hfrhq_11) hfrhq_23) hfrhq_35) _ _ q9) _) (by omega) (by decide) (Nat.le_of_ble_eq_true rfl) (by omega) (by omega) (fun rhq_231 h_232 n_233 hq_231 hn_233 => ?_)
    obtain ⟨s_234, rfl, hq_231⟩ := hq_231
    obtain ⟨hnshq_231, hsnhq_231, hsghq_231, hexhq_231⟩ := hq_231
    have k_235 : h_232 t = some (.inr (0, [.ref a, x1, x2, x3, x4, x5, x6])) := (z_ex_t (z_exB hD0 (by omega) (by omega) (z_exB hD0 (by omega) (by omega) (z_exT hD0 (by omega) (z_exN z_ex_r hD_1 eh_2) hfrhq_11) hfrhq_23) hfrhq_35) hexhq_231) _ _ hX
    have k_236 : h_232 a = some (.inr (1, [.ref lr, .ref ls, .ref lv, .int (nI D), .int (w 2), .int (w 4), .int (w 5), .int (w 6)])) := (z_ex_t (z_exB hD0 (by omega) (by omega) (z_exB hD0 (by omega) (by omega) (z_exT hD0 (by omega) (z_exN z_ex_r hD_1 eh_2) hfrhq_11) hfrhq_23) hfrhq_35) hexhq_231) _ _ h1
    have k_237 : h_232 lr = some (.inr (20, [.int m0, .ref e0, .int (nI R)])) := (z_ex_t (z_exB hD0 (by omega) (by omega) (z_exB hD0 (by omega) (by omega) (z_exT hD0 (by omega) (z_exN z_ex_r hD_1 eh_2) hfrhq_11) hfrhq_23) hfrhq_35) hexhq_231) _ _ r1
    have k_238 : h_232 e0 = some (.inl ((zm_G M).2.1 5, N0, .inr (.inr (.inr (.inr f0))))) := (z_ex_t (z_exB hD0 (by omega) (by omega) (z_exB hD0 (by omega) (by omega) (z_exT hD0 (by omega) (z_exN z_ex_r hD_1 eh_2) hfrhq_11) hfrhq_23) hfrhq_35) hexhq_231) _ _ r2
    have k_239 : h_232 ls = some (.inr (20, [.int m9, .ref e, .int (nI S)])) := (z_ex_t (z_exB hD0 (by omega) (by omega) (z_exB hD0 (by omega) (by omega) (z_exT hD0 (by omega) (z_exN z_ex_r hD_1 eh_2) hfrhq_11) hfrhq_23) hfrhq_35) hexhq_231) _ _ h3
    have k_240 : h_232 e = some (.inl ((zm_G M).2.1 5, N, .inr (.inr (.inr (.inr f))))) := (z_ex_t (z_exB hD0 (by omega) (by omega) (z_exB hD0 (by omega) (by omega) (z_exT hD0 (by omega) (z_exN z_ex_r hD_1 eh_2) hfrhq_11) hfrhq_23) hfrhq_35) hexhq_231) _ _ h4
    have k_241 : h_232 lv = some (.inr (20, [.int mv, .ref ev, .int (nI S)])) := (z_ex_t (z_exB hD0 (by omega) (by omega) (z_exB hD0 (by omega) (by omega) (z_exT hD0 (by omega) (z_exN z_ex_r hD_1 eh_2) hfrhq_11) hfrhq_23) hfrhq_35) hexhq_231) _ _ v1
    have k_242 : h_232 ev = some (.inl ((zm_G M).2.1 5, Nv, .inr (.inr (.inr (.inr fv))))) := (z_ex_t (z_exB hD0 (by omega) (by omega) (z_exB hD0 (by omega) (by omega) (z_exT hD0 (by omega) (z_exN z_ex_r hD_1 eh_2) hfrhq_11) hfrhq_23) hfrhq_35) hexhq_231) _ _ v2
    obtain ⟨fsob_243, ob_243⟩ := z_BF.o (hbfhq_35.exx hexhq_231)
    refine z_callQ1 (b' := 2) (f' := 682) (rest := [.ref t]) (av := [.ref n, .ref s_234]) (z_siteV hb ho zc22 ob_243 q2489 q913 q914 ⟨_, _, _, _, zk_J5_append⟩ zy_J5_append zl_J5_append dX1_writeStep_33 : z_Site M _ _ _ _ _ ([.ref s_234].reverse ++ .ref n :: [.ref t]) [.ref t] _) zk_J5_append q101 hrm (m_J5_append_s (hbfhq_35.exx hexhq_231) hsghq_231 (by have := hlnhq_35; have := (z_tx_len (w := w) (k := k)); omega)) (by omega) (by decide) (Nat.le_of_ble_eq_true rfl) (by omega) (by omega) (fun rhq_244 h_245 n_246 hq_244 hn_246 => ?_)
    obtain ⟨rfl, hq_244⟩ := hq_244
    obtain ⟨e9hq_244, hbfhq_244, heehq_244, hfrhq_244⟩ := hq_244
    have hlnhq_244 : (((([] : List Nat) ++ z_cI (nI k)) ++ (z_lits.getD 47 [])) ++ z_tx w k).length ≤ 45 := by rw [List.length_append]; have := hlnhq_35; have := (z_tx_len (w := w) (k := k)); show _ + _ ≤ _; omega
    have hlohq_244 := z_alw hlohq_35 hsghq_231.lo
    have k_247 : h_245 t = some (.inr (0, [.ref a, x1, x2, x3, x4, x5, x6])) := (z_exB hD0 (by omega) (by omega) (z_ex_t (z_exB hD0 (by omega) (by omega) (z_exB hD0 (by omega) (by omega) (z_exT hD0 (by omega) (z_exN z_ex_r hD_1 eh_2) hfrhq_11) hfrhq_23) hfrhq_35) hexhq_231) hfrhq_244) _ _ hX
    have k_248 : h_245 a = some (.inr (1, [.ref lr, .ref ls, .ref lv, .int (nI D), .int (w 2), .int (w 4), .int (w 5), .int (w 6)])) := (z_exB hD0 (by omega) (by omega) (z_ex_t (z_exB hD0 (by omega) (by omega) (z_exB hD0 (by omega) (by omega) (z_exT hD0 (by omega) (z_exN z_ex_r hD_1 eh_2) hfrhq_11) hfrhq_23) hfrhq_35) hexhq_231) hfrhq_244) _ _ h1
    have k_249 : h_245 lr = some (.inr (20, [.int m0, .ref e0, .int (nI R)])) := (z_exB hD0 (by omega) (by omega) (z_ex_t (z_exB hD0 (by omega) (by omega) (z_exB hD0 (by omega) (by omega) (z_exT hD0 (by omega) (z_exN z_ex_r hD_1 eh_2) hfrhq_11) hfrhq_23) hfrhq_35) hexhq_231) hfrhq_244) _ _ r1
    have k_250 : h_245 e0 = some (.inl ((zm_G M).2.1 5, N0, .inr (.inr (.inr (.inr f0))))) := (z_exB hD0 (by omega) (by omega) (z_ex_t (z_exB hD0 (by omega) (by omega) (z_exB hD0 (by omega) (by omega) (z_exT hD0 (by omega) (z_exN z_ex_r hD_1 eh_2) hfrhq_11) hfrhq_23) hfrhq_35) hexhq_231) hfrhq_244) _ _ r2
    have k_251 : h_245 ls = some (.inr (20, [.int m9, .ref e, .int (nI S)])) := (z_exB hD0 (by omega) (by omega) (z_ex_t (z_exB hD0 (by omega) (by omega) (z_exB hD0 (by omega) (by omega) (z_exT hD0 (by omega) (z_exN z_ex_r hD_1 eh_2) hfrhq_11) hfrhq_23) hfrhq_35) hexhq_231) hfrhq_244) _ _ h3
    have k_252 : h_245 e = some (.inl ((zm_G M).2.1 5, N, .inr (.inr (.inr (.inr f))))) := (z_exB hD0 (by omega) (by omega) (z_ex_t (z_exB hD0 (by omega) (by omega) (z_exB hD0 (by omega) (by omega) (z_exT hD0 (by omega) (z_exN z_ex_r hD_1 eh_2) hfrhq_11) hfrhq_23) hfrhq_35) hexhq_231) hfrhq_244) _ _ h4
    have k_253 : h_245 lv = some (.inr (20, [.int mv, .ref ev, .int (nI S)])) := (z_exB hD0 (by omega) (by omega) (z_ex_t (z_exB hD0 (by omega) (by omega) (z_exB hD0 (by omega) (by omega) (z_exT hD0 (by omega) (z_exN z_ex_r hD_1 eh_2) hfrhq_11) hfrhq_23) hfrhq_35) hexhq_231) hfrhq_244) _ _ v1
    have k_254 : h_245 ev = some (.inl ((zm_G M).2.1 5, Nv, .inr (.inr (.inr (.inr fv))))) := (z_exB hD0 (by omega) (by omega) (z_ex_t (z_exB hD0 (by omega) (by omega) (z_exB hD0 (by omega) (by omega) (z_exT hD0 (by omega) (z_exN z_ex_r hD_1 eh_2) hfrhq_11) hfrhq_23) hfrhq_35) hexhq_231) hfrhq_244) _ _ v2
    obtain ⟨fsob_255, ob_255⟩ := z_BF.o hbfhq_244
    refine z_callQ1 (b' := 0) (f' := 378) (rest := [.ref t]) (av := [.ref n]) (z_siteV hb ho zc22 ob_255 q2554 q1033 q1034 ⟨_, _, _, _, zk_J5_toString⟩ zy_J5_toString zl_J5_toString dX1_writeStep_36 : z_Site M _ _ _ _ _ ([].reverse ++ .ref n :: [.ref t]) [.ref t] _) zk_J5_toString q101 hrm (m_J5_toString hbfhq_244 (by have := hlnhq_244; omega) hlohq_244) (by omega) (by decide) (Nat.le_of_ble_eq_true rfl) (by omega) (by omega) (fun rhq_256 h_257 n_258 hq_256 hn_258 => ?_)
    obtain ⟨rfl, hq_256⟩ := hq_256
    obtain ⟨hnnhq_256, hsghq_256, hexhq_256⟩ := hq_256
    have k_259 : h_257 t = some (.inr (0, [.ref a, x1, x2, x3, x4, x5, x6])) := (z_ex_t (z_exB hD0 (by omega) (by omega) (z_ex_t (z_exB hD0 (by omega) (by omega) (z_exB hD0 (by omega) (by omega) (z_exT hD0 (by omega) (z_exN z_ex_r hD_1 eh_2) hfrhq_11) hfrhq_23) hfrhq_35) hexhq_231) hfrhq_244) hexhq_256) _ _ hX
    have k_260 : h_257 a = some (.inr (1, [.ref lr, .ref ls, .ref lv, .int (nI D), .int (w 2), .int (w 4), .int (w 5), .int (w 6)])) := (z_ex_t (z_exB hD0 (by omega) (by omega) (z_ex_t (z_exB hD0 (by omega) (by omega) (z_exB hD0 (by omega) (by omega) (z_exT hD0 (by omega) (z_exN z_ex_r hD_1 eh_2) hfrhq_11) hfrhq_23) hfrhq_35) hexhq_231) hfrhq_244) hexhq_256) _ _ h1
    have k_261 : h_257 lr = some (.inr (20, [.int m0, .ref e0, .int (nI R)])) := (z_ex_t (z_exB hD0 (by omega) (by omega) (z_ex_t (z_exB hD0 (by omega) (by omega) (z_exB hD0 (by omega) (by omega) (z_exT hD0 (by omega) (z_exN z_ex_r hD_1 eh_2) hfrhq_11) hfrhq_23) hfrhq_35) hexhq_231) hfrhq_244) hexhq_256) _ _ r1
    have k_262 : h_257 e0 = some (.inl ((zm_G M).2.1 5, N0, .inr (.inr (.inr (.inr f0))))) := (z_ex_t (z_exB hD0 (by omega) (by omega) (z_ex_t (z_exB hD0 (by omega) (by omega) (z_exB hD0 (by omega) (by omega) (z_exT hD0 (by omega) (z_exN z_ex_r hD_1 eh_2) hfrhq_11) hfrhq_23) hfrhq_35) hexhq_231) hfrhq_244) hexhq_256) _ _ r2
    have k_263 : h_257 ls = some (.inr (20, [.int m9, .ref e, .int (nI S)])) := (z_ex_t (z_exB hD0 (by omega) (by omega) (z_ex_t (z_exB hD0 (by omega) (by omega) (z_exB hD0 (by omega) (by omega) (z_exT hD0 (by omega) (z_exN z_ex_r hD_1 eh_2) hfrhq_11) hfrhq_23) hfrhq_35) hexhq_231) hfrhq_244) hexhq_256) _ _ h3
    have k_264 : h_257 e = some (.inl ((zm_G M).2.1 5, N, .inr (.inr (.inr (.inr f))))) := (z_ex_t (z_exB hD0 (by omega) (by omega) (z_ex_t (z_exB hD0 (by omega) (by omega) (z_exB hD0 (by omega) (by omega) (z_exT hD0 (by omega) (z_exN z_ex_r hD_1 eh_2) hfrhq_11) hfrhq_23) hfrhq_35) hexhq_231) hfrhq_244) hexhq_256) _ _ h4
    have k_265 : h_257 lv = some (.inr (20, [.int mv, .ref ev, .int (nI S)])) := (z_ex_t (z_exB hD0 (by omega) (by omega) (z_ex_t (z_exB hD0 (by omega) (by omega) (z_exB hD0 (by omega) (by omega) (z_exT hD0 (by omega) (z_exN z_ex_r hD_1 eh_2) hfrhq_11) hfrhq_23) hfrhq_35) hexhq_231) hfrhq_244) hexhq_256) _ _ v1
    have k_266 : h_257 ev = some (.inl ((zm_G M).2.1 5, Nv, .inr (.inr (.inr (.inr fv))))) := (z_ex_t (z_exB hD0 (by omega) (by omega) (z_ex_t (z_exB hD0 (by omega) (by omega) (z_exB hD0 (by omega) (by omega) (z_exT hD0 (by omega) (z_exN z_ex_r hD_1 eh_2) hfrhq_11) hfrhq_23) hfrhq_35) hexhq_231) hfrhq_244) hexhq_256) _ _ v2
    refine z_put (k := 3) (C := RX1) (T := TX1) (N := 7) hb ho zc0 in_X1 tyX1_ok nmX1 (zf_RX1_61 _) dX1_writeStep_39 k_259 ht0 (by decide) (Or.inl rfl) rfl rfl rfl (Nat.le_of_ble_eq_true rfl) ?_
    refine z_hn (fun h_267 eh_267 => ?_)
    have eh_267 : h_267 = z_up h_257 t (.inr (0, [.ref a, x1, x2, .ref n_246, x4, x5, x6])) := eh_267
    have k_268 : h_267 a = some (.inr (1, [.ref lr, .ref ls, .ref lv, .int (nI D), .int (w 2), .int (w 4), .int (w 5), .int (w 6)])) := z_nx eh_267 (z_neO k_260 k_259 rfl) k_260
    have k_269 : h_267 lr = some (.inr (20, [.int m0, .ref e0, .int (nI R)])) := z_nx eh_267 (z_neO k_261 k_259 rfl) k_261
    have k_270 : h_267 e0 = some (.inl ((zm_G M).2.1 5, N0, .inr (.inr (.inr (.inr f0))))) := z_nx eh_267 (z_neA' k_262 k_259) k_262
    have k_271 : h_267 ls = some (.inr (20, [.int m9, .ref e, .int (nI S)])) := z_nx eh_267 (z_neO k_263 k_259 rfl) k_263
    have k_272 : h_267 e = some (.inl ((zm_G M).2.1 5, N, .inr (.inr (.inr (.inr f))))) := z_nx eh_267 (z_neA' k_264 k_259) k_264
    have k_273 : h_267 lv = some (.inr (20, [.int mv, .ref ev, .int (nI S)])) := z_nx eh_267 (z_neO k_265 k_259 rfl) k_265
    have k_274 : h_267 ev = some (.inl ((zm_G M).2.1 5, Nv, .inr (.inr (.inr (.inr fv))))) := z_nx eh_267 (z_neA' k_266 k_259) k_266
    obtain ⟨esso_275, hzso_275, so_275, -⟩ := id (hsghq_256.frx k_259 (by decide) (z_fr_up (P := fun y => y = t) rfl eh_267))
    refine z_aload_n hb dX1_writeStep_42 rfl ?_
    refine z_get (k := 3) (C := RX1) (T := TX1) (N := 7) hb ho zc0 in_X1 (zf_RX1_61 _) dX1_writeStep_43 (z_nxs eh_267) (by decide) rfl ?_
    refine z_callN1 (b' := 0) (f' := 378) (rest := []) (av := [.ref n_246]) (z_siteV hb ho zc23 so_275 q2555 q966 q967 ⟨_, _, _, _, zk_J6_length⟩ zy_J6_length zl_J6_length dX1_writeStep_46 : z_Site M _ _ _ _ _ ([].reverse ++ .ref n_246 :: []) [] _) zk_J6_length q102 hrm (m_J6_length (hsghq_256.frx k_259 (by decide) (z_fr_up (P := fun y => y = t) rfl eh_267))) (by omega) (by decide) (Nat.le_of_ble_eq_true rfl) (by omega) (by omega) (fun n_276 hn_276 => ?_)
    refine z_iret hb hr dX1_writeStep_49 ?_
    rw [hQ]
    have el9 : (((([] : List Nat) ++ z_cI (nI k)) ++ (z_lits.getD 47 [])) ++ z_tx w k) = z_cI (nI k) ++ 58 :: z_tx w k := by show (z_cI (nI k) ++ [58]) ++ z_tx w k = _; rw [List.append_assoc]; rfl
    have e9 := (hsghq_256.frx k_259 (by decide) (z_fr_up (P := fun y => y = t) rfl eh_267))
    rw [el9] at e9 ⊢
    exact ⟨_, rfl, rfl, n_246, (z_nxs eh_267), e9, by omega, ((z_fr_up (P := fun y => y = t) rfl eh_267).t0 (z_ex_t (z_exB hD0 (by omega) (by omega) (z_ex_t (z_exB hD0 (by omega) (by omega) (z_exB hD0 (by omega) (by omega) (z_exT hD0 (by omega) (z_exN z_ex_r hD_1 eh_2) hfrhq_11) hfrhq_23) hfrhq_35) hexhq_231) hfrhq_244) hexhq_256))⟩
  · refine z_callQ1 (b' := 3) (f' := 982) (rest := [.ref n, .ref t]) (av := [.ref (sa k), .ref a]) (z_siteU hb ho zc12 ((z_exB hD0 (by omega) (by omega) (z_exB hD0 (by omega) (by omega) (z_exT hD0 (by omega) (z_exN z_ex_r hD_1 eh_2) hfrhq_11) hfrhq_23) hfrhq_35) _ _ q9) q2490 q2492 (Or.inl q2491) q2540 q2539 ⟨by decide +kernel, by decide +kernel⟩ (by show _ = some 1; decide +kernel) dX1_writeStep_30 : z_Site M _ _ _ _ _ ([.ref a].reverse ++ .ref (sa k) :: [.ref n, .ref t]) [.ref n, .ref t] _) zk_X16_text q135 hrm (m_text (hL.ex (z_exB hD0 (by omega) (by omega) (z_exB hD0 (by omega) (by omega) (z_exT hD0 (by omega) (z_exN z_ex_r hD_1 eh_2) hfrhq_11) hfrhq_23) hfrhq_35)) (hKS.ex (z_exB hD0 (by omega) (by omega) (z_exB hD0 (by omega) (by omega) (z_exT hD0 (by omega) (z_exN z_ex_r hD_1 eh_2) hfrhq_11) hfrhq_23) hfrhq_35)) hS8 ((z_exB hD0 (by omega) (by omega) (z_exB hD0 (by omega) (by omega) (z_exT hD0 (by omega) (z_exN z_ex_r hD_1 eh_2) hfrhq_11) hfrhq_23) hfrhq_35) _ _ hd1) ((z_exB hD0 (by omega) (by omega) (z_exB hD0 (by omega) (by omega) (z_exT hD0 (by omega) (z_exN z_ex_r hD_1 eh_2) hfrhq_11) hfrhq_23) hfrhq_35) _ _ hd2) hn1 hk _ _ ((z_exB hD0 (by omega) (by omega) (z_exB hD0 (by omega) (by omega) (z_exT hD0 (by omega) (z_exN z_ex_r hD_1 eh_2) hfrhq_11) hfrhq_23) hfrhq_35) _ _ q9) _) (by omega) (by decide) (Nat.le_of_ble_eq_true rfl) (by omega) (by omega) (fun rhq_277 h_278 n_279 hq_277 hn_279 => ?_)
    obtain ⟨s_280, rfl, hq_277⟩ := hq_277
    obtain ⟨hnshq_277, hsnhq_277, hsghq_277, hexhq_277⟩ := hq_277
    have k_281 : h_278 t = some (.inr (0, [.ref a, x1, x2, x3, x4, x5, x6])) := (z_ex_t (z_exB hD0 (by omega) (by omega) (z_exB hD0 (by omega) (by omega) (z_exT hD0 (by omega) (z_exN z_ex_r hD_1 eh_2) hfrhq_11) hfrhq_23) hfrhq_35) hexhq_277) _ _ hX
    have k_282 : h_278 a = some (.inr (1, [.ref lr, .ref ls, .ref lv, .int (nI D), .int (w 2), .int (w 4), .int (w 5), .int (w 6)])) := (z_ex_t (z_exB hD0 (by omega) (by omega) (z_exB hD0 (by omega) (by omega) (z_exT hD0 (by omega) (z_exN z_ex_r hD_1 eh_2) hfrhq_11) hfrhq_23) hfrhq_35) hexhq_277) _ _ h1
    have k_283 : h_278 lr = some (.inr (20, [.int m0, .ref e0, .int (nI R)])) := (z_ex_t (z_exB hD0 (by omega) (by omega) (z_exB hD0 (by omega) (by omega) (z_exT hD0 (by omega) (z_exN z_ex_r hD_1 eh_2) hfrhq_11) hfrhq_23) hfrhq_35) hexhq_277) _ _ r1
    have k_284 : h_278 e0 = some (.inl ((zm_G M).2.1 5, N0, .inr (.inr (.inr (.inr f0))))) := (z_ex_t (z_exB hD0 (by omega) (by omega) (z_exB hD0 (by omega) (by omega) (z_exT hD0 (by omega) (z_exN z_ex_r hD_1 eh_2) hfrhq_11) hfrhq_23) hfrhq_35) hexhq_277) _ _ r2
    have k_285 : h_278 ls = some (.inr (20, [.int m9, .ref e, .int (nI S)])) := (z_ex_t (z_exB hD0 (by omega) (by omega) (z_exB hD0 (by omega) (by omega) (z_exT hD0 (by omega) (z_exN z_ex_r hD_1 eh_2) hfrhq_11) hfrhq_23) hfrhq_35) hexhq_277) _ _ h3
    have k_286 : h_278 e = some (.inl ((zm_G M).2.1 5, N, .inr (.inr (.inr (.inr f))))) := (z_ex_t (z_exB hD0 (by omega) (by omega) (z_exB hD0 (by omega) (by omega) (z_exT hD0 (by omega) (z_exN z_ex_r hD_1 eh_2) hfrhq_11) hfrhq_23) hfrhq_35) hexhq_277) _ _ h4
    have k_287 : h_278 lv = some (.inr (20, [.int mv, .ref ev, .int (nI S)])) := (z_ex_t (z_exB hD0 (by omega) (by omega) (z_exB hD0 (by omega) (by omega) (z_exT hD0 (by omega) (z_exN z_ex_r hD_1 eh_2) hfrhq_11) hfrhq_23) hfrhq_35) hexhq_277) _ _ v1
    have k_288 : h_278 ev = some (.inl ((zm_G M).2.1 5, Nv, .inr (.inr (.inr (.inr fv))))) := (z_ex_t (z_exB hD0 (by omega) (by omega) (z_exB hD0 (by omega) (by omega) (z_exT hD0 (by omega) (z_exN z_ex_r hD_1 eh_2) hfrhq_11) hfrhq_23) hfrhq_35) hexhq_277) _ _ v2
    obtain ⟨fsob_289, ob_289⟩ := z_BF.o (hbfhq_35.exx hexhq_277)
    refine z_callQ1 (b' := 2) (f' := 682) (rest := [.ref t]) (av := [.ref n, .ref s_280]) (z_siteV hb ho zc22 ob_289 q2489 q913 q914 ⟨_, _, _, _, zk_J5_append⟩ zy_J5_append zl_J5_append dX1_writeStep_33 : z_Site M _ _ _ _ _ ([.ref s_280].reverse ++ .ref n :: [.ref t]) [.ref t] _) zk_J5_append q101 hrm (m_J5_append_s (hbfhq_35.exx hexhq_277) hsghq_277 (by have := hlnhq_35; have := (z_tx_len (w := w) (k := k)); omega)) (by omega) (by decide) (Nat.le_of_ble_eq_true rfl) (by omega) (by omega) (fun rhq_290 h_291 n_292 hq_290 hn_292 => ?_)
    obtain ⟨rfl, hq_290⟩ := hq_290
    obtain ⟨e9hq_290, hbfhq_290, heehq_290, hfrhq_290⟩ := hq_290
    have hlnhq_290 : (((([] : List Nat) ++ z_cI (nI k)) ++ (z_lits.getD 47 [])) ++ z_tx w k).length ≤ 45 := by rw [List.length_append]; have := hlnhq_35; have := (z_tx_len (w := w) (k := k)); show _ + _ ≤ _; omega
    have hlohq_290 := z_alw hlohq_35 hsghq_277.lo
    have k_293 : h_291 t = some (.inr (0, [.ref a, x1, x2, x3, x4, x5, x6])) := (z_exB hD0 (by omega) (by omega) (z_ex_t (z_exB hD0 (by omega) (by omega) (z_exB hD0 (by omega) (by omega) (z_exT hD0 (by omega) (z_exN z_ex_r hD_1 eh_2) hfrhq_11) hfrhq_23) hfrhq_35) hexhq_277) hfrhq_290) _ _ hX
    have k_294 : h_291 a = some (.inr (1, [.ref lr, .ref ls, .ref lv, .int (nI D), .int (w 2), .int (w 4), .int (w 5), .int (w 6)])) := (z_exB hD0 (by omega) (by omega) (z_ex_t (z_exB hD0 (by omega) (by omega) (z_exB hD0 (by omega) (by omega) (z_exT hD0 (by omega) (z_exN z_ex_r hD_1 eh_2) hfrhq_11) hfrhq_23) hfrhq_35) hexhq_277) hfrhq_290) _ _ h1
    have k_295 : h_291 lr = some (.inr (20, [.int m0, .ref e0, .int (nI R)])) := (z_exB hD0 (by omega) (by omega) (z_ex_t (z_exB hD0 (by omega) (by omega) (z_exB hD0 (by omega) (by omega) (z_exT hD0 (by omega) (z_exN z_ex_r hD_1 eh_2) hfrhq_11) hfrhq_23) hfrhq_35) hexhq_277) hfrhq_290) _ _ r1
    have k_296 : h_291 e0 = some (.inl ((zm_G M).2.1 5, N0, .inr (.inr (.inr (.inr f0))))) := (z_exB hD0 (by omega) (by omega) (z_ex_t (z_exB hD0 (by omega) (by omega) (z_exB hD0 (by omega) (by omega) (z_exT hD0 (by omega) (z_exN z_ex_r hD_1 eh_2) hfrhq_11) hfrhq_23) hfrhq_35) hexhq_277) hfrhq_290) _ _ r2
    have k_297 : h_291 ls = some (.inr (20, [.int m9, .ref e, .int (nI S)])) := (z_exB hD0 (by omega) (by omega) (z_ex_t (z_exB hD0 (by omega) (by omega) (z_exB hD0 (by omega) (by omega) (z_exT hD0 (by omega) (z_exN z_ex_r hD_1 eh_2) hfrhq_11) hfrhq_23) hfrhq_35) hexhq_277) hfrhq_290) _ _ h3
    have k_298 : h_291 e = some (.inl ((zm_G M).2.1 5, N, .inr (.inr (.inr (.inr f))))) := (z_exB hD0 (by omega) (by omega) (z_ex_t (z_exB hD0 (by omega) (by omega) (z_exB hD0 (by omega) (by omega) (z_exT hD0 (by omega) (z_exN z_ex_r hD_1 eh_2) hfrhq_11) hfrhq_23) hfrhq_35) hexhq_277) hfrhq_290) _ _ h4
    have k_299 : h_291 lv = some (.inr (20, [.int mv, .ref ev, .int (nI S)])) := (z_exB hD0 (by omega) (by omega) (z_ex_t (z_exB hD0 (by omega) (by omega) (z_exB hD0 (by omega) (by omega) (z_exT hD0 (by omega) (z_exN z_ex_r hD_1 eh_2) hfrhq_11) hfrhq_23) hfrhq_35) hexhq_277) hfrhq_290) _ _ v1
    have k_300 : h_291 ev = some (.inl ((zm_G M).2.1 5, Nv, .inr (.inr (.inr (.inr fv))))) := (z_exB hD0 (by omega) (by omega) (z_ex_t (z_exB hD0 (by omega) (by omega) (z_exB hD0 (by omega) (by omega) (z_exT hD0 (by omega) (z_exN z_ex_r hD_1 eh_2) hfrhq_11) hfrhq_23) hfrhq_35) hexhq_277) hfrhq_290) _ _ v2
    obtain ⟨fsob_301, ob_301⟩ := z_BF.o hbfhq_290
    refine z_callQ1 (b' := 0) (f' := 378) (rest := [.ref t]) (av := [.ref n]) (z_siteV hb ho zc22 ob_301 q2554 q1033 q1034 ⟨_, _, _, _, zk_J5_toString⟩ zy_J5_toString zl_J5_toString dX1_writeStep_36 : z_Site M _ _ _ _ _ ([].reverse ++ .ref n :: [.ref t]) [.ref t] _) zk_J5_toString q101 hrm (m_J5_toString hbfhq_290 (by have := hlnhq_290; omega) hlohq_290) (by omega) (by decide) (Nat.le_of_ble_eq_true rfl) (by omega) (by omega) (fun rhq_302 h_303 n_304 hq_302 hn_304 => ?_)
    obtain ⟨rfl, hq_302⟩ := hq_302
    obtain ⟨hnnhq_302, hsghq_302, hexhq_302⟩ := hq_302
    have k_305 : h_303 t = some (.inr (0, [.ref a, x1, x2, x3, x4, x5, x6])) := (z_ex_t (z_exB hD0 (by omega) (by omega) (z_ex_t (z_exB hD0 (by omega) (by omega) (z_exB hD0 (by omega) (by omega) (z_exT hD0 (by omega) (z_exN z_ex_r hD_1 eh_2) hfrhq_11) hfrhq_23) hfrhq_35) hexhq_277) hfrhq_290) hexhq_302) _ _ hX
    have k_306 : h_303 a = some (.inr (1, [.ref lr, .ref ls, .ref lv, .int (nI D), .int (w 2), .int (w 4), .int (w 5), .int (w 6)])) := (z_ex_t (z_exB hD0 (by omega) (by omega) (z_ex_t (z_exB hD0 (by omega) (by omega) (z_exB hD0 (by omega) (by omega) (z_exT hD0 (by omega) (z_exN z_ex_r hD_1 eh_2) hfrhq_11) hfrhq_23) hfrhq_35) hexhq_277) hfrhq_290) hexhq_302) _ _ h1
    have k_307 : h_303 lr = some (.inr (20, [.int m0, .ref e0, .int (nI R)])) := (z_ex_t (z_exB hD0 (by omega) (by omega) (z_ex_t (z_exB hD0 (by omega) (by omega) (z_exB hD0 (by omega) (by omega) (z_exT hD0 (by omega) (z_exN z_ex_r hD_1 eh_2) hfrhq_11) hfrhq_23) hfrhq_35) hexhq_277) hfrhq_290) hexhq_302) _ _ r1
    have k_308 : h_303 e0 = some (.inl ((zm_G M).2.1 5, N0, .inr (.inr (.inr (.inr f0))))) := (z_ex_t (z_exB hD0 (by omega) (by omega) (z_ex_t (z_exB hD0 (by omega) (by omega) (z_exB hD0 (by omega) (by omega) (z_exT hD0 (by omega) (z_exN z_ex_r hD_1 eh_2) hfrhq_11) hfrhq_23) hfrhq_35) hexhq_277) hfrhq_290) hexhq_302) _ _ r2
    have k_309 : h_303 ls = some (.inr (20, [.int m9, .ref e, .int (nI S)])) := (z_ex_t (z_exB hD0 (by omega) (by omega) (z_ex_t (z_exB hD0 (by omega) (by omega) (z_exB hD0 (by omega) (by omega) (z_exT hD0 (by omega) (z_exN z_ex_r hD_1 eh_2) hfrhq_11) hfrhq_23) hfrhq_35) hexhq_277) hfrhq_290) hexhq_302) _ _ h3
    have k_310 : h_303 e = some (.inl ((zm_G M).2.1 5, N, .inr (.inr (.inr (.inr f))))) := (z_ex_t (z_exB hD0 (by omega) (by omega) (z_ex_t (z_exB hD0 (by omega) (by omega) (z_exB hD0 (by omega) (by omega) (z_exT hD0 (by omega) (z_exN z_ex_r hD_1 eh_2) hfrhq_11) hfrhq_23) hfrhq_35) hexhq_277) hfrhq_290) hexhq_302) _ _ h4
    have k_311 : h_303 lv = some (.inr (20, [.int mv, .ref ev, .int (nI S)])) := (z_ex_t (z_exB hD0 (by omega) (by omega) (z_ex_t (z_exB hD0 (by omega) (by omega) (z_exB hD0 (by omega) (by omega) (z_exT hD0 (by omega) (z_exN z_ex_r hD_1 eh_2) hfrhq_11) hfrhq_23) hfrhq_35) hexhq_277) hfrhq_290) hexhq_302) _ _ v1
    have k_312 : h_303 ev = some (.inl ((zm_G M).2.1 5, Nv, .inr (.inr (.inr (.inr fv))))) := (z_ex_t (z_exB hD0 (by omega) (by omega) (z_ex_t (z_exB hD0 (by omega) (by omega) (z_exB hD0 (by omega) (by omega) (z_exT hD0 (by omega) (z_exN z_ex_r hD_1 eh_2) hfrhq_11) hfrhq_23) hfrhq_35) hexhq_277) hfrhq_290) hexhq_302) _ _ v2
    refine z_put (k := 3) (C := RX1) (T := TX1) (N := 7) hb ho zc0 in_X1 tyX1_ok nmX1 (zf_RX1_61 _) dX1_writeStep_39 k_305 ht0 (by decide) (Or.inl rfl) rfl rfl rfl (Nat.le_of_ble_eq_true rfl) ?_
    refine z_hn (fun h_313 eh_313 => ?_)
    have eh_313 : h_313 = z_up h_303 t (.inr (0, [.ref a, x1, x2, .ref n_292, x4, x5, x6])) := eh_313
    have k_314 : h_313 a = some (.inr (1, [.ref lr, .ref ls, .ref lv, .int (nI D), .int (w 2), .int (w 4), .int (w 5), .int (w 6)])) := z_nx eh_313 (z_neO k_306 k_305 rfl) k_306
    have k_315 : h_313 lr = some (.inr (20, [.int m0, .ref e0, .int (nI R)])) := z_nx eh_313 (z_neO k_307 k_305 rfl) k_307
    have k_316 : h_313 e0 = some (.inl ((zm_G M).2.1 5, N0, .inr (.inr (.inr (.inr f0))))) := z_nx eh_313 (z_neA' k_308 k_305) k_308
    have k_317 : h_313 ls = some (.inr (20, [.int m9, .ref e, .int (nI S)])) := z_nx eh_313 (z_neO k_309 k_305 rfl) k_309
    have k_318 : h_313 e = some (.inl ((zm_G M).2.1 5, N, .inr (.inr (.inr (.inr f))))) := z_nx eh_313 (z_neA' k_310 k_305) k_310
    have k_319 : h_313 lv = some (.inr (20, [.int mv, .ref ev, .int (nI S)])) := z_nx eh_313 (z_neO k_311 k_305 rfl) k_311
    have k_320 : h_313 ev = some (.inl ((zm_G M).2.1 5, Nv, .inr (.inr (.inr (.inr fv))))) := z_nx eh_313 (z_neA' k_312 k_305) k_312
    obtain ⟨esso_321, hzso_321, so_321, -⟩ := id (hsghq_302.frx k_305 (by decide) (z_fr_up (P := fun y => y = t) rfl eh_313))
    refine z_aload_n hb dX1_writeStep_42 rfl ?_
    refine z_get (k := 3) (C := RX1) (T := TX1) (N := 7) hb ho zc0 in_X1 (zf_RX1_61 _) dX1_writeStep_43 (z_nxs eh_313) (by decide) rfl ?_
    refine z_callN1 (b' := 0) (f' := 378) (rest := []) (av := [.ref n_292]) (z_siteV hb ho zc23 so_321 q2555 q966 q967 ⟨_, _, _, _, zk_J6_length⟩ zy_J6_length zl_J6_length dX1_writeStep_46 : z_Site M _ _ _ _ _ ([].reverse ++ .ref n_292 :: []) [] _) zk_J6_length q102 hrm (m_J6_length (hsghq_302.frx k_305 (by decide) (z_fr_up (P := fun y => y = t) rfl eh_313))) (by omega) (by decide) (Nat.le_of_ble_eq_true rfl) (by omega) (by omega) (fun n_322 hn_322 => ?_)
    refine z_iret hb hr dX1_writeStep_49 ?_
    rw [hQ]
    have el9 : (((([] : List Nat) ++ z_cI (nI k)) ++ (z_lits.getD 47 [])) ++ z_tx w k) = z_cI (nI k) ++ 58 :: z_tx w k := by show (z_cI (nI k) ++ [58]) ++ z_tx w k = _; rw [List.append_assoc]; rfl
    have e9 := (hsghq_302.frx k_305 (by decide) (z_fr_up (P := fun y => y = t) rfl eh_313))
    rw [el9] at e9 ⊢
    exact ⟨_, rfl, rfl, n_292, (z_nxs eh_313), e9, by omega, ((z_fr_up (P := fun y => y = t) rfl eh_313).t0 (z_ex_t (z_exB hD0 (by omega) (by omega) (z_ex_t (z_exB hD0 (by omega) (by omega) (z_exB hD0 (by omega) (by omega) (z_exT hD0 (by omega) (z_exN z_ex_r hD_1 eh_2) hfrhq_11) hfrhq_23) hfrhq_35) hexhq_277) hfrhq_290) hexhq_302))⟩
  · refine z_callQ1 (b' := 3) (f' := 982) (rest := [.ref n, .ref t]) (av := [.ref (sa k), .ref a]) (z_siteU hb ho zc13 ((z_exB hD0 (by omega) (by omega) (z_exB hD0 (by omega) (by omega) (z_exT hD0 (by omega) (z_exN z_ex_r hD_1 eh_2) hfrhq_11) hfrhq_23) hfrhq_35) _ _ q9) q2490 q2492 (Or.inl q2491) q2494 q2493 ⟨by decide +kernel, by decide +kernel⟩ (by show _ = some 1; decide +kernel) dX1_writeStep_30 : z_Site M _ _ _ _ _ ([.ref a].reverse ++ .ref (sa k) :: [.ref n, .ref t]) [.ref n, .ref t] _) zk_X17_text q136 hrm (m_text (hL.ex (z_exB hD0 (by omega) (by omega) (z_exB hD0 (by omega) (by omega) (z_exT hD0 (by omega) (z_exN z_ex_r hD_1 eh_2) hfrhq_11) hfrhq_23) hfrhq_35)) (hKS.ex (z_exB hD0 (by omega) (by omega) (z_exB hD0 (by omega) (by omega) (z_exT hD0 (by omega) (z_exN z_ex_r hD_1 eh_2) hfrhq_11) hfrhq_23) hfrhq_35)) hS8 ((z_exB hD0 (by omega) (by omega) (z_exB hD0 (by omega) (by omega) (z_exT hD0 (by omega) (z_exN z_ex_r hD_1 eh_2) hfrhq_11) hfrhq_23) hfrhq_35) _ _ hd1) ((z_exB hD0 (by omega) (by omega) (z_exB hD0 (by omega) (by omega) (z_exT hD0 (by omega) (z_exN z_ex_r hD_1 eh_2) hfrhq_11) hfrhq_23) hfrhq_35) _ _ hd2) hn1 hk _ _ ((z_exB hD0 (by omega) (by omega) (z_exB hD0 (by omega) (by omega) (z_exT hD0 (by omega) (z_exN z_ex_r hD_1 eh_2) hfrhq_11) hfrhq_23) hfrhq_35) _ _ q9) _) (by omega) (by decide) (Nat.le_of_ble_eq_true rfl) (by omega) (by omega) (fun rhq_323 h_324 n_325 hq_323 hn_325 => ?_)
    obtain ⟨s_326, rfl, hq_323⟩ := hq_323
    obtain ⟨hnshq_323, hsnhq_323, hsghq_323, hexhq_323⟩ := hq_323
    have k_327 : h_324 t = some (.inr (0, [.ref a, x1, x2, x3, x4, x5, x6])) := (z_ex_t (z_exB hD0 (by omega) (by omega) (z_exB hD0 (by omega) (by omega) (z_exT hD0 (by omega) (z_exN z_ex_r hD_1 eh_2) hfrhq_11) hfrhq_23) hfrhq_35) hexhq_323) _ _ hX
    have k_328 : h_324 a = some (.inr (1, [.ref lr, .ref ls, .ref lv, .int (nI D), .int (w 2), .int (w 4), .int (w 5), .int (w 6)])) := (z_ex_t (z_exB hD0 (by omega) (by omega) (z_exB hD0 (by omega) (by omega) (z_exT hD0 (by omega) (z_exN z_ex_r hD_1 eh_2) hfrhq_11) hfrhq_23) hfrhq_35) hexhq_323) _ _ h1
    have k_329 : h_324 lr = some (.inr (20, [.int m0, .ref e0, .int (nI R)])) := (z_ex_t (z_exB hD0 (by omega) (by omega) (z_exB hD0 (by omega) (by omega) (z_exT hD0 (by omega) (z_exN z_ex_r hD_1 eh_2) hfrhq_11) hfrhq_23) hfrhq_35) hexhq_323) _ _ r1
    have k_330 : h_324 e0 = some (.inl ((zm_G M).2.1 5, N0, .inr (.inr (.inr (.inr f0))))) := (z_ex_t (z_exB hD0 (by omega) (by omega) (z_exB hD0 (by omega) (by omega) (z_exT hD0 (by omega) (z_exN z_ex_r hD_1 eh_2) hfrhq_11) hfrhq_23) hfrhq_35) hexhq_323) _ _ r2
    have k_331 : h_324 ls = some (.inr (20, [.int m9, .ref e, .int (nI S)])) := (z_ex_t (z_exB hD0 (by omega) (by omega) (z_exB hD0 (by omega) (by omega) (z_exT hD0 (by omega) (z_exN z_ex_r hD_1 eh_2) hfrhq_11) hfrhq_23) hfrhq_35) hexhq_323) _ _ h3
    have k_332 : h_324 e = some (.inl ((zm_G M).2.1 5, N, .inr (.inr (.inr (.inr f))))) := (z_ex_t (z_exB hD0 (by omega) (by omega) (z_exB hD0 (by omega) (by omega) (z_exT hD0 (by omega) (z_exN z_ex_r hD_1 eh_2) hfrhq_11) hfrhq_23) hfrhq_35) hexhq_323) _ _ h4
    have k_333 : h_324 lv = some (.inr (20, [.int mv, .ref ev, .int (nI S)])) := (z_ex_t (z_exB hD0 (by omega) (by omega) (z_exB hD0 (by omega) (by omega) (z_exT hD0 (by omega) (z_exN z_ex_r hD_1 eh_2) hfrhq_11) hfrhq_23) hfrhq_35) hexhq_323) _ _ v1
    have k_334 : h_324 ev = some (.inl ((zm_G M).2.1 5, Nv, .inr (.inr (.inr (.inr fv))))) := (z_ex_t (z_exB hD0 (by omega) (by omega) (z_exB hD0 (by omega) (by omega) (z_exT hD0 (by omega) (z_exN z_ex_r hD_1 eh_2) hfrhq_11) hfrhq_23) hfrhq_35) hexhq_323) _ _ v2
    obtain ⟨fsob_335, ob_335⟩ := z_BF.o (hbfhq_35.exx hexhq_323)
    refine z_callQ1 (b' := 2) (f' := 682) (rest := [.ref t]) (av := [.ref n, .ref s_326]) (z_siteV hb ho zc22 ob_335 q2489 q913 q914 ⟨_, _, _, _, zk_J5_append⟩ zy_J5_append zl_J5_append dX1_writeStep_33 : z_Site M _ _ _ _ _ ([.ref s_326].reverse ++ .ref n :: [.ref t]) [.ref t] _) zk_J5_append q101 hrm (m_J5_append_s (hbfhq_35.exx hexhq_323) hsghq_323 (by have := hlnhq_35; have := (z_tx_len (w := w) (k := k)); omega)) (by omega) (by decide) (Nat.le_of_ble_eq_true rfl) (by omega) (by omega) (fun rhq_336 h_337 n_338 hq_336 hn_338 => ?_)
    obtain ⟨rfl, hq_336⟩ := hq_336
    obtain ⟨e9hq_336, hbfhq_336, heehq_336, hfrhq_336⟩ := hq_336
    have hlnhq_336 : (((([] : List Nat) ++ z_cI (nI k)) ++ (z_lits.getD 47 [])) ++ z_tx w k).length ≤ 45 := by rw [List.length_append]; have := hlnhq_35; have := (z_tx_len (w := w) (k := k)); show _ + _ ≤ _; omega
    have hlohq_336 := z_alw hlohq_35 hsghq_323.lo
    have k_339 : h_337 t = some (.inr (0, [.ref a, x1, x2, x3, x4, x5, x6])) := (z_exB hD0 (by omega) (by omega) (z_ex_t (z_exB hD0 (by omega) (by omega) (z_exB hD0 (by omega) (by omega) (z_exT hD0 (by omega) (z_exN z_ex_r hD_1 eh_2) hfrhq_11) hfrhq_23) hfrhq_35) hexhq_323) hfrhq_336) _ _ hX
    have k_340 : h_337 a = some (.inr (1, [.ref lr, .ref ls, .ref lv, .int (nI D), .int (w 2), .int (w 4), .int (w 5), .int (w 6)])) := (z_exB hD0 (by omega) (by omega) (z_ex_t (z_exB hD0 (by omega) (by omega) (z_exB hD0 (by omega) (by omega) (z_exT hD0 (by omega) (z_exN z_ex_r hD_1 eh_2) hfrhq_11) hfrhq_23) hfrhq_35) hexhq_323) hfrhq_336) _ _ h1
    have k_341 : h_337 lr = some (.inr (20, [.int m0, .ref e0, .int (nI R)])) := (z_exB hD0 (by omega) (by omega) (z_ex_t (z_exB hD0 (by omega) (by omega) (z_exB hD0 (by omega) (by omega) (z_exT hD0 (by omega) (z_exN z_ex_r hD_1 eh_2) hfrhq_11) hfrhq_23) hfrhq_35) hexhq_323) hfrhq_336) _ _ r1
    have k_342 : h_337 e0 = some (.inl ((zm_G M).2.1 5, N0, .inr (.inr (.inr (.inr f0))))) := (z_exB hD0 (by omega) (by omega) (z_ex_t (z_exB hD0 (by omega) (by omega) (z_exB hD0 (by omega) (by omega) (z_exT hD0 (by omega) (z_exN z_ex_r hD_1 eh_2) hfrhq_11) hfrhq_23) hfrhq_35) hexhq_323) hfrhq_336) _ _ r2
    have k_343 : h_337 ls = some (.inr (20, [.int m9, .ref e, .int (nI S)])) := (z_exB hD0 (by omega) (by omega) (z_ex_t (z_exB hD0 (by omega) (by omega) (z_exB hD0 (by omega) (by omega) (z_exT hD0 (by omega) (z_exN z_ex_r hD_1 eh_2) hfrhq_11) hfrhq_23) hfrhq_35) hexhq_323) hfrhq_336) _ _ h3
    have k_344 : h_337 e = some (.inl ((zm_G M).2.1 5, N, .inr (.inr (.inr (.inr f))))) := (z_exB hD0 (by omega) (by omega) (z_ex_t (z_exB hD0 (by omega) (by omega) (z_exB hD0 (by omega) (by omega) (z_exT hD0 (by omega) (z_exN z_ex_r hD_1 eh_2) hfrhq_11) hfrhq_23) hfrhq_35) hexhq_323) hfrhq_336) _ _ h4
    have k_345 : h_337 lv = some (.inr (20, [.int mv, .ref ev, .int (nI S)])) := (z_exB hD0 (by omega) (by omega) (z_ex_t (z_exB hD0 (by omega) (by omega) (z_exB hD0 (by omega) (by omega) (z_exT hD0 (by omega) (z_exN z_ex_r hD_1 eh_2) hfrhq_11) hfrhq_23) hfrhq_35) hexhq_323) hfrhq_336) _ _ v1
    have k_346 : h_337 ev = some (.inl ((zm_G M).2.1 5, Nv, .inr (.inr (.inr (.inr fv))))) := (z_exB hD0 (by omega) (by omega) (z_ex_t (z_exB hD0 (by omega) (by omega) (z_exB hD0 (by omega) (by omega) (z_exT hD0 (by omega) (z_exN z_ex_r hD_1 eh_2) hfrhq_11) hfrhq_23) hfrhq_35) hexhq_323) hfrhq_336) _ _ v2
    obtain ⟨fsob_347, ob_347⟩ := z_BF.o hbfhq_336
    refine z_callQ1 (b' := 0) (f' := 378) (rest := [.ref t]) (av := [.ref n]) (z_siteV hb ho zc22 ob_347 q2554 q1033 q1034 ⟨_, _, _, _, zk_J5_toString⟩ zy_J5_toString zl_J5_toString dX1_writeStep_36 : z_Site M _ _ _ _ _ ([].reverse ++ .ref n :: [.ref t]) [.ref t] _) zk_J5_toString q101 hrm (m_J5_toString hbfhq_336 (by have := hlnhq_336; omega) hlohq_336) (by omega) (by decide) (Nat.le_of_ble_eq_true rfl) (by omega) (by omega) (fun rhq_348 h_349 n_350 hq_348 hn_350 => ?_)
    obtain ⟨rfl, hq_348⟩ := hq_348
    obtain ⟨hnnhq_348, hsghq_348, hexhq_348⟩ := hq_348
    have k_351 : h_349 t = some (.inr (0, [.ref a, x1, x2, x3, x4, x5, x6])) := (z_ex_t (z_exB hD0 (by omega) (by omega) (z_ex_t (z_exB hD0 (by omega) (by omega) (z_exB hD0 (by omega) (by omega) (z_exT hD0 (by omega) (z_exN z_ex_r hD_1 eh_2) hfrhq_11) hfrhq_23) hfrhq_35) hexhq_323) hfrhq_336) hexhq_348) _ _ hX
    have k_352 : h_349 a = some (.inr (1, [.ref lr, .ref ls, .ref lv, .int (nI D), .int (w 2), .int (w 4), .int (w 5), .int (w 6)])) := (z_ex_t (z_exB hD0 (by omega) (by omega) (z_ex_t (z_exB hD0 (by omega) (by omega) (z_exB hD0 (by omega) (by omega) (z_exT hD0 (by omega) (z_exN z_ex_r hD_1 eh_2) hfrhq_11) hfrhq_23) hfrhq_35) hexhq_323) hfrhq_336) hexhq_348) _ _ h1
    have k_353 : h_349 lr = some (.inr (20, [.int m0, .ref e0, .int (nI R)])) := (z_ex_t (z_exB hD0 (by omega) (by omega) (z_ex_t (z_exB hD0 (by omega) (by omega) (z_exB hD0 (by omega) (by omega) (z_exT hD0 (by omega) (z_exN z_ex_r hD_1 eh_2) hfrhq_11) hfrhq_23) hfrhq_35) hexhq_323) hfrhq_336) hexhq_348) _ _ r1
    have k_354 : h_349 e0 = some (.inl ((zm_G M).2.1 5, N0, .inr (.inr (.inr (.inr f0))))) := (z_ex_t (z_exB hD0 (by omega) (by omega) (z_ex_t (z_exB hD0 (by omega) (by omega) (z_exB hD0 (by omega) (by omega) (z_exT hD0 (by omega) (z_exN z_ex_r hD_1 eh_2) hfrhq_11) hfrhq_23) hfrhq_35) hexhq_323) hfrhq_336) hexhq_348) _ _ r2
    have k_355 : h_349 ls = some (.inr (20, [.int m9, .ref e, .int (nI S)])) := (z_ex_t (z_exB hD0 (by omega) (by omega) (z_ex_t (z_exB hD0 (by omega) (by omega) (z_exB hD0 (by omega) (by omega) (z_exT hD0 (by omega) (z_exN z_ex_r hD_1 eh_2) hfrhq_11) hfrhq_23) hfrhq_35) hexhq_323) hfrhq_336) hexhq_348) _ _ h3
    have k_356 : h_349 e = some (.inl ((zm_G M).2.1 5, N, .inr (.inr (.inr (.inr f))))) := (z_ex_t (z_exB hD0 (by omega) (by omega) (z_ex_t (z_exB hD0 (by omega) (by omega) (z_exB hD0 (by omega) (by omega) (z_exT hD0 (by omega) (z_exN z_ex_r hD_1 eh_2) hfrhq_11) hfrhq_23) hfrhq_35) hexhq_323) hfrhq_336) hexhq_348) _ _ h4
    have k_357 : h_349 lv = some (.inr (20, [.int mv, .ref ev, .int (nI S)])) := (z_ex_t (z_exB hD0 (by omega) (by omega) (z_ex_t (z_exB hD0 (by omega) (by omega) (z_exB hD0 (by omega) (by omega) (z_exT hD0 (by omega) (z_exN z_ex_r hD_1 eh_2) hfrhq_11) hfrhq_23) hfrhq_35) hexhq_323) hfrhq_336) hexhq_348) _ _ v1
    have k_358 : h_349 ev = some (.inl ((zm_G M).2.1 5, Nv, .inr (.inr (.inr (.inr fv))))) := (z_ex_t (z_exB hD0 (by omega) (by omega) (z_ex_t (z_exB hD0 (by omega) (by omega) (z_exB hD0 (by omega) (by omega) (z_exT hD0 (by omega) (z_exN z_ex_r hD_1 eh_2) hfrhq_11) hfrhq_23) hfrhq_35) hexhq_323) hfrhq_336) hexhq_348) _ _ v2
    refine z_put (k := 3) (C := RX1) (T := TX1) (N := 7) hb ho zc0 in_X1 tyX1_ok nmX1 (zf_RX1_61 _) dX1_writeStep_39 k_351 ht0 (by decide) (Or.inl rfl) rfl rfl rfl (Nat.le_of_ble_eq_true rfl) ?_
    refine z_hn (fun h_359 eh_359 => ?_)
    have eh_359 : h_359 = z_up h_349 t (.inr (0, [.ref a, x1, x2, .ref n_338, x4, x5, x6])) := eh_359
    have k_360 : h_359 a = some (.inr (1, [.ref lr, .ref ls, .ref lv, .int (nI D), .int (w 2), .int (w 4), .int (w 5), .int (w 6)])) := z_nx eh_359 (z_neO k_352 k_351 rfl) k_352
    have k_361 : h_359 lr = some (.inr (20, [.int m0, .ref e0, .int (nI R)])) := z_nx eh_359 (z_neO k_353 k_351 rfl) k_353
    have k_362 : h_359 e0 = some (.inl ((zm_G M).2.1 5, N0, .inr (.inr (.inr (.inr f0))))) := z_nx eh_359 (z_neA' k_354 k_351) k_354
    have k_363 : h_359 ls = some (.inr (20, [.int m9, .ref e, .int (nI S)])) := z_nx eh_359 (z_neO k_355 k_351 rfl) k_355
    have k_364 : h_359 e = some (.inl ((zm_G M).2.1 5, N, .inr (.inr (.inr (.inr f))))) := z_nx eh_359 (z_neA' k_356 k_351) k_356
    have k_365 : h_359 lv = some (.inr (20, [.int mv, .ref ev, .int (nI S)])) := z_nx eh_359 (z_neO k_357 k_351 rfl) k_357
    have k_366 : h_359 ev = some (.inl ((zm_G M).2.1 5, Nv, .inr (.inr (.inr (.inr fv))))) := z_nx eh_359 (z_neA' k_358 k_351) k_358
    obtain ⟨esso_367, hzso_367, so_367, -⟩ := id (hsghq_348.frx k_351 (by decide) (z_fr_up (P := fun y => y = t) rfl eh_359))
    refine z_aload_n hb dX1_writeStep_42 rfl ?_
    refine z_get (k := 3) (C := RX1) (T := TX1) (N := 7) hb ho zc0 in_X1 (zf_RX1_61 _) dX1_writeStep_43 (z_nxs eh_359) (by decide) rfl ?_
    refine z_callN1 (b' := 0) (f' := 378) (rest := []) (av := [.ref n_338]) (z_siteV hb ho zc23 so_367 q2555 q966 q967 ⟨_, _, _, _, zk_J6_length⟩ zy_J6_length zl_J6_length dX1_writeStep_46 : z_Site M _ _ _ _ _ ([].reverse ++ .ref n_338 :: []) [] _) zk_J6_length q102 hrm (m_J6_length (hsghq_348.frx k_351 (by decide) (z_fr_up (P := fun y => y = t) rfl eh_359))) (by omega) (by decide) (Nat.le_of_ble_eq_true rfl) (by omega) (by omega) (fun n_368 hn_368 => ?_)
    refine z_iret hb hr dX1_writeStep_49 ?_
    rw [hQ]
    have el9 : (((([] : List Nat) ++ z_cI (nI k)) ++ (z_lits.getD 47 [])) ++ z_tx w k) = z_cI (nI k) ++ 58 :: z_tx w k := by show (z_cI (nI k) ++ [58]) ++ z_tx w k = _; rw [List.append_assoc]; rfl
    have e9 := (hsghq_348.frx k_351 (by decide) (z_fr_up (P := fun y => y = t) rfl eh_359))
    rw [el9] at e9 ⊢
    exact ⟨_, rfl, rfl, n_338, (z_nxs eh_359), e9, by omega, ((z_fr_up (P := fun y => y = t) rfl eh_359).t0 (z_ex_t (z_exB hD0 (by omega) (by omega) (z_ex_t (z_exB hD0 (by omega) (by omega) (z_exB hD0 (by omega) (by omega) (z_exT hD0 (by omega) (z_exN z_ex_r hD_1 eh_2) hfrhq_11) hfrhq_23) hfrhq_35) hexhq_323) hfrhq_336) hexhq_348))⟩

set_option maxHeartbeats 1000000 in
theorem m_X1_writeStep_no {l : Launch} {G : zG} {h : zH} {n : Nat} {t : Nat} {x1 x2 x3 x4 x5 x6 : Value} {w : Nat → Int32} {v : Nat → Int64} {R S D a lr ls lv : Nat} {ra sa va : Nat → Nat} {x : Int32} (hX : h t = some (.inr (0, [.ref a, x1, x2, x3, x4, x5, x6]))) (hL : z_Ln G h w v R S D a lr ls lv ra sa va) (hKS : z_KS G h) (hS8 : S ≤ 8) (hd1 : h (G.2.2.1 1000) = some (z_ab G 100 z_on)) (hd2 : h (G.2.2.1 1001) = some (z_ab G 100 z_tn)) (hn1 : G.2.2.1 1000 < z_n0 G ∧ G.2.2.1 1001 < z_n0 G) (hx : tw_isS S x = false) : z_C l G yX1_writeStep 12 20 5216 [.ref t, .int x] h n (z_tf 28 [] h n) := by
  refine z_start zk_X1_writeStep zpl_RX1 (Nat.le_of_ble_eq_true rfl) ?_
  intro hn0 M hl hG ho hb hN hr hm hH hrm hQ
  subst hl hG
  have ho : zm_o M = RX1 := ho
  obtain ⟨h1, ⟨e0, N0, m0, f0, r1, r2, r3, ⟨r4, r4n⟩, r5⟩, ⟨e, N, m9, f, h3, h4, h5, ⟨h6, h6n⟩, h7⟩, ⟨ev, Nv, mv, fv, v1, v2, v3, ⟨v4, v4n⟩, v5⟩, h9, hs, hv, hi, hrI⟩ := id hL
  show z_V M h n 20 5216 0 [(0, .ref t), (1, .int x)] []
  refine z_dom (fun hD0 => ?_)
  refine z_aload_n hb dX1_writeStep_0 rfl ?_
  refine z_dom (fun hD_1 => ?_)
  refine z_new (N0 := 4) (b' := 19) (f' := 5212) (fs := [.null, .int (nI 0), .int (nI 0), .int (nI 0)]) (C := RJ5) (T := TJ5) (N := 4) hb ho zc22 in_J5 tyJ5_ok q252 q253 q101 dX1_writeStep_1 (zdf_J5) (by omega) (by omega) ?_
  refine z_hn (fun h_2 eh_2 => ?_)
  have eh_2 : h_2 = z_up h n (.inr (22, [.null, .int (nI 0), .int (nI 0), .int (nI 0)])) := eh_2
  have k_3 : h_2 t = some (.inr (0, [.ref a, x1, x2, x3, x4, x5, x6])) := z_nx eh_2 (Nat.ne_of_lt (hD_1 _ _ hX)) hX
  have k_4 : h_2 a = some (.inr (1, [.ref lr, .ref ls, .ref lv, .int (nI D), .int (w 2), .int (w 4), .int (w 5), .int (w 6)])) := z_nx eh_2 (Nat.ne_of_lt (hD_1 _ _ h1)) h1
  have k_5 : h_2 lr = some (.inr (20, [.int m0, .ref e0, .int (nI R)])) := z_nx eh_2 (Nat.ne_of_lt (hD_1 _ _ r1)) r1
  have k_6 : h_2 e0 = some (.inl ((zm_G M).2.1 5, N0, .inr (.inr (.inr (.inr f0))))) := z_nx eh_2 (Nat.ne_of_lt (hD_1 _ _ r2)) r2
  have k_7 : h_2 ls = some (.inr (20, [.int m9, .ref e, .int (nI S)])) := z_nx eh_2 (Nat.ne_of_lt (hD_1 _ _ h3)) h3
  have k_8 : h_2 e = some (.inl ((zm_G M).2.1 5, N, .inr (.inr (.inr (.inr f))))) := z_nx eh_2 (Nat.ne_of_lt (hD_1 _ _ h4)) h4
  have k_9 : h_2 lv = some (.inr (20, [.int mv, .ref ev, .int (nI S)])) := z_nx eh_2 (Nat.ne_of_lt (hD_1 _ _ v1)) v1
  have k_10 : h_2 ev = some (.inl ((zm_G M).2.1 5, Nv, .inr (.inr (.inr (.inr fv))))) := z_nx eh_2 (Nat.ne_of_lt (hD_1 _ _ v2)) v2
  refine z_dup hb dX1_writeStep_4 rfl ?_
  refine z_callQ0 (b' := 18) (f' := 5196) (rest := [.ref n, .ref t]) (av := [.ref n]) (z_siteI hb ho q254 q255 q256 rfl zy_J5_init zl_J5_init dX1_writeStep_5 : z_Site M _ _ _ _ _ ([].reverse ++ .ref n :: [.ref n, .ref t]) [.ref n, .ref t] _) zk_J5_init q101 hrm (m_J5_init_b (z_nxs eh_2) (by omega) (by omega)) (by omega) (by decide) (Nat.le_of_ble_eq_true rfl) (by omega) (by omega) (fun h_12 n_13 hq_11 hn_13 => ?_)
  obtain ⟨hnnhq_11, hbfhq_11, hfrhq_11⟩ := hq_11
  have k_14 : h_12 t = some (.inr (0, [.ref a, x1, x2, x3, x4, x5, x6])) := (z_exT hD0 (by omega) (z_exN z_ex_r hD_1 eh_2) hfrhq_11) _ _ hX
  have k_15 : h_12 a = some (.inr (1, [.ref lr, .ref ls, .ref lv, .int (nI D), .int (w 2), .int (w 4), .int (w 5), .int (w 6)])) := (z_exT hD0 (by omega) (z_exN z_ex_r hD_1 eh_2) hfrhq_11) _ _ h1
  have k_16 : h_12 lr = some (.inr (20, [.int m0, .ref e0, .int (nI R)])) := (z_exT hD0 (by omega) (z_exN z_ex_r hD_1 eh_2) hfrhq_11) _ _ r1
  have k_17 : h_12 e0 = some (.inl ((zm_G M).2.1 5, N0, .inr (.inr (.inr (.inr f0))))) := (z_exT hD0 (by omega) (z_exN z_ex_r hD_1 eh_2) hfrhq_11) _ _ r2
  have k_18 : h_12 ls = some (.inr (20, [.int m9, .ref e, .int (nI S)])) := (z_exT hD0 (by omega) (z_exN z_ex_r hD_1 eh_2) hfrhq_11) _ _ h3
  have k_19 : h_12 e = some (.inl ((zm_G M).2.1 5, N, .inr (.inr (.inr (.inr f))))) := (z_exT hD0 (by omega) (z_exN z_ex_r hD_1 eh_2) hfrhq_11) _ _ h4
  have k_20 : h_12 lv = some (.inr (20, [.int mv, .ref ev, .int (nI S)])) := (z_exT hD0 (by omega) (z_exN z_ex_r hD_1 eh_2) hfrhq_11) _ _ v1
  have k_21 : h_12 ev = some (.inl ((zm_G M).2.1 5, Nv, .inr (.inr (.inr (.inr fv))))) := (z_exT hD0 (by omega) (z_exN z_ex_r hD_1 eh_2) hfrhq_11) _ _ v2
  obtain ⟨fsob_22, ob_22⟩ := z_BF.o hbfhq_11
  refine z_iload_n hb dX1_writeStep_8 rfl ?_
  refine z_callQ1 (b' := 17) (f' := 4896) (rest := [.ref t]) (av := [.ref n, .int x]) (z_siteV hb ho zc22 ob_22 q2487 q1008 q1009 ⟨_, _, _, _, zk_J5_append_2⟩ zy_J5_append_2 zl_J5_append_2 dX1_writeStep_9 : z_Site M _ _ _ _ _ ([.int x].reverse ++ .ref n :: [.ref t]) [.ref t] _) zk_J5_append_2 q101 hrm (m_J5_append_I hbfhq_11 ((z_exT hD0 (by omega) (z_exN z_ex_r hD_1 eh_2) hfrhq_11) _ _ hd1) ((z_exT hD0 (by omega) (z_exN z_ex_r hD_1 eh_2) hfrhq_11) _ _ hd2) hn1 (by have := (show ([] : List Nat).length ≤ 0 from Nat.le_refl 0); omega)) (by omega) (by decide) (Nat.le_of_ble_eq_true rfl) (by omega) (by omega) (fun rhq_23 h_24 n_25 hq_23 hn_25 => ?_)
  obtain ⟨rfl, hq_23⟩ := hq_23
  obtain ⟨e9hq_23, hbfhq_23, heehq_23, hfrhq_23⟩ := hq_23
  have hlnhq_23 : (([] : List Nat) ++ z_cI x).length ≤ 14 := by rw [List.length_append]; have := (show ([] : List Nat).length ≤ 0 from Nat.le_refl 0); have := (z_cI_len (x := x)); show _ + _ ≤ _; omega
  have hlohq_23 := z_alw (show ∀ b ∈ ([] : List Nat), b < 128 from fun b hb => nomatch hb) (z_cI_lt (x := x))
  have k_26 : h_24 t = some (.inr (0, [.ref a, x1, x2, x3, x4, x5, x6])) := (z_exB hD0 (by omega) (by omega) (z_exT hD0 (by omega) (z_exN z_ex_r hD_1 eh_2) hfrhq_11) hfrhq_23) _ _ hX
  have k_27 : h_24 a = some (.inr (1, [.ref lr, .ref ls, .ref lv, .int (nI D), .int (w 2), .int (w 4), .int (w 5), .int (w 6)])) := (z_exB hD0 (by omega) (by omega) (z_exT hD0 (by omega) (z_exN z_ex_r hD_1 eh_2) hfrhq_11) hfrhq_23) _ _ h1
  have k_28 : h_24 lr = some (.inr (20, [.int m0, .ref e0, .int (nI R)])) := (z_exB hD0 (by omega) (by omega) (z_exT hD0 (by omega) (z_exN z_ex_r hD_1 eh_2) hfrhq_11) hfrhq_23) _ _ r1
  have k_29 : h_24 e0 = some (.inl ((zm_G M).2.1 5, N0, .inr (.inr (.inr (.inr f0))))) := (z_exB hD0 (by omega) (by omega) (z_exT hD0 (by omega) (z_exN z_ex_r hD_1 eh_2) hfrhq_11) hfrhq_23) _ _ r2
  have k_30 : h_24 ls = some (.inr (20, [.int m9, .ref e, .int (nI S)])) := (z_exB hD0 (by omega) (by omega) (z_exT hD0 (by omega) (z_exN z_ex_r hD_1 eh_2) hfrhq_11) hfrhq_23) _ _ h3
  have k_31 : h_24 e = some (.inl ((zm_G M).2.1 5, N, .inr (.inr (.inr (.inr f))))) := (z_exB hD0 (by omega) (by omega) (z_exT hD0 (by omega) (z_exN z_ex_r hD_1 eh_2) hfrhq_11) hfrhq_23) _ _ h4
  have k_32 : h_24 lv = some (.inr (20, [.int mv, .ref ev, .int (nI S)])) := (z_exB hD0 (by omega) (by omega) (z_exT hD0 (by omega) (z_exN z_ex_r hD_1 eh_2) hfrhq_11) hfrhq_23) _ _ v1
  have k_33 : h_24 ev = some (.inl ((zm_G M).2.1 5, Nv, .inr (.inr (.inr (.inr fv))))) := (z_exB hD0 (by omega) (by omega) (z_exT hD0 (by omega) (z_exN z_ex_r hD_1 eh_2) hfrhq_11) hfrhq_23) _ _ v2
  obtain ⟨fsob_34, ob_34⟩ := z_BF.o hbfhq_23
  refine z_ldcwS (i := 47) hb ho rfl rfl rfl dX1_writeStep_12 ?_
  refine z_callQ1 (b' := 16) (f' := 4596) (rest := [.ref t]) (av := [.ref n, .ref ((zm_G M).2.2.1 47)]) (z_siteV hb ho zc22 ob_34 q2489 q913 q914 ⟨_, _, _, _, zk_J5_append⟩ zy_J5_append zl_J5_append dX1_writeStep_15 : z_Site M _ _ _ _ _ ([.ref ((zm_G M).2.2.1 47)].reverse ++ .ref n :: [.ref t]) [.ref t] _) zk_J5_append q101 hrm (m_J5_append_s hbfhq_23 ((hKS 47 (by decide)).ex (z_exB hD0 (by omega) (by omega) (z_exT hD0 (by omega) (z_exN z_ex_r hD_1 eh_2) hfrhq_11) hfrhq_23)) (by have := hlnhq_23; have := (show (z_lits.getD 47 []).length ≤ 1 by decide); omega)) (by omega) (by decide) (Nat.le_of_ble_eq_true rfl) (by omega) (by omega) (fun rhq_35 h_36 n_37 hq_35 hn_37 => ?_)
  obtain ⟨rfl, hq_35⟩ := hq_35
  obtain ⟨e9hq_35, hbfhq_35, heehq_35, hfrhq_35⟩ := hq_35
  have hlnhq_35 : ((([] : List Nat) ++ z_cI x) ++ (z_lits.getD 47 [])).length ≤ 15 := by rw [List.length_append]; have := hlnhq_23; have := (show (z_lits.getD 47 []).length ≤ 1 by decide); show _ + _ ≤ _; omega
  have hlohq_35 := z_alw hlohq_23 (z_lit_lt 47 (by decide))
  have k_38 : h_36 t = some (.inr (0, [.ref a, x1, x2, x3, x4, x5, x6])) := (z_exB hD0 (by omega) (by omega) (z_exB hD0 (by omega) (by omega) (z_exT hD0 (by omega) (z_exN z_ex_r hD_1 eh_2) hfrhq_11) hfrhq_23) hfrhq_35) _ _ hX
  have k_39 : h_36 a = some (.inr (1, [.ref lr, .ref ls, .ref lv, .int (nI D), .int (w 2), .int (w 4), .int (w 5), .int (w 6)])) := (z_exB hD0 (by omega) (by omega) (z_exB hD0 (by omega) (by omega) (z_exT hD0 (by omega) (z_exN z_ex_r hD_1 eh_2) hfrhq_11) hfrhq_23) hfrhq_35) _ _ h1
  have k_40 : h_36 lr = some (.inr (20, [.int m0, .ref e0, .int (nI R)])) := (z_exB hD0 (by omega) (by omega) (z_exB hD0 (by omega) (by omega) (z_exT hD0 (by omega) (z_exN z_ex_r hD_1 eh_2) hfrhq_11) hfrhq_23) hfrhq_35) _ _ r1
  have k_41 : h_36 e0 = some (.inl ((zm_G M).2.1 5, N0, .inr (.inr (.inr (.inr f0))))) := (z_exB hD0 (by omega) (by omega) (z_exB hD0 (by omega) (by omega) (z_exT hD0 (by omega) (z_exN z_ex_r hD_1 eh_2) hfrhq_11) hfrhq_23) hfrhq_35) _ _ r2
  have k_42 : h_36 ls = some (.inr (20, [.int m9, .ref e, .int (nI S)])) := (z_exB hD0 (by omega) (by omega) (z_exB hD0 (by omega) (by omega) (z_exT hD0 (by omega) (z_exN z_ex_r hD_1 eh_2) hfrhq_11) hfrhq_23) hfrhq_35) _ _ h3
  have k_43 : h_36 e = some (.inl ((zm_G M).2.1 5, N, .inr (.inr (.inr (.inr f))))) := (z_exB hD0 (by omega) (by omega) (z_exB hD0 (by omega) (by omega) (z_exT hD0 (by omega) (z_exN z_ex_r hD_1 eh_2) hfrhq_11) hfrhq_23) hfrhq_35) _ _ h4
  have k_44 : h_36 lv = some (.inr (20, [.int mv, .ref ev, .int (nI S)])) := (z_exB hD0 (by omega) (by omega) (z_exB hD0 (by omega) (by omega) (z_exT hD0 (by omega) (z_exN z_ex_r hD_1 eh_2) hfrhq_11) hfrhq_23) hfrhq_35) _ _ v1
  have k_45 : h_36 ev = some (.inl ((zm_G M).2.1 5, Nv, .inr (.inr (.inr (.inr fv))))) := (z_exB hD0 (by omega) (by omega) (z_exB hD0 (by omega) (by omega) (z_exT hD0 (by omega) (z_exN z_ex_r hD_1 eh_2) hfrhq_11) hfrhq_23) hfrhq_35) _ _ v2
  obtain ⟨fsob_46, ob_46⟩ := z_BF.o hbfhq_35
  refine z_aload_n hb dX1_writeStep_18 rfl ?_
  refine z_get (k := 0) (C := RX1) (T := TX1) (N := 7) hb ho zc0 in_X1 (zf_RX1_41 _) dX1_writeStep_19 k_38 (by decide) rfl ?_
  refine z_iload_n hb dX1_writeStep_22 rfl ?_
  refine z_callTf (b' := 15) (f' := 4590) (rest := [.ref n, .ref t]) (av := [.ref a, .int x]) (z_siteV hb ho zc1 k_39 q1842 q1506 q1507 ⟨_, _, _, _, zk_X2_step⟩ zy_X2_step zl_X2_step dX1_writeStep_23 : z_Site M _ _ _ _ _ ([.int x].reverse ++ .ref a :: [.ref n, .ref t]) [.ref n, .ref t] _) zk_X2_step q95 hrm (z_C.tf (m_X2_step_no (hL.ex (z_exB hD0 (by omega) (by omega) (z_exB hD0 (by omega) (by omega) (z_exT hD0 (by omega) (z_exN z_ex_r hD_1 eh_2) hfrhq_11) hfrhq_23) hfrhq_35)) hS8 hx)) (by omega) (by decide) (Nat.le_of_ble_eq_true rfl) (by omega) (by omega) (fun q_47 n_48 hq_47 hn_48 => ?_)
  refine z_lessX (z_ex_up (z_exB hD0 (by omega) (by omega) (z_exB hD0 (by omega) (by omega) (z_exT hD0 (by omega) (z_exN z_ex_r hD_1 eh_2) hfrhq_11) hfrhq_23) hfrhq_35)) ?_
  exact z_out ho hH zc28 z_up_s (by omega) (fun _ h => nomatch h) (by rw [hQ]; exact ⟨_, rfl, by omega, by omega, rfl⟩)

set_option maxHeartbeats 1000000 in
theorem m_X1_writePartition_ok {l : Launch} {G : zG} {h : zH} {n : Nat} {t : Nat} {x1 x2 x3 x4 x5 x6 : Value} {w : Nat → Int32} {v : Nat → Int64} {R S D a lr ls lv : Nat} {ra sa va : Nat → Nat} {k d : Nat} (hX : h t = some (.inr (0, [.ref a, x1, x2, x3, x4, x5, x6]))) (hL : z_Ln G h w v R S D a lr ls lv ra sa va) (hKS : z_KS G h) (hS8 : S ≤ 8) (hd1 : h (G.2.2.1 1000) = some (z_ab G 100 z_on)) (hd2 : h (G.2.2.1 1001) = some (z_ab G 100 z_tn)) (hn1 : G.2.2.1 1000 < z_n0 G ∧ G.2.2.1 1001 < z_n0 G) (hk : k < S) (hD6 : D ≤ 6) (hd : d ≤ D) (ht0 : z_n0 G ≤ t) (hv : ∀ g, g < 5 → (v (5 * (7 * k + d) + g)).toInt.natAbs < 10 ^ 13) : z_C l G yX1_writePartition 12 50 5016 [.ref t, .int (nI k), .int (nI d)] h n (z_q1 (fun r9 h9 n9 => r9 = .int (nI (z_pt v k d 5 ++ (if tw_st w k d then [33] else [])).length) ∧ ∃ s, h9 t = some (.inr (0, [.ref a, x1, x2, .ref s, x4, x5, x6])) ∧ z_Sg G h9 s (z_pt v k d 5 ++ (if tw_st w k d then [33] else [])) (nI 0) ∧ n ≤ s ∧ z_fr (fun y => y = t) h h9)) := by
  refine z_start zk_X1_writePartition zpl_RX1 (Nat.le_of_ble_eq_true rfl) ?_
  intro hn0 M hl hG ho hb hN hr hm hH hrm hQ
  subst hl hG
  have ho : zm_o M = RX1 := ho
  obtain ⟨h1, ⟨e0, N0, m0, f0, r1, r2, r3, ⟨r4, r4n⟩, r5⟩, ⟨e, N, m9, f, h3, h4, h5, ⟨h6, h6n⟩, h7⟩, ⟨ev, Nv, mv, fv, v1, v2, v3, ⟨v4, v4n⟩, v5⟩, h9, hs, hvw, hi, hrI⟩ := id hL
  show z_V M h n 50 5016 0 [(0, .ref t), (1, .int (nI k)), (2, .int (nI d))] []
  refine z_dom (fun hD0 => ?_)
  refine z_aload_n hb dX1_writePartition_0 rfl ?_
  refine z_get (k := 0) (C := RX1) (T := TX1) (N := 7) hb ho zc0 in_X1 (zf_RX1_41 _) dX1_writePartition_1 hX (by decide) rfl ?_
  refine z_iload_n hb dX1_writePartition_4 rfl ?_
  refine z_call1 (b' := 49) (f' := 5010) (rest := []) (av := [.ref a, .int (nI k)]) (z_siteV hb ho zc1 h1 q1842 q1506 q1507 ⟨_, _, _, _, zk_X2_step⟩ zy_X2_step zl_X2_step dX1_writePartition_5 : z_Site M _ _ _ _ _ ([.int (nI k)].reverse ++ .ref a :: []) [] _) zk_X2_step q95 hrm (m_X2_step hL hS8 hk) (by omega) (by decide) (Nat.le_of_ble_eq_true rfl) (by omega) (by omega) ?_
  refine z_astore_n (lv' := [(3, .ref (sa k)), (0, .ref t), (1, .int (nI k)), (2, .int (nI d))]) hb dX1_writePartition_8 (by rw [hN]; decide) rfl ?_
  refine z_aload_n hb dX1_writePartition_9 rfl ?_
  refine z_get (k := 0) (C := RX1) (T := TX1) (N := 7) hb ho zc0 in_X1 (zf_RX1_41 _) dX1_writePartition_10 hX (by decide) rfl ?_
  refine z_iload_n hb dX1_writePartition_13 rfl ?_
  refine z_call0 (b' := 48) (f' := 5004) (rest := []) (av := [.ref a, .int (nI d)]) (z_siteV hb ho zc1 h1 q1894 q1610 q1611 ⟨_, _, _, _, zk_X2_requireDay⟩ zy_X2_requireDay zl_X2_requireDay dX1_writePartition_14 : z_Site M _ _ _ _ _ ([.int (nI d)].reverse ++ .ref a :: []) [] _) zk_X2_requireDay q95 hrm (m_X2_requireDay_ok h1 hD6 hd) (by omega) (by decide) (Nat.le_of_ble_eq_true rfl) (by omega) (by omega) ?_
  refine z_dom (fun hD_1 => ?_)
  refine z_new (N0 := 4) (b' := 47) (f' := 5000) (fs := [.null, .int (nI 0), .int (nI 0), .int (nI 0)]) (C := RJ5) (T := TJ5) (N := 4) hb ho zc22 in_J5 tyJ5_ok q252 q253 q101 dX1_writePartition_17 (zdf_J5) (by omega) (by omega) ?_
  refine z_hn (fun h_2 eh_2 => ?_)
  have eh_2 : h_2 = z_up h n (.inr (22, [.null, .int (nI 0), .int (nI 0), .int (nI 0)])) := eh_2
  have k_3 : h_2 t = some (.inr (0, [.ref a, x1, x2, x3, x4, x5, x6])) := z_nx eh_2 (Nat.ne_of_lt (hD_1 _ _ hX)) hX
  have k_4 : h_2 a = some (.inr (1, [.ref lr, .ref ls, .ref lv, .int (nI D), .int (w 2), .int (w 4), .int (w 5), .int (w 6)])) := z_nx eh_2 (Nat.ne_of_lt (hD_1 _ _ h1)) h1
  have k_5 : h_2 lr = some (.inr (20, [.int m0, .ref e0, .int (nI R)])) := z_nx eh_2 (Nat.ne_of_lt (hD_1 _ _ r1)) r1
  have k_6 : h_2 e0 = some (.inl ((zm_G M).2.1 5, N0, .inr (.inr (.inr (.inr f0))))) := z_nx eh_2 (Nat.ne_of_lt (hD_1 _ _ r2)) r2
  have k_7 : h_2 ls = some (.inr (20, [.int m9, .ref e, .int (nI S)])) := z_nx eh_2 (Nat.ne_of_lt (hD_1 _ _ h3)) h3
  have k_8 : h_2 e = some (.inl ((zm_G M).2.1 5, N, .inr (.inr (.inr (.inr f))))) := z_nx eh_2 (Nat.ne_of_lt (hD_1 _ _ h4)) h4
  have k_9 : h_2 lv = some (.inr (20, [.int mv, .ref ev, .int (nI S)])) := z_nx eh_2 (Nat.ne_of_lt (hD_1 _ _ v1)) v1
  have k_10 : h_2 ev = some (.inl ((zm_G M).2.1 5, Nv, .inr (.inr (.inr (.inr fv))))) := z_nx eh_2 (Nat.ne_of_lt (hD_1 _ _ v2)) v2
  refine z_dup hb dX1_writePartition_20 rfl ?_
  refine z_callQ0 (b' := 46) (f' := 4984) (rest := [.ref n]) (av := [.ref n]) (z_siteI hb ho q254 q255 q256 rfl zy_J5_init zl_J5_init dX1_writePartition_21 : z_Site M _ _ _ _ _ ([].reverse ++ .ref n :: [.ref n]) [.ref n] _) zk_J5_init q101 hrm (m_J5_init_b (z_nxs eh_2) (by omega) (by omega)) (by omega) (by decide) (Nat.le_of_ble_eq_true rfl) (by omega) (by omega) (fun h_12 n_13 hq_11 hn_13 => ?_)
  obtain ⟨hnnhq_11, hbfhq_11, hfrhq_11⟩ := hq_11
  have k_14 : h_12 t = some (.inr (0, [.ref a, x1, x2, x3, x4, x5, x6])) := (z_exT hD0 (by omega) (z_exN z_ex_r hD_1 eh_2) hfrhq_11) _ _ hX
  have k_15 : h_12 a = some (.inr (1, [.ref lr, .ref ls, .ref lv, .int (nI D), .int (w 2), .int (w 4), .int (w 5), .int (w 6)])) := (z_exT hD0 (by omega) (z_exN z_ex_r hD_1 eh_2) hfrhq_11) _ _ h1
  have k_16 : h_12 lr = some (.inr (20, [.int m0, .ref e0, .int (nI R)])) := (z_exT hD0 (by omega) (z_exN z_ex_r hD_1 eh_2) hfrhq_11) _ _ r1
  have k_17 : h_12 e0 = some (.inl ((zm_G M).2.1 5, N0, .inr (.inr (.inr (.inr f0))))) := (z_exT hD0 (by omega) (z_exN z_ex_r hD_1 eh_2) hfrhq_11) _ _ r2
  have k_18 : h_12 ls = some (.inr (20, [.int m9, .ref e, .int (nI S)])) := (z_exT hD0 (by omega) (z_exN z_ex_r hD_1 eh_2) hfrhq_11) _ _ h3
  have k_19 : h_12 e = some (.inl ((zm_G M).2.1 5, N, .inr (.inr (.inr (.inr f))))) := (z_exT hD0 (by omega) (z_exN z_ex_r hD_1 eh_2) hfrhq_11) _ _ h4
  have k_20 : h_12 lv = some (.inr (20, [.int mv, .ref ev, .int (nI S)])) := (z_exT hD0 (by omega) (z_exN z_ex_r hD_1 eh_2) hfrhq_11) _ _ v1
  have k_21 : h_12 ev = some (.inl ((zm_G M).2.1 5, Nv, .inr (.inr (.inr (.inr fv))))) := (z_exT hD0 (by omega) (z_exN z_ex_r hD_1 eh_2) hfrhq_11) _ _ v2
  obtain ⟨fsob_22, ob_22⟩ := z_BF.o hbfhq_11
  refine z_astore (lv' := [(4, .ref n), (3, .ref (sa k)), (0, .ref t), (1, .int (nI k)), (2, .int (nI d))]) hb dX1_writePartition_24 (by rw [hN]; decide) rfl ?_
  refine z_iconst (x := nI 0) hb dX1_writePartition_26 (by decide) ?_
  refine z_istore (lv' := [(5, .int (nI 0)), (4, .ref n), (3, .ref (sa k)), (0, .ref t), (1, .int (nI k)), (2, .int (nI d))]) hb dX1_writePartition_27 (by rw [hN]; decide) rfl ?_
  have lp_29 : ∀ (k9_29 : Nat) (g : Nat) (nn : Nat) (hh : zH) (ee : Nat), 6 - g < k9_29 → (g ≤ 5) → (n_13 ≤ nn) → (z_ex h hh) → (z_BF (zm_G M) hh n ee 0 (z_pt v k d g)) → (n ≤ ee) → z_V M hh nn (40 - 4 * g) (4400 - 600 * g) 29 [(5, .int (nI g)), (4, .ref n), (3, .ref (sa k)), (0, .ref t), (1, .int (nI k)), (2, .int (nI d))] [] := by
    intro k9_29
    induction k9_29 with
    | zero => intro g nn hh ee hk9_29; exact absurd hk9_29 (Nat.not_lt_zero _)
    | succ k9_29 ih_29 =>
      intro g nn hh ee hk9_29 hg5 hnn hE9 hBg hle
      obtain ⟨fsb9, hob9⟩ := z_BF.o hBg
      refine z_iload hb dX1_writePartition_29 rfl ?_
      refine z_iconst (x := nI 5) hb dX1_writePartition_31 (by decide) ?_
      refine z_icmp_geN (tgt := 74) hb dX1_writePartition_32 (by decide) (by omega) (by omega) (fun c_32 => ?_) (fun c_32 => ?_)
      · have hlp9 : (z_pt v k d g).length ≤ 75 := Nat.le_trans (z_pt_len g) (by omega)
        refine z_aload hb dX1_writePartition_74 rfl ?_
        refine z_aload_n hb dX1_writePartition_76 rfl ?_
        refine z_get (k := 0) (C := RX1) (T := TX1) (N := 7) hb ho zc0 in_X1 (zf_RX1_41 _) dX1_writePartition_77 (hE9 _ _ hX) (by decide) rfl ?_
        refine z_aload_n hb dX1_writePartition_80 rfl ?_
        refine z_iload_n hb dX1_writePartition_81 rfl ?_
        refine z_call1 (b' := 40 - 4 * g) (f' := 4400 - 600 * g) (rest := [.ref n]) (av := [.ref a, .ref (sa k), .int (nI d)]) (z_siteV hb ho zc1 (hE9 _ _ h1) q1929 q1318 q1319 ⟨_, _, _, _, zk_X2_isStale⟩ zy_X2_isStale zl_X2_isStale dX1_writePartition_82 : z_Site M _ _ _ _ _ ([.ref (sa k), .int (nI d)].reverse ++ .ref a :: [.ref n]) [.ref n] _) zk_X2_isStale q95 hrm (m_X2_isStale (hL.ex hE9) hk hS8 hD6 hd) (by omega) (by decide) (Nat.le_of_ble_eq_true rfl) (by omega) (by omega) ?_
        refine z_ifb_eq (tgt := 94) hb dX1_writePartition_85 (by decide) (fun c_85 => ?_) (fun c_85 => ?_)
        · refine z_ldcS (i := 0) hb ho rfl rfl rfl dX1_writePartition_94 ?_
          refine z_callQ1 (b' := (40 - 4 * g) - 1) (f' := (4400 - 600 * g) - 300) (rest := []) (av := [.ref n, .ref ((zm_G M).2.2.1 0)]) (z_siteV hb ho zc22 hob9 q2489 q913 q914 ⟨_, _, _, _, zk_J5_append⟩ zy_J5_append zl_J5_append dX1_writePartition_96 : z_Site M _ _ _ _ _ ([.ref ((zm_G M).2.2.1 0)].reverse ++ .ref n :: []) [] _) zk_J5_append q101 hrm (m_J5_append_s hBg ((hKS 0 (by decide)).ex hE9) (by have := hlp9; have := (show (z_lits.getD 0 []).length ≤ 0 by decide); omega)) (by omega) (by decide) (Nat.le_of_ble_eq_true rfl) (by omega) (by omega) (fun rhq_23 h_24 n_25 hq_23 hn_25 => ?_)
          obtain ⟨rfl, hq_23⟩ := hq_23
          obtain ⟨e9hq_23, hbfhq_23, heehq_23, hfrhq_23⟩ := hq_23
          have hlnhq_23 : ((z_pt v k d g) ++ (z_lits.getD 0 [])).length ≤ 75 := by rw [List.length_append]; have := hlp9; have := (show (z_lits.getD 0 []).length ≤ 0 by decide); show _ + _ ≤ _; omega
          have hlohq_23 := z_alw (z_pt_lt (v := v) (k := k) (d := d) g) (z_lit_lt 0 (by decide))
          have k_26 : h_24 t = some (.inr (0, [.ref a, x1, x2, x3, x4, x5, x6])) := (z_exB hD0 (by omega) (by omega) hE9 hfrhq_23) _ _ hX
          have k_27 : h_24 a = some (.inr (1, [.ref lr, .ref ls, .ref lv, .int (nI D), .int (w 2), .int (w 4), .int (w 5), .int (w 6)])) := (z_exB hD0 (by omega) (by omega) hE9 hfrhq_23) _ _ h1
          have k_28 : h_24 lr = some (.inr (20, [.int m0, .ref e0, .int (nI R)])) := (z_exB hD0 (by omega) (by omega) hE9 hfrhq_23) _ _ r1
          have k_29 : h_24 e0 = some (.inl ((zm_G M).2.1 5, N0, .inr (.inr (.inr (.inr f0))))) := (z_exB hD0 (by omega) (by omega) hE9 hfrhq_23) _ _ r2
          have k_30 : h_24 ls = some (.inr (20, [.int m9, .ref e, .int (nI S)])) := (z_exB hD0 (by omega) (by omega) hE9 hfrhq_23) _ _ h3
          have k_31 : h_24 e = some (.inl ((zm_G M).2.1 5, N, .inr (.inr (.inr (.inr f))))) := (z_exB hD0 (by omega) (by omega) hE9 hfrhq_23) _ _ h4
          have k_32 : h_24 lv = some (.inr (20, [.int mv, .ref ev, .int (nI S)])) := (z_exB hD0 (by omega) (by omega) hE9 hfrhq_23) _ _ v1
          have k_33 : h_24 ev = some (.inl ((zm_G M).2.1 5, Nv, .inr (.inr (.inr (.inr fv))))) := (z_exB hD0 (by omega) (by omega) hE9 hfrhq_23) _ _ v2
          obtain ⟨fsob_34, ob_34⟩ := z_BF.o hbfhq_23
          refine z_pop hb dX1_writePartition_99 rfl ?_
          refine z_aload_n hb dX1_writePartition_100 rfl ?_
          refine z_aload hb dX1_writePartition_101 rfl ?_
          refine z_callQ1 (b' := ((40 - 4 * g) - 1) - 2) (f' := ((4400 - 600 * g) - 300) - 304) (rest := [.ref t]) (av := [.ref n]) (z_siteV hb ho zc22 ob_34 q2554 q1033 q1034 ⟨_, _, _, _, zk_J5_toString⟩ zy_J5_toString zl_J5_toString dX1_writePartition_103 : z_Site M _ _ _ _ _ ([].reverse ++ .ref n :: [.ref t]) [.ref t] _) zk_J5_toString q101 hrm (m_J5_toString hbfhq_23 (by have := hlnhq_23; omega) hlohq_23) (by omega) (by decide) (Nat.le_of_ble_eq_true rfl) (by omega) (by omega) (fun rhq_35 h_36 n_37 hq_35 hn_37 => ?_)
          obtain ⟨rfl, hq_35⟩ := hq_35
          obtain ⟨hnnhq_35, hsghq_35, hexhq_35⟩ := hq_35
          have k_38 : h_36 t = some (.inr (0, [.ref a, x1, x2, x3, x4, x5, x6])) := (z_ex_t (z_exB hD0 (by omega) (by omega) hE9 hfrhq_23) hexhq_35) _ _ hX
          have k_39 : h_36 a = some (.inr (1, [.ref lr, .ref ls, .ref lv, .int (nI D), .int (w 2), .int (w 4), .int (w 5), .int (w 6)])) := (z_ex_t (z_exB hD0 (by omega) (by omega) hE9 hfrhq_23) hexhq_35) _ _ h1
          have k_40 : h_36 lr = some (.inr (20, [.int m0, .ref e0, .int (nI R)])) := (z_ex_t (z_exB hD0 (by omega) (by omega) hE9 hfrhq_23) hexhq_35) _ _ r1
          have k_41 : h_36 e0 = some (.inl ((zm_G M).2.1 5, N0, .inr (.inr (.inr (.inr f0))))) := (z_ex_t (z_exB hD0 (by omega) (by omega) hE9 hfrhq_23) hexhq_35) _ _ r2
          have k_42 : h_36 ls = some (.inr (20, [.int m9, .ref e, .int (nI S)])) := (z_ex_t (z_exB hD0 (by omega) (by omega) hE9 hfrhq_23) hexhq_35) _ _ h3
          have k_43 : h_36 e = some (.inl ((zm_G M).2.1 5, N, .inr (.inr (.inr (.inr f))))) := (z_ex_t (z_exB hD0 (by omega) (by omega) hE9 hfrhq_23) hexhq_35) _ _ h4
          have k_44 : h_36 lv = some (.inr (20, [.int mv, .ref ev, .int (nI S)])) := (z_ex_t (z_exB hD0 (by omega) (by omega) hE9 hfrhq_23) hexhq_35) _ _ v1
          have k_45 : h_36 ev = some (.inl ((zm_G M).2.1 5, Nv, .inr (.inr (.inr (.inr fv))))) := (z_ex_t (z_exB hD0 (by omega) (by omega) hE9 hfrhq_23) hexhq_35) _ _ v2
          refine z_put (k := 3) (C := RX1) (T := TX1) (N := 7) hb ho zc0 in_X1 tyX1_ok nmX1 (zf_RX1_61 _) dX1_writePartition_106 k_38 ht0 (by decide) (Or.inl rfl) rfl rfl rfl (Nat.le_of_ble_eq_true rfl) ?_
          refine z_hn (fun h_46 eh_46 => ?_)
          have eh_46 : h_46 = z_up h_36 t (.inr (0, [.ref a, x1, x2, .ref n_25, x4, x5, x6])) := eh_46
          have k_47 : h_46 a = some (.inr (1, [.ref lr, .ref ls, .ref lv, .int (nI D), .int (w 2), .int (w 4), .int (w 5), .int (w 6)])) := z_nx eh_46 (z_neO k_39 k_38 rfl) k_39
          have k_48 : h_46 lr = some (.inr (20, [.int m0, .ref e0, .int (nI R)])) := z_nx eh_46 (z_neO k_40 k_38 rfl) k_40
          have k_49 : h_46 e0 = some (.inl ((zm_G M).2.1 5, N0, .inr (.inr (.inr (.inr f0))))) := z_nx eh_46 (z_neA' k_41 k_38) k_41
          have k_50 : h_46 ls = some (.inr (20, [.int m9, .ref e, .int (nI S)])) := z_nx eh_46 (z_neO k_42 k_38 rfl) k_42
          have k_51 : h_46 e = some (.inl ((zm_G M).2.1 5, N, .inr (.inr (.inr (.inr f))))) := z_nx eh_46 (z_neA' k_43 k_38) k_43
          have k_52 : h_46 lv = some (.inr (20, [.int mv, .ref ev, .int (nI S)])) := z_nx eh_46 (z_neO k_44 k_38 rfl) k_44
          have k_53 : h_46 ev = some (.inl ((zm_G M).2.1 5, Nv, .inr (.inr (.inr (.inr fv))))) := z_nx eh_46 (z_neA' k_45 k_38) k_45
          obtain ⟨esso_54, hzso_54, so_54, -⟩ := id (hsghq_35.frx k_38 (by decide) (z_fr_up (P := fun y => y = t) rfl eh_46))
          refine z_aload_n hb dX1_writePartition_109 rfl ?_
          refine z_get (k := 3) (C := RX1) (T := TX1) (N := 7) hb ho zc0 in_X1 (zf_RX1_61 _) dX1_writePartition_110 (z_nxs eh_46) (by decide) rfl ?_
          refine z_callN1 (b' := ((40 - 4 * g) - 1) - 2) (f' := ((4400 - 600 * g) - 300) - 304) (rest := []) (av := [.ref n_25]) (z_siteV hb ho zc23 so_54 q2555 q966 q967 ⟨_, _, _, _, zk_J6_length⟩ zy_J6_length zl_J6_length dX1_writePartition_113 : z_Site M _ _ _ _ _ ([].reverse ++ .ref n_25 :: []) [] _) zk_J6_length q102 hrm (m_J6_length (hsghq_35.frx k_38 (by decide) (z_fr_up (P := fun y => y = t) rfl eh_46))) (by omega) (by decide) (Nat.le_of_ble_eq_true rfl) (by omega) (by omega) (fun n_55 hn_55 => ?_)
          refine z_iret hb hr dX1_writePartition_116 ?_
          rw [hQ]
          obtain rfl : g = 5 := by omega
          have el9 : ((z_pt v k d 5) ++ (z_lits.getD 0 [])) = z_pt v k d 5 ++ (if tw_st w k d then [33] else []) := by rw [c_85]; rfl
          have e9 := (hsghq_35.frx k_38 (by decide) (z_fr_up (P := fun y => y = t) rfl eh_46))
          rw [el9] at e9 ⊢
          exact ⟨_, rfl, rfl, n_25, (z_nxs eh_46), e9, by omega, ((z_fr_up (P := fun y => y = t) rfl eh_46).t0 (z_ex_t (z_exB hD0 (by omega) (by omega) hE9 hfrhq_23) hexhq_35))⟩
        · refine z_ldcwS (i := 54) hb ho rfl rfl rfl dX1_writePartition_88 ?_
          refine z_goto (tgt := 96) hb dX1_writePartition_91 (by decide) ?_
          refine z_callQ1 (b' := (40 - 4 * g) - 1) (f' := (4400 - 600 * g) - 300) (rest := []) (av := [.ref n, .ref ((zm_G M).2.2.1 54)]) (z_siteV hb ho zc22 hob9 q2489 q913 q914 ⟨_, _, _, _, zk_J5_append⟩ zy_J5_append zl_J5_append dX1_writePartition_96 : z_Site M _ _ _ _ _ ([.ref ((zm_G M).2.2.1 54)].reverse ++ .ref n :: []) [] _) zk_J5_append q101 hrm (m_J5_append_s hBg ((hKS 54 (by decide)).ex hE9) (by have := hlp9; have := (show (z_lits.getD 54 []).length ≤ 1 by decide); omega)) (by omega) (by decide) (Nat.le_of_ble_eq_true rfl) (by omega) (by omega) (fun rhq_56 h_57 n_58 hq_56 hn_58 => ?_)
          obtain ⟨rfl, hq_56⟩ := hq_56
          obtain ⟨e9hq_56, hbfhq_56, heehq_56, hfrhq_56⟩ := hq_56
          have hlnhq_56 : ((z_pt v k d g) ++ (z_lits.getD 54 [])).length ≤ 76 := by rw [List.length_append]; have := hlp9; have := (show (z_lits.getD 54 []).length ≤ 1 by decide); show _ + _ ≤ _; omega
          have hlohq_56 := z_alw (z_pt_lt (v := v) (k := k) (d := d) g) (z_lit_lt 54 (by decide))
          have k_59 : h_57 t = some (.inr (0, [.ref a, x1, x2, x3, x4, x5, x6])) := (z_exB hD0 (by omega) (by omega) hE9 hfrhq_56) _ _ hX
          have k_60 : h_57 a = some (.inr (1, [.ref lr, .ref ls, .ref lv, .int (nI D), .int (w 2), .int (w 4), .int (w 5), .int (w 6)])) := (z_exB hD0 (by omega) (by omega) hE9 hfrhq_56) _ _ h1
          have k_61 : h_57 lr = some (.inr (20, [.int m0, .ref e0, .int (nI R)])) := (z_exB hD0 (by omega) (by omega) hE9 hfrhq_56) _ _ r1
          have k_62 : h_57 e0 = some (.inl ((zm_G M).2.1 5, N0, .inr (.inr (.inr (.inr f0))))) := (z_exB hD0 (by omega) (by omega) hE9 hfrhq_56) _ _ r2
          have k_63 : h_57 ls = some (.inr (20, [.int m9, .ref e, .int (nI S)])) := (z_exB hD0 (by omega) (by omega) hE9 hfrhq_56) _ _ h3
          have k_64 : h_57 e = some (.inl ((zm_G M).2.1 5, N, .inr (.inr (.inr (.inr f))))) := (z_exB hD0 (by omega) (by omega) hE9 hfrhq_56) _ _ h4
          have k_65 : h_57 lv = some (.inr (20, [.int mv, .ref ev, .int (nI S)])) := (z_exB hD0 (by omega) (by omega) hE9 hfrhq_56) _ _ v1
          have k_66 : h_57 ev = some (.inl ((zm_G M).2.1 5, Nv, .inr (.inr (.inr (.inr fv))))) := (z_exB hD0 (by omega) (by omega) hE9 hfrhq_56) _ _ v2
          obtain ⟨fsob_67, ob_67⟩ := z_BF.o hbfhq_56
          refine z_pop hb dX1_writePartition_99 rfl ?_
          refine z_aload_n hb dX1_writePartition_100 rfl ?_
          refine z_aload hb dX1_writePartition_101 rfl ?_
          refine z_callQ1 (b' := ((40 - 4 * g) - 1) - 2) (f' := ((4400 - 600 * g) - 300) - 304) (rest := [.ref t]) (av := [.ref n]) (z_siteV hb ho zc22 ob_67 q2554 q1033 q1034 ⟨_, _, _, _, zk_J5_toString⟩ zy_J5_toString zl_J5_toString dX1_writePartition_103 : z_Site M _ _ _ _ _ ([].reverse ++ .ref n :: [.ref t]) [.ref t] _) zk_J5_toString q101 hrm (m_J5_toString hbfhq_56 (by have := hlnhq_56; omega) hlohq_56) (by omega) (by decide) (Nat.le_of_ble_eq_true rfl) (by omega) (by omega) (fun rhq_68 h_69 n_70 hq_68 hn_70 => ?_)
          obtain ⟨rfl, hq_68⟩ := hq_68
          obtain ⟨hnnhq_68, hsghq_68, hexhq_68⟩ := hq_68
          have k_71 : h_69 t = some (.inr (0, [.ref a, x1, x2, x3, x4, x5, x6])) := (z_ex_t (z_exB hD0 (by omega) (by omega) hE9 hfrhq_56) hexhq_68) _ _ hX
          have k_72 : h_69 a = some (.inr (1, [.ref lr, .ref ls, .ref lv, .int (nI D), .int (w 2), .int (w 4), .int (w 5), .int (w 6)])) := (z_ex_t (z_exB hD0 (by omega) (by omega) hE9 hfrhq_56) hexhq_68) _ _ h1
          have k_73 : h_69 lr = some (.inr (20, [.int m0, .ref e0, .int (nI R)])) := (z_ex_t (z_exB hD0 (by omega) (by omega) hE9 hfrhq_56) hexhq_68) _ _ r1
          have k_74 : h_69 e0 = some (.inl ((zm_G M).2.1 5, N0, .inr (.inr (.inr (.inr f0))))) := (z_ex_t (z_exB hD0 (by omega) (by omega) hE9 hfrhq_56) hexhq_68) _ _ r2
          have k_75 : h_69 ls = some (.inr (20, [.int m9, .ref e, .int (nI S)])) := (z_ex_t (z_exB hD0 (by omega) (by omega) hE9 hfrhq_56) hexhq_68) _ _ h3
          have k_76 : h_69 e = some (.inl ((zm_G M).2.1 5, N, .inr (.inr (.inr (.inr f))))) := (z_ex_t (z_exB hD0 (by omega) (by omega) hE9 hfrhq_56) hexhq_68) _ _ h4
          have k_77 : h_69 lv = some (.inr (20, [.int mv, .ref ev, .int (nI S)])) := (z_ex_t (z_exB hD0 (by omega) (by omega) hE9 hfrhq_56) hexhq_68) _ _ v1
          have k_78 : h_69 ev = some (.inl ((zm_G M).2.1 5, Nv, .inr (.inr (.inr (.inr fv))))) := (z_ex_t (z_exB hD0 (by omega) (by omega) hE9 hfrhq_56) hexhq_68) _ _ v2
          refine z_put (k := 3) (C := RX1) (T := TX1) (N := 7) hb ho zc0 in_X1 tyX1_ok nmX1 (zf_RX1_61 _) dX1_writePartition_106 k_71 ht0 (by decide) (Or.inl rfl) rfl rfl rfl (Nat.le_of_ble_eq_true rfl) ?_
          refine z_hn (fun h_79 eh_79 => ?_)
          have eh_79 : h_79 = z_up h_69 t (.inr (0, [.ref a, x1, x2, .ref n_58, x4, x5, x6])) := eh_79
          have k_80 : h_79 a = some (.inr (1, [.ref lr, .ref ls, .ref lv, .int (nI D), .int (w 2), .int (w 4), .int (w 5), .int (w 6)])) := z_nx eh_79 (z_neO k_72 k_71 rfl) k_72
          have k_81 : h_79 lr = some (.inr (20, [.int m0, .ref e0, .int (nI R)])) := z_nx eh_79 (z_neO k_73 k_71 rfl) k_73
          have k_82 : h_79 e0 = some (.inl ((zm_G M).2.1 5, N0, .inr (.inr (.inr (.inr f0))))) := z_nx eh_79 (z_neA' k_74 k_71) k_74
          have k_83 : h_79 ls = some (.inr (20, [.int m9, .ref e, .int (nI S)])) := z_nx eh_79 (z_neO k_75 k_71 rfl) k_75
          have k_84 : h_79 e = some (.inl ((zm_G M).2.1 5, N, .inr (.inr (.inr (.inr f))))) := z_nx eh_79 (z_neA' k_76 k_71) k_76
          have k_85 : h_79 lv = some (.inr (20, [.int mv, .ref ev, .int (nI S)])) := z_nx eh_79 (z_neO k_77 k_71 rfl) k_77
          have k_86 : h_79 ev = some (.inl ((zm_G M).2.1 5, Nv, .inr (.inr (.inr (.inr fv))))) := z_nx eh_79 (z_neA' k_78 k_71) k_78
          obtain ⟨esso_87, hzso_87, so_87, -⟩ := id (hsghq_68.frx k_71 (by decide) (z_fr_up (P := fun y => y = t) rfl eh_79))
          refine z_aload_n hb dX1_writePartition_109 rfl ?_
          refine z_get (k := 3) (C := RX1) (T := TX1) (N := 7) hb ho zc0 in_X1 (zf_RX1_61 _) dX1_writePartition_110 (z_nxs eh_79) (by decide) rfl ?_
          refine z_callN1 (b' := ((40 - 4 * g) - 1) - 2) (f' := ((4400 - 600 * g) - 300) - 304) (rest := []) (av := [.ref n_58]) (z_siteV hb ho zc23 so_87 q2555 q966 q967 ⟨_, _, _, _, zk_J6_length⟩ zy_J6_length zl_J6_length dX1_writePartition_113 : z_Site M _ _ _ _ _ ([].reverse ++ .ref n_58 :: []) [] _) zk_J6_length q102 hrm (m_J6_length (hsghq_68.frx k_71 (by decide) (z_fr_up (P := fun y => y = t) rfl eh_79))) (by omega) (by decide) (Nat.le_of_ble_eq_true rfl) (by omega) (by omega) (fun n_88 hn_88 => ?_)
          refine z_iret hb hr dX1_writePartition_116 ?_
          rw [hQ]
          obtain rfl : g = 5 := by omega
          have el9 : ((z_pt v k d 5) ++ (z_lits.getD 54 [])) = z_pt v k d 5 ++ (if tw_st w k d then [33] else []) := by rw [c_85]; rfl
          have e9 := (hsghq_68.frx k_71 (by decide) (z_fr_up (P := fun y => y = t) rfl eh_79))
          rw [el9] at e9 ⊢
          exact ⟨_, rfl, rfl, n_58, (z_nxs eh_79), e9, by omega, ((z_fr_up (P := fun y => y = t) rfl eh_79).t0 (z_ex_t (z_exB hD0 (by omega) (by omega) hE9 hfrhq_56) hexhq_68))⟩
      · have hlp9 : (z_pt v k d g).length ≤ 60 := Nat.le_trans (z_pt_len g) (by omega)
        refine z_aload hb dX1_writePartition_35 rfl ?_
        refine z_iload hb dX1_writePartition_37 rfl ?_
        refine z_if_neN (tgt := 47) hb dX1_writePartition_39 (by decide) (by omega) (fun c_39 => ?_) (fun c_39 => ?_)
        · refine z_ldcwS (i := 53) hb ho rfl rfl rfl dX1_writePartition_47 ?_
          refine z_callQ1 (b' := (40 - 4 * g) - 1) (f' := (4400 - 600 * g) - 300) (rest := []) (av := [.ref n, .ref ((zm_G M).2.2.1 53)]) (z_siteV hb ho zc22 hob9 q2489 q913 q914 ⟨_, _, _, _, zk_J5_append⟩ zy_J5_append zl_J5_append dX1_writePartition_50 : z_Site M _ _ _ _ _ ([.ref ((zm_G M).2.2.1 53)].reverse ++ .ref n :: []) [] _) zk_J5_append q101 hrm (m_J5_append_s hBg ((hKS 53 (by decide)).ex hE9) (by have := hlp9; have := (show (z_lits.getD 53 []).length ≤ 1 by decide); omega)) (by omega) (by decide) (Nat.le_of_ble_eq_true rfl) (by omega) (by omega) (fun rhq_89 h_90 n_91 hq_89 hn_91 => ?_)
          obtain ⟨rfl, hq_89⟩ := hq_89
          obtain ⟨e9hq_89, hbfhq_89, heehq_89, hfrhq_89⟩ := hq_89
          have hlnhq_89 : ((z_pt v k d g) ++ (z_lits.getD 53 [])).length ≤ 61 := by rw [List.length_append]; have := hlp9; have := (show (z_lits.getD 53 []).length ≤ 1 by decide); show _ + _ ≤ _; omega
          have hlohq_89 := z_alw (z_pt_lt (v := v) (k := k) (d := d) g) (z_lit_lt 53 (by decide))
          have k_92 : h_90 t = some (.inr (0, [.ref a, x1, x2, x3, x4, x5, x6])) := (z_exB hD0 (by omega) (by omega) hE9 hfrhq_89) _ _ hX
          have k_93 : h_90 a = some (.inr (1, [.ref lr, .ref ls, .ref lv, .int (nI D), .int (w 2), .int (w 4), .int (w 5), .int (w 6)])) := (z_exB hD0 (by omega) (by omega) hE9 hfrhq_89) _ _ h1
          have k_94 : h_90 lr = some (.inr (20, [.int m0, .ref e0, .int (nI R)])) := (z_exB hD0 (by omega) (by omega) hE9 hfrhq_89) _ _ r1
          have k_95 : h_90 e0 = some (.inl ((zm_G M).2.1 5, N0, .inr (.inr (.inr (.inr f0))))) := (z_exB hD0 (by omega) (by omega) hE9 hfrhq_89) _ _ r2
          have k_96 : h_90 ls = some (.inr (20, [.int m9, .ref e, .int (nI S)])) := (z_exB hD0 (by omega) (by omega) hE9 hfrhq_89) _ _ h3
          have k_97 : h_90 e = some (.inl ((zm_G M).2.1 5, N, .inr (.inr (.inr (.inr f))))) := (z_exB hD0 (by omega) (by omega) hE9 hfrhq_89) _ _ h4
          have k_98 : h_90 lv = some (.inr (20, [.int mv, .ref ev, .int (nI S)])) := (z_exB hD0 (by omega) (by omega) hE9 hfrhq_89) _ _ v1
          have k_99 : h_90 ev = some (.inl ((zm_G M).2.1 5, Nv, .inr (.inr (.inr (.inr fv))))) := (z_exB hD0 (by omega) (by omega) hE9 hfrhq_89) _ _ v2
          obtain ⟨fsob_100, ob_100⟩ := z_BF.o hbfhq_89
          refine z_aload_n hb dX1_writePartition_53 rfl ?_
          refine z_get (k := 0) (C := RX1) (T := TX1) (N := 7) hb ho zc0 in_X1 (zf_RX1_41 _) dX1_writePartition_54 k_92 (by decide) rfl ?_
          refine z_aload_n hb dX1_writePartition_57 rfl ?_
          refine z_iload_n hb dX1_writePartition_58 rfl ?_
          refine z_iload hb dX1_writePartition_59 rfl ?_
          refine z_call1 (b' := (40 - 4 * g) - 1) (f' := (4400 - 600 * g) - 300) (rest := [.ref n]) (av := [.ref a, .ref (sa k), .int (nI d), .int (nI g)]) (z_siteV hb ho zc1 k_93 q1896 q746 q3285 ⟨_, _, _, _, zk_X2_number⟩ zy_X2_number zl_X2_number dX1_writePartition_61 : z_Site M _ _ _ _ _ ([.ref (sa k), .int (nI d), .int (nI g)].reverse ++ .ref a :: [.ref n]) [.ref n] _) zk_X2_number q95 hrm (m_X2_number (hL.ex (z_exB hD0 (by omega) (by omega) hE9 hfrhq_89)) hk hS8 hD6 hd (show g < 5 by omega)) (by omega) (by decide) (Nat.le_of_ble_eq_true rfl) (by omega) (by omega) ?_
          refine z_callQ1 (b' := ((40 - 4 * g) - 1) - 1) (f' := ((4400 - 600 * g) - 300) - 300) (rest := []) (av := [.ref n, .long (v (5 * (7 * k + d) + g))]) (z_siteV hb ho zc22 ob_100 q2564 q2565 q2566 ⟨_, _, _, _, zk_J5_append_4⟩ zy_J5_append_4 zl_J5_append_4 dX1_writePartition_64 : z_Site M _ _ _ _ _ ([.long (v (5 * (7 * k + d) + g))].reverse ++ .ref n :: []) [] _) zk_J5_append_4 q101 hrm (m_J5_append_J hbfhq_89 ((z_exB hD0 (by omega) (by omega) hE9 hfrhq_89) _ _ hd1) ((z_exB hD0 (by omega) (by omega) hE9 hfrhq_89) _ _ hd2) hn1 (hv _ (by omega)) (by have := hlnhq_89; omega)) (by omega) (by decide) (Nat.le_of_ble_eq_true rfl) (by omega) (by omega) (fun rhq_101 h_102 n_103 hq_101 hn_103 => ?_)
          obtain ⟨rfl, hq_101⟩ := hq_101
          obtain ⟨e9hq_101, hbfhq_101, heehq_101, hfrhq_101⟩ := hq_101
          have hlnhq_101 : (((z_pt v k d g) ++ (z_lits.getD 53 [])) ++ z_cv (v (5 * (7 * k + d) + g))).length ≤ 75 := by rw [List.length_append]; have := hlnhq_89; have := (z_cv_len (v := v (5 * (7 * k + d) + g))); show _ + _ ≤ _; omega
          have hlohq_101 := z_alw hlohq_89 (z_cv_lt (v := v (5 * (7 * k + d) + g)))
          have k_104 : h_102 t = some (.inr (0, [.ref a, x1, x2, x3, x4, x5, x6])) := (z_exB hD0 (by omega) (by omega) (z_exB hD0 (by omega) (by omega) hE9 hfrhq_89) hfrhq_101) _ _ hX
          have k_105 : h_102 a = some (.inr (1, [.ref lr, .ref ls, .ref lv, .int (nI D), .int (w 2), .int (w 4), .int (w 5), .int (w 6)])) := (z_exB hD0 (by omega) (by omega) (z_exB hD0 (by omega) (by omega) hE9 hfrhq_89) hfrhq_101) _ _ h1
          have k_106 : h_102 lr = some (.inr (20, [.int m0, .ref e0, .int (nI R)])) := (z_exB hD0 (by omega) (by omega) (z_exB hD0 (by omega) (by omega) hE9 hfrhq_89) hfrhq_101) _ _ r1
          have k_107 : h_102 e0 = some (.inl ((zm_G M).2.1 5, N0, .inr (.inr (.inr (.inr f0))))) := (z_exB hD0 (by omega) (by omega) (z_exB hD0 (by omega) (by omega) hE9 hfrhq_89) hfrhq_101) _ _ r2
          have k_108 : h_102 ls = some (.inr (20, [.int m9, .ref e, .int (nI S)])) := (z_exB hD0 (by omega) (by omega) (z_exB hD0 (by omega) (by omega) hE9 hfrhq_89) hfrhq_101) _ _ h3
          have k_109 : h_102 e = some (.inl ((zm_G M).2.1 5, N, .inr (.inr (.inr (.inr f))))) := (z_exB hD0 (by omega) (by omega) (z_exB hD0 (by omega) (by omega) hE9 hfrhq_89) hfrhq_101) _ _ h4
          have k_110 : h_102 lv = some (.inr (20, [.int mv, .ref ev, .int (nI S)])) := (z_exB hD0 (by omega) (by omega) (z_exB hD0 (by omega) (by omega) hE9 hfrhq_89) hfrhq_101) _ _ v1
          have k_111 : h_102 ev = some (.inl ((zm_G M).2.1 5, Nv, .inr (.inr (.inr (.inr fv))))) := (z_exB hD0 (by omega) (by omega) (z_exB hD0 (by omega) (by omega) hE9 hfrhq_89) hfrhq_101) _ _ v2
          obtain ⟨fsob_112, ob_112⟩ := z_BF.o hbfhq_101
          refine z_pop hb dX1_writePartition_67 rfl ?_
          refine z_iinc (k0 := 0) (lv' := [(5, .int (nI (g + 1))), (4, .ref n), (3, .ref (sa k)), (0, .ref t), (1, .int (nI k)), (2, .int (nI d))]) hb dX1_writePartition_68 rfl (nI_1 g) (by rw [hN]; decide) rfl ?_
          refine z_goto (tgt := 29) hb dX1_writePartition_71 (by decide) ?_
          refine z_lv [0, 1, 2, 3, 4, 5] (lv' := [(5, .int (nI (g + 1))), (4, .ref n), (3, .ref (sa k)), (0, .ref t), (1, .int (nI k)), (2, .int (nI d))]) rfl ?_
          exact z_bf (by omega) (by omega) (ih_29 (g + 1) n_103 h_102 e9hq_101 (by omega) (by omega) (by omega) (z_exB hD0 (by omega) (by omega) (z_exB hD0 (by omega) (by omega) hE9 hfrhq_89) hfrhq_101) (by rw [z_pt, if_neg (by omega), ← List.append_assoc]; exact hbfhq_101) (by omega))
        · refine z_ldcS (i := 0) hb ho rfl rfl rfl dX1_writePartition_42 ?_
          refine z_goto (tgt := 50) hb dX1_writePartition_44 (by decide) ?_
          refine z_callQ1 (b' := (40 - 4 * g) - 1) (f' := (4400 - 600 * g) - 300) (rest := []) (av := [.ref n, .ref ((zm_G M).2.2.1 0)]) (z_siteV hb ho zc22 hob9 q2489 q913 q914 ⟨_, _, _, _, zk_J5_append⟩ zy_J5_append zl_J5_append dX1_writePartition_50 : z_Site M _ _ _ _ _ ([.ref ((zm_G M).2.2.1 0)].reverse ++ .ref n :: []) [] _) zk_J5_append q101 hrm (m_J5_append_s hBg ((hKS 0 (by decide)).ex hE9) (by have := hlp9; have := (show (z_lits.getD 0 []).length ≤ 0 by decide); omega)) (by omega) (by decide) (Nat.le_of_ble_eq_true rfl) (by omega) (by omega) (fun rhq_113 h_114 n_115 hq_113 hn_115 => ?_)
          obtain ⟨rfl, hq_113⟩ := hq_113
          obtain ⟨e9hq_113, hbfhq_113, heehq_113, hfrhq_113⟩ := hq_113
          have hlnhq_113 : ((z_pt v k d g) ++ (z_lits.getD 0 [])).length ≤ 60 := by rw [List.length_append]; have := hlp9; have := (show (z_lits.getD 0 []).length ≤ 0 by decide); show _ + _ ≤ _; omega
          have hlohq_113 := z_alw (z_pt_lt (v := v) (k := k) (d := d) g) (z_lit_lt 0 (by decide))
          have k_116 : h_114 t = some (.inr (0, [.ref a, x1, x2, x3, x4, x5, x6])) := (z_exB hD0 (by omega) (by omega) hE9 hfrhq_113) _ _ hX
          have k_117 : h_114 a = some (.inr (1, [.ref lr, .ref ls, .ref lv, .int (nI D), .int (w 2), .int (w 4), .int (w 5), .int (w 6)])) := (z_exB hD0 (by omega) (by omega) hE9 hfrhq_113) _ _ h1
          have k_118 : h_114 lr = some (.inr (20, [.int m0, .ref e0, .int (nI R)])) := (z_exB hD0 (by omega) (by omega) hE9 hfrhq_113) _ _ r1
          have k_119 : h_114 e0 = some (.inl ((zm_G M).2.1 5, N0, .inr (.inr (.inr (.inr f0))))) := (z_exB hD0 (by omega) (by omega) hE9 hfrhq_113) _ _ r2
          have k_120 : h_114 ls = some (.inr (20, [.int m9, .ref e, .int (nI S)])) := (z_exB hD0 (by omega) (by omega) hE9 hfrhq_113) _ _ h3
          have k_121 : h_114 e = some (.inl ((zm_G M).2.1 5, N, .inr (.inr (.inr (.inr f))))) := (z_exB hD0 (by omega) (by omega) hE9 hfrhq_113) _ _ h4
          have k_122 : h_114 lv = some (.inr (20, [.int mv, .ref ev, .int (nI S)])) := (z_exB hD0 (by omega) (by omega) hE9 hfrhq_113) _ _ v1
          have k_123 : h_114 ev = some (.inl ((zm_G M).2.1 5, Nv, .inr (.inr (.inr (.inr fv))))) := (z_exB hD0 (by omega) (by omega) hE9 hfrhq_113) _ _ v2
          obtain ⟨fsob_124, ob_124⟩ := z_BF.o hbfhq_113
          refine z_aload_n hb dX1_writePartition_53 rfl ?_
          refine z_get (k := 0) (C := RX1) (T := TX1) (N := 7) hb ho zc0 in_X1 (zf_RX1_41 _) dX1_writePartition_54 k_116 (by decide) rfl ?_
          refine z_aload_n hb dX1_writePartition_57 rfl ?_
          refine z_iload_n hb dX1_writePartition_58 rfl ?_
          refine z_iload hb dX1_writePartition_59 rfl ?_
          refine z_call1 (b' := (40 - 4 * g) - 1) (f' := (4400 - 600 * g) - 300) (rest := [.ref n]) (av := [.ref a, .ref (sa k), .int (nI d), .int (nI g)]) (z_siteV hb ho zc1 k_117 q1896 q746 q3285 ⟨_, _, _, _, zk_X2_number⟩ zy_X2_number zl_X2_number dX1_writePartition_61 : z_Site M _ _ _ _ _ ([.ref (sa k), .int (nI d), .int (nI g)].reverse ++ .ref a :: [.ref n]) [.ref n] _) zk_X2_number q95 hrm (m_X2_number (hL.ex (z_exB hD0 (by omega) (by omega) hE9 hfrhq_113)) hk hS8 hD6 hd (show g < 5 by omega)) (by omega) (by decide) (Nat.le_of_ble_eq_true rfl) (by omega) (by omega) ?_
          refine z_callQ1 (b' := ((40 - 4 * g) - 1) - 1) (f' := ((4400 - 600 * g) - 300) - 300) (rest := []) (av := [.ref n, .long (v (5 * (7 * k + d) + g))]) (z_siteV hb ho zc22 ob_124 q2564 q2565 q2566 ⟨_, _, _, _, zk_J5_append_4⟩ zy_J5_append_4 zl_J5_append_4 dX1_writePartition_64 : z_Site M _ _ _ _ _ ([.long (v (5 * (7 * k + d) + g))].reverse ++ .ref n :: []) [] _) zk_J5_append_4 q101 hrm (m_J5_append_J hbfhq_113 ((z_exB hD0 (by omega) (by omega) hE9 hfrhq_113) _ _ hd1) ((z_exB hD0 (by omega) (by omega) hE9 hfrhq_113) _ _ hd2) hn1 (hv _ (by omega)) (by have := hlnhq_113; omega)) (by omega) (by decide) (Nat.le_of_ble_eq_true rfl) (by omega) (by omega) (fun rhq_125 h_126 n_127 hq_125 hn_127 => ?_)
          obtain ⟨rfl, hq_125⟩ := hq_125
          obtain ⟨e9hq_125, hbfhq_125, heehq_125, hfrhq_125⟩ := hq_125
          have hlnhq_125 : (((z_pt v k d g) ++ (z_lits.getD 0 [])) ++ z_cv (v (5 * (7 * k + d) + g))).length ≤ 74 := by rw [List.length_append]; have := hlnhq_113; have := (z_cv_len (v := v (5 * (7 * k + d) + g))); show _ + _ ≤ _; omega
          have hlohq_125 := z_alw hlohq_113 (z_cv_lt (v := v (5 * (7 * k + d) + g)))
          have k_128 : h_126 t = some (.inr (0, [.ref a, x1, x2, x3, x4, x5, x6])) := (z_exB hD0 (by omega) (by omega) (z_exB hD0 (by omega) (by omega) hE9 hfrhq_113) hfrhq_125) _ _ hX
          have k_129 : h_126 a = some (.inr (1, [.ref lr, .ref ls, .ref lv, .int (nI D), .int (w 2), .int (w 4), .int (w 5), .int (w 6)])) := (z_exB hD0 (by omega) (by omega) (z_exB hD0 (by omega) (by omega) hE9 hfrhq_113) hfrhq_125) _ _ h1
          have k_130 : h_126 lr = some (.inr (20, [.int m0, .ref e0, .int (nI R)])) := (z_exB hD0 (by omega) (by omega) (z_exB hD0 (by omega) (by omega) hE9 hfrhq_113) hfrhq_125) _ _ r1
          have k_131 : h_126 e0 = some (.inl ((zm_G M).2.1 5, N0, .inr (.inr (.inr (.inr f0))))) := (z_exB hD0 (by omega) (by omega) (z_exB hD0 (by omega) (by omega) hE9 hfrhq_113) hfrhq_125) _ _ r2
          have k_132 : h_126 ls = some (.inr (20, [.int m9, .ref e, .int (nI S)])) := (z_exB hD0 (by omega) (by omega) (z_exB hD0 (by omega) (by omega) hE9 hfrhq_113) hfrhq_125) _ _ h3
          have k_133 : h_126 e = some (.inl ((zm_G M).2.1 5, N, .inr (.inr (.inr (.inr f))))) := (z_exB hD0 (by omega) (by omega) (z_exB hD0 (by omega) (by omega) hE9 hfrhq_113) hfrhq_125) _ _ h4
          have k_134 : h_126 lv = some (.inr (20, [.int mv, .ref ev, .int (nI S)])) := (z_exB hD0 (by omega) (by omega) (z_exB hD0 (by omega) (by omega) hE9 hfrhq_113) hfrhq_125) _ _ v1
          have k_135 : h_126 ev = some (.inl ((zm_G M).2.1 5, Nv, .inr (.inr (.inr (.inr fv))))) := (z_exB hD0 (by omega) (by omega) (z_exB hD0 (by omega) (by omega) hE9 hfrhq_113) hfrhq_125) _ _ v2
          obtain ⟨fsob_136, ob_136⟩ := z_BF.o hbfhq_125
          refine z_pop hb dX1_writePartition_67 rfl ?_
          refine z_iinc (k0 := 0) (lv' := [(5, .int (nI (g + 1))), (4, .ref n), (3, .ref (sa k)), (0, .ref t), (1, .int (nI k)), (2, .int (nI d))]) hb dX1_writePartition_68 rfl (nI_1 g) (by rw [hN]; decide) rfl ?_
          refine z_goto (tgt := 29) hb dX1_writePartition_71 (by decide) ?_
          refine z_lv [0, 1, 2, 3, 4, 5] (lv' := [(5, .int (nI (g + 1))), (4, .ref n), (3, .ref (sa k)), (0, .ref t), (1, .int (nI k)), (2, .int (nI d))]) rfl ?_
          exact z_bf (by omega) (by omega) (ih_29 (g + 1) n_127 h_126 e9hq_125 (by omega) (by omega) (by omega) (z_exB hD0 (by omega) (by omega) (z_exB hD0 (by omega) (by omega) hE9 hfrhq_113) hfrhq_125) (by rw [z_pt, if_pos c_39, ← List.append_assoc]; exact hbfhq_125) (by omega))
  refine z_lv [0, 1, 2, 3, 4, 5] (lv' := [(5, .int (nI 0)), (4, .ref n), (3, .ref (sa k)), (0, .ref t), (1, .int (nI k)), (2, .int (nI d))]) rfl ?_
  exact z_bf (by omega) (by omega) (lp_29 _ 0 n_13 h_12 (n + 1) (Nat.lt_succ_self _) (by omega) (by omega) (z_exT hD0 (by omega) (z_exN z_ex_r hD_1 eh_2) hfrhq_11) hbfhq_11 (by omega))

set_option maxHeartbeats 1000000 in
theorem m_X1_writePartition_no1 {l : Launch} {G : zG} {h : zH} {n : Nat} {t : Nat} {x1 x2 x3 x4 x5 x6 : Value} {w : Nat → Int32} {v : Nat → Int64} {R S D a lr ls lv : Nat} {ra sa va : Nat → Nat} {x y : Int32} (hX : h t = some (.inr (0, [.ref a, x1, x2, x3, x4, x5, x6]))) (hL : z_Ln G h w v R S D a lr ls lv ra sa va) (hS8 : S ≤ 8) (hx : tw_isS S x = false) : z_C l G yX1_writePartition 12 50 4400 [.ref t, .int x, .int y] h n (z_tf 28 [] h n) := by
  refine z_start zk_X1_writePartition zpl_RX1 (Nat.le_of_ble_eq_true rfl) ?_
  intro hn0 M hl hG ho hb hN hr hm hH hrm hQ
  subst hl hG
  have ho : zm_o M = RX1 := ho
  obtain ⟨h1, ⟨e0, N0, m0, f0, r1, r2, r3, ⟨r4, r4n⟩, r5⟩, ⟨e, N, m9, f, h3, h4, h5, ⟨h6, h6n⟩, h7⟩, ⟨ev, Nv, mv, fv, v1, v2, v3, ⟨v4, v4n⟩, v5⟩, h9, hs, hv, hi, hrI⟩ := id hL
  show z_V M h n 50 4400 0 [(0, .ref t), (1, .int x), (2, .int y)] []
  refine z_dom (fun hD0 => ?_)
  refine z_aload_n hb dX1_writePartition_0 rfl ?_
  refine z_get (k := 0) (C := RX1) (T := TX1) (N := 7) hb ho zc0 in_X1 (zf_RX1_41 _) dX1_writePartition_1 hX (by decide) rfl ?_
  refine z_iload_n hb dX1_writePartition_4 rfl ?_
  refine z_callTf (b' := 49) (f' := 4394) (rest := []) (av := [.ref a, .int x]) (z_siteV hb ho zc1 h1 q1842 q1506 q1507 ⟨_, _, _, _, zk_X2_step⟩ zy_X2_step zl_X2_step dX1_writePartition_5 : z_Site M _ _ _ _ _ ([.int x].reverse ++ .ref a :: []) [] _) zk_X2_step q95 hrm (z_C.tf (m_X2_step_no hL hS8 hx)) (by omega) (by decide) (Nat.le_of_ble_eq_true rfl) (by omega) (by omega) (fun q_1 n_2 hq_1 hn_2 => ?_)
  exact z_out ho hH zc28 z_up_s (by omega) (fun _ h => nomatch h) (by rw [hQ]; exact ⟨_, rfl, by omega, by omega, rfl⟩)

set_option maxHeartbeats 1000000 in
theorem m_X1_writePartition_no2 {l : Launch} {G : zG} {h : zH} {n : Nat} {t : Nat} {x1 x2 x3 x4 x5 x6 : Value} {w : Nat → Int32} {v : Nat → Int64} {R S D a lr ls lv : Nat} {ra sa va : Nat → Nat} {k : Nat} {x : Int32} (hX : h t = some (.inr (0, [.ref a, x1, x2, x3, x4, x5, x6]))) (hL : z_Ln G h w v R S D a lr ls lv ra sa va) (hS8 : S ≤ 8) (hk : k < S) (hD6 : D ≤ 6) (hx : decide (nI 0 ≤ x ∧ x ≤ nI D) = false) : z_C l G yX1_writePartition 12 50 4400 [.ref t, .int (nI k), .int x] h n (z_tf 27 [] h n) := by
  refine z_start zk_X1_writePartition zpl_RX1 (Nat.le_of_ble_eq_true rfl) ?_
  intro hn0 M hl hG ho hb hN hr hm hH hrm hQ
  subst hl hG
  have ho : zm_o M = RX1 := ho
  obtain ⟨h1, ⟨e0, N0, m0, f0, r1, r2, r3, ⟨r4, r4n⟩, r5⟩, ⟨e, N, m9, f, h3, h4, h5, ⟨h6, h6n⟩, h7⟩, ⟨ev, Nv, mv, fv, v1, v2, v3, ⟨v4, v4n⟩, v5⟩, h9, hs, hv, hi, hrI⟩ := id hL
  show z_V M h n 50 4400 0 [(0, .ref t), (1, .int (nI k)), (2, .int x)] []
  refine z_dom (fun hD0 => ?_)
  refine z_aload_n hb dX1_writePartition_0 rfl ?_
  refine z_get (k := 0) (C := RX1) (T := TX1) (N := 7) hb ho zc0 in_X1 (zf_RX1_41 _) dX1_writePartition_1 hX (by decide) rfl ?_
  refine z_iload_n hb dX1_writePartition_4 rfl ?_
  refine z_call1 (b' := 49) (f' := 4394) (rest := []) (av := [.ref a, .int (nI k)]) (z_siteV hb ho zc1 h1 q1842 q1506 q1507 ⟨_, _, _, _, zk_X2_step⟩ zy_X2_step zl_X2_step dX1_writePartition_5 : z_Site M _ _ _ _ _ ([.int (nI k)].reverse ++ .ref a :: []) [] _) zk_X2_step q95 hrm (m_X2_step hL hS8 hk) (by omega) (by decide) (Nat.le_of_ble_eq_true rfl) (by omega) (by omega) ?_
  refine z_astore_n (lv' := [(3, .ref (sa k)), (0, .ref t), (1, .int (nI k)), (2, .int x)]) hb dX1_writePartition_8 (by rw [hN]; decide) rfl ?_
  refine z_aload_n hb dX1_writePartition_9 rfl ?_
  refine z_get (k := 0) (C := RX1) (T := TX1) (N := 7) hb ho zc0 in_X1 (zf_RX1_41 _) dX1_writePartition_10 hX (by decide) rfl ?_
  refine z_iload_n hb dX1_writePartition_13 rfl ?_
  refine z_callTf (b' := 48) (f' := 4388) (rest := []) (av := [.ref a, .int x]) (z_siteV hb ho zc1 h1 q1894 q1610 q1611 ⟨_, _, _, _, zk_X2_requireDay⟩ zy_X2_requireDay zl_X2_requireDay dX1_writePartition_14 : z_Site M _ _ _ _ _ ([.int x].reverse ++ .ref a :: []) [] _) zk_X2_requireDay q95 hrm (z_C.tf (m_X2_requireDay_no h1 hD6 hx)) (by omega) (by decide) (Nat.le_of_ble_eq_true rfl) (by omega) (by omega) (fun q_1 n_2 hq_1 hn_2 => ?_)
  exact z_out ho hH zc27 z_up_s (by omega) (fun _ h => nomatch h) (by rw [hQ]; exact ⟨_, rfl, by omega, by omega, rfl⟩)

set_option maxHeartbeats 1000000 in
theorem m_X1_lineCharacter_ok {l : Launch} {G : zG} {h : zH} {n : Nat} {t li : Nat} {x0 x1 x2 x4 x5 x6 : Value} {ch : List Nat} {hs9 : Int32} {i : Nat} (hX : h t = some (.inr (0, [x0, x1, x2, .ref li, x4, x5, x6]))) (hSg : z_Sg G h li ch hs9) (hi : i < ch.length) (hc100 : ch.length ≤ 100) : z_C l G yX1_lineCharacter 7 1 6 [.ref t, .int (nI i)] h n (z_rn (.int (nI (ch.getD i 0))) h) := by
  refine z_start zk_X1_lineCharacter zpl_RX1 (Nat.le_of_ble_eq_true rfl) ?_
  intro hn0 M hl hG ho hb hN hr hm hH hrm hQ
  subst hl hG
  have ho : zm_o M = RX1 := ho
  obtain ⟨es, hz9, a1, a2, a3, a4⟩ := id hSg
  have hcc := z_Sg_c hSg i
  show z_V M h n 1 6 0 [(0, .ref t), (1, .int (nI i))] []
  refine z_dom (fun hD0 => ?_)
  refine z_iload_n hb dX1_lineCharacter_0 rfl ?_
  refine z_aload_n hb dX1_lineCharacter_1 rfl ?_
  refine z_get (k := 3) (C := RX1) (T := TX1) (N := 7) hb ho zc0 in_X1 (zf_RX1_61 _) dX1_lineCharacter_2 hX (by decide) rfl ?_
  refine z_callN1 (b' := 1) (f' := 6) (rest := [.int (nI i)]) (av := [.ref li]) (z_siteV hb ho zc23 a1 q2555 q966 q967 ⟨_, _, _, _, zk_J6_length⟩ zy_J6_length zl_J6_length dX1_lineCharacter_5 : z_Site M _ _ _ _ _ ([].reverse ++ .ref li :: [.int (nI i)]) [.int (nI i)] _) zk_J6_length q102 hrm (m_J6_length hSg) (by omega) (by decide) (Nat.le_of_ble_eq_true rfl) (by omega) (by omega) (fun n_1 hn_1 => ?_)
  refine z_callC0 (b' := 0) (f' := 0) (rest := []) (av := [.int (nI i), .int (nI ch.length)]) (z_siteS hb ho q2599 q1510 q94 ⟨_, _, _, _, zk_X1_requireIndex⟩ zy_X1_requireIndex zl_X1_requireIndex dX1_lineCharacter_8 : z_Site M _ _ _ _ _ ([.int (nI i), .int (nI ch.length)].reverse ++ []) [] _) zk_X1_requireIndex q94 hrm (m_X1_requireIndex (nI i) ch.length) (by omega) (by decide) (Nat.le_of_ble_eq_true rfl) (by omega) (by omega) (fun c_8 => ?_) (fun c_8 => ?_)
  · refine z_aload_n hb dX1_lineCharacter_11 rfl ?_
    refine z_get (k := 3) (C := RX1) (T := TX1) (N := 7) hb ho zc0 in_X1 (zf_RX1_61 _) dX1_lineCharacter_12 hX (by decide) rfl ?_
    refine z_iload_n hb dX1_lineCharacter_15 rfl ?_
    refine z_callN1 (b' := 0) (f' := 0) (rest := []) (av := [.ref li, .int (nI i)]) (z_siteV hb ho zc23 a1 q2600 q2601 q2602 ⟨_, _, _, _, zk_J6_charAt⟩ zy_J6_charAt zl_J6_charAt dX1_lineCharacter_16 : z_Site M _ _ _ _ _ ([.int (nI i)].reverse ++ .ref li :: []) [] _) zk_J6_charAt q102 hrm (m_J6_charAt hSg (by omega)) (by omega) (by decide) (Nat.le_of_ble_eq_true rfl) (by omega) (by omega) (fun n_2 hn_2 => ?_)
    refine z_zret hb hr (pk_charN (by omega)).1 dX1_lineCharacter_19 ?_
    rw [hQ]
    exact ⟨rfl, rfl⟩
  · rw [z_inR hi (by omega)] at c_8; cases c_8

set_option maxHeartbeats 1000000 in
theorem m_X1_lineCharacter_no {l : Launch} {G : zG} {h : zH} {n : Nat} {t li : Nat} {x0 x1 x2 x4 x5 x6 : Value} {ch : List Nat} {hs9 : Int32} {x : Int32} (hX : h t = some (.inr (0, [x0, x1, x2, .ref li, x4, x5, x6]))) (hSg : z_Sg G h li ch hs9) (hx : decide (nI 0 ≤ x ∧ x ≤ nI ch.length - nI 1) = false) (hc100 : ch.length ≤ 100) : z_C l G yX1_lineCharacter 7 1 6 [.ref t, .int x] h n (z_tf 28 [] h n) := by
  refine z_start zk_X1_lineCharacter zpl_RX1 (Nat.le_of_ble_eq_true rfl) ?_
  intro hn0 M hl hG ho hb hN hr hm hH hrm hQ
  subst hl hG
  have ho : zm_o M = RX1 := ho
  obtain ⟨es, hz9, a1, a2, a3, a4⟩ := id hSg
  show z_V M h n 1 6 0 [(0, .ref t), (1, .int x)] []
  refine z_dom (fun hD0 => ?_)
  refine z_iload_n hb dX1_lineCharacter_0 rfl ?_
  refine z_aload_n hb dX1_lineCharacter_1 rfl ?_
  refine z_get (k := 3) (C := RX1) (T := TX1) (N := 7) hb ho zc0 in_X1 (zf_RX1_61 _) dX1_lineCharacter_2 hX (by decide) rfl ?_
  refine z_callN1 (b' := 1) (f' := 6) (rest := [.int x]) (av := [.ref li]) (z_siteV hb ho zc23 a1 q2555 q966 q967 ⟨_, _, _, _, zk_J6_length⟩ zy_J6_length zl_J6_length dX1_lineCharacter_5 : z_Site M _ _ _ _ _ ([].reverse ++ .ref li :: [.int x]) [.int x] _) zk_J6_length q102 hrm (m_J6_length hSg) (by omega) (by decide) (Nat.le_of_ble_eq_true rfl) (by omega) (by omega) (fun n_1 hn_1 => ?_)
  refine z_callC0 (b' := 0) (f' := 0) (rest := []) (av := [.int x, .int (nI ch.length)]) (z_siteS hb ho q2599 q1510 q94 ⟨_, _, _, _, zk_X1_requireIndex⟩ zy_X1_requireIndex zl_X1_requireIndex dX1_lineCharacter_8 : z_Site M _ _ _ _ _ ([.int x, .int (nI ch.length)].reverse ++ []) [] _) zk_X1_requireIndex q94 hrm (m_X1_requireIndex x ch.length) (by omega) (by decide) (Nat.le_of_ble_eq_true rfl) (by omega) (by omega) (fun c_8 => ?_) (fun c_8 => ?_)
  · rw [hx] at c_8; cases c_8
  · exact z_out ho hH zc28 z_up_s (by omega) (fun _ h => nomatch h) (by rw [hQ]; exact ⟨_, rfl, by omega, Nat.lt_succ_self _, rfl⟩)

