def z_wd (kd : Nat) : List Nat := [[114, 111, 119], [103, 111, 110, 101], [110, 101, 120, 116], [98, 97, 115, 101], [112, 97, 105, 114], [114, 117, 110], [107, 101, 101, 112], [99, 117, 116], [114, 101, 112, 97, 105, 114]].getD kd []
theorem z_xc_ok (kd code : Nat) : ∃ r, zCL[z_xc kd code]? = some r := by
  unfold z_xc
  split <;> (try split) <;> first | exact ⟨_, zc26⟩ | exact ⟨_, zc27⟩ | exact ⟨_, zc28⟩
section ZR9
variable {G : zG} {h : zH} {n b0 : Nat} {w : Nat → Int32} {v : Nat → Int64} {R S D a kd : Nat} {x y z : Int32}
theorem z_res_n {n1 : Nat} {o : Outcome} {h' : zH} {n' : Nat} (hn : n ≤ n1) (q : z_res G h n1 b0 w v R S D a kd x y z o h' n') : z_res G h n b0 w v R S D a kd x y z o h' n' := by
  rcases q with q | ⟨r, d, q1, q2, q3, q4, q5, q6⟩ | ⟨q1, q2, q3, q4, q5, q6⟩
  · exact Or.inl q
  · exact Or.inr (Or.inl ⟨r, d, q1, q2, q3, q4, by omega, q6⟩)
  · exact Or.inr (Or.inr ⟨q1, q2, q3, q4, by omega, q6⟩)
theorem z_res_v {v9 : Option Value} {h' : zH} {n' : Nat} (q : z_res G h n b0 w v R S D a kd x y z (.returned v9) h' n') : v9 = some (.int (tC_go w v R S D kd x y z).2.2.1) := by
  rcases q with ⟨-, w9, e, e2, -⟩ | ⟨r, d, q1, q2, q3, q4, -⟩ | ⟨q1, q2, q3, q4, -⟩
  · cases e; rw [e2]
  · cases q4
  · cases q4
/-- an exception that a command threw leaves the method -/
theorem z_res_out {M : zM} {own : String} {pc b f q : Nat} {lv : List (Nat × Value)} {h' : zH} {n' : Nat} (ho : zm_o M = own) (hH : zm_h M = []) (hn0 : z_n0 (zm_G M) ≤ n) (hQ : zm_Q M = z_res (zm_G M) h n b0 w v R S D a kd x y z) (q9 : z_res (zm_G M) h n b0 w v R S D a kd x y z (.threw q) h' n') : z_X M h' n' b f pc lv q := by
  have q8 := q9
  rcases q9 with ⟨-, w9, e, -⟩ | ⟨r, d, q1, q2, q3, e, q5, q6, q7⟩ | ⟨q1, q2, q3, e, q5, q6, q7⟩
  · cases e
  · cases e
    rw [q7] at q8 ⊢
    exact z_out ho hH zc5 z_up_s (by omega) (fun _ h => nomatch h) (by rw [hQ]; exact q8)
  · cases e
    obtain ⟨rr, hr⟩ := z_xc_ok kd (tC_why w R S D kd x y z).1
    rw [q7] at q8 ⊢
    exact z_out ho hH hr z_up_s (by omega) (fun _ h => nomatch h) (by rw [hQ]; exact q8)
end ZR9

set_option maxHeartbeats 1000000 in
theorem m_X5_apply_0 {l : Launch} {G : zG} {h : zH} {n : Nat} {b0 : Nat} {w : Nat → Int32} {v : Nat → Int64} {R S D a lr er ls es lv ev : Nat} {ra sa va na ba : Nat → Nat} {c9 t wo sg : Nat} {x y : Int32} (hDr : z_Dr G h b0 w v R S D a lr er ls es lv ev ra sa va na ba) (hb0 : z_n0 G ≤ b0) (hbn : b0 ≤ n) (hI : z_inv w v R S D c9) (hOE : h (G.2.2.1 1003) = some (.inr (25, [.null]))) (hKS : z_KS G h) (hc16 : sg < 65536) (htc : h t = some (.inr (4, [.ref wo, .int (nI sg), .int x, .int y]))) (hSw : z_Sg G h wo (z_wd 0) (z_hs (z_wd 0))) : z_C l G yX5_apply 41 100 1000 [.ref t, .ref a] h n (z_res G h n b0 w v R S D a 0 (nI sg) x y) := by
  refine z_start zk_X5_apply zpl_RX5 (Nat.le_of_ble_eq_true rfl) ?_
  intro hn0 M hl hG ho hb hN hr hm hH hrm hQ
  subst hl hG
  have ho : zm_o M = RX5 := ho
  obtain ⟨ew, hzw, w1, w2, w3, w4⟩ := id hSw
  show z_V M h n 100 1000 0 [(0, .ref t), (1, .ref a)] []
  refine z_dom (fun hD0 => ?_)
  refine z_aload_n hb dX5_apply_0 rfl ?_
  refine z_get (k := 0) (C := RX5) (T := TX5) (N := 4) hb ho zc4 in_X5 (zf_RX5_7 _) dX5_apply_1 htc (by decide) rfl ?_
  refine z_astore_n (lv' := [(2, .ref wo), (0, .ref t), (1, .ref a)]) hb dX5_apply_4 (by rw [hN]; decide) rfl ?_
  refine z_iconst (x := (-1)) hb dX5_apply_5 (by decide) ?_
  refine z_istore_n (lv' := [(3, .int (-1)), (2, .ref wo), (0, .ref t), (1, .ref a)]) hb dX5_apply_6 (by rw [hN]; decide) rfl ?_
  refine z_aload_n hb dX5_apply_7 rfl ?_
  refine z_callN1 (b' := 100) (f' := 1000) (rest := []) (av := [.ref wo]) (z_siteV hb ho zc23 w1 q840 q841 q842 ⟨_, _, _, _, zk_J6_hashCode⟩ zy_J6_hashCode zl_J6_hashCode dX5_apply_8 : z_Site M _ _ _ _ _ ([].reverse ++ .ref wo :: []) [] _) zk_J6_hashCode q102 hrm (m_J6_hashCode_c hSw (by decide +kernel)) (by omega) (by decide) (Nat.le_of_ble_eq_true rfl) (by omega) (by omega) (fun n_1 hn_1 => ?_)
  refine z_toI (y := nI 113114) (by decide +kernel) ?_
  refine z_lookup (off := 73) (tgt := 84) hb dX5_apply_11 (by decide) (by decide +kernel) (by decide) ?_
  refine z_aload_n hb dX5_apply_84 rfl ?_
  refine z_ldcS (i := 4) hb ho rfl rfl rfl dX5_apply_85 ?_
  refine z_callN1 (b' := 100) (f' := 1000) (rest := []) (av := [.ref wo, .ref ((zm_G M).2.2.1 4)]) (z_siteV hb ho zc23 w1 q1119 q647 q3284 ⟨_, _, _, _, zk_J6_equals⟩ zy_J6_equals zl_J6_equals dX5_apply_87 : z_Site M _ _ _ _ _ ([.ref ((zm_G M).2.2.1 4)].reverse ++ .ref wo :: []) [] _) zk_J6_equals q102 hrm (m_J6_equals hSw (hKS 4 (by decide))) (by omega) (by decide) (Nat.le_of_ble_eq_true rfl) (by omega) (by omega) (fun n_2 hn_2 => ?_)
  refine z_toI (y := z_b true) (by decide +kernel) ?_
  refine z_ifb_eq (tgt := 195) hb dX5_apply_90 (by decide) (fun c_90 => ?_) (fun c_90 => ?_)
  · cases c_90
  · refine z_iconst (x := nI 0) hb dX5_apply_93 (by decide) ?_
    refine z_istore_n (lv' := [(3, .int (nI 0)), (2, .ref wo), (0, .ref t), (1, .ref a)]) hb dX5_apply_94 (by rw [hN]; decide) rfl ?_
    refine z_goto (tgt := 195) hb dX5_apply_95 (by decide) ?_
    refine z_iload_n hb dX5_apply_195 rfl ?_
    refine z_tableIn (off := 48) (tgt := 244) hb dX5_apply_196 (by decide) (by decide) rfl (by decide) ?_
    refine z_aload_n hb dX5_apply_244 rfl ?_
    refine z_aload_n hb dX5_apply_245 rfl ?_
    refine z_get (k := 1) (C := RX5) (T := TX5) (N := 4) hb ho zc4 in_X5 (zf_RX5_13 _) dX5_apply_246 htc (by decide) rfl ?_
    refine z_aload_n hb dX5_apply_249 rfl ?_
    refine z_get (k := 2) (C := RX5) (T := TX5) (N := 4) hb ho zc4 in_X5 (zf_RX5_17 _) dX5_apply_250 htc (by decide) rfl ?_
    refine z_aload_n hb dX5_apply_253 rfl ?_
    refine z_get (k := 3) (C := RX5) (T := TX5) (N := 4) hb ho zc4 in_X5 (zf_RX5_21 _) dX5_apply_254 htc (by decide) rfl ?_
    refine z_call (b' := 0) (f' := 0) (rest := []) (av := [.ref a, .int (nI sg), .int x, .int y]) (z_siteV hb ho zc1 hDr.1.2 q1127 q1128 q1129 ⟨_, _, _, _, zk_X2_addRow⟩ zy_X2_addRow zl_X2_addRow dX5_apply_257 : z_Site M _ _ _ _ _ ([.int (nI sg), .int x, .int y].reverse ++ .ref a :: []) [] _) zk_X2_addRow q95 hrm (m_cmd0 hDr hb0 (by omega) hI hc16 x y) (by omega) (by decide) (Nat.le_of_ble_eq_true rfl) (by omega) (by omega) (fun v9 h9 n9 hq9 hn9 => ?_) (fun q9 h9 n9 hq9 hn9 => ?_)
    · have hv9 := z_res_v hq9
      subst hv9
      refine z_goto (tgt := 360) hb dX5_apply_260 (by decide) ?_
      refine z_iret hb hr dX5_apply_360 ?_
      rw [hQ]
      exact z_res_n (by omega) hq9
    · exact z_res_out ho hH hn0 hQ (z_res_n (by omega) hq9)

set_option maxHeartbeats 1000000 in
theorem m_X5_apply_1 {l : Launch} {G : zG} {h : zH} {n : Nat} {b0 : Nat} {w : Nat → Int32} {v : Nat → Int64} {R S D a lr er ls es lv ev : Nat} {ra sa va na ba : Nat → Nat} {c9 t wo sg : Nat} {x y : Int32} (hDr : z_Dr G h b0 w v R S D a lr er ls es lv ev ra sa va na ba) (hb0 : z_n0 G ≤ b0) (hbn : b0 ≤ n) (hI : z_inv w v R S D c9) (hOE : h (G.2.2.1 1003) = some (.inr (25, [.null]))) (hKS : z_KS G h) (hc16 : sg < 65536) (htc : h t = some (.inr (4, [.ref wo, .int (nI sg), .int x, .int y]))) (hSw : z_Sg G h wo (z_wd 1) (z_hs (z_wd 1))) : z_C l G yX5_apply 41 100 1000 [.ref t, .ref a] h n (z_res G h n b0 w v R S D a 1 x 0 0) := by
  refine z_start zk_X5_apply zpl_RX5 (Nat.le_of_ble_eq_true rfl) ?_
  intro hn0 M hl hG ho hb hN hr hm hH hrm hQ
  subst hl hG
  have ho : zm_o M = RX5 := ho
  obtain ⟨ew, hzw, w1, w2, w3, w4⟩ := id hSw
  show z_V M h n 100 1000 0 [(0, .ref t), (1, .ref a)] []
  refine z_dom (fun hD0 => ?_)
  refine z_aload_n hb dX5_apply_0 rfl ?_
  refine z_get (k := 0) (C := RX5) (T := TX5) (N := 4) hb ho zc4 in_X5 (zf_RX5_7 _) dX5_apply_1 htc (by decide) rfl ?_
  refine z_astore_n (lv' := [(2, .ref wo), (0, .ref t), (1, .ref a)]) hb dX5_apply_4 (by rw [hN]; decide) rfl ?_
  refine z_iconst (x := (-1)) hb dX5_apply_5 (by decide) ?_
  refine z_istore_n (lv' := [(3, .int (-1)), (2, .ref wo), (0, .ref t), (1, .ref a)]) hb dX5_apply_6 (by rw [hN]; decide) rfl ?_
  refine z_aload_n hb dX5_apply_7 rfl ?_
  refine z_callN1 (b' := 100) (f' := 1000) (rest := []) (av := [.ref wo]) (z_siteV hb ho zc23 w1 q840 q841 q842 ⟨_, _, _, _, zk_J6_hashCode⟩ zy_J6_hashCode zl_J6_hashCode dX5_apply_8 : z_Site M _ _ _ _ _ ([].reverse ++ .ref wo :: []) [] _) zk_J6_hashCode q102 hrm (m_J6_hashCode_c hSw (by decide +kernel)) (by omega) (by decide) (Nat.le_of_ble_eq_true rfl) (by omega) (by omega) (fun n_1 hn_1 => ?_)
  refine z_toI (y := nI 3178655) (by decide +kernel) ?_
  refine z_lookup (off := 87) (tgt := 98) hb dX5_apply_11 (by decide) (by decide +kernel) (by decide) ?_
  refine z_aload_n hb dX5_apply_98 rfl ?_
  refine z_ldcS (i := 5) hb ho rfl rfl rfl dX5_apply_99 ?_
  refine z_callN1 (b' := 100) (f' := 1000) (rest := []) (av := [.ref wo, .ref ((zm_G M).2.2.1 5)]) (z_siteV hb ho zc23 w1 q1119 q647 q3284 ⟨_, _, _, _, zk_J6_equals⟩ zy_J6_equals zl_J6_equals dX5_apply_101 : z_Site M _ _ _ _ _ ([.ref ((zm_G M).2.2.1 5)].reverse ++ .ref wo :: []) [] _) zk_J6_equals q102 hrm (m_J6_equals hSw (hKS 5 (by decide))) (by omega) (by decide) (Nat.le_of_ble_eq_true rfl) (by omega) (by omega) (fun n_2 hn_2 => ?_)
  refine z_toI (y := z_b true) (by decide +kernel) ?_
  refine z_ifb_eq (tgt := 195) hb dX5_apply_104 (by decide) (fun c_104 => ?_) (fun c_104 => ?_)
  · cases c_104
  · refine z_iconst (x := nI 1) hb dX5_apply_107 (by decide) ?_
    refine z_istore_n (lv' := [(3, .int (nI 1)), (2, .ref wo), (0, .ref t), (1, .ref a)]) hb dX5_apply_108 (by rw [hN]; decide) rfl ?_
    refine z_goto (tgt := 195) hb dX5_apply_109 (by decide) ?_
    refine z_iload_n hb dX5_apply_195 rfl ?_
    refine z_tableIn (off := 67) (tgt := 263) hb dX5_apply_196 (by decide) (by decide) rfl (by decide) ?_
    refine z_aload_n hb dX5_apply_263 rfl ?_
    refine z_aload_n hb dX5_apply_264 rfl ?_
    refine z_get (k := 2) (C := RX5) (T := TX5) (N := 4) hb ho zc4 in_X5 (zf_RX5_17 _) dX5_apply_265 htc (by decide) rfl ?_
    refine z_call (b' := 0) (f' := 0) (rest := []) (av := [.ref a, .int x]) (z_siteV hb ho zc1 hDr.1.2 q1334 q1335 q1336 ⟨_, _, _, _, zk_X2_removeRow⟩ zy_X2_removeRow zl_X2_removeRow dX5_apply_268 : z_Site M _ _ _ _ _ ([.int x].reverse ++ .ref a :: []) [] _) zk_X2_removeRow q95 hrm (m_cmd1 hDr hb0 (by omega) hI hOE x) (by omega) (by decide) (Nat.le_of_ble_eq_true rfl) (by omega) (by omega) (fun v9 h9 n9 hq9 hn9 => ?_) (fun q9 h9 n9 hq9 hn9 => ?_)
    · have hv9 := z_res_v hq9
      subst hv9
      refine z_goto (tgt := 360) hb dX5_apply_271 (by decide) ?_
      refine z_iret hb hr dX5_apply_360 ?_
      rw [hQ]
      exact z_res_n (by omega) hq9
    · exact z_res_out ho hH hn0 hQ (z_res_n (by omega) hq9)

set_option maxHeartbeats 1000000 in
theorem m_X5_apply_2 {l : Launch} {G : zG} {h : zH} {n : Nat} {b0 : Nat} {w : Nat → Int32} {v : Nat → Int64} {R S D a lr er ls es lv ev : Nat} {ra sa va na ba : Nat → Nat} {c9 t wo sg : Nat} {x y : Int32} (hDr : z_Dr G h b0 w v R S D a lr er ls es lv ev ra sa va na ba) (hb0 : z_n0 G ≤ b0) (hbn : b0 ≤ n) (hI : z_inv w v R S D c9) (hOE : h (G.2.2.1 1003) = some (.inr (25, [.null]))) (hKS : z_KS G h) (hc16 : sg < 65536) (htc : h t = some (.inr (4, [.ref wo, .int (nI sg), .int x, .int y]))) (hSw : z_Sg G h wo (z_wd 2) (z_hs (z_wd 2))) : z_C l G yX5_apply 41 100 1000 [.ref t, .ref a] h n (z_res G h n b0 w v R S D a 2 0 0 0) := by
  refine z_start zk_X5_apply zpl_RX5 (Nat.le_of_ble_eq_true rfl) ?_
  intro hn0 M hl hG ho hb hN hr hm hH hrm hQ
  subst hl hG
  have ho : zm_o M = RX5 := ho
  obtain ⟨ew, hzw, w1, w2, w3, w4⟩ := id hSw
  show z_V M h n 100 1000 0 [(0, .ref t), (1, .ref a)] []
  refine z_dom (fun hD0 => ?_)
  refine z_aload_n hb dX5_apply_0 rfl ?_
  refine z_get (k := 0) (C := RX5) (T := TX5) (N := 4) hb ho zc4 in_X5 (zf_RX5_7 _) dX5_apply_1 htc (by decide) rfl ?_
  refine z_astore_n (lv' := [(2, .ref wo), (0, .ref t), (1, .ref a)]) hb dX5_apply_4 (by rw [hN]; decide) rfl ?_
  refine z_iconst (x := (-1)) hb dX5_apply_5 (by decide) ?_
  refine z_istore_n (lv' := [(3, .int (-1)), (2, .ref wo), (0, .ref t), (1, .ref a)]) hb dX5_apply_6 (by rw [hN]; decide) rfl ?_
  refine z_aload_n hb dX5_apply_7 rfl ?_
  refine z_callN1 (b' := 100) (f' := 1000) (rest := []) (av := [.ref wo]) (z_siteV hb ho zc23 w1 q840 q841 q842 ⟨_, _, _, _, zk_J6_hashCode⟩ zy_J6_hashCode zl_J6_hashCode dX5_apply_8 : z_Site M _ _ _ _ _ ([].reverse ++ .ref wo :: []) [] _) zk_J6_hashCode q102 hrm (m_J6_hashCode_c hSw (by decide +kernel)) (by omega) (by decide) (Nat.le_of_ble_eq_true rfl) (by omega) (by omega) (fun n_1 hn_1 => ?_)
  refine z_toI (y := nI 3377907) (by decide +kernel) ?_
  refine z_lookup (off := 101) (tgt := 112) hb dX5_apply_11 (by decide) (by decide +kernel) (by decide) ?_
  refine z_aload_n hb dX5_apply_112 rfl ?_
  refine z_ldcS (i := 6) hb ho rfl rfl rfl dX5_apply_113 ?_
  refine z_callN1 (b' := 100) (f' := 1000) (rest := []) (av := [.ref wo, .ref ((zm_G M).2.2.1 6)]) (z_siteV hb ho zc23 w1 q1119 q647 q3284 ⟨_, _, _, _, zk_J6_equals⟩ zy_J6_equals zl_J6_equals dX5_apply_115 : z_Site M _ _ _ _ _ ([.ref ((zm_G M).2.2.1 6)].reverse ++ .ref wo :: []) [] _) zk_J6_equals q102 hrm (m_J6_equals hSw (hKS 6 (by decide))) (by omega) (by decide) (Nat.le_of_ble_eq_true rfl) (by omega) (by omega) (fun n_2 hn_2 => ?_)
  refine z_toI (y := z_b true) (by decide +kernel) ?_
  refine z_ifb_eq (tgt := 195) hb dX5_apply_118 (by decide) (fun c_118 => ?_) (fun c_118 => ?_)
  · cases c_118
  · refine z_iconst (x := nI 2) hb dX5_apply_121 (by decide) ?_
    refine z_istore_n (lv' := [(3, .int (nI 2)), (2, .ref wo), (0, .ref t), (1, .ref a)]) hb dX5_apply_122 (by rw [hN]; decide) rfl ?_
    refine z_goto (tgt := 195) hb dX5_apply_123 (by decide) ?_
    refine z_iload_n hb dX5_apply_195 rfl ?_
    refine z_tableIn (off := 78) (tgt := 274) hb dX5_apply_196 (by decide) (by decide) rfl (by decide) ?_
    refine z_aload_n hb dX5_apply_274 rfl ?_
    refine z_call (b' := 0) (f' := 0) (rest := []) (av := [.ref a]) (z_siteV hb ho zc1 hDr.1.2 q1396 q1397 q1398 ⟨_, _, _, _, zk_X2_beginDay⟩ zy_X2_beginDay zl_X2_beginDay dX5_apply_275 : z_Site M _ _ _ _ _ ([].reverse ++ .ref a :: []) [] _) zk_X2_beginDay q95 hrm (m_cmd2 hDr hb0 (by omega) hI ) (by omega) (by decide) (Nat.le_of_ble_eq_true rfl) (by omega) (by omega) (fun v9 h9 n9 hq9 hn9 => ?_) (fun q9 h9 n9 hq9 hn9 => ?_)
    · have hv9 := z_res_v hq9
      subst hv9
      refine z_goto (tgt := 360) hb dX5_apply_278 (by decide) ?_
      refine z_iret hb hr dX5_apply_360 ?_
      rw [hQ]
      exact z_res_n (by omega) hq9
    · exact z_res_out ho hH hn0 hQ (z_res_n (by omega) hq9)

set_option maxHeartbeats 1000000 in
theorem m_X5_apply_3 {l : Launch} {G : zG} {h : zH} {n : Nat} {b0 : Nat} {w : Nat → Int32} {v : Nat → Int64} {R S D a lr er ls es lv ev : Nat} {ra sa va na ba : Nat → Nat} {c9 t wo sg : Nat} {x y : Int32} (hDr : z_Dr G h b0 w v R S D a lr er ls es lv ev ra sa va na ba) (hb0 : z_n0 G ≤ b0) (hbn : b0 ≤ n) (hI : z_inv w v R S D c9) (hOE : h (G.2.2.1 1003) = some (.inr (25, [.null]))) (hKS : z_KS G h) (hc16 : sg < 65536) (htc : h t = some (.inr (4, [.ref wo, .int (nI sg), .int x, .int y]))) (hSw : z_Sg G h wo (z_wd 3) (z_hs (z_wd 3))) : z_C l G yX5_apply 41 100 1000 [.ref t, .ref a] h n (z_res G h n b0 w v R S D a 3 (nI sg) x 0) := by
  refine z_start zk_X5_apply zpl_RX5 (Nat.le_of_ble_eq_true rfl) ?_
  intro hn0 M hl hG ho hb hN hr hm hH hrm hQ
  subst hl hG
  have ho : zm_o M = RX5 := ho
  obtain ⟨ew, hzw, w1, w2, w3, w4⟩ := id hSw
  show z_V M h n 100 1000 0 [(0, .ref t), (1, .ref a)] []
  refine z_dom (fun hD0 => ?_)
  refine z_aload_n hb dX5_apply_0 rfl ?_
  refine z_get (k := 0) (C := RX5) (T := TX5) (N := 4) hb ho zc4 in_X5 (zf_RX5_7 _) dX5_apply_1 htc (by decide) rfl ?_
  refine z_astore_n (lv' := [(2, .ref wo), (0, .ref t), (1, .ref a)]) hb dX5_apply_4 (by rw [hN]; decide) rfl ?_
  refine z_iconst (x := (-1)) hb dX5_apply_5 (by decide) ?_
  refine z_istore_n (lv' := [(3, .int (-1)), (2, .ref wo), (0, .ref t), (1, .ref a)]) hb dX5_apply_6 (by rw [hN]; decide) rfl ?_
  refine z_aload_n hb dX5_apply_7 rfl ?_
  refine z_callN1 (b' := 100) (f' := 1000) (rest := []) (av := [.ref wo]) (z_siteV hb ho zc23 w1 q840 q841 q842 ⟨_, _, _, _, zk_J6_hashCode⟩ zy_J6_hashCode zl_J6_hashCode dX5_apply_8 : z_Site M _ _ _ _ _ ([].reverse ++ .ref wo :: []) [] _) zk_J6_hashCode q102 hrm (m_J6_hashCode_c hSw (by decide +kernel)) (by omega) (by decide) (Nat.le_of_ble_eq_true rfl) (by omega) (by omega) (fun n_1 hn_1 => ?_)
  refine z_toI (y := nI 3016401) (by decide +kernel) ?_
  refine z_lookup (off := 115) (tgt := 126) hb dX5_apply_11 (by decide) (by decide +kernel) (by decide) ?_
  refine z_aload_n hb dX5_apply_126 rfl ?_
  refine z_ldcS (i := 7) hb ho rfl rfl rfl dX5_apply_127 ?_
  refine z_callN1 (b' := 100) (f' := 1000) (rest := []) (av := [.ref wo, .ref ((zm_G M).2.2.1 7)]) (z_siteV hb ho zc23 w1 q1119 q647 q3284 ⟨_, _, _, _, zk_J6_equals⟩ zy_J6_equals zl_J6_equals dX5_apply_129 : z_Site M _ _ _ _ _ ([.ref ((zm_G M).2.2.1 7)].reverse ++ .ref wo :: []) [] _) zk_J6_equals q102 hrm (m_J6_equals hSw (hKS 7 (by decide))) (by omega) (by decide) (Nat.le_of_ble_eq_true rfl) (by omega) (by omega) (fun n_2 hn_2 => ?_)
  refine z_toI (y := z_b true) (by decide +kernel) ?_
  refine z_ifb_eq (tgt := 195) hb dX5_apply_132 (by decide) (fun c_132 => ?_) (fun c_132 => ?_)
  · cases c_132
  · refine z_iconst (x := nI 3) hb dX5_apply_135 (by decide) ?_
    refine z_istore_n (lv' := [(3, .int (nI 3)), (2, .ref wo), (0, .ref t), (1, .ref a)]) hb dX5_apply_136 (by rw [hN]; decide) rfl ?_
    refine z_goto (tgt := 195) hb dX5_apply_137 (by decide) ?_
    refine z_iload_n hb dX5_apply_195 rfl ?_
    refine z_tableIn (off := 85) (tgt := 281) hb dX5_apply_196 (by decide) (by decide) rfl (by decide) ?_
    refine z_aload_n hb dX5_apply_281 rfl ?_
    refine z_aload_n hb dX5_apply_282 rfl ?_
    refine z_get (k := 1) (C := RX5) (T := TX5) (N := 4) hb ho zc4 in_X5 (zf_RX5_13 _) dX5_apply_283 htc (by decide) rfl ?_
    refine z_aload_n hb dX5_apply_286 rfl ?_
    refine z_get (k := 2) (C := RX5) (T := TX5) (N := 4) hb ho zc4 in_X5 (zf_RX5_17 _) dX5_apply_287 htc (by decide) rfl ?_
    refine z_call (b' := 0) (f' := 0) (rest := []) (av := [.ref a, .int (nI sg), .int x]) (z_siteV hb ho zc1 hDr.1.2 q1406 q1407 q1408 ⟨_, _, _, _, zk_X2_addBase⟩ zy_X2_addBase zl_X2_addBase dX5_apply_290 : z_Site M _ _ _ _ _ ([.int (nI sg), .int x].reverse ++ .ref a :: []) [] _) zk_X2_addBase q95 hrm (m_cmd3 hDr hb0 (by omega) hI hKS hc16 x) (by omega) (by decide) (Nat.le_of_ble_eq_true rfl) (by omega) (by omega) (fun v9 h9 n9 hq9 hn9 => ?_) (fun q9 h9 n9 hq9 hn9 => ?_)
    · have hv9 := z_res_v hq9
      subst hv9
      refine z_goto (tgt := 360) hb dX5_apply_293 (by decide) ?_
      refine z_iret hb hr dX5_apply_360 ?_
      rw [hQ]
      exact z_res_n (by omega) hq9
    · exact z_res_out ho hH hn0 hQ (z_res_n (by omega) hq9)

set_option maxHeartbeats 1000000 in
theorem m_X5_apply_4 {l : Launch} {G : zG} {h : zH} {n : Nat} {b0 : Nat} {w : Nat → Int32} {v : Nat → Int64} {R S D a lr er ls es lv ev : Nat} {ra sa va na ba : Nat → Nat} {c9 t wo sg : Nat} {x y : Int32} (hDr : z_Dr G h b0 w v R S D a lr er ls es lv ev ra sa va na ba) (hb0 : z_n0 G ≤ b0) (hbn : b0 ≤ n) (hI : z_inv w v R S D c9) (hOE : h (G.2.2.1 1003) = some (.inr (25, [.null]))) (hKS : z_KS G h) (hc16 : sg < 65536) (htc : h t = some (.inr (4, [.ref wo, .int (nI sg), .int x, .int y]))) (hSw : z_Sg G h wo (z_wd 4) (z_hs (z_wd 4))) : z_C l G yX5_apply 41 100 1000 [.ref t, .ref a] h n (z_res G h n b0 w v R S D a 4 (nI sg) x y) := by
  refine z_start zk_X5_apply zpl_RX5 (Nat.le_of_ble_eq_true rfl) ?_
  intro hn0 M hl hG ho hb hN hr hm hH hrm hQ
  subst hl hG
  have ho : zm_o M = RX5 := ho
  obtain ⟨ew, hzw, w1, w2, w3, w4⟩ := id hSw
  show z_V M h n 100 1000 0 [(0, .ref t), (1, .ref a)] []
  refine z_dom (fun hD0 => ?_)
  refine z_aload_n hb dX5_apply_0 rfl ?_
  refine z_get (k := 0) (C := RX5) (T := TX5) (N := 4) hb ho zc4 in_X5 (zf_RX5_7 _) dX5_apply_1 htc (by decide) rfl ?_
  refine z_astore_n (lv' := [(2, .ref wo), (0, .ref t), (1, .ref a)]) hb dX5_apply_4 (by rw [hN]; decide) rfl ?_
  refine z_iconst (x := (-1)) hb dX5_apply_5 (by decide) ?_
  refine z_istore_n (lv' := [(3, .int (-1)), (2, .ref wo), (0, .ref t), (1, .ref a)]) hb dX5_apply_6 (by rw [hN]; decide) rfl ?_
  refine z_aload_n hb dX5_apply_7 rfl ?_
  refine z_callN1 (b' := 100) (f' := 1000) (rest := []) (av := [.ref wo]) (z_siteV hb ho zc23 w1 q840 q841 q842 ⟨_, _, _, _, zk_J6_hashCode⟩ zy_J6_hashCode zl_J6_hashCode dX5_apply_8 : z_Site M _ _ _ _ _ ([].reverse ++ .ref wo :: []) [] _) zk_J6_hashCode q102 hrm (m_J6_hashCode_c hSw (by decide +kernel)) (by omega) (by decide) (Nat.le_of_ble_eq_true rfl) (by omega) (by omega) (fun n_1 hn_1 => ?_)
  refine z_toI (y := nI 3433178) (by decide +kernel) ?_
  refine z_lookup (off := 129) (tgt := 140) hb dX5_apply_11 (by decide) (by decide +kernel) (by decide) ?_
  refine z_aload_n hb dX5_apply_140 rfl ?_
  refine z_ldcS (i := 8) hb ho rfl rfl rfl dX5_apply_141 ?_
  refine z_callN1 (b' := 100) (f' := 1000) (rest := []) (av := [.ref wo, .ref ((zm_G M).2.2.1 8)]) (z_siteV hb ho zc23 w1 q1119 q647 q3284 ⟨_, _, _, _, zk_J6_equals⟩ zy_J6_equals zl_J6_equals dX5_apply_143 : z_Site M _ _ _ _ _ ([.ref ((zm_G M).2.2.1 8)].reverse ++ .ref wo :: []) [] _) zk_J6_equals q102 hrm (m_J6_equals hSw (hKS 8 (by decide))) (by omega) (by decide) (Nat.le_of_ble_eq_true rfl) (by omega) (by omega) (fun n_2 hn_2 => ?_)
  refine z_toI (y := z_b true) (by decide +kernel) ?_
  refine z_ifb_eq (tgt := 195) hb dX5_apply_146 (by decide) (fun c_146 => ?_) (fun c_146 => ?_)
  · cases c_146
  · refine z_iconst (x := nI 4) hb dX5_apply_149 (by decide) ?_
    refine z_istore_n (lv' := [(3, .int (nI 4)), (2, .ref wo), (0, .ref t), (1, .ref a)]) hb dX5_apply_150 (by rw [hN]; decide) rfl ?_
    refine z_goto (tgt := 195) hb dX5_apply_151 (by decide) ?_
    refine z_iload_n hb dX5_apply_195 rfl ?_
    refine z_tableIn (off := 100) (tgt := 296) hb dX5_apply_196 (by decide) (by decide) rfl (by decide) ?_
    refine z_aload_n hb dX5_apply_296 rfl ?_
    refine z_aload_n hb dX5_apply_297 rfl ?_
    refine z_get (k := 1) (C := RX5) (T := TX5) (N := 4) hb ho zc4 in_X5 (zf_RX5_13 _) dX5_apply_298 htc (by decide) rfl ?_
    refine z_aload_n hb dX5_apply_301 rfl ?_
    refine z_get (k := 2) (C := RX5) (T := TX5) (N := 4) hb ho zc4 in_X5 (zf_RX5_17 _) dX5_apply_302 htc (by decide) rfl ?_
    refine z_aload_n hb dX5_apply_305 rfl ?_
    refine z_get (k := 3) (C := RX5) (T := TX5) (N := 4) hb ho zc4 in_X5 (zf_RX5_21 _) dX5_apply_306 htc (by decide) rfl ?_
    refine z_call (b' := 0) (f' := 0) (rest := []) (av := [.ref a, .int (nI sg), .int x, .int y]) (z_siteV hb ho zc1 hDr.1.2 q1500 q1501 q1502 ⟨_, _, _, _, zk_X2_addPair⟩ zy_X2_addPair zl_X2_addPair dX5_apply_309 : z_Site M _ _ _ _ _ ([.int (nI sg), .int x, .int y].reverse ++ .ref a :: []) [] _) zk_X2_addPair q95 hrm (m_cmd4 hDr hb0 (by omega) hI hKS hc16 x y) (by omega) (by decide) (Nat.le_of_ble_eq_true rfl) (by omega) (by omega) (fun v9 h9 n9 hq9 hn9 => ?_) (fun q9 h9 n9 hq9 hn9 => ?_)
    · have hv9 := z_res_v hq9
      subst hv9
      refine z_goto (tgt := 360) hb dX5_apply_312 (by decide) ?_
      refine z_iret hb hr dX5_apply_360 ?_
      rw [hQ]
      exact z_res_n (by omega) hq9
    · exact z_res_out ho hH hn0 hQ (z_res_n (by omega) hq9)

set_option maxHeartbeats 1000000 in
theorem m_X5_apply_5 {l : Launch} {G : zG} {h : zH} {n : Nat} {b0 : Nat} {w : Nat → Int32} {v : Nat → Int64} {R S D a lr er ls es lv ev : Nat} {ra sa va na ba : Nat → Nat} {c9 t wo sg : Nat} {x y : Int32} (hDr : z_Dr G h b0 w v R S D a lr er ls es lv ev ra sa va na ba) (hb0 : z_n0 G ≤ b0) (hbn : b0 ≤ n) (hI : z_inv w v R S D c9) (hOE : h (G.2.2.1 1003) = some (.inr (25, [.null]))) (hKS : z_KS G h) (hc16 : sg < 65536) (htc : h t = some (.inr (4, [.ref wo, .int (nI sg), .int x, .int y]))) (hSw : z_Sg G h wo (z_wd 5) (z_hs (z_wd 5))) : z_C l G yX5_apply 41 100 1000 [.ref t, .ref a] h n (z_res G h n b0 w v R S D a 5 x 0 0) := by
  refine z_start zk_X5_apply zpl_RX5 (Nat.le_of_ble_eq_true rfl) ?_
  intro hn0 M hl hG ho hb hN hr hm hH hrm hQ
  subst hl hG
  have ho : zm_o M = RX5 := ho
  obtain ⟨ew, hzw, w1, w2, w3, w4⟩ := id hSw
  show z_V M h n 100 1000 0 [(0, .ref t), (1, .ref a)] []
  refine z_dom (fun hD0 => ?_)
  refine z_aload_n hb dX5_apply_0 rfl ?_
  refine z_get (k := 0) (C := RX5) (T := TX5) (N := 4) hb ho zc4 in_X5 (zf_RX5_7 _) dX5_apply_1 htc (by decide) rfl ?_
  refine z_astore_n (lv' := [(2, .ref wo), (0, .ref t), (1, .ref a)]) hb dX5_apply_4 (by rw [hN]; decide) rfl ?_
  refine z_iconst (x := (-1)) hb dX5_apply_5 (by decide) ?_
  refine z_istore_n (lv' := [(3, .int (-1)), (2, .ref wo), (0, .ref t), (1, .ref a)]) hb dX5_apply_6 (by rw [hN]; decide) rfl ?_
  refine z_aload_n hb dX5_apply_7 rfl ?_
  refine z_callN1 (b' := 100) (f' := 1000) (rest := []) (av := [.ref wo]) (z_siteV hb ho zc23 w1 q840 q841 q842 ⟨_, _, _, _, zk_J6_hashCode⟩ zy_J6_hashCode zl_J6_hashCode dX5_apply_8 : z_Site M _ _ _ _ _ ([].reverse ++ .ref wo :: []) [] _) zk_J6_hashCode q102 hrm (m_J6_hashCode_c hSw (by decide +kernel)) (by omega) (by decide) (Nat.le_of_ble_eq_true rfl) (by omega) (by omega) (fun n_1 hn_1 => ?_)
  refine z_toI (y := nI 113291) (by decide +kernel) ?_
  refine z_lookup (off := 143) (tgt := 154) hb dX5_apply_11 (by decide) (by decide +kernel) (by decide) ?_
  refine z_aload_n hb dX5_apply_154 rfl ?_
  refine z_ldcS (i := 9) hb ho rfl rfl rfl dX5_apply_155 ?_
  refine z_callN1 (b' := 100) (f' := 1000) (rest := []) (av := [.ref wo, .ref ((zm_G M).2.2.1 9)]) (z_siteV hb ho zc23 w1 q1119 q647 q3284 ⟨_, _, _, _, zk_J6_equals⟩ zy_J6_equals zl_J6_equals dX5_apply_157 : z_Site M _ _ _ _ _ ([.ref ((zm_G M).2.2.1 9)].reverse ++ .ref wo :: []) [] _) zk_J6_equals q102 hrm (m_J6_equals hSw (hKS 9 (by decide))) (by omega) (by decide) (Nat.le_of_ble_eq_true rfl) (by omega) (by omega) (fun n_2 hn_2 => ?_)
  refine z_toI (y := z_b true) (by decide +kernel) ?_
  refine z_ifb_eq (tgt := 195) hb dX5_apply_160 (by decide) (fun c_160 => ?_) (fun c_160 => ?_)
  · cases c_160
  · refine z_iconst (x := nI 5) hb dX5_apply_163 (by decide) ?_
    refine z_istore_n (lv' := [(3, .int (nI 5)), (2, .ref wo), (0, .ref t), (1, .ref a)]) hb dX5_apply_164 (by rw [hN]; decide) rfl ?_
    refine z_goto (tgt := 195) hb dX5_apply_165 (by decide) ?_
    refine z_iload_n hb dX5_apply_195 rfl ?_
    refine z_tableIn (off := 119) (tgt := 315) hb dX5_apply_196 (by decide) (by decide) rfl (by decide) ?_
    refine z_aload_n hb dX5_apply_315 rfl ?_
    refine z_aload_n hb dX5_apply_316 rfl ?_
    refine z_get (k := 2) (C := RX5) (T := TX5) (N := 4) hb ho zc4 in_X5 (zf_RX5_17 _) dX5_apply_317 htc (by decide) rfl ?_
    refine z_call (b' := 0) (f' := 0) (rest := []) (av := [.ref a, .int x]) (z_siteV hb ho zc1 hDr.1.2 q1544 q1545 q1546 ⟨_, _, _, _, zk_X2_addRunning⟩ zy_X2_addRunning zl_X2_addRunning dX5_apply_320 : z_Site M _ _ _ _ _ ([.int x].reverse ++ .ref a :: []) [] _) zk_X2_addRunning q95 hrm (m_cmd5 hDr hb0 (by omega) hI x) (by omega) (by decide) (Nat.le_of_ble_eq_true rfl) (by omega) (by omega) (fun v9 h9 n9 hq9 hn9 => ?_) (fun q9 h9 n9 hq9 hn9 => ?_)
    · have hv9 := z_res_v hq9
      subst hv9
      refine z_goto (tgt := 360) hb dX5_apply_323 (by decide) ?_
      refine z_iret hb hr dX5_apply_360 ?_
      rw [hQ]
      exact z_res_n (by omega) hq9
    · exact z_res_out ho hH hn0 hQ (z_res_n (by omega) hq9)

set_option maxHeartbeats 1000000 in
theorem m_X5_apply_6 {l : Launch} {G : zG} {h : zH} {n : Nat} {b0 : Nat} {w : Nat → Int32} {v : Nat → Int64} {R S D a lr er ls es lv ev : Nat} {ra sa va na ba : Nat → Nat} {c9 t wo sg : Nat} {x y : Int32} (hDr : z_Dr G h b0 w v R S D a lr er ls es lv ev ra sa va na ba) (hb0 : z_n0 G ≤ b0) (hbn : b0 ≤ n) (hI : z_inv w v R S D c9) (hOE : h (G.2.2.1 1003) = some (.inr (25, [.null]))) (hKS : z_KS G h) (hc16 : sg < 65536) (htc : h t = some (.inr (4, [.ref wo, .int (nI sg), .int x, .int y]))) (hSw : z_Sg G h wo (z_wd 6) (z_hs (z_wd 6))) : z_C l G yX5_apply 41 100 1000 [.ref t, .ref a] h n (z_res G h n b0 w v R S D a 6 x y 0) := by
  refine z_start zk_X5_apply zpl_RX5 (Nat.le_of_ble_eq_true rfl) ?_
  intro hn0 M hl hG ho hb hN hr hm hH hrm hQ
  subst hl hG
  have ho : zm_o M = RX5 := ho
  obtain ⟨ew, hzw, w1, w2, w3, w4⟩ := id hSw
  show z_V M h n 100 1000 0 [(0, .ref t), (1, .ref a)] []
  refine z_dom (fun hD0 => ?_)
  refine z_aload_n hb dX5_apply_0 rfl ?_
  refine z_get (k := 0) (C := RX5) (T := TX5) (N := 4) hb ho zc4 in_X5 (zf_RX5_7 _) dX5_apply_1 htc (by decide) rfl ?_
  refine z_astore_n (lv' := [(2, .ref wo), (0, .ref t), (1, .ref a)]) hb dX5_apply_4 (by rw [hN]; decide) rfl ?_
  refine z_iconst (x := (-1)) hb dX5_apply_5 (by decide) ?_
  refine z_istore_n (lv' := [(3, .int (-1)), (2, .ref wo), (0, .ref t), (1, .ref a)]) hb dX5_apply_6 (by rw [hN]; decide) rfl ?_
  refine z_aload_n hb dX5_apply_7 rfl ?_
  refine z_callN1 (b' := 100) (f' := 1000) (rest := []) (av := [.ref wo]) (z_siteV hb ho zc23 w1 q840 q841 q842 ⟨_, _, _, _, zk_J6_hashCode⟩ zy_J6_hashCode zl_J6_hashCode dX5_apply_8 : z_Site M _ _ _ _ _ ([].reverse ++ .ref wo :: []) [] _) zk_J6_hashCode q102 hrm (m_J6_hashCode_c hSw (by decide +kernel)) (by omega) (by decide) (Nat.le_of_ble_eq_true rfl) (by omega) (by omega) (fun n_1 hn_1 => ?_)
  refine z_toI (y := nI 3287941) (by decide +kernel) ?_
  refine z_lookup (off := 157) (tgt := 168) hb dX5_apply_11 (by decide) (by decide +kernel) (by decide) ?_
  refine z_aload_n hb dX5_apply_168 rfl ?_
  refine z_ldcS (i := 10) hb ho rfl rfl rfl dX5_apply_169 ?_
  refine z_callN1 (b' := 100) (f' := 1000) (rest := []) (av := [.ref wo, .ref ((zm_G M).2.2.1 10)]) (z_siteV hb ho zc23 w1 q1119 q647 q3284 ⟨_, _, _, _, zk_J6_equals⟩ zy_J6_equals zl_J6_equals dX5_apply_171 : z_Site M _ _ _ _ _ ([.ref ((zm_G M).2.2.1 10)].reverse ++ .ref wo :: []) [] _) zk_J6_equals q102 hrm (m_J6_equals hSw (hKS 10 (by decide))) (by omega) (by decide) (Nat.le_of_ble_eq_true rfl) (by omega) (by omega) (fun n_2 hn_2 => ?_)
  refine z_toI (y := z_b true) (by decide +kernel) ?_
  refine z_ifb_eq (tgt := 195) hb dX5_apply_174 (by decide) (fun c_174 => ?_) (fun c_174 => ?_)
  · cases c_174
  · refine z_bipush (x := nI 6) hb dX5_apply_177 (by decide) ?_
    refine z_istore_n (lv' := [(3, .int (nI 6)), (2, .ref wo), (0, .ref t), (1, .ref a)]) hb dX5_apply_179 (by rw [hN]; decide) rfl ?_
    refine z_goto (tgt := 195) hb dX5_apply_180 (by decide) ?_
    refine z_iload_n hb dX5_apply_195 rfl ?_
    refine z_tableIn (off := 130) (tgt := 326) hb dX5_apply_196 (by decide) (by decide) rfl (by decide) ?_
    refine z_aload_n hb dX5_apply_326 rfl ?_
    refine z_aload_n hb dX5_apply_327 rfl ?_
    refine z_get (k := 2) (C := RX5) (T := TX5) (N := 4) hb ho zc4 in_X5 (zf_RX5_17 _) dX5_apply_328 htc (by decide) rfl ?_
    refine z_aload_n hb dX5_apply_331 rfl ?_
    refine z_get (k := 3) (C := RX5) (T := TX5) (N := 4) hb ho zc4 in_X5 (zf_RX5_21 _) dX5_apply_332 htc (by decide) rfl ?_
    refine z_call (b' := 0) (f' := 0) (rest := []) (av := [.ref a, .int x, .int y]) (z_siteV hb ho zc1 hDr.1.2 q1562 q1563 q1564 ⟨_, _, _, _, zk_X2_addBounded⟩ zy_X2_addBounded zl_X2_addBounded dX5_apply_335 : z_Site M _ _ _ _ _ ([.int x, .int y].reverse ++ .ref a :: []) [] _) zk_X2_addBounded q95 hrm (m_cmd6 hDr hb0 (by omega) hI x y) (by omega) (by decide) (Nat.le_of_ble_eq_true rfl) (by omega) (by omega) (fun v9 h9 n9 hq9 hn9 => ?_) (fun q9 h9 n9 hq9 hn9 => ?_)
    · have hv9 := z_res_v hq9
      subst hv9
      refine z_goto (tgt := 360) hb dX5_apply_338 (by decide) ?_
      refine z_iret hb hr dX5_apply_360 ?_
      rw [hQ]
      exact z_res_n (by omega) hq9
    · exact z_res_out ho hH hn0 hQ (z_res_n (by omega) hq9)

set_option maxHeartbeats 1000000 in
theorem m_X5_apply_7 {l : Launch} {G : zG} {h : zH} {n : Nat} {b0 : Nat} {w : Nat → Int32} {v : Nat → Int64} {R S D a lr er ls es lv ev : Nat} {ra sa va na ba : Nat → Nat} {c9 t wo sg : Nat} {x y : Int32} (hDr : z_Dr G h b0 w v R S D a lr er ls es lv ev ra sa va na ba) (hb0 : z_n0 G ≤ b0) (hbn : b0 ≤ n) (hI : z_inv w v R S D c9) (hOE : h (G.2.2.1 1003) = some (.inr (25, [.null]))) (hKS : z_KS G h) (hc16 : sg < 65536) (htc : h t = some (.inr (4, [.ref wo, .int (nI sg), .int x, .int y]))) (hSw : z_Sg G h wo (z_wd 7) (z_hs (z_wd 7))) : z_C l G yX5_apply 41 100 1000 [.ref t, .ref a] h n (z_res G h n b0 w v R S D a 7 x 0 0) := by
  refine z_start zk_X5_apply zpl_RX5 (Nat.le_of_ble_eq_true rfl) ?_
  intro hn0 M hl hG ho hb hN hr hm hH hrm hQ
  subst hl hG
  have ho : zm_o M = RX5 := ho
  obtain ⟨ew, hzw, w1, w2, w3, w4⟩ := id hSw
  show z_V M h n 100 1000 0 [(0, .ref t), (1, .ref a)] []
  refine z_dom (fun hD0 => ?_)
  refine z_aload_n hb dX5_apply_0 rfl ?_
  refine z_get (k := 0) (C := RX5) (T := TX5) (N := 4) hb ho zc4 in_X5 (zf_RX5_7 _) dX5_apply_1 htc (by decide) rfl ?_
  refine z_astore_n (lv' := [(2, .ref wo), (0, .ref t), (1, .ref a)]) hb dX5_apply_4 (by rw [hN]; decide) rfl ?_
  refine z_iconst (x := (-1)) hb dX5_apply_5 (by decide) ?_
  refine z_istore_n (lv' := [(3, .int (-1)), (2, .ref wo), (0, .ref t), (1, .ref a)]) hb dX5_apply_6 (by rw [hN]; decide) rfl ?_
  refine z_aload_n hb dX5_apply_7 rfl ?_
  refine z_callN1 (b' := 100) (f' := 1000) (rest := []) (av := [.ref wo]) (z_siteV hb ho zc23 w1 q840 q841 q842 ⟨_, _, _, _, zk_J6_hashCode⟩ zy_J6_hashCode zl_J6_hashCode dX5_apply_8 : z_Site M _ _ _ _ _ ([].reverse ++ .ref wo :: []) [] _) zk_J6_hashCode q102 hrm (m_J6_hashCode_c hSw (by decide +kernel)) (by omega) (by decide) (Nat.le_of_ble_eq_true rfl) (by omega) (by omega) (fun n_1 hn_1 => ?_)
  refine z_toI (y := nI 98882) (by decide +kernel) ?_
  refine z_lookup (off := 172) (tgt := 183) hb dX5_apply_11 (by decide) (by decide +kernel) (by decide) ?_
  refine z_aload_n hb dX5_apply_183 rfl ?_
  refine z_ldcS (i := 11) hb ho rfl rfl rfl dX5_apply_184 ?_
  refine z_callN1 (b' := 100) (f' := 1000) (rest := []) (av := [.ref wo, .ref ((zm_G M).2.2.1 11)]) (z_siteV hb ho zc23 w1 q1119 q647 q3284 ⟨_, _, _, _, zk_J6_equals⟩ zy_J6_equals zl_J6_equals dX5_apply_186 : z_Site M _ _ _ _ _ ([.ref ((zm_G M).2.2.1 11)].reverse ++ .ref wo :: []) [] _) zk_J6_equals q102 hrm (m_J6_equals hSw (hKS 11 (by decide))) (by omega) (by decide) (Nat.le_of_ble_eq_true rfl) (by omega) (by omega) (fun n_2 hn_2 => ?_)
  refine z_toI (y := z_b true) (by decide +kernel) ?_
  refine z_ifb_eq (tgt := 195) hb dX5_apply_189 (by decide) (fun c_189 => ?_) (fun c_189 => ?_)
  · cases c_189
  · refine z_bipush (x := nI 7) hb dX5_apply_192 (by decide) ?_
    refine z_istore_n (lv' := [(3, .int (nI 7)), (2, .ref wo), (0, .ref t), (1, .ref a)]) hb dX5_apply_194 (by rw [hN]; decide) rfl ?_
    refine z_iload_n hb dX5_apply_195 rfl ?_
    refine z_tableIn (off := 145) (tgt := 341) hb dX5_apply_196 (by decide) (by decide) rfl (by decide) ?_
    refine z_aload_n hb dX5_apply_341 rfl ?_
    refine z_aload_n hb dX5_apply_342 rfl ?_
    refine z_get (k := 2) (C := RX5) (T := TX5) (N := 4) hb ho zc4 in_X5 (zf_RX5_17 _) dX5_apply_343 htc (by decide) rfl ?_
    refine z_call (b' := 0) (f' := 0) (rest := []) (av := [.ref a, .int x]) (z_siteV hb ho zc1 hDr.1.2 q1577 q1578 q1579 ⟨_, _, _, _, zk_X2_removeStep⟩ zy_X2_removeStep zl_X2_removeStep dX5_apply_346 : z_Site M _ _ _ _ _ ([.int x].reverse ++ .ref a :: []) [] _) zk_X2_removeStep q95 hrm (m_cmd7 hDr hb0 (by omega) hI x) (by omega) (by decide) (Nat.le_of_ble_eq_true rfl) (by omega) (by omega) (fun v9 h9 n9 hq9 hn9 => ?_) (fun q9 h9 n9 hq9 hn9 => ?_)
    · have hv9 := z_res_v hq9
      subst hv9
      refine z_goto (tgt := 360) hb dX5_apply_349 (by decide) ?_
      refine z_iret hb hr dX5_apply_360 ?_
      rw [hQ]
      exact z_res_n (by omega) hq9
    · exact z_res_out ho hH hn0 hQ (z_res_n (by omega) hq9)

set_option maxHeartbeats 1000000 in
theorem m_X5_apply_8 {l : Launch} {G : zG} {h : zH} {n : Nat} {b0 : Nat} {w : Nat → Int32} {v : Nat → Int64} {R S D a lr er ls es lv ev : Nat} {ra sa va na ba : Nat → Nat} {c9 t wo sg : Nat} {x y : Int32} (hDr : z_Dr G h b0 w v R S D a lr er ls es lv ev ra sa va na ba) (hb0 : z_n0 G ≤ b0) (hbn : b0 ≤ n) (hI : z_inv w v R S D c9) (hOE : h (G.2.2.1 1003) = some (.inr (25, [.null]))) (hKS : z_KS G h) (hc16 : sg < 65536) (htc : h t = some (.inr (4, [.ref wo, .int (nI sg), .int x, .int y]))) (hSw : z_Sg G h wo (z_wd 8) (z_hs (z_wd 8))) : z_C l G yX5_apply 41 100 1000 [.ref t, .ref a] h n (z_res G h n b0 w v R S D a 8 x 0 0) := by
  refine z_start zk_X5_apply zpl_RX5 (Nat.le_of_ble_eq_true rfl) ?_
  intro hn0 M hl hG ho hb hN hr hm hH hrm hQ
  subst hl hG
  have ho : zm_o M = RX5 := ho
  obtain ⟨ew, hzw, w1, w2, w3, w4⟩ := id hSw
  show z_V M h n 100 1000 0 [(0, .ref t), (1, .ref a)] []
  refine z_dom (fun hD0 => ?_)
  refine z_aload_n hb dX5_apply_0 rfl ?_
  refine z_get (k := 0) (C := RX5) (T := TX5) (N := 4) hb ho zc4 in_X5 (zf_RX5_7 _) dX5_apply_1 htc (by decide) rfl ?_
  refine z_astore_n (lv' := [(2, .ref wo), (0, .ref t), (1, .ref a)]) hb dX5_apply_4 (by rw [hN]; decide) rfl ?_
  refine z_iconst (x := (-1)) hb dX5_apply_5 (by decide) ?_
  refine z_istore_n (lv' := [(3, .int (-1)), (2, .ref wo), (0, .ref t), (1, .ref a)]) hb dX5_apply_6 (by rw [hN]; decide) rfl ?_
  refine z_aload_n hb dX5_apply_7 rfl ?_
  refine z_callN1 (b' := 100) (f' := 1000) (rest := []) (av := [.ref wo]) (z_siteV hb ho zc23 w1 q840 q841 q842 ⟨_, _, _, _, zk_J6_hashCode⟩ zy_J6_hashCode zl_J6_hashCode dX5_apply_8 : z_Site M _ _ _ _ _ ([].reverse ++ .ref wo :: []) [] _) zk_J6_hashCode q102 hrm (m_J6_hashCode_c hSw (by decide +kernel)) (by omega) (by decide) (Nat.le_of_ble_eq_true rfl) (by omega) (by omega) (fun n_1 hn_1 => ?_)
  refine z_toI (y := (-934535283 : Int32)) (by decide +kernel) ?_
  refine z_lookup (off := 184) (tgt := 195) hb dX5_apply_11 (by decide) (by decide +kernel) (by decide) ?_
  refine z_iload_n hb dX5_apply_195 rfl ?_
  refine z_tableOut (tgt := 352) hb dX5_apply_196 (by decide) (by decide) ?_
  refine z_aload_n hb dX5_apply_352 rfl ?_
  refine z_aload_n hb dX5_apply_353 rfl ?_
  refine z_get (k := 2) (C := RX5) (T := TX5) (N := 4) hb ho zc4 in_X5 (zf_RX5_17 _) dX5_apply_354 htc (by decide) rfl ?_
  refine z_call (b' := 0) (f' := 0) (rest := []) (av := [.ref a, .int x]) (z_siteV hb ho zc1 hDr.1.2 q1605 q1606 q1607 ⟨_, _, _, _, zk_X2_repair⟩ zy_X2_repair zl_X2_repair dX5_apply_357 : z_Site M _ _ _ _ _ ([.int x].reverse ++ .ref a :: []) [] _) zk_X2_repair q95 hrm (m_cmd8 hDr hb0 (by omega) hI x) (by omega) (by decide) (Nat.le_of_ble_eq_true rfl) (by omega) (by omega) (fun v9 h9 n9 hq9 hn9 => ?_) (fun q9 h9 n9 hq9 hn9 => ?_)
  · have hv9 := z_res_v hq9
    subst hv9
    refine z_iret hb hr dX5_apply_360 ?_
    rw [hQ]
    exact z_res_n (by omega) hq9
  · exact z_res_out ho hH hn0 hQ (z_res_n (by omega) hq9)

