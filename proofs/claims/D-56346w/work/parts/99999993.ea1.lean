/-- a command whose word's hash was never asked -/
def z_ru9 (G : zG) (h : zH) (n b0 : Nat) (w : Nat → Int32) (v : Nat → Int64) (R S D a : Nat) (wo : Nat) : zQ := fun o h' n' => ∃ h2, z_Sf G h2 wo (z_wd 2) (z_hs (z_wd 2)) ∧ z_fr (fun y => y = wo) h h2 ∧ z_hw h h2 wo (z_hs (z_wd 2)) ∧ z_res G h2 n b0 w v R S D a 2 0 0 0 o h' n'
theorem z_ru9_out {M : zM} {own : String} {pc b f q n b0 R S D a wo : Nat} {h h2 : zH} {w : Nat → Int32} {v : Nat → Int64} {lv : List (Nat × Value)} {h' : zH} {n' : Nat} (ho : zm_o M = own) (hH : zm_h M = []) (hn0 : z_n0 (zm_G M) ≤ n) (hQ : zm_Q M = z_ru9 (zm_G M) h n b0 w v R S D a wo) (g1 : z_Sf (zm_G M) h2 wo (z_wd 2) (z_hs (z_wd 2))) (g2 : z_fr (fun y => y = wo) h h2) (g3 : z_hw h h2 wo (z_hs (z_wd 2))) (q9 : z_res (zm_G M) h2 n b0 w v R S D a 2 0 0 0 (.threw q) h' n') : z_X M h' n' b f pc lv q := by
  have q8 := q9
  rcases q9 with ⟨-, w9, e, -⟩ | ⟨r, d, q1, q2, q3, e, q5, q6, q7⟩ | ⟨q1, q2, q3, e, q5, q6, q7⟩
  · cases e
  · cases e
    rw [q7] at q8 ⊢
    exact z_out ho hH zc5 z_up_s (by omega) (fun _ h => nomatch h) (by rw [hQ]; exact ⟨h2, g1, g2, g3, q8⟩)
  · cases e
    obtain ⟨rr, hr⟩ := z_xc_ok 2 (tC_why w R S D 2 0 0 0).1
    rw [q7] at q8 ⊢
    exact z_out ho hH hr z_up_s (by omega) (fun _ h => nomatch h) (by rw [hQ]; exact ⟨h2, g1, g2, g3, q8⟩)

set_option maxHeartbeats 1000000 in
theorem m_X5_apply_2u {l : Launch} {G : zG} {h : zH} {n : Nat} {b0 : Nat} {w : Nat → Int32} {v : Nat → Int64} {R S D a lr er ls es lv ev : Nat} {ra sa va na ba : Nat → Nat} {c9 t wo sg : Nat} {x y : Int32} (hDr : z_Dr G h b0 w v R S D a lr er ls es lv ev ra sa va na ba) (hb0 : z_n0 G ≤ b0) (hbn : b0 ≤ n) (hI : z_inv w v R S D c9) (hK : z_KC G h) (hc16 : sg < 65536) (htc : h t = some (.inr (4, [.ref wo, .int (nI sg), .int x, .int y]))) (hws : z_Sf G h wo (z_wd 2) (nI 0)) (hw0 : z_n0 G ≤ wo) : z_C l G yX5_apply 41 100 1000 [.ref t, .ref a] h n (z_ru9 G h n b0 w v R S D a wo) := by
  refine z_start zk_X5_apply zpl_RX5 (Nat.le_of_ble_eq_true rfl) ?_
  intro hn0 M hl hG ho hb hN hr hm hH hrm hQ
  subst hl hG
  have ho : zm_o M = RX5 := ho
  obtain ⟨ew9, hwo9⟩ := hws.o
  show z_V M h n 100 1000 0 [(0, .ref t), (1, .ref a)] []
  refine z_dom (fun hD0 => ?_)
  refine z_aload_n hb dX5_apply_0 rfl ?_
  refine z_get (k := 0) (C := RX5) (T := TX5) (N := 4) hb ho zc4 in_X5 (zf_RX5_7 _) dX5_apply_1 htc (by decide) rfl ?_
  refine z_astore_n (lv' := [(2, .ref wo), (0, .ref t), (1, .ref a)]) hb dX5_apply_4 (by rw [hN]; decide) rfl ?_
  refine z_iconst (x := (-1)) hb dX5_apply_5 (by decide) ?_
  refine z_istore_n (lv' := [(3, .int (-1)), (2, .ref wo), (0, .ref t), (1, .ref a)]) hb dX5_apply_6 (by rw [hN]; decide) rfl ?_
  refine z_aload_n hb dX5_apply_7 rfl ?_
  refine z_callQ1 (b' := 100) (f' := 1000) (rest := []) (av := [.ref wo]) (z_siteV hb ho zc23 hwo9 q840 q841 q842 ⟨_, _, _, _, zk_J6_hashCode⟩ zy_J6_hashCode zl_J6_hashCode dX5_apply_8 : z_Site M _ _ _ _ _ ([].reverse ++ .ref wo :: []) [] _) zk_J6_hashCode q102 hrm (m_J6_hashCode_0 (hs9 := 0) hws hw0 (by decide) (by decide +kernel)) (by omega) (by decide) (Nat.le_of_ble_eq_true rfl) (by omega) (by omega) (fun rhq6 h6 n6 hq6 hn6 => ?_)
  obtain ⟨rfl, hq6⟩ := hq6
  obtain ⟨hws6, hfr6, hhw6⟩ := hq6
  obtain ⟨ew6, how6⟩ := hws6.o
  have ky_1 : h6 a = some (.inr (1, [.ref lr, .ref ls, .ref lv, .int (nI D), .int (w 2), .int (w 4), .int (w 5), .int (w 6)])) := hfr6 _ _ hDr.1.2 (z_ne_cc hwo9 hDr.1.2 (by decide))
  have ky_2 : h6 t = some (.inr (4, [.ref wo, .int (nI sg), .int x, .int y])) := hfr6 _ _ htc (z_ne_cc hwo9 htc (by decide))
  have hDr6 := hDr.kp (z_kp_fr hwo9 (by simp [z_lnk]) hfr6)
  have hK6 := hK.fr hfr6 (fun y z => by omega)
  refine z_toI (y := nI 3377907) (by decide +kernel) ?_
  refine z_lookup (off := 101) (tgt := 112) hb dX5_apply_11 (by decide) (by decide +kernel) (by decide) ?_
  refine z_aload_n hb dX5_apply_112 rfl ?_
  refine z_ldcS (i := 6) hb ho rfl rfl rfl dX5_apply_113 ?_
  refine z_callN1 (b' := 100) (f' := 1000) (rest := []) (av := [.ref wo, .ref ((zm_G M).2.2.1 6)]) (z_siteV hb ho zc23 how6 q1119 q647 q3284 ⟨_, _, _, _, zk_J6_equals⟩ zy_J6_equals zl_J6_equals dX5_apply_115 : z_Site M _ _ _ _ _ ([.ref ((zm_G M).2.2.1 6)].reverse ++ .ref wo :: []) [] _) zk_J6_equals q102 hrm (m_J6_equals hws6.sg (hK6.ks 6 (by decide))) (by omega) (by decide) (Nat.le_of_ble_eq_true rfl) (by omega) (by omega) (fun n_3 hn_3 => ?_)
  refine z_toI (y := z_b true) (by decide +kernel) ?_
  refine z_ifb_eq (tgt := 195) hb dX5_apply_118 (by decide) (fun c_118 => ?_) (fun c_118 => ?_)
  · cases c_118
  · refine z_iconst (x := nI 2) hb dX5_apply_121 (by decide) ?_
    refine z_istore_n (lv' := [(3, .int (nI 2)), (2, .ref wo), (0, .ref t), (1, .ref a)]) hb dX5_apply_122 (by rw [hN]; decide) rfl ?_
    refine z_goto (tgt := 195) hb dX5_apply_123 (by decide) ?_
    refine z_iload_n hb dX5_apply_195 rfl ?_
    refine z_tableIn (off := 78) (tgt := 274) hb dX5_apply_196 (by decide) (by decide) rfl (by decide) ?_
    refine z_aload_n hb dX5_apply_274 rfl ?_
    refine z_call (b' := 0) (f' := 0) (rest := []) (av := [.ref a]) (z_siteV hb ho zc1 ky_1 q1396 q1397 q1398 ⟨_, _, _, _, zk_X2_beginDay⟩ zy_X2_beginDay zl_X2_beginDay dX5_apply_275 : z_Site M _ _ _ _ _ ([].reverse ++ .ref a :: []) [] _) zk_X2_beginDay q95 hrm (m_cmd2 hDr6 hb0 (by omega) hI ) (by omega) (by decide) (Nat.le_of_ble_eq_true rfl) (by omega) (by omega) (fun v9 h9 n9 hq9 hn9 => ?_) (fun q9 h9 n9 hq9 hn9 => ?_)
    · have hv9 := z_res_v hq9
      subst hv9
      refine z_goto (tgt := 360) hb dX5_apply_278 (by decide) ?_
      refine z_iret hb hr dX5_apply_360 ?_
      rw [hQ]
      exact ⟨_, hws6, hfr6, hhw6, z_res_n (by omega) hq9⟩
    · exact z_ru9_out ho hH hn0 hQ hws6 hfr6 hhw6 (z_res_n (by omega) hq9)

