def z_aq9 (G : zG) (h : zH) (n b0 : Nat) (w : Nat → Int32) (v : Nat → Int64) (R S D a kd : Nat) (s x y : Int32) (wo : Nat) : zQ := fun o h' n' => ∃ h2, z_Sf G h2 wo (z_wd kd) (z_hs (z_wd kd)) ∧ z_fr (fun y => y = wo) h h2 ∧ z_hw h h2 wo (z_hs (z_wd kd)) ∧ z_rz G h2 n b0 w v R S D a kd s x y o h' n'
theorem m_applyU {l : Launch} {G : zG} {h : zH} {n b0 : Nat} {w : Nat → Int32} {v : Nat → Int64} {R S D a lr er ls es lv ev : Nat} {ra sa va na ba : Nat → Nat} {c9 t wo sg kd : Nat} {x y hs : Int32} (hDr : z_Dr G h b0 w v R S D a lr er ls es lv ev ra sa va na ba) (hb0 : z_n0 G ≤ b0) (hbn : b0 ≤ n) (hI : z_inv w v R S D c9) (hK : z_KC G h) (hc16 : sg < 65536) (htc : h t = some (.inr (4, [.ref wo, .int (nI sg), .int x, .int y]))) (hk9 : kd < 9) (hw0 : z_n0 G ≤ wo) (hhs : (kd = 2 ∧ hs = nI 0) ∨ hs = z_hs (z_wd kd)) (hws : z_Sf G h wo (z_wd kd) hs) : z_C l G yX5_apply 41 100 1000 [.ref t, .ref a] h n (z_aq9 G h n b0 w v R S D a kd (nI sg) x y wo) := by
  rcases hhs with ⟨rfl, rfl⟩ | rfl
  · exact (m_X5_apply_2u hDr hb0 hbn hI hK hc16 htc hws hw0).mono fun o h' n' q => q
  · exact (m_apply hDr hb0 hbn hI hK hc16 htc hk9 hws.sg).mono fun o h' n' q => ⟨h, hws, fun y c z _ => z, (by obtain ⟨e, ho⟩ := hws.o; exact ⟨e, _, ho, ho⟩), q⟩
theorem z_np_ac {c : Nat} (hc : c = 5) {r : vw_C} (hr : zCL[c]? = some r) : ∀ z ∈ [((0 : Nat), (5 : Nat), (6 : Nat), (17 : Nat)), ((0 : Nat), (5 : Nat), (6 : Nat), (1 : Nat)), ((0 : Nat), (5 : Nat), (6 : Nat), (20 : Nat))], z_np RX1 r.1 2 z := by
  subst hc
  cases hr
  intro z hz
  simp only [List.mem_cons, List.mem_nil_iff, or_false] at hz
  rcases hz with rfl | rfl | rfl
  · exact Or.inr ⟨by decide, _, q1512, List.mem_of_getElem? (i := 85) rfl⟩
  · exact Or.inr ⟨by decide, _, q1143, List.mem_of_getElem? (i := 83) rfl⟩
  · exact Or.inr ⟨by decide, _, q1370, List.mem_of_getElem? (i := 88) rfl⟩
/-- the end of 'applyCommand' -/
def z_ac9 (G : zG) (h : zH) (n b0 : Nat) (w : Nat → Int32) (v : Nat → Int64) (R S D a kd : Nat) (sg : Nat) (x y : Int32) (wo : Nat) : zQ := fun o h' n' =>
  ((tC_why w R S D kd (z_xyz kd (nI sg) x y).1 (z_xyz kd (nI sg) x y).2.1 (z_xyz kd (nI sg) x y).2.2).1 = 0 ∧ ∃ v9 : Int32, o = .returned (some (.int v9)) ∧ z_DR G h' b0 (tC_go w v R S D kd (z_xyz kd (nI sg) x y).1 (z_xyz kd (nI sg) x y).2.1 (z_xyz kd (nI sg) x y).2.2).1 (tC_go w v R S D kd (z_xyz kd (nI sg) x y).1 (z_xyz kd (nI sg) x y).2.1 (z_xyz kd (nI sg) x y).2.2).2.1 (tC_go w v R S D kd (z_xyz kd (nI sg) x y).1 (z_xyz kd (nI sg) x y).2.1 (z_xyz kd (nI sg) x y).2.2).2.2.2.1 (tC_go w v R S D kd (z_xyz kd (nI sg) x y).1 (z_xyz kd (nI sg) x y).2.1 (z_xyz kd (nI sg) x y).2.2).2.2.2.2.1 (tC_go w v R S D kd (z_xyz kd (nI sg) x y).1 (z_xyz kd (nI sg) x y).2.1 (z_xyz kd (nI sg) x y).2.2).2.2.2.2.2 a ∧ ∃ h2, z_hw h h2 wo (z_hs (z_wd kd)) ∧ z_fr (fun y => y = wo) h h2 ∧ z_fb b0 h2 h') ∨
  ((tC_why w R S D kd (z_xyz kd (nI sg) x y).1 (z_xyz kd (nI sg) x y).2.1 (z_xyz kd (nI sg) x y).2.2).1 ≠ 0 ∧ ∃ qq r d, o = .threw qq ∧ n ≤ qq ∧ h' qq = some (.inr (5, z_den r d)) ∧ ((tC_why w R S D kd (z_xyz kd (nI sg) x y).1 (z_xyz kd (nI sg) x y).2.1 (z_xyz kd (nI sg) x y).2.2).2 = some (r, d) ∨ ((tC_why w R S D kd (z_xyz kd (nI sg) x y).1 (z_xyz kd (nI sg) x y).2.1 (z_xyz kd (nI sg) x y).2.2).2 = none ∧ r = 6 ∧ d = 0)) ∧ z_fr (fun y => y = wo) h h')

set_option maxHeartbeats 1000000 in
theorem m_X1_applyCommand {l : Launch} {G : zG} {h : zH} {n : Nat} {b0 : Nat} {w : Nat → Int32} {v : Nat → Int64} {R S D a lr er ls es lv ev : Nat} {ra sa va na ba : Nat → Nat} {c9 t wo sg kd : Nat} {x y hs : Int32} (hDr : z_Dr G h b0 w v R S D a lr er ls es lv ev ra sa va na ba) (hb0 : z_n0 G ≤ b0) (hbn : b0 ≤ n) (hI : z_inv w v R S D c9) (hK : z_KC G h) (hc16 : sg < 65536) (htc : h t = some (.inr (4, [.ref wo, .int (nI sg), .int x, .int y]))) (hk9 : kd < 9) (hw0 : z_n0 G ≤ wo) (hhs : (kd = 2 ∧ hs = nI 0) ∨ hs = z_hs (z_wd kd)) (hws : z_Sf G h wo (z_wd kd) hs) : z_C l G yX1_applyCommand 42 101 1010 [.ref t, .ref a] h n (z_ac9 G h n b0 w v R S D a kd sg x y wo) := by
  refine z_start zk_X1_applyCommand zpl_RX1 (Nat.le_of_ble_eq_true rfl) ?_
  intro hn0 M hl hG ho hb hN hr hm hH hrm hQ
  subst hl hG
  have ho : zm_o M = RX1 := ho
  refine z_dom (fun hdm0 => ?_)
  show z_V M h n 101 1010 0 [(0, .ref t), (1, .ref a)] []
  refine z_dom (fun hD0 => ?_)
  refine z_aload_n hb dX1_applyCommand_0 rfl ?_
  refine z_aload_n hb dX1_applyCommand_1 rfl ?_
  refine z_call (b' := 1) (f' := 10) (rest := []) (av := [.ref t, .ref a]) (z_siteV hb ho zc4 htc q836 q837 q838 ⟨_, _, _, _, zk_X5_apply⟩ zy_X5_apply zl_X5_apply dX1_applyCommand_2 : z_Site M _ _ _ _ _ ([.ref a].reverse ++ .ref t :: []) [] _) zk_X5_apply q115 hrm (m_applyU hDr hb0 hbn hI hK hc16 htc hk9 hw0 hhs hws) (by omega) (by decide) (Nat.le_of_ble_eq_true rfl) (by omega) (by omega) (fun v9 h9 n9 hq9 hn9 => ?_) (fun q9 h9 n9 hq9 hn9 => ?_)
  · obtain ⟨hh2, g1, g2, g4, g3⟩ := hq9
    obtain ⟨hw0_, hv9, hDR9, hf9⟩ := z_res_ret g3
    subst hv9
    refine z_iret hb hr dX1_applyCommand_5 ?_
    rw [hQ]
    exact Or.inl ⟨hw0_, _, rfl, hDR9, hh2, g4, g2, hf9⟩
  · obtain ⟨hh2, g1, g2, g4, g3⟩ := hq9
    obtain ⟨hw9, hq1, hq2, hq3⟩ := z_res_thr g3
    rcases hq3 with ⟨r9, d9, hw2, eh9⟩ | ⟨hw2, eh9⟩
    · exact z_out ho hH zc5 (z_nxs eh9) (by omega) (z_np_ac rfl zc5) (by rw [hQ]; exact Or.inr ⟨hw9, q9, r9, d9, rfl, by omega, z_nxs eh9, Or.inl hw2, z_fr.tn hdm0 g2 (z_fr_up (P := fun y => y = q9) rfl eh9) (fun y z => by omega)⟩)
    · have hxc := z_xc_or kd (tC_why w R S D kd (z_xyz kd (nI sg) x y).1 (z_xyz kd (nI sg) x y).2.1 (z_xyz kd (nI sg) x y).2.2).1
      generalize z_xc kd (tC_why w R S D kd (z_xyz kd (nI sg) x y).1 (z_xyz kd (nI sg) x y).2.1 (z_xyz kd (nI sg) x y).2.2).1 = xc9 at hxc eh9
      rcases hxc with rfl | rfl | rfl
      · refine z_catch ho hH (pre := [((0 : Nat), (5 : Nat), (6 : Nat), (17 : Nat)), ((0 : Nat), (5 : Nat), (6 : Nat), (1 : Nat))]) (suf := []) (x := ((0 : Nat), (5 : Nat), (6 : Nat), (20 : Nat))) rfl zc26 (z_nxs eh9) (by omega) (fun z hz => by
          simp only [List.mem_cons, List.mem_nil_iff, or_false] at hz
          rcases hz with rfl | rfl
          · exact Or.inr ⟨by decide, _, q1512, List.mem_of_getElem? (i := 353) rfl⟩
          · exact Or.inr ⟨by decide, _, q1143, List.mem_of_getElem? (i := 351) rfl⟩) ⟨by decide, by decide⟩ (by decide) q1370 q392 ?_
        refine z_astore_n (lv' := [(2, .ref q9), (0, .ref t), (1, .ref a)]) hb dX1_applyCommand_6 (by rw [hN]; decide) rfl ?_
        refine z_dom (fun hD_1 => ?_)
        refine z_new (N0 := 8) (b' := 0) (f' := 2) (fs := [.null, .null, .null, .null, .null, .int (nI 0), .int (nI 0), .int (nI 0)]) (C := RX6) (T := TX6) (N := 8) hb ho zc5 in_X6 tyX6_ok q816 q1152 q121 dX1_applyCommand_7 (zdf_X6) (by omega) (by omega) ?_
        refine z_hn (fun h_2 eh_2 => ?_)
        have eh_2 : h_2 = z_up h9 n9 (.inr (5, [.null, .null, .null, .null, .null, .int (nI 0), .int (nI 0), .int (nI 0)])) := eh_2
        refine z_dup hb dX1_applyCommand_10 rfl ?_
        refine z_bipush (x := nI 6) hb dX1_applyCommand_11 (by decide) ?_
        refine z_iconst (x := nI 0) hb dX1_applyCommand_13 (by decide) ?_
        refine z_call0 (b' := 0) (f' := 2) (rest := [.ref n9]) (av := [.ref n9, .int (nI 6), .int (nI 0)]) (z_siteI hb ho q1160 q1161 q1162 rfl zy_X6_init zl_X6_init dX1_applyCommand_14 : z_Site M _ _ _ _ _ ([.int (nI 6), .int (nI 0)].reverse ++ .ref n9 :: [.ref n9]) [.ref n9] _) zk_X6_init q121 hrm (m_X6_init (nI 6) (nI 0) (z_nxs eh_2) (by omega)) (by omega) (by decide) (Nat.le_of_ble_eq_true rfl) (by omega) (by omega) ?_
        refine z_hn (fun h_3 eh_3 => ?_)
        have eh_3 : h_3 = z_up h_2 n9 (.inr (5, [.null, .null, .null, .null, .null, .int (nI 0), .int (nI 6), .int (nI 0)])) := eh_3
        refine z_athrow hb dX1_applyCommand_17 ?_
        exact z_out ho hH zc5 (z_nxs eh_3) (by omega) (fun z hz => by
          simp only [List.mem_cons, List.mem_nil_iff, or_false] at hz
          rcases hz with rfl | rfl | rfl <;> exact Or.inl (by decide)) (by rw [hQ]; exact Or.inr ⟨hw9, _, 6, 0, rfl, by omega, (z_nxs eh_3), Or.inr ⟨hw2, rfl, rfl⟩, (z_fr.tn hdm0 (z_fr.tn hdm0 (z_fr.tn hdm0 g2 (z_fr_up (P := fun y => y = q9) rfl eh9) (fun y z => by omega)) (z_fr_up (P := fun y => y = n9) rfl eh_2) (fun y z => by omega)) (z_fr_up (P := fun y => y = n9) rfl eh_3) (fun y z => by omega))⟩)
      · refine z_catch ho hH (pre := [((0 : Nat), (5 : Nat), (6 : Nat), (17 : Nat))]) (suf := [((0 : Nat), (5 : Nat), (6 : Nat), (20 : Nat))]) (x := ((0 : Nat), (5 : Nat), (6 : Nat), (1 : Nat))) rfl zc27 (z_nxs eh9) (by omega) (fun z hz => by
          simp only [List.mem_cons, List.mem_nil_iff, or_false] at hz
          subst hz
          exact Or.inr ⟨by decide, _, q1512, List.mem_of_getElem? (i := 244) rfl⟩) ⟨by decide, by decide⟩ (by decide) q1143 q902 ?_
        refine z_astore_n (lv' := [(2, .ref q9), (0, .ref t), (1, .ref a)]) hb dX1_applyCommand_6 (by rw [hN]; decide) rfl ?_
        refine z_dom (fun hD_4 => ?_)
        refine z_new (N0 := 8) (b' := 0) (f' := 2) (fs := [.null, .null, .null, .null, .null, .int (nI 0), .int (nI 0), .int (nI 0)]) (C := RX6) (T := TX6) (N := 8) hb ho zc5 in_X6 tyX6_ok q816 q1152 q121 dX1_applyCommand_7 (zdf_X6) (by omega) (by omega) ?_
        refine z_hn (fun h_5 eh_5 => ?_)
        have eh_5 : h_5 = z_up h9 n9 (.inr (5, [.null, .null, .null, .null, .null, .int (nI 0), .int (nI 0), .int (nI 0)])) := eh_5
        refine z_dup hb dX1_applyCommand_10 rfl ?_
        refine z_bipush (x := nI 6) hb dX1_applyCommand_11 (by decide) ?_
        refine z_iconst (x := nI 0) hb dX1_applyCommand_13 (by decide) ?_
        refine z_call0 (b' := 0) (f' := 2) (rest := [.ref n9]) (av := [.ref n9, .int (nI 6), .int (nI 0)]) (z_siteI hb ho q1160 q1161 q1162 rfl zy_X6_init zl_X6_init dX1_applyCommand_14 : z_Site M _ _ _ _ _ ([.int (nI 6), .int (nI 0)].reverse ++ .ref n9 :: [.ref n9]) [.ref n9] _) zk_X6_init q121 hrm (m_X6_init (nI 6) (nI 0) (z_nxs eh_5) (by omega)) (by omega) (by decide) (Nat.le_of_ble_eq_true rfl) (by omega) (by omega) ?_
        refine z_hn (fun h_6 eh_6 => ?_)
        have eh_6 : h_6 = z_up h_5 n9 (.inr (5, [.null, .null, .null, .null, .null, .int (nI 0), .int (nI 6), .int (nI 0)])) := eh_6
        refine z_athrow hb dX1_applyCommand_17 ?_
        exact z_out ho hH zc5 (z_nxs eh_6) (by omega) (fun z hz => by
          simp only [List.mem_cons, List.mem_nil_iff, or_false] at hz
          rcases hz with rfl | rfl | rfl <;> exact Or.inl (by decide)) (by rw [hQ]; exact Or.inr ⟨hw9, _, 6, 0, rfl, by omega, (z_nxs eh_6), Or.inr ⟨hw2, rfl, rfl⟩, (z_fr.tn hdm0 (z_fr.tn hdm0 (z_fr.tn hdm0 g2 (z_fr_up (P := fun y => y = q9) rfl eh9) (fun y z => by omega)) (z_fr_up (P := fun y => y = n9) rfl eh_5) (fun y z => by omega)) (z_fr_up (P := fun y => y = n9) rfl eh_6) (fun y z => by omega))⟩)
      · refine z_catch ho hH (pre := []) (suf := [((0 : Nat), (5 : Nat), (6 : Nat), (1 : Nat)), ((0 : Nat), (5 : Nat), (6 : Nat), (20 : Nat))]) (x := ((0 : Nat), (5 : Nat), (6 : Nat), (17 : Nat))) rfl zc28 (z_nxs eh9) (by omega) (fun _ h => nomatch h) ⟨by decide, by decide⟩ (by decide) q1512 q1514 ?_
        refine z_astore_n (lv' := [(2, .ref q9), (0, .ref t), (1, .ref a)]) hb dX1_applyCommand_6 (by rw [hN]; decide) rfl ?_
        refine z_dom (fun hD_7 => ?_)
        refine z_new (N0 := 8) (b' := 0) (f' := 2) (fs := [.null, .null, .null, .null, .null, .int (nI 0), .int (nI 0), .int (nI 0)]) (C := RX6) (T := TX6) (N := 8) hb ho zc5 in_X6 tyX6_ok q816 q1152 q121 dX1_applyCommand_7 (zdf_X6) (by omega) (by omega) ?_
        refine z_hn (fun h_8 eh_8 => ?_)
        have eh_8 : h_8 = z_up h9 n9 (.inr (5, [.null, .null, .null, .null, .null, .int (nI 0), .int (nI 0), .int (nI 0)])) := eh_8
        refine z_dup hb dX1_applyCommand_10 rfl ?_
        refine z_bipush (x := nI 6) hb dX1_applyCommand_11 (by decide) ?_
        refine z_iconst (x := nI 0) hb dX1_applyCommand_13 (by decide) ?_
        refine z_call0 (b' := 0) (f' := 2) (rest := [.ref n9]) (av := [.ref n9, .int (nI 6), .int (nI 0)]) (z_siteI hb ho q1160 q1161 q1162 rfl zy_X6_init zl_X6_init dX1_applyCommand_14 : z_Site M _ _ _ _ _ ([.int (nI 6), .int (nI 0)].reverse ++ .ref n9 :: [.ref n9]) [.ref n9] _) zk_X6_init q121 hrm (m_X6_init (nI 6) (nI 0) (z_nxs eh_8) (by omega)) (by omega) (by decide) (Nat.le_of_ble_eq_true rfl) (by omega) (by omega) ?_
        refine z_hn (fun h_9 eh_9 => ?_)
        have eh_9 : h_9 = z_up h_8 n9 (.inr (5, [.null, .null, .null, .null, .null, .int (nI 0), .int (nI 6), .int (nI 0)])) := eh_9
        refine z_athrow hb dX1_applyCommand_17 ?_
        exact z_out ho hH zc5 (z_nxs eh_9) (by omega) (fun z hz => by
          simp only [List.mem_cons, List.mem_nil_iff, or_false] at hz
          rcases hz with rfl | rfl | rfl <;> exact Or.inl (by decide)) (by rw [hQ]; exact Or.inr ⟨hw9, _, 6, 0, rfl, by omega, (z_nxs eh_9), Or.inr ⟨hw2, rfl, rfl⟩, (z_fr.tn hdm0 (z_fr.tn hdm0 (z_fr.tn hdm0 g2 (z_fr_up (P := fun y => y = q9) rfl eh9) (fun y z => by omega)) (z_fr_up (P := fun y => y = n9) rfl eh_8) (fun y z => by omega)) (z_fr_up (P := fun y => y = n9) rfl eh_9) (fun y z => by omega))⟩)

