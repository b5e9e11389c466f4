/-- a heap without the cell t -/
def z_wo (t : Nat) (h : zH) : zH := fun y => if y = t then none else h y
theorem z_wo.at {t y : Nat} {h : zH} {c : va_E} (hn : y ≠ t) (q : h y = some c) : z_wo t h y = some c := by
  unfold z_wo; rw [if_neg hn]; exact q
theorem z_wo.dm {t n : Nat} {h : zH} (d : z_dm h n) : z_dm (z_wo t h) n := fun y c q => by
  unfold z_wo at q
  by_cases z : y = t
  · rw [if_pos z] at q; cases q
  · rw [if_neg z] at q; exact d y c q
theorem z_wo.fr {t : Nat} {h h1 h2 : zH} (e : z_ex h h1) (f : z_fr (fun y => y = t) h1 h2) : z_ex (z_wo t h) h2 := fun y c q => by
  unfold z_wo at q
  by_cases z : y = t
  · rw [if_pos z] at q; cases q
  · rw [if_neg z] at q; exact f y c (e y c q) z
theorem z_wo.bk {t : Nat} {h h2 : zH} (e : z_ex (z_wo t h) h2) : z_fr (fun y => y = t) h h2 := fun y c q z => e y c (z_wo.at z q)
theorem z_ne_bf {G : zG} {h : zH} {t b e cd ci : Nat} {cs : List Nat} {fs : List Value} (q : z_BF G h b e cd cs) (ht : h t = some (.inr (ci, fs))) (hc : ci ≠ 22) : ¬ (t = b ∨ t = e) := by
  obtain ⟨N, f, ml, q1, q2, -⟩ := q
  rintro (z | z)
  · rw [z, q1] at ht; cases ht; exact hc rfl
  · rw [z, q2] at ht; cases ht
theorem z_Sg.wo {G : zG} {h : zH} {s t ci : Nat} {l : List Nat} {hs : Int32} {fs : List Value} (q : z_Sg G h s l hs) (ht : h t = some (.inr (ci, fs))) (hc : ci ≠ 23) : z_Sg G (z_wo t h) s l hs := by
  obtain ⟨e, hz, q1, q2, q3⟩ := q
  exact ⟨e, hz, z_wo.at (fun z => by rw [z, ht] at q1; cases q1; exact hc rfl) q1, z_wo.at (fun z => by rw [z, ht] at q2; cases q2) q2, q3⟩
/-- the end of 'word' -/
def z_wq9 (G : zG) (t x n : Nat) (h : zH) (cs : List Nat) (p : Nat) : zQ := fun o h' n' =>
  (∃ kd s, kd < 9 ∧ z_lp cs p kd (z_wd kd).length ∧ o = .returned (some (.ref s)) ∧ n ≤ s ∧ s < n' ∧ z_Sf G h' s (z_wd kd) (nI 0) ∧ h' t = some (.inr (18, [.int (nI (p + (z_wd kd).length)), .ref x])) ∧ z_fr (fun y => y = t) h h') ∨
  (∃ m a, (∃ kd, kd < 9 ∧ z_lp cs p kd m) ∧ (∀ kd, kd < 9 → ¬ z_lp cs p kd (m + 1)) ∧ (∀ kd, kd < 9 → z_lp cs p kd m → (z_wd kd).length ≠ m) ∧ o = .threw a ∧ n ≤ a ∧ h' a = some (.inr (19, z_sf (p + m))) ∧ z_fr (fun y => y = t) h h')
theorem z_lp_len {cs : List Nat} {p kd m : Nat} (q : z_lp cs p kd m) : (z_wd kd).take m = z_pm cs p m := q.2.2
theorem z_lp_full {cs : List Nat} {p kd m : Nat} (hk : kd < 9) (q : z_lp cs p kd m) (h : (z_wd kd).length ≠ m) : ∀ k, k < 9 → z_lp cs p k m → (z_wd k).length ≠ m := fun k hk2 q2 z => by
  have h1 := z_wA kd hk m (by have := (z_wd_len kd hk).2; have := q.1; omega) q.1
  have h2 := z_wA k hk2 m (by have := (z_wd_len k hk2).2; omega) (by omega)
  rw [z_lp_len q] at h1
  rw [z_lp_len q2, h1] at h2
  rw [decide_eq_true z.symm, decide_eq_false (fun z => h z.symm)] at h2
  cases h2

theorem z_dA {z : Int32} {b : Bool} (h : decide (z < nI 0) = !b) (h0 : (0 : Int32) ≤ z) : b = true := by
  rw [decide_eq_false (show ¬ z < nI 0 from Int32.not_lt.mpr h0)] at h
  cases b
  · cases h
  · rfl
theorem z_dD {z : Int32} {b : Bool} (h : decide (z < nI 0) = !b) (h0 : ¬ z < (0 : Int32)) : b = true := z_dA h (Int32.not_lt.mp h0)
theorem z_dC {z : Int32} {b : Bool} (h : decide (z < nI 0) = !b) (h0 : z < (0 : Int32)) : b = false := by
  rw [decide_eq_true (show z < nI 0 from h0)] at h
  cases b
  · rfl
  · cases h
theorem z_dB {z : Int32} {b : Bool} (h : decide (z < nI 0) = !b) (h0 : ¬ (0 : Int32) ≤ z) : b = false := z_dC h (Int32.not_le.mp h0)
theorem z_no1 {cs : List Nat} {p m : Nat} (h : z_at cs (p + m) z_abc = false) : ∀ kd, kd < 9 → ¬ z_lp cs p kd (m + 1) := fun kd hk ⟨h1, h2, h3⟩ => by
  refine of_decide_eq_false h ⟨by omega, ?_⟩
  have e := z_pm_succ (cs := cs) (p := p) (m := m) (by omega)
  have hm : cs.getD (p + m) 0 ∈ z_pm cs p (m + 1) := by rw [e]; exact List.mem_append_right _ (List.mem_singleton.mpr rfl)
  rw [show z_pm cs p (m + 1) = (z_wd kd).take (m + 1) from h3.symm] at hm
  exact z_wd_abc kd hk _ (List.mem_of_mem_take hm)
theorem z_wBc {cs : List Nat} {p m kd : Nat} (hkd : kd < 9) (hm : m < 7) (hlp : z_lp cs p kd m) (hc : 97 ≤ cs.getD (p + m) 0 ∧ cs.getD (p + m) 0 ≤ 122) : (decide (z_o (z_sx z_kno ((32 :: z_pm cs p m) ++ [cs.getD (p + m) 0])) < nI 0)) = !(z_nx9 (z_pm cs p m ++ [cs.getD (p + m) 0])) := by
  have h := z_wB kd hkd m hm hlp.1 (cs.getD (p + m) 0 - 97) (by omega)
  rw [show 97 + (cs.getD (p + m) 0 - 97) = cs.getD (p + m) 0 by omega, z_lp_len hlp] at h
  exact h
theorem z_wdl {cs : List Nat} {p m kd : Nat} (hlp : z_lp cs p kd m) (h : m = (z_wd kd).length) : z_wd kd = z_pm cs p m := by
  rw [← z_lp_len hlp, h, List.take_length]

set_option maxHeartbeats 1000000 in
theorem m_X22_word {l : Launch} {G : zG} {h : zH} {n : Nat} {t x bu e cd p : Nat} {cs : List Nat} {x0 x1 x3 x4 x5 x6 : Value} (hp : h t = some (.inr (18, [.int (nI p), .ref x]))) (hX : h x = some (.inr (0, [x0, x1, .ref bu, x3, x4, x5, x6]))) (hBF : z_BF G h bu e cd cs) (hT : cs.length ≤ 60) (hpT : p ≤ cs.length) (hKS : z_KS G h) (ht0 : z_n0 G ≤ t) : z_C l G yX22_word 9 140 26000 [.ref t] h n (z_wq9 G t x n h cs p) := by
  refine z_start zk_X22_word zpl_RX22 (Nat.le_of_ble_eq_true rfl) ?_
  intro hn0 M hl hG ho hb hN hr hm hH hrm hQ
  subst hl hG
  have ho : zm_o M = RX22 := ho
  obtain ⟨fsb, hob⟩ := z_BF.o hBF
  have hc16 := z_BF.c16 hBF
  show z_V M h n 140 26000 0 [(0, .ref t)] []
  refine z_dom (fun hD0 => ?_)
  refine z_ldcS (i := 26) hb ho rfl rfl rfl dX22_word_0 ?_
  refine z_astore_n (lv' := [(1, .ref ((zm_G M).2.2.1 26)), (0, .ref t)]) hb dX22_word_2 (by rw [hN]; decide) rfl ?_
  refine z_ldcS (i := 27) hb ho rfl rfl rfl dX22_word_3 ?_
  refine z_astore_n (lv' := [(2, .ref ((zm_G M).2.2.1 27)), (1, .ref ((zm_G M).2.2.1 26)), (0, .ref t)]) hb dX22_word_5 (by rw [hN]; decide) rfl ?_
  refine z_ldcS (i := 28) hb ho rfl rfl rfl dX22_word_6 ?_
  refine z_astore_n (lv' := [(3, .ref ((zm_G M).2.2.1 28)), (2, .ref ((zm_G M).2.2.1 27)), (1, .ref ((zm_G M).2.2.1 26)), (0, .ref t)]) hb dX22_word_8 (by rw [hN]; decide) rfl ?_
  have lp_9 : ∀ (k9_9 : Nat) (m : Nat) (nn : Nat) (hh : zH) (nm : Nat) (hs9 : Int32), 7 - m < k9_9 → (n ≤ nn) → (z_fr (fun y => y = t) h hh) → (hh t = some (.inr (18, [.int (nI (p + m)), .ref x]))) → (z_Sg (zm_G M) hh nm (32 :: z_pm cs p m) hs9) → (∃ kd, kd < 9 ∧ z_lp cs p kd m) → z_V M hh nn (21 * (6 - m) + 9) (3990 * (6 - m) + 1240) 9 [(3, .ref nm), (2, .ref ((zm_G M).2.2.1 27)), (1, .ref ((zm_G M).2.2.1 26)), (0, .ref t)] [] := by
    intro k9_9
    induction k9_9 with
    | zero => intro m nn hh nm hs9 hk9_9; exact absurd hk9_9 (Nat.not_lt_zero _)
    | succ k9_9 ih_9 =>
      intro m nn hh nm hs9 hk9_9 hnn9 hE9 hpl hNm hwp
      refine z_dom (fun hdl => ?_)
      have hXl := hE9 _ _ hX (z_x_t hp hX)
      have hBl := hBF.frc hp (by decide) hE9
      have hKSl := hKS.frx hp (by decide) hE9
      obtain ⟨fsb9, hob9⟩ := z_BF.o hBl
      obtain ⟨es9, hz9, hn91, hn92, -, hlo9⟩ := id hNm
      obtain ⟨ek9, hzk9, hk91, -⟩ := hKSl 26 (by decide)
      obtain ⟨kd, hkd, hlp⟩ := hwp
      have hwl := z_wd_len kd hkd
      have hm6 : m ≤ 6 := by have := hlp.1; omega
      have hpT9 := hlp.2.1
      have hlm9 := z_pm_len hpT9
      have hA9 := z_wA kd hkd m (by omega) hlp.1
      rw [z_lp_len hlp] at hA9
      have hA8 : (decide (z_o (z_sx (z_lits.getD 26 []) ([] ++ 32 :: z_pm cs p m ++ z_lits.getD 28 [])) < nI 0)) = !(decide (m = (z_wd kd).length)) := hA9
      refine z_aload_n hb dX22_word_9 rfl ?_
      refine z_dom (fun hD_1 => ?_)
      refine z_new (N0 := 4) (b' := (21 * (6 - m) + 9) - 1) (f' := (3990 * (6 - m) + 1240) - 4) (fs := [.null, .int (nI 0), .int (nI 0), .int (nI 0)]) (C := RJ5) (T := TJ5) (N := 4) hb ho zc22 in_J5 tyJ5_ok q2287 q253 q101 dX22_word_10 (zdf_J5) (by omega) (by omega) ?_
      refine z_hn (fun h_2 eh_2 => ?_)
      have eh_2 : h_2 = z_up hh nn (.inr (22, [.null, .int (nI 0), .int (nI 0), .int (nI 0)])) := eh_2
      have k_3 : h_2 t = some (.inr (18, [.int (nI (p + m)), .ref x])) := z_nx eh_2 (Nat.ne_of_lt (hD_1 _ _ hpl)) hpl
      have k_4 : h_2 x = some (.inr (0, [x0, x1, .ref bu, x3, x4, x5, x6])) := z_nx eh_2 (Nat.ne_of_lt (hD_1 _ _ hXl)) hXl
      have k_5 : h_2 bu = some (.inr (22, fsb9)) := z_nx eh_2 (Nat.ne_of_lt (hD_1 _ _ hob9)) hob9
      have k_6 : h_2 nm = some (.inr (23, [.ref es9, .int (nI 0), .int hs9, .int hz9])) := z_nx eh_2 (Nat.ne_of_lt (hD_1 _ _ hn91)) hn91
      have k_7 : h_2 ((zm_G M).2.2.1 26) = some (.inr (23, [.ref ek9, .int (nI 0), .int (z_hs (z_lits.getD 26 [])), .int hzk9])) := z_nx eh_2 (Nat.ne_of_lt (hD_1 _ _ hk91)) hk91
      refine z_dup hb dX22_word_13 rfl ?_
      refine z_callQ0 (b' := ((21 * (6 - m) + 9) - 1) - 1) (f' := ((3990 * (6 - m) + 1240) - 4) - 16) (rest := [.ref nn, .ref ((zm_G M).2.2.1 26)]) (av := [.ref nn]) (z_siteI hb ho q2288 q255 q256 rfl zy_J5_init zl_J5_init dX22_word_14 : z_Site M _ _ _ _ _ ([].reverse ++ .ref nn :: [.ref nn, .ref ((zm_G M).2.2.1 26)]) [.ref nn, .ref ((zm_G M).2.2.1 26)] _) zk_J5_init q101 hrm (m_J5_init_b (z_nxs eh_2) (by omega) (by omega)) (by omega) (by decide) (Nat.le_of_ble_eq_true rfl) (by omega) (by omega) (fun h_9 n_10 hq_8 hn_10 => ?_)
      obtain ⟨hnnhq_8, hbfhq_8, hfrhq_8⟩ := hq_8
      have k_11 : h_9 t = some (.inr (18, [.int (nI (p + m)), .ref x])) := (z_exT hdl (by omega) (z_exN z_ex_r hD_1 eh_2) hfrhq_8) _ _ hpl
      have k_12 : h_9 x = some (.inr (0, [x0, x1, .ref bu, x3, x4, x5, x6])) := (z_exT hdl (by omega) (z_exN z_ex_r hD_1 eh_2) hfrhq_8) _ _ hXl
      have k_13 : h_9 bu = some (.inr (22, fsb9)) := (z_exT hdl (by omega) (z_exN z_ex_r hD_1 eh_2) hfrhq_8) _ _ hob9
      have k_14 : h_9 nm = some (.inr (23, [.ref es9, .int (nI 0), .int hs9, .int hz9])) := (z_exT hdl (by omega) (z_exN z_ex_r hD_1 eh_2) hfrhq_8) _ _ hn91
      have k_15 : h_9 ((zm_G M).2.2.1 26) = some (.inr (23, [.ref ek9, .int (nI 0), .int (z_hs (z_lits.getD 26 [])), .int hzk9])) := (z_exT hdl (by omega) (z_exN z_ex_r hD_1 eh_2) hfrhq_8) _ _ hk91
      obtain ⟨fsob_16, ob_16⟩ := z_BF.o hbfhq_8
      refine z_aload_n hb dX22_word_17 rfl ?_
      refine z_callQ1 (b' := (((21 * (6 - m) + 9) - 1) - 1) - 1) (f' := (((3990 * (6 - m) + 1240) - 4) - 16) - 300) (rest := [.ref ((zm_G M).2.2.1 26)]) (av := [.ref nn, .ref nm]) (z_siteV hb ho zc22 ob_16 q2289 q913 q914 ⟨_, _, _, _, zk_J5_append⟩ zy_J5_append zl_J5_append dX22_word_18 : z_Site M _ _ _ _ _ ([.ref nm].reverse ++ .ref nn :: [.ref ((zm_G M).2.2.1 26)]) [.ref ((zm_G M).2.2.1 26)] _) zk_J5_append q101 hrm (m_J5_append_s hbfhq_8 (hNm.ex (z_exT hdl (by omega) (z_exN z_ex_r hD_1 eh_2) hfrhq_8)) (by have := (show ([] : List Nat).length ≤ 0 from Nat.le_refl 0); have := (show (32 :: z_pm cs p m).length ≤ 8 by rw [List.length_cons, hlm9]; omega); omega)) (by omega) (by decide) (Nat.le_of_ble_eq_true rfl) (by omega) (by omega) (fun rhq_17 h_18 n_19 hq_17 hn_19 => ?_)
      obtain ⟨rfl, hq_17⟩ := hq_17
      obtain ⟨e9hq_17, hbfhq_17, heehq_17, hfrhq_17⟩ := hq_17
      have hlnhq_17 : (([] : List Nat) ++ (32 :: z_pm cs p m)).length ≤ 8 := by rw [List.length_append]; have := (show ([] : List Nat).length ≤ 0 from Nat.le_refl 0); have := (show (32 :: z_pm cs p m).length ≤ 8 by rw [List.length_cons, hlm9]; omega); show _ + _ ≤ _; omega
      have hlohq_17 := z_alw (show ∀ b ∈ ([] : List Nat), b < 128 from fun b hb => nomatch hb) hlo9
      have k_20 : h_18 t = some (.inr (18, [.int (nI (p + m)), .ref x])) := (z_exB hdl (by omega) (by omega) (z_exT hdl (by omega) (z_exN z_ex_r hD_1 eh_2) hfrhq_8) hfrhq_17) _ _ hpl
      have k_21 : h_18 x = some (.inr (0, [x0, x1, .ref bu, x3, x4, x5, x6])) := (z_exB hdl (by omega) (by omega) (z_exT hdl (by omega) (z_exN z_ex_r hD_1 eh_2) hfrhq_8) hfrhq_17) _ _ hXl
      have k_22 : h_18 bu = some (.inr (22, fsb9)) := (z_exB hdl (by omega) (by omega) (z_exT hdl (by omega) (z_exN z_ex_r hD_1 eh_2) hfrhq_8) hfrhq_17) _ _ hob9
      have k_23 : h_18 nm = some (.inr (23, [.ref es9, .int (nI 0), .int hs9, .int hz9])) := (z_exB hdl (by omega) (by omega) (z_exT hdl (by omega) (z_exN z_ex_r hD_1 eh_2) hfrhq_8) hfrhq_17) _ _ hn91
      have k_24 : h_18 ((zm_G M).2.2.1 26) = some (.inr (23, [.ref ek9, .int (nI 0), .int (z_hs (z_lits.getD 26 [])), .int hzk9])) := (z_exB hdl (by omega) (by omega) (z_exT hdl (by omega) (z_exN z_ex_r hD_1 eh_2) hfrhq_8) hfrhq_17) _ _ hk91
      obtain ⟨fsob_25, ob_25⟩ := z_BF.o hbfhq_17
      refine z_ldcS (i := 28) hb ho rfl rfl rfl dX22_word_21 ?_
      refine z_callQ1 (b' := ((((21 * (6 - m) + 9) - 1) - 1) - 1) - 1) (f' := ((((3990 * (6 - m) + 1240) - 4) - 16) - 300) - 300) (rest := [.ref ((zm_G M).2.2.1 26)]) (av := [.ref nn, .ref ((zm_G M).2.2.1 28)]) (z_siteV hb ho zc22 ob_25 q2289 q913 q914 ⟨_, _, _, _, zk_J5_append⟩ zy_J5_append zl_J5_append dX22_word_23 : z_Site M _ _ _ _ _ ([.ref ((zm_G M).2.2.1 28)].reverse ++ .ref nn :: [.ref ((zm_G M).2.2.1 26)]) [.ref ((zm_G M).2.2.1 26)] _) zk_J5_append q101 hrm (m_J5_append_s hbfhq_17 ((hKSl 28 (by decide)).ex (z_exB hdl (by omega) (by omega) (z_exT hdl (by omega) (z_exN z_ex_r hD_1 eh_2) hfrhq_8) hfrhq_17)) (by have := hlnhq_17; have := (show (z_lits.getD 28 []).length ≤ 1 by decide); omega)) (by omega) (by decide) (Nat.le_of_ble_eq_true rfl) (by omega) (by omega) (fun rhq_26 h_27 n_28 hq_26 hn_28 => ?_)
      obtain ⟨rfl, hq_26⟩ := hq_26
      obtain ⟨e9hq_26, hbfhq_26, heehq_26, hfrhq_26⟩ := hq_26
      have hlnhq_26 : ((([] : List Nat) ++ (32 :: z_pm cs p m)) ++ (z_lits.getD 28 [])).length ≤ 9 := by rw [List.length_append]; have := hlnhq_17; have := (show (z_lits.getD 28 []).length ≤ 1 by decide); show _ + _ ≤ _; omega
      have hlohq_26 := z_alw hlohq_17 (z_lit_lt 28 (by decide))
      have k_29 : h_27 t = some (.inr (18, [.int (nI (p + m)), .ref x])) := (z_exB hdl (by omega) (by omega) (z_exB hdl (by omega) (by omega) (z_exT hdl (by omega) (z_exN z_ex_r hD_1 eh_2) hfrhq_8) hfrhq_17) hfrhq_26) _ _ hpl
      have k_30 : h_27 x = some (.inr (0, [x0, x1, .ref bu, x3, x4, x5, x6])) := (z_exB hdl (by omega) (by omega) (z_exB hdl (by omega) (by omega) (z_exT hdl (by omega) (z_exN z_ex_r hD_1 eh_2) hfrhq_8) hfrhq_17) hfrhq_26) _ _ hXl
      have k_31 : h_27 bu = some (.inr (22, fsb9)) := (z_exB hdl (by omega) (by omega) (z_exB hdl (by omega) (by omega) (z_exT hdl (by omega) (z_exN z_ex_r hD_1 eh_2) hfrhq_8) hfrhq_17) hfrhq_26) _ _ hob9
      have k_32 : h_27 nm = some (.inr (23, [.ref es9, .int (nI 0), .int hs9, .int hz9])) := (z_exB hdl (by omega) (by omega) (z_exB hdl (by omega) (by omega) (z_exT hdl (by omega) (z_exN z_ex_r hD_1 eh_2) hfrhq_8) hfrhq_17) hfrhq_26) _ _ hn91
      have k_33 : h_27 ((zm_G M).2.2.1 26) = some (.inr (23, [.ref ek9, .int (nI 0), .int (z_hs (z_lits.getD 26 [])), .int hzk9])) := (z_exB hdl (by omega) (by omega) (z_exB hdl (by omega) (by omega) (z_exT hdl (by omega) (z_exN z_ex_r hD_1 eh_2) hfrhq_8) hfrhq_17) hfrhq_26) _ _ hk91
      obtain ⟨fsob_34, ob_34⟩ := z_BF.o hbfhq_26
      refine z_callQ1 (b' := (((((21 * (6 - m) + 9) - 1) - 1) - 1) - 1) - 2) (f' := (((((3990 * (6 - m) + 1240) - 4) - 16) - 300) - 300) - 304) (rest := [.ref ((zm_G M).2.2.1 26)]) (av := [.ref nn]) (z_siteV hb ho zc22 ob_34 q2290 q1033 q1034 ⟨_, _, _, _, zk_J5_toString⟩ zy_J5_toString zl_J5_toString dX22_word_26 : z_Site M _ _ _ _ _ ([].reverse ++ .ref nn :: [.ref ((zm_G M).2.2.1 26)]) [.ref ((zm_G M).2.2.1 26)] _) zk_J5_toString q101 hrm (m_J5_toString hbfhq_26 (by have := hlnhq_26; omega) hlohq_26) (by omega) (by decide) (Nat.le_of_ble_eq_true rfl) (by omega) (by omega) (fun rhq_35 h_36 n_37 hq_35 hn_37 => ?_)
      obtain ⟨rfl, hq_35⟩ := hq_35
      obtain ⟨hnnhq_35, hsghq_35, hexhq_35⟩ := hq_35
      have k_38 : h_36 t = some (.inr (18, [.int (nI (p + m)), .ref x])) := (z_ex_t (z_exB hdl (by omega) (by omega) (z_exB hdl (by omega) (by omega) (z_exT hdl (by omega) (z_exN z_ex_r hD_1 eh_2) hfrhq_8) hfrhq_17) hfrhq_26) hexhq_35) _ _ hpl
      have k_39 : h_36 x = some (.inr (0, [x0, x1, .ref bu, x3, x4, x5, x6])) := (z_ex_t (z_exB hdl (by omega) (by omega) (z_exB hdl (by omega) (by omega) (z_exT hdl (by omega) (z_exN z_ex_r hD_1 eh_2) hfrhq_8) hfrhq_17) hfrhq_26) hexhq_35) _ _ hXl
      have k_40 : h_36 bu = some (.inr (22, fsb9)) := (z_ex_t (z_exB hdl (by omega) (by omega) (z_exB hdl (by omega) (by omega) (z_exT hdl (by omega) (z_exN z_ex_r hD_1 eh_2) hfrhq_8) hfrhq_17) hfrhq_26) hexhq_35) _ _ hob9
      have k_41 : h_36 nm = some (.inr (23, [.ref es9, .int (nI 0), .int hs9, .int hz9])) := (z_ex_t (z_exB hdl (by omega) (by omega) (z_exB hdl (by omega) (by omega) (z_exT hdl (by omega) (z_exN z_ex_r hD_1 eh_2) hfrhq_8) hfrhq_17) hfrhq_26) hexhq_35) _ _ hn91
      have k_42 : h_36 ((zm_G M).2.2.1 26) = some (.inr (23, [.ref ek9, .int (nI 0), .int (z_hs (z_lits.getD 26 [])), .int hzk9])) := (z_ex_t (z_exB hdl (by omega) (by omega) (z_exB hdl (by omega) (by omega) (z_exT hdl (by omega) (z_exN z_ex_r hD_1 eh_2) hfrhq_8) hfrhq_17) hfrhq_26) hexhq_35) _ _ hk91
      refine z_callN1 (b' := (((((21 * (6 - m) + 9) - 1) - 1) - 1) - 1) - 2) (f' := (((((3990 * (6 - m) + 1240) - 4) - 16) - 300) - 300) - 304) (rest := []) (av := [.ref ((zm_G M).2.2.1 26), .ref n_28]) (z_siteV hb ho zc23 k_42 q2291 q2292 q2293 ⟨_, _, _, _, zk_J6_indexOf_3⟩ zy_J6_indexOf_3 zl_J6_indexOf_3 dX22_word_29 : z_Site M _ _ _ _ _ ([.ref n_28].reverse ++ .ref ((zm_G M).2.2.1 26) :: []) [] _) zk_J6_indexOf_3 q102 hrm (m_J6_indexOf_3 ((hKSl 26 (by decide)).ex (z_ex_t (z_exB hdl (by omega) (by omega) (z_exB hdl (by omega) (by omega) (z_exT hdl (by omega) (z_exN z_ex_r hD_1 eh_2) hfrhq_8) hfrhq_17) hfrhq_26) hexhq_35)) hsghq_35 (by constructor <;> (simp only [List.length_append, List.length_cons, hlm9, List.length_nil]; have hq9a : (z_lits.getD 26 []).length = 45 := (by decide); have hq9b : (z_lits.getD 28 []).length = 1 := (by decide); omega))) (by omega) (by decide) (Nat.le_of_ble_eq_true rfl) (by omega) (by omega) (fun n_43 hn_43 => ?_)
      refine z_if_ge (tgt := 131) hb dX22_word_32 (by decide) (fun c_32 => ?_) (fun c_32 => ?_)
      · have hml9 : m = (z_wd kd).length := of_decide_eq_true (z_dA hA8 c_32)
        refine z_aload_n hb dX22_word_131 rfl ?_
        refine z_iconst (x := nI 1) hb dX22_word_132 (by decide) ?_
        refine z_callQ1 (b' := ((((((21 * (6 - m) + 9) - 1) - 1) - 1) - 1) - 2) - 2) (f' := ((((((3990 * (6 - m) + 1240) - 4) - 16) - 300) - 300) - 304) - 304) (rest := []) (av := [.ref nm, .int (nI 1)]) (z_siteV hb ho zc23 k_41 q2353 q2354 q2355 ⟨_, _, _, _, zk_J6_substring⟩ zy_J6_substring zl_J6_substring dX22_word_133 : z_Site M _ _ _ _ _ ([.int (nI 1)].reverse ++ .ref nm :: []) [] _) zk_J6_substring q102 hrm (m_J6_substring (hNm.ex (z_ex_t (z_exB hdl (by omega) (by omega) (z_exB hdl (by omega) (by omega) (z_exT hdl (by omega) (z_exN z_ex_r hD_1 eh_2) hfrhq_8) hfrhq_17) hfrhq_26) hexhq_35)) ⟨by rw [List.length_cons, hlm9, hml9]; omega, by rw [List.length_cons, hlm9]; omega⟩) (by omega) (by decide) (Nat.le_of_ble_eq_true rfl) (by omega) (by omega) (fun rhq9 h9 n99 hq9 hn99 => ?_)
        obtain ⟨s9, rfl, hq9⟩ := hq9
        obtain ⟨hns9, hnn99, hsf9, hex9⟩ := hq9
        refine z_aret hb hr (Or.inl ⟨_, rfl⟩) (Or.inr ⟨_, rfl⟩) dX22_word_136 ?_
        rw [hQ]
        rw [List.drop_one, List.tail_cons, ← z_wdl hlp hml9] at hsf9
        exact Or.inl ⟨kd, s9, hkd, hml9 ▸ hlp, rfl, by omega, hnn99, hsf9, (by rw [← hml9]; exact (z_ex_t (z_ex_t (z_exB hdl (by omega) (by omega) (z_exB hdl (by omega) (by omega) (z_exT hdl (by omega) (z_exN z_ex_r hD_1 eh_2) hfrhq_8) hfrhq_17) hfrhq_26) hexhq_35) hex9) _ _ hpl), hE9.t (z_ex_t (z_ex_t (z_exB hdl (by omega) (by omega) (z_exB hdl (by omega) (by omega) (z_exT hdl (by omega) (z_exN z_ex_r hD_1 eh_2) hfrhq_8) hfrhq_17) hfrhq_26) hexhq_35) hex9).fr⟩
      · have hful9 := z_lp_full hkd hlp (fun z => of_decide_eq_false (z_dB hA8 c_32) z.symm)
        have hm5 : m < 6 := by have := hlp.1; have := hful9 kd hkd hlp; omega
        refine z_aload_n hb dX22_word_35 rfl ?_
        refine z_aload_n hb dX22_word_36 rfl ?_
        refine z_callN1 (b' := (((((21 * (6 - m) + 9) - 1) - 1) - 1) - 1) - 2) (f' := (((((3990 * (6 - m) + 1240) - 4) - 16) - 300) - 300) - 304) (rest := []) (av := [.ref t, .ref ((zm_G M).2.2.1 27)]) (z_siteV hb ho zc18 k_38 q2313 q2315 qs24 ⟨_, _, _, _, zk_X22_isAt⟩ zy_X22_isAt zl_X22_isAt dX22_word_37 : z_Site M _ _ _ _ _ ([.ref ((zm_G M).2.2.1 27)].reverse ++ .ref t :: []) [] _) zk_X22_isAt q146 hrm (m_X22_isAt ((z_ex_t (z_exB hdl (by omega) (by omega) (z_exB hdl (by omega) (by omega) (z_exT hdl (by omega) (z_exN z_ex_r hD_1 eh_2) hfrhq_8) hfrhq_17) hfrhq_26) hexhq_35) _ _ hpl) ((z_ex_t (z_exB hdl (by omega) (by omega) (z_exB hdl (by omega) (by omega) (z_exT hdl (by omega) (z_exN z_ex_r hD_1 eh_2) hfrhq_8) hfrhq_17) hfrhq_26) hexhq_35) _ _ hXl) (hBl.exx (z_ex_t (z_exB hdl (by omega) (by omega) (z_exB hdl (by omega) (by omega) (z_exT hdl (by omega) (z_exN z_ex_r hD_1 eh_2) hfrhq_8) hfrhq_17) hfrhq_26) hexhq_35)) hT hpT9 ((hKSl 27 (by decide)).ex (z_ex_t (z_exB hdl (by omega) (by omega) (z_exB hdl (by omega) (by omega) (z_exT hdl (by omega) (z_exN z_ex_r hD_1 eh_2) hfrhq_8) hfrhq_17) hfrhq_26) hexhq_35))) (by omega) (by decide) (Nat.le_of_ble_eq_true rfl) (by omega) (by omega) (fun n_44 hn_44 => ?_)
        refine z_ifb_eq (tgt := 85) hb dX22_word_40 (by decide) (fun c_40 => ?_) (fun c_40 => ?_)
        · refine z_iconst (x := nI 0) hb dX22_word_85 (by decide) ?_
          refine z_istore (lv' := [(4, .int (nI 0)), (3, .ref nm), (2, .ref ((zm_G M).2.2.1 27)), (1, .ref ((zm_G M).2.2.1 26)), (0, .ref t)]) hb dX22_word_86 (by rw [hN]; decide) rfl ?_
          refine z_iload hb dX22_word_88 rfl ?_
          refine z_if_neN (tgt := 105) hb dX22_word_90 (by decide) (by omega) (fun c_90 => ?_) (fun c_90 => ?_)
          · exact absurd c_90 (by omega)
          · have hno9 : ∀ kd, kd < 9 → ¬ z_lp cs p kd (m + 1) := by
              first | exact z_no1 c_40 | exact z_nx9_f (by omega) (z_dC hB8 c_78)
            refine z_dom (fun hD_45 => ?_)
            refine z_new (N0 := 7) (b' := ((((((21 * (6 - m) + 9) - 1) - 1) - 1) - 1) - 2) - 1) (f' := ((((((3990 * (6 - m) + 1240) - 4) - 16) - 300) - 300) - 304) - 7) (fs := [.null, .null, .null, .null, .null, .int (nI 0), .int (nI 0)]) (C := RX23) (T := TX23) (N := 7) hb ho zc19 in_X23 tyX23_ok q2330 q2331 q147 dX22_word_93 (zdf_X23) (by omega) (by omega) ?_
            refine z_hn (fun h_46 eh_46 => ?_)
            have eh_46 : h_46 = z_up h_36 n_44 (.inr (19, [.null, .null, .null, .null, .null, .int (nI 0), .int (nI 0)])) := eh_46
            have k_47 : h_46 t = some (.inr (18, [.int (nI (p + m)), .ref x])) := z_nx eh_46 (Nat.ne_of_lt (hD_45 _ _ k_38)) k_38
            have k_48 : h_46 x = some (.inr (0, [x0, x1, .ref bu, x3, x4, x5, x6])) := z_nx eh_46 (Nat.ne_of_lt (hD_45 _ _ k_39)) k_39
            have k_49 : h_46 bu = some (.inr (22, fsb9)) := z_nx eh_46 (Nat.ne_of_lt (hD_45 _ _ k_40)) k_40
            have k_50 : h_46 nm = some (.inr (23, [.ref es9, .int (nI 0), .int hs9, .int hz9])) := z_nx eh_46 (Nat.ne_of_lt (hD_45 _ _ k_41)) k_41
            have k_51 : h_46 ((zm_G M).2.2.1 26) = some (.inr (23, [.ref ek9, .int (nI 0), .int (z_hs (z_lits.getD 26 [])), .int hzk9])) := z_nx eh_46 (Nat.ne_of_lt (hD_45 _ _ k_42)) k_42
            refine z_dup hb dX22_word_96 rfl ?_
            refine z_aload_n hb dX22_word_97 rfl ?_
            refine z_get (k := 0) (C := RX22) (T := TX22) (N := 2) hb ho zc18 in_X22 (zf_RX22_13 _) dX22_word_98 k_47 (by decide) rfl ?_
            refine z_call0 (b' := ((((((21 * (6 - m) + 9) - 1) - 1) - 1) - 1) - 2) - 1) (f' := ((((((3990 * (6 - m) + 1240) - 4) - 16) - 300) - 300) - 304) - 7) (rest := [.ref n_44]) (av := [.ref n_44, .int (nI (p + m))]) (z_siteI hb ho q2339 q2340 q2341 rfl zy_X23_init zl_X23_init dX22_word_101 : z_Site M _ _ _ _ _ ([.int (nI (p + m))].reverse ++ .ref n_44 :: [.ref n_44]) [.ref n_44] _) zk_X23_init q147 hrm (m_X23_init (nI (p + m)) (z_nxs eh_46) (by omega)) (by omega) (by decide) (Nat.le_of_ble_eq_true rfl) (by omega) (by omega) ?_
            refine z_hn (fun h_52 eh_52 => ?_)
            have eh_52 : h_52 = z_up h_46 n_44 (.inr (19, [.null, .null, .null, .null, .null, .int (nI 0), .int (nI (p + m))])) := eh_52
            have k_53 : h_52 t = some (.inr (18, [.int (nI (p + m)), .ref x])) := z_nx eh_52 (Nat.ne_of_lt (hD_45 _ _ k_38)) k_47
            have k_54 : h_52 x = some (.inr (0, [x0, x1, .ref bu, x3, x4, x5, x6])) := z_nx eh_52 (Nat.ne_of_lt (hD_45 _ _ k_39)) k_48
            have k_55 : h_52 bu = some (.inr (22, fsb9)) := z_nx eh_52 (Nat.ne_of_lt (hD_45 _ _ k_40)) k_49
            have k_56 : h_52 nm = some (.inr (23, [.ref es9, .int (nI 0), .int hs9, .int hz9])) := z_nx eh_52 (Nat.ne_of_lt (hD_45 _ _ k_41)) k_50
            have k_57 : h_52 ((zm_G M).2.2.1 26) = some (.inr (23, [.ref ek9, .int (nI 0), .int (z_hs (z_lits.getD 26 [])), .int hzk9])) := z_nx eh_52 (Nat.ne_of_lt (hD_45 _ _ k_42)) k_51
            refine z_athrow hb dX22_word_104 ?_
            exact z_out ho hH zc19 (z_nxs eh_52) (by omega) (fun _ h => nomatch h) (by rw [hQ]; exact Or.inr ⟨m, _, ⟨kd, hkd, hlp⟩, hno9, hful9, rfl, by omega, (z_nxs eh_52), hE9.t (z_exW hdl (by omega) eh_52 (z_exN (z_ex_t (z_exB hdl (by omega) (by omega) (z_exB hdl (by omega) (by omega) (z_exT hdl (by omega) (z_exN z_ex_r hD_1 eh_2) hfrhq_8) hfrhq_17) hfrhq_26) hexhq_35) hD_45 eh_46)).fr⟩)
        · obtain ⟨hpl9, hcm9⟩ := of_decide_eq_true c_40
          have hcr9 := z_abc_mem hcm9
          have hB9 := z_wBc hkd (by omega) hlp hcr9
          have hB8 : (decide (z_o (z_sx (z_lits.getD 26 []) ([] ++ 32 :: z_pm cs p m ++ [cs.getD (p + m) 0])) < nI 0)) = !(z_nx9 (z_pm cs p m ++ [cs.getD (p + m) 0])) := hB9
          refine z_aload_n hb dX22_word_43 rfl ?_
          refine z_dom (fun hD_58 => ?_)
          refine z_new (N0 := 4) (b' := ((((((21 * (6 - m) + 9) - 1) - 1) - 1) - 1) - 2) - 1) (f' := ((((((3990 * (6 - m) + 1240) - 4) - 16) - 300) - 300) - 304) - 4) (fs := [.null, .int (nI 0), .int (nI 0), .int (nI 0)]) (C := RJ5) (T := TJ5) (N := 4) hb ho zc22 in_J5 tyJ5_ok q2287 q253 q101 dX22_word_44 (zdf_J5) (by omega) (by omega) ?_
          refine z_hn (fun h_59 eh_59 => ?_)
          have eh_59 : h_59 = z_up h_36 n_44 (.inr (22, [.null, .int (nI 0), .int (nI 0), .int (nI 0)])) := eh_59
          have k_60 : h_59 t = some (.inr (18, [.int (nI (p + m)), .ref x])) := z_nx eh_59 (Nat.ne_of_lt (hD_58 _ _ k_38)) k_38
          have k_61 : h_59 x = some (.inr (0, [x0, x1, .ref bu, x3, x4, x5, x6])) := z_nx eh_59 (Nat.ne_of_lt (hD_58 _ _ k_39)) k_39
          have k_62 : h_59 bu = some (.inr (22, fsb9)) := z_nx eh_59 (Nat.ne_of_lt (hD_58 _ _ k_40)) k_40
          have k_63 : h_59 nm = some (.inr (23, [.ref es9, .int (nI 0), .int hs9, .int hz9])) := z_nx eh_59 (Nat.ne_of_lt (hD_58 _ _ k_41)) k_41
          have k_64 : h_59 ((zm_G M).2.2.1 26) = some (.inr (23, [.ref ek9, .int (nI 0), .int (z_hs (z_lits.getD 26 [])), .int hzk9])) := z_nx eh_59 (Nat.ne_of_lt (hD_58 _ _ k_42)) k_42
          refine z_dup hb dX22_word_47 rfl ?_
          refine z_callQ0 (b' := (((((((21 * (6 - m) + 9) - 1) - 1) - 1) - 1) - 2) - 1) - 1) (f' := (((((((3990 * (6 - m) + 1240) - 4) - 16) - 300) - 300) - 304) - 4) - 16) (rest := [.ref n_44, .ref ((zm_G M).2.2.1 26)]) (av := [.ref n_44]) (z_siteI hb ho q2288 q255 q256 rfl zy_J5_init zl_J5_init dX22_word_48 : z_Site M _ _ _ _ _ ([].reverse ++ .ref n_44 :: [.ref n_44, .ref ((zm_G M).2.2.1 26)]) [.ref n_44, .ref ((zm_G M).2.2.1 26)] _) zk_J5_init q101 hrm (m_J5_init_b (z_nxs eh_59) (by omega) (by omega)) (by omega) (by decide) (Nat.le_of_ble_eq_true rfl) (by omega) (by omega) (fun h_66 n_67 hq_65 hn_67 => ?_)
          obtain ⟨hnnhq_65, hbfhq_65, hfrhq_65⟩ := hq_65
          have k_68 : h_66 t = some (.inr (18, [.int (nI (p + m)), .ref x])) := (z_exT hdl (by omega) (z_exN (z_ex_t (z_exB hdl (by omega) (by omega) (z_exB hdl (by omega) (by omega) (z_exT hdl (by omega) (z_exN z_ex_r hD_1 eh_2) hfrhq_8) hfrhq_17) hfrhq_26) hexhq_35) hD_58 eh_59) hfrhq_65) _ _ hpl
          have k_69 : h_66 x = some (.inr (0, [x0, x1, .ref bu, x3, x4, x5, x6])) := (z_exT hdl (by omega) (z_exN (z_ex_t (z_exB hdl (by omega) (by omega) (z_exB hdl (by omega) (by omega) (z_exT hdl (by omega) (z_exN z_ex_r hD_1 eh_2) hfrhq_8) hfrhq_17) hfrhq_26) hexhq_35) hD_58 eh_59) hfrhq_65) _ _ hXl
          have k_70 : h_66 bu = some (.inr (22, fsb9)) := (z_exT hdl (by omega) (z_exN (z_ex_t (z_exB hdl (by omega) (by omega) (z_exB hdl (by omega) (by omega) (z_exT hdl (by omega) (z_exN z_ex_r hD_1 eh_2) hfrhq_8) hfrhq_17) hfrhq_26) hexhq_35) hD_58 eh_59) hfrhq_65) _ _ hob9
          have k_71 : h_66 nm = some (.inr (23, [.ref es9, .int (nI 0), .int hs9, .int hz9])) := (z_exT hdl (by omega) (z_exN (z_ex_t (z_exB hdl (by omega) (by omega) (z_exB hdl (by omega) (by omega) (z_exT hdl (by omega) (z_exN z_ex_r hD_1 eh_2) hfrhq_8) hfrhq_17) hfrhq_26) hexhq_35) hD_58 eh_59) hfrhq_65) _ _ hn91
          have k_72 : h_66 ((zm_G M).2.2.1 26) = some (.inr (23, [.ref ek9, .int (nI 0), .int (z_hs (z_lits.getD 26 [])), .int hzk9])) := (z_exT hdl (by omega) (z_exN (z_ex_t (z_exB hdl (by omega) (by omega) (z_exB hdl (by omega) (by omega) (z_exT hdl (by omega) (z_exN z_ex_r hD_1 eh_2) hfrhq_8) hfrhq_17) hfrhq_26) hexhq_35) hD_58 eh_59) hfrhq_65) _ _ hk91
          obtain ⟨fsob_73, ob_73⟩ := z_BF.o hbfhq_65
          refine z_aload_n hb dX22_word_51 rfl ?_
          refine z_callQ1 (b' := ((((((((21 * (6 - m) + 9) - 1) - 1) - 1) - 1) - 2) - 1) - 1) - 1) (f' := ((((((((3990 * (6 - m) + 1240) - 4) - 16) - 300) - 300) - 304) - 4) - 16) - 300) (rest := [.ref ((zm_G M).2.2.1 26)]) (av := [.ref n_44, .ref nm]) (z_siteV hb ho zc22 ob_73 q2289 q913 q914 ⟨_, _, _, _, zk_J5_append⟩ zy_J5_append zl_J5_append dX22_word_52 : z_Site M _ _ _ _ _ ([.ref nm].reverse ++ .ref n_44 :: [.ref ((zm_G M).2.2.1 26)]) [.ref ((zm_G M).2.2.1 26)] _) zk_J5_append q101 hrm (m_J5_append_s hbfhq_65 (hNm.ex (z_exT hdl (by omega) (z_exN (z_ex_t (z_exB hdl (by omega) (by omega) (z_exB hdl (by omega) (by omega) (z_exT hdl (by omega) (z_exN z_ex_r hD_1 eh_2) hfrhq_8) hfrhq_17) hfrhq_26) hexhq_35) hD_58 eh_59) hfrhq_65)) (by have := (show ([] : List Nat).length ≤ 0 from Nat.le_refl 0); have := (show (32 :: z_pm cs p m).length ≤ 8 by rw [List.length_cons, hlm9]; omega); omega)) (by omega) (by decide) (Nat.le_of_ble_eq_true rfl) (by omega) (by omega) (fun rhq_74 h_75 n_76 hq_74 hn_76 => ?_)
          obtain ⟨rfl, hq_74⟩ := hq_74
          obtain ⟨e9hq_74, hbfhq_74, heehq_74, hfrhq_74⟩ := hq_74
          have hlnhq_74 : (([] : List Nat) ++ (32 :: z_pm cs p m)).length ≤ 8 := by rw [List.length_append]; have := (show ([] : List Nat).length ≤ 0 from Nat.le_refl 0); have := (show (32 :: z_pm cs p m).length ≤ 8 by rw [List.length_cons, hlm9]; omega); show _ + _ ≤ _; omega
          have hlohq_74 := z_alw (show ∀ b ∈ ([] : List Nat), b < 128 from fun b hb => nomatch hb) hlo9
          have k_77 : h_75 t = some (.inr (18, [.int (nI (p + m)), .ref x])) := (z_exB hdl (by omega) (by omega) (z_exT hdl (by omega) (z_exN (z_ex_t (z_exB hdl (by omega) (by omega) (z_exB hdl (by omega) (by omega) (z_exT hdl (by omega) (z_exN z_ex_r hD_1 eh_2) hfrhq_8) hfrhq_17) hfrhq_26) hexhq_35) hD_58 eh_59) hfrhq_65) hfrhq_74) _ _ hpl
          have k_78 : h_75 x = some (.inr (0, [x0, x1, .ref bu, x3, x4, x5, x6])) := (z_exB hdl (by omega) (by omega) (z_exT hdl (by omega) (z_exN (z_ex_t (z_exB hdl (by omega) (by omega) (z_exB hdl (by omega) (by omega) (z_exT hdl (by omega) (z_exN z_ex_r hD_1 eh_2) hfrhq_8) hfrhq_17) hfrhq_26) hexhq_35) hD_58 eh_59) hfrhq_65) hfrhq_74) _ _ hXl
          have k_79 : h_75 bu = some (.inr (22, fsb9)) := (z_exB hdl (by omega) (by omega) (z_exT hdl (by omega) (z_exN (z_ex_t (z_exB hdl (by omega) (by omega) (z_exB hdl (by omega) (by omega) (z_exT hdl (by omega) (z_exN z_ex_r hD_1 eh_2) hfrhq_8) hfrhq_17) hfrhq_26) hexhq_35) hD_58 eh_59) hfrhq_65) hfrhq_74) _ _ hob9
          have k_80 : h_75 nm = some (.inr (23, [.ref es9, .int (nI 0), .int hs9, .int hz9])) := (z_exB hdl (by omega) (by omega) (z_exT hdl (by omega) (z_exN (z_ex_t (z_exB hdl (by omega) (by omega) (z_exB hdl (by omega) (by omega) (z_exT hdl (by omega) (z_exN z_ex_r hD_1 eh_2) hfrhq_8) hfrhq_17) hfrhq_26) hexhq_35) hD_58 eh_59) hfrhq_65) hfrhq_74) _ _ hn91
          have k_81 : h_75 ((zm_G M).2.2.1 26) = some (.inr (23, [.ref ek9, .int (nI 0), .int (z_hs (z_lits.getD 26 [])), .int hzk9])) := (z_exB hdl (by omega) (by omega) (z_exT hdl (by omega) (z_exN (z_ex_t (z_exB hdl (by omega) (by omega) (z_exB hdl (by omega) (by omega) (z_exT hdl (by omega) (z_exN z_ex_r hD_1 eh_2) hfrhq_8) hfrhq_17) hfrhq_26) hexhq_35) hD_58 eh_59) hfrhq_65) hfrhq_74) _ _ hk91
          obtain ⟨fsob_82, ob_82⟩ := z_BF.o hbfhq_74
          refine z_aload_n hb dX22_word_55 rfl ?_
          refine z_get (k := 1) (C := RX22) (T := TX22) (N := 2) hb ho zc18 in_X22 (zf_RX22_1 _) dX22_word_56 k_77 (by decide) rfl ?_
          refine z_get (k := 2) (C := RX1) (T := TX1) (N := 7) hb ho zc0 in_X1 (zf_RX22_17 _) dX22_word_59 k_78 (by decide) rfl ?_
          refine z_aload_n hb dX22_word_62 rfl ?_
          refine z_get (k := 0) (C := RX22) (T := TX22) (N := 2) hb ho zc18 in_X22 (zf_RX22_13 _) dX22_word_63 k_77 (by decide) rfl ?_
          refine z_call1 (b' := ((((((((21 * (6 - m) + 9) - 1) - 1) - 1) - 1) - 2) - 1) - 1) - 1) (f' := ((((((((3990 * (6 - m) + 1240) - 4) - 16) - 300) - 300) - 304) - 4) - 16) - 300) (rest := [.ref n_44, .ref ((zm_G M).2.2.1 26)]) (av := [.ref bu, .int (nI (p + m))]) (z_siteV hb ho zc22 k_79 q2318 q2319 q2320 ⟨_, _, _, _, zk_J5_charAt⟩ zy_J5_charAt zl_J5_charAt dX22_word_66 : z_Site M _ _ _ _ _ ([.int (nI (p + m))].reverse ++ .ref bu :: [.ref n_44, .ref ((zm_G M).2.2.1 26)]) [.ref n_44, .ref ((zm_G M).2.2.1 26)] _) zk_J5_charAt q101 hrm (m_J5_charAt (hBl.exx (z_exB hdl (by omega) (by omega) (z_exT hdl (by omega) (z_exN (z_ex_t (z_exB hdl (by omega) (by omega) (z_exB hdl (by omega) (by omega) (z_exT hdl (by omega) (z_exN z_ex_r hD_1 eh_2) hfrhq_8) hfrhq_17) hfrhq_26) hexhq_35) hD_58 eh_59) hfrhq_65) hfrhq_74)) (z_at_lt c_40) (hc16 _)) (by omega) (by decide) (Nat.le_of_ble_eq_true rfl) (by omega) (by omega) ?_
          refine z_callQ1 (b' := (((((((((21 * (6 - m) + 9) - 1) - 1) - 1) - 1) - 2) - 1) - 1) - 1) - 2) (f' := (((((((((3990 * (6 - m) + 1240) - 4) - 16) - 300) - 300) - 304) - 4) - 16) - 300) - 900) (rest := [.ref ((zm_G M).2.2.1 26)]) (av := [.ref n_44, .int (nI (cs.getD (p + m) 0))]) (z_siteV hb ho zc22 ob_82 q2329 q2226 q2227 ⟨_, _, _, _, zk_J5_append_3⟩ zy_J5_append_3 zl_J5_append_3 dX22_word_69 : z_Site M _ _ _ _ _ ([.int (nI (cs.getD (p + m) 0))].reverse ++ .ref n_44 :: [.ref ((zm_G M).2.2.1 26)]) [.ref ((zm_G M).2.2.1 26)] _) zk_J5_append_3 q101 hrm (m_J5_append_c hbfhq_74 (by omega) (by have := hlnhq_74; omega)) (by omega) (by decide) (Nat.le_of_ble_eq_true rfl) (by omega) (by omega) (fun rhq_83 h_84 n_85 hq_83 hn_85 => ?_)
          obtain ⟨rfl, hq_83⟩ := hq_83
          obtain ⟨e9hq_83, cdhq_83, hbfhq_83, -, heehq_83, hcdhq_83, hfrhq_83⟩ := hq_83
          obtain rfl : cdhq_83 = 0 := hcdhq_83 rfl (by omega)
          have hlnhq_83 : ((([] : List Nat) ++ (32 :: z_pm cs p m)) ++ [(cs.getD (p + m) 0)]).length ≤ 9 := by rw [List.length_append]; have := hlnhq_74; have := (show [(cs.getD (p + m) 0)].length ≤ 1 from Nat.le_refl 1); show _ + _ ≤ _; omega
          have hlohq_83 := z_alw hlohq_74 (z_alw1 (show (cs.getD (p + m) 0) < 128 by omega))
          have k_86 : h_84 t = some (.inr (18, [.int (nI (p + m)), .ref x])) := (z_exB hdl (by omega) (by omega) (z_exB hdl (by omega) (by omega) (z_exT hdl (by omega) (z_exN (z_ex_t (z_exB hdl (by omega) (by omega) (z_exB hdl (by omega) (by omega) (z_exT hdl (by omega) (z_exN z_ex_r hD_1 eh_2) hfrhq_8) hfrhq_17) hfrhq_26) hexhq_35) hD_58 eh_59) hfrhq_65) hfrhq_74) hfrhq_83) _ _ hpl
          have k_87 : h_84 x = some (.inr (0, [x0, x1, .ref bu, x3, x4, x5, x6])) := (z_exB hdl (by omega) (by omega) (z_exB hdl (by omega) (by omega) (z_exT hdl (by omega) (z_exN (z_ex_t (z_exB hdl (by omega) (by omega) (z_exB hdl (by omega) (by omega) (z_exT hdl (by omega) (z_exN z_ex_r hD_1 eh_2) hfrhq_8) hfrhq_17) hfrhq_26) hexhq_35) hD_58 eh_59) hfrhq_65) hfrhq_74) hfrhq_83) _ _ hXl
          have k_88 : h_84 bu = some (.inr (22, fsb9)) := (z_exB hdl (by omega) (by omega) (z_exB hdl (by omega) (by omega) (z_exT hdl (by omega) (z_exN (z_ex_t (z_exB hdl (by omega) (by omega) (z_exB hdl (by omega) (by omega) (z_exT hdl (by omega) (z_exN z_ex_r hD_1 eh_2) hfrhq_8) hfrhq_17) hfrhq_26) hexhq_35) hD_58 eh_59) hfrhq_65) hfrhq_74) hfrhq_83) _ _ hob9
          have k_89 : h_84 nm = some (.inr (23, [.ref es9, .int (nI 0), .int hs9, .int hz9])) := (z_exB hdl (by omega) (by omega) (z_exB hdl (by omega) (by omega) (z_exT hdl (by omega) (z_exN (z_ex_t (z_exB hdl (by omega) (by omega) (z_exB hdl (by omega) (by omega) (z_exT hdl (by omega) (z_exN z_ex_r hD_1 eh_2) hfrhq_8) hfrhq_17) hfrhq_26) hexhq_35) hD_58 eh_59) hfrhq_65) hfrhq_74) hfrhq_83) _ _ hn91
          have k_90 : h_84 ((zm_G M).2.2.1 26) = some (.inr (23, [.ref ek9, .int (nI 0), .int (z_hs (z_lits.getD 26 [])), .int hzk9])) := (z_exB hdl (by omega) (by omega) (z_exB hdl (by omega) (by omega) (z_exT hdl (by omega) (z_exN (z_ex_t (z_exB hdl (by omega) (by omega) (z_exB hdl (by omega) (by omega) (z_exT hdl (by omega) (z_exN z_ex_r hD_1 eh_2) hfrhq_8) hfrhq_17) hfrhq_26) hexhq_35) hD_58 eh_59) hfrhq_65) hfrhq_74) hfrhq_83) _ _ hk91
          obtain ⟨fsob_91, ob_91⟩ := z_BF.o hbfhq_83
          refine z_callQ1 (b' := ((((((((((21 * (6 - m) + 9) - 1) - 1) - 1) - 1) - 2) - 1) - 1) - 1) - 2) - 2) (f' := ((((((((((3990 * (6 - m) + 1240) - 4) - 16) - 300) - 300) - 304) - 4) - 16) - 300) - 900) - 304) (rest := [.ref ((zm_G M).2.2.1 26)]) (av := [.ref n_44]) (z_siteV hb ho zc22 ob_91 q2290 q1033 q1034 ⟨_, _, _, _, zk_J5_toString⟩ zy_J5_toString zl_J5_toString dX22_word_72 : z_Site M _ _ _ _ _ ([].reverse ++ .ref n_44 :: [.ref ((zm_G M).2.2.1 26)]) [.ref ((zm_G M).2.2.1 26)] _) zk_J5_toString q101 hrm (m_J5_toString hbfhq_83 (by have := hlnhq_83; omega) hlohq_83) (by omega) (by decide) (Nat.le_of_ble_eq_true rfl) (by omega) (by omega) (fun rhq_92 h_93 n_94 hq_92 hn_94 => ?_)
          obtain ⟨rfl, hq_92⟩ := hq_92
          obtain ⟨hnnhq_92, hsghq_92, hexhq_92⟩ := hq_92
          have k_95 : h_93 t = some (.inr (18, [.int (nI (p + m)), .ref x])) := (z_ex_t (z_exB hdl (by omega) (by omega) (z_exB hdl (by omega) (by omega) (z_exT hdl (by omega) (z_exN (z_ex_t (z_exB hdl (by omega) (by omega) (z_exB hdl (by omega) (by omega) (z_exT hdl (by omega) (z_exN z_ex_r hD_1 eh_2) hfrhq_8) hfrhq_17) hfrhq_26) hexhq_35) hD_58 eh_59) hfrhq_65) hfrhq_74) hfrhq_83) hexhq_92) _ _ hpl
          have k_96 : h_93 x = some (.inr (0, [x0, x1, .ref bu, x3, x4, x5, x6])) := (z_ex_t (z_exB hdl (by omega) (by omega) (z_exB hdl (by omega) (by omega) (z_exT hdl (by omega) (z_exN (z_ex_t (z_exB hdl (by omega) (by omega) (z_exB hdl (by omega) (by omega) (z_exT hdl (by omega) (z_exN z_ex_r hD_1 eh_2) hfrhq_8) hfrhq_17) hfrhq_26) hexhq_35) hD_58 eh_59) hfrhq_65) hfrhq_74) hfrhq_83) hexhq_92) _ _ hXl
          have k_97 : h_93 bu = some (.inr (22, fsb9)) := (z_ex_t (z_exB hdl (by omega) (by omega) (z_exB hdl (by omega) (by omega) (z_exT hdl (by omega) (z_exN (z_ex_t (z_exB hdl (by omega) (by omega) (z_exB hdl (by omega) (by omega) (z_exT hdl (by omega) (z_exN z_ex_r hD_1 eh_2) hfrhq_8) hfrhq_17) hfrhq_26) hexhq_35) hD_58 eh_59) hfrhq_65) hfrhq_74) hfrhq_83) hexhq_92) _ _ hob9
          have k_98 : h_93 nm = some (.inr (23, [.ref es9, .int (nI 0), .int hs9, .int hz9])) := (z_ex_t (z_exB hdl (by omega) (by omega) (z_exB hdl (by omega) (by omega) (z_exT hdl (by omega) (z_exN (z_ex_t (z_exB hdl (by omega) (by omega) (z_exB hdl (by omega) (by omega) (z_exT hdl (by omega) (z_exN z_ex_r hD_1 eh_2) hfrhq_8) hfrhq_17) hfrhq_26) hexhq_35) hD_58 eh_59) hfrhq_65) hfrhq_74) hfrhq_83) hexhq_92) _ _ hn91
          have k_99 : h_93 ((zm_G M).2.2.1 26) = some (.inr (23, [.ref ek9, .int (nI 0), .int (z_hs (z_lits.getD 26 [])), .int hzk9])) := (z_ex_t (z_exB hdl (by omega) (by omega) (z_exB hdl (by omega) (by omega) (z_exT hdl (by omega) (z_exN (z_ex_t (z_exB hdl (by omega) (by omega) (z_exB hdl (by omega) (by omega) (z_exT hdl (by omega) (z_exN z_ex_r hD_1 eh_2) hfrhq_8) hfrhq_17) hfrhq_26) hexhq_35) hD_58 eh_59) hfrhq_65) hfrhq_74) hfrhq_83) hexhq_92) _ _ hk91
          refine z_callN1 (b' := ((((((((((21 * (6 - m) + 9) - 1) - 1) - 1) - 1) - 2) - 1) - 1) - 1) - 2) - 2) (f' := ((((((((((3990 * (6 - m) + 1240) - 4) - 16) - 300) - 300) - 304) - 4) - 16) - 300) - 900) - 304) (rest := []) (av := [.ref ((zm_G M).2.2.1 26), .ref n_85]) (z_siteV hb ho zc23 k_99 q2291 q2292 q2293 ⟨_, _, _, _, zk_J6_indexOf_3⟩ zy_J6_indexOf_3 zl_J6_indexOf_3 dX22_word_75 : z_Site M _ _ _ _ _ ([.ref n_85].reverse ++ .ref ((zm_G M).2.2.1 26) :: []) [] _) zk_J6_indexOf_3 q102 hrm (m_J6_indexOf_3 ((hKSl 26 (by decide)).ex (z_ex_t (z_exB hdl (by omega) (by omega) (z_exB hdl (by omega) (by omega) (z_exT hdl (by omega) (z_exN (z_ex_t (z_exB hdl (by omega) (by omega) (z_exB hdl (by omega) (by omega) (z_exT hdl (by omega) (z_exN z_ex_r hD_1 eh_2) hfrhq_8) hfrhq_17) hfrhq_26) hexhq_35) hD_58 eh_59) hfrhq_65) hfrhq_74) hfrhq_83) hexhq_92)) hsghq_92 (by constructor <;> (simp only [List.length_append, List.length_cons, hlm9, List.length_nil]; have hq9a : (z_lits.getD 26 []).length = 45 := (by decide); have hq9b : (z_lits.getD 28 []).length = 1 := (by decide); omega))) (by omega) (by decide) (Nat.le_of_ble_eq_true rfl) (by omega) (by omega) (fun n_100 hn_100 => ?_)
          refine z_if_lt (tgt := 85) hb dX22_word_78 (by decide) (fun c_78 => ?_) (fun c_78 => ?_)
          · refine z_iconst (x := nI 0) hb dX22_word_85 (by decide) ?_
            refine z_istore (lv' := [(4, .int (nI 0)), (3, .ref nm), (2, .ref ((zm_G M).2.2.1 27)), (1, .ref ((zm_G M).2.2.1 26)), (0, .ref t)]) hb dX22_word_86 (by rw [hN]; decide) rfl ?_
            refine z_iload hb dX22_word_88 rfl ?_
            refine z_if_neN (tgt := 105) hb dX22_word_90 (by decide) (by omega) (fun c_90 => ?_) (fun c_90 => ?_)
            · exact absurd c_90 (by omega)
            · have hno9 : ∀ kd, kd < 9 → ¬ z_lp cs p kd (m + 1) := by
                first | exact z_no1 c_40 | exact z_nx9_f (by omega) (z_dC hB8 c_78)
              refine z_dom (fun hD_101 => ?_)
              refine z_new (N0 := 7) (b' := (((((((((((21 * (6 - m) + 9) - 1) - 1) - 1) - 1) - 2) - 1) - 1) - 1) - 2) - 2) - 1) (f' := (((((((((((3990 * (6 - m) + 1240) - 4) - 16) - 300) - 300) - 304) - 4) - 16) - 300) - 900) - 304) - 7) (fs := [.null, .null, .null, .null, .null, .int (nI 0), .int (nI 0)]) (C := RX23) (T := TX23) (N := 7) hb ho zc19 in_X23 tyX23_ok q2330 q2331 q147 dX22_word_93 (zdf_X23) (by omega) (by omega) ?_
              refine z_hn (fun h_102 eh_102 => ?_)
              have eh_102 : h_102 = z_up h_93 n_100 (.inr (19, [.null, .null, .null, .null, .null, .int (nI 0), .int (nI 0)])) := eh_102
              have k_103 : h_102 t = some (.inr (18, [.int (nI (p + m)), .ref x])) := z_nx eh_102 (Nat.ne_of_lt (hD_101 _ _ k_95)) k_95
              have k_104 : h_102 x = some (.inr (0, [x0, x1, .ref bu, x3, x4, x5, x6])) := z_nx eh_102 (Nat.ne_of_lt (hD_101 _ _ k_96)) k_96
              have k_105 : h_102 bu = some (.inr (22, fsb9)) := z_nx eh_102 (Nat.ne_of_lt (hD_101 _ _ k_97)) k_97
              have k_106 : h_102 nm = some (.inr (23, [.ref es9, .int (nI 0), .int hs9, .int hz9])) := z_nx eh_102 (Nat.ne_of_lt (hD_101 _ _ k_98)) k_98
              have k_107 : h_102 ((zm_G M).2.2.1 26) = some (.inr (23, [.ref ek9, .int (nI 0), .int (z_hs (z_lits.getD 26 [])), .int hzk9])) := z_nx eh_102 (Nat.ne_of_lt (hD_101 _ _ k_99)) k_99
              refine z_dup hb dX22_word_96 rfl ?_
              refine z_aload_n hb dX22_word_97 rfl ?_
              refine z_get (k := 0) (C := RX22) (T := TX22) (N := 2) hb ho zc18 in_X22 (zf_RX22_13 _) dX22_word_98 k_103 (by decide) rfl ?_
              refine z_call0 (b' := (((((((((((21 * (6 - m) + 9) - 1) - 1) - 1) - 1) - 2) - 1) - 1) - 1) - 2) - 2) - 1) (f' := (((((((((((3990 * (6 - m) + 1240) - 4) - 16) - 300) - 300) - 304) - 4) - 16) - 300) - 900) - 304) - 7) (rest := [.ref n_100]) (av := [.ref n_100, .int (nI (p + m))]) (z_siteI hb ho q2339 q2340 q2341 rfl zy_X23_init zl_X23_init dX22_word_101 : z_Site M _ _ _ _ _ ([.int (nI (p + m))].reverse ++ .ref n_100 :: [.ref n_100]) [.ref n_100] _) zk_X23_init q147 hrm (m_X23_init (nI (p + m)) (z_nxs eh_102) (by omega)) (by omega) (by decide) (Nat.le_of_ble_eq_true rfl) (by omega) (by omega) ?_
              refine z_hn (fun h_108 eh_108 => ?_)
              have eh_108 : h_108 = z_up h_102 n_100 (.inr (19, [.null, .null, .null, .null, .null, .int (nI 0), .int (nI (p + m))])) := eh_108
              have k_109 : h_108 t = some (.inr (18, [.int (nI (p + m)), .ref x])) := z_nx eh_108 (Nat.ne_of_lt (hD_101 _ _ k_95)) k_103
              have k_110 : h_108 x = some (.inr (0, [x0, x1, .ref bu, x3, x4, x5, x6])) := z_nx eh_108 (Nat.ne_of_lt (hD_101 _ _ k_96)) k_104
              have k_111 : h_108 bu = some (.inr (22, fsb9)) := z_nx eh_108 (Nat.ne_of_lt (hD_101 _ _ k_97)) k_105
              have k_112 : h_108 nm = some (.inr (23, [.ref es9, .int (nI 0), .int hs9, .int hz9])) := z_nx eh_108 (Nat.ne_of_lt (hD_101 _ _ k_98)) k_106
              have k_113 : h_108 ((zm_G M).2.2.1 26) = some (.inr (23, [.ref ek9, .int (nI 0), .int (z_hs (z_lits.getD 26 [])), .int hzk9])) := z_nx eh_108 (Nat.ne_of_lt (hD_101 _ _ k_99)) k_107
              refine z_athrow hb dX22_word_104 ?_
              exact z_out ho hH zc19 (z_nxs eh_108) (by omega) (fun _ h => nomatch h) (by rw [hQ]; exact Or.inr ⟨m, _, ⟨kd, hkd, hlp⟩, hno9, hful9, rfl, by omega, (z_nxs eh_108), hE9.t (z_exW hdl (by omega) eh_108 (z_exN (z_ex_t (z_exB hdl (by omega) (by omega) (z_exB hdl (by omega) (by omega) (z_exT hdl (by omega) (z_exN (z_ex_t (z_exB hdl (by omega) (by omega) (z_exB hdl (by omega) (by omega) (z_exT hdl (by omega) (z_exN z_ex_r hD_1 eh_2) hfrhq_8) hfrhq_17) hfrhq_26) hexhq_35) hD_58 eh_59) hfrhq_65) hfrhq_74) hfrhq_83) hexhq_92) hD_101 eh_102)).fr⟩)
          · refine z_iconst (x := nI 1) hb dX22_word_81 (by decide) ?_
            refine z_goto (tgt := 86) hb dX22_word_82 (by decide) ?_
            refine z_istore (lv' := [(4, .int (nI 1)), (3, .ref nm), (2, .ref ((zm_G M).2.2.1 27)), (1, .ref ((zm_G M).2.2.1 26)), (0, .ref t)]) hb dX22_word_86 (by rw [hN]; decide) rfl ?_
            refine z_iload hb dX22_word_88 rfl ?_
            refine z_if_neN (tgt := 105) hb dX22_word_90 (by decide) (by omega) (fun c_90 => ?_) (fun c_90 => ?_)
            · have hnx9 : ∃ kd, kd < 9 ∧ z_lp cs p kd (m + 1) := z_nx9_t (by omega) (z_dD hB8 c_78)
              refine z_dom (fun hD_114 => ?_)
              refine z_new (N0 := 4) (b' := (((((((((((21 * (6 - m) + 9) - 1) - 1) - 1) - 1) - 2) - 1) - 1) - 1) - 2) - 2) - 1) (f' := (((((((((((3990 * (6 - m) + 1240) - 4) - 16) - 300) - 300) - 304) - 4) - 16) - 300) - 900) - 304) - 4) (fs := [.null, .int (nI 0), .int (nI 0), .int (nI 0)]) (C := RJ5) (T := TJ5) (N := 4) hb ho zc22 in_J5 tyJ5_ok q2287 q253 q101 dX22_word_105 (zdf_J5) (by omega) (by omega) ?_
              refine z_hn (fun h_115 eh_115 => ?_)
              have eh_115 : h_115 = z_up h_93 n_100 (.inr (22, [.null, .int (nI 0), .int (nI 0), .int (nI 0)])) := eh_115
              have k_116 : h_115 t = some (.inr (18, [.int (nI (p + m)), .ref x])) := z_nx eh_115 (Nat.ne_of_lt (hD_114 _ _ k_95)) k_95
              have k_117 : h_115 x = some (.inr (0, [x0, x1, .ref bu, x3, x4, x5, x6])) := z_nx eh_115 (Nat.ne_of_lt (hD_114 _ _ k_96)) k_96
              have k_118 : h_115 bu = some (.inr (22, fsb9)) := z_nx eh_115 (Nat.ne_of_lt (hD_114 _ _ k_97)) k_97
              have k_119 : h_115 nm = some (.inr (23, [.ref es9, .int (nI 0), .int hs9, .int hz9])) := z_nx eh_115 (Nat.ne_of_lt (hD_114 _ _ k_98)) k_98
              have k_120 : h_115 ((zm_G M).2.2.1 26) = some (.inr (23, [.ref ek9, .int (nI 0), .int (z_hs (z_lits.getD 26 [])), .int hzk9])) := z_nx eh_115 (Nat.ne_of_lt (hD_114 _ _ k_99)) k_99
              refine z_dup hb dX22_word_108 rfl ?_
              refine z_callQ0 (b' := ((((((((((((21 * (6 - m) + 9) - 1) - 1) - 1) - 1) - 2) - 1) - 1) - 1) - 2) - 2) - 1) - 1) (f' := ((((((((((((3990 * (6 - m) + 1240) - 4) - 16) - 300) - 300) - 304) - 4) - 16) - 300) - 900) - 304) - 4) - 16) (rest := [.ref n_100]) (av := [.ref n_100]) (z_siteI hb ho q2288 q255 q256 rfl zy_J5_init zl_J5_init dX22_word_109 : z_Site M _ _ _ _ _ ([].reverse ++ .ref n_100 :: [.ref n_100]) [.ref n_100] _) zk_J5_init q101 hrm (m_J5_init_b (z_nxs eh_115) (by omega) (by omega)) (by omega) (by decide) (Nat.le_of_ble_eq_true rfl) (by omega) (by omega) (fun h_122 n_123 hq_121 hn_123 => ?_)
              obtain ⟨hnnhq_121, hbfhq_121, hfrhq_121⟩ := hq_121
              have k_124 : h_122 t = some (.inr (18, [.int (nI (p + m)), .ref x])) := (z_exT hdl (by omega) (z_exN (z_ex_t (z_exB hdl (by omega) (by omega) (z_exB hdl (by omega) (by omega) (z_exT hdl (by omega) (z_exN (z_ex_t (z_exB hdl (by omega) (by omega) (z_exB hdl (by omega) (by omega) (z_exT hdl (by omega) (z_exN z_ex_r hD_1 eh_2) hfrhq_8) hfrhq_17) hfrhq_26) hexhq_35) hD_58 eh_59) hfrhq_65) hfrhq_74) hfrhq_83) hexhq_92) hD_114 eh_115) hfrhq_121) _ _ hpl
              have k_125 : h_122 x = some (.inr (0, [x0, x1, .ref bu, x3, x4, x5, x6])) := (z_exT hdl (by omega) (z_exN (z_ex_t (z_exB hdl (by omega) (by omega) (z_exB hdl (by omega) (by omega) (z_exT hdl (by omega) (z_exN (z_ex_t (z_exB hdl (by omega) (by omega) (z_exB hdl (by omega) (by omega) (z_exT hdl (by omega) (z_exN z_ex_r hD_1 eh_2) hfrhq_8) hfrhq_17) hfrhq_26) hexhq_35) hD_58 eh_59) hfrhq_65) hfrhq_74) hfrhq_83) hexhq_92) hD_114 eh_115) hfrhq_121) _ _ hXl
              have k_126 : h_122 bu = some (.inr (22, fsb9)) := (z_exT hdl (by omega) (z_exN (z_ex_t (z_exB hdl (by omega) (by omega) (z_exB hdl (by omega) (by omega) (z_exT hdl (by omega) (z_exN (z_ex_t (z_exB hdl (by omega) (by omega) (z_exB hdl (by omega) (by omega) (z_exT hdl (by omega) (z_exN z_ex_r hD_1 eh_2) hfrhq_8) hfrhq_17) hfrhq_26) hexhq_35) hD_58 eh_59) hfrhq_65) hfrhq_74) hfrhq_83) hexhq_92) hD_114 eh_115) hfrhq_121) _ _ hob9
              have k_127 : h_122 nm = some (.inr (23, [.ref es9, .int (nI 0), .int hs9, .int hz9])) := (z_exT hdl (by omega) (z_exN (z_ex_t (z_exB hdl (by omega) (by omega) (z_exB hdl (by omega) (by omega) (z_exT hdl (by omega) (z_exN (z_ex_t (z_exB hdl (by omega) (by omega) (z_exB hdl (by omega) (by omega) (z_exT hdl (by omega) (z_exN z_ex_r hD_1 eh_2) hfrhq_8) hfrhq_17) hfrhq_26) hexhq_35) hD_58 eh_59) hfrhq_65) hfrhq_74) hfrhq_83) hexhq_92) hD_114 eh_115) hfrhq_121) _ _ hn91
              have k_128 : h_122 ((zm_G M).2.2.1 26) = some (.inr (23, [.ref ek9, .int (nI 0), .int (z_hs (z_lits.getD 26 [])), .int hzk9])) := (z_exT hdl (by omega) (z_exN (z_ex_t (z_exB hdl (by omega) (by omega) (z_exB hdl (by omega) (by omega) (z_exT hdl (by omega) (z_exN (z_ex_t (z_exB hdl (by omega) (by omega) (z_exB hdl (by omega) (by omega) (z_exT hdl (by omega) (z_exN z_ex_r hD_1 eh_2) hfrhq_8) hfrhq_17) hfrhq_26) hexhq_35) hD_58 eh_59) hfrhq_65) hfrhq_74) hfrhq_83) hexhq_92) hD_114 eh_115) hfrhq_121) _ _ hk91
              obtain ⟨fsob_129, ob_129⟩ := z_BF.o hbfhq_121
              refine z_aload_n hb dX22_word_112 rfl ?_
              refine z_callQ1 (b' := (((((((((((((21 * (6 - m) + 9) - 1) - 1) - 1) - 1) - 2) - 1) - 1) - 1) - 2) - 2) - 1) - 1) - 1) (f' := (((((((((((((3990 * (6 - m) + 1240) - 4) - 16) - 300) - 300) - 304) - 4) - 16) - 300) - 900) - 304) - 4) - 16) - 300) (rest := []) (av := [.ref n_100, .ref nm]) (z_siteV hb ho zc22 ob_129 q2289 q913 q914 ⟨_, _, _, _, zk_J5_append⟩ zy_J5_append zl_J5_append dX22_word_113 : z_Site M _ _ _ _ _ ([.ref nm].reverse ++ .ref n_100 :: []) [] _) zk_J5_append q101 hrm (m_J5_append_s hbfhq_121 (hNm.ex (z_exT hdl (by omega) (z_exN (z_ex_t (z_exB hdl (by omega) (by omega) (z_exB hdl (by omega) (by omega) (z_exT hdl (by omega) (z_exN (z_ex_t (z_exB hdl (by omega) (by omega) (z_exB hdl (by omega) (by omega) (z_exT hdl (by omega) (z_exN z_ex_r hD_1 eh_2) hfrhq_8) hfrhq_17) hfrhq_26) hexhq_35) hD_58 eh_59) hfrhq_65) hfrhq_74) hfrhq_83) hexhq_92) hD_114 eh_115) hfrhq_121)) (by have := (show ([] : List Nat).length ≤ 0 from Nat.le_refl 0); have := (show (32 :: z_pm cs p m).length ≤ 8 by rw [List.length_cons, hlm9]; omega); omega)) (by omega) (by decide) (Nat.le_of_ble_eq_true rfl) (by omega) (by omega) (fun rhq_130 h_131 n_132 hq_130 hn_132 => ?_)
              obtain ⟨rfl, hq_130⟩ := hq_130
              obtain ⟨e9hq_130, hbfhq_130, heehq_130, hfrhq_130⟩ := hq_130
              have hlnhq_130 : (([] : List Nat) ++ (32 :: z_pm cs p m)).length ≤ 8 := by rw [List.length_append]; have := (show ([] : List Nat).length ≤ 0 from Nat.le_refl 0); have := (show (32 :: z_pm cs p m).length ≤ 8 by rw [List.length_cons, hlm9]; omega); show _ + _ ≤ _; omega
              have hlohq_130 := z_alw (show ∀ b ∈ ([] : List Nat), b < 128 from fun b hb => nomatch hb) hlo9
              have k_133 : h_131 t = some (.inr (18, [.int (nI (p + m)), .ref x])) := (z_exB hdl (by omega) (by omega) (z_exT hdl (by omega) (z_exN (z_ex_t (z_exB hdl (by omega) (by omega) (z_exB hdl (by omega) (by omega) (z_exT hdl (by omega) (z_exN (z_ex_t (z_exB hdl (by omega) (by omega) (z_exB hdl (by omega) (by omega) (z_exT hdl (by omega) (z_exN z_ex_r hD_1 eh_2) hfrhq_8) hfrhq_17) hfrhq_26) hexhq_35) hD_58 eh_59) hfrhq_65) hfrhq_74) hfrhq_83) hexhq_92) hD_114 eh_115) hfrhq_121) hfrhq_130) _ _ hpl
              have k_134 : h_131 x = some (.inr (0, [x0, x1, .ref bu, x3, x4, x5, x6])) := (z_exB hdl (by omega) (by omega) (z_exT hdl (by omega) (z_exN (z_ex_t (z_exB hdl (by omega) (by omega) (z_exB hdl (by omega) (by omega) (z_exT hdl (by omega) (z_exN (z_ex_t (z_exB hdl (by omega) (by omega) (z_exB hdl (by omega) (by omega) (z_exT hdl (by omega) (z_exN z_ex_r hD_1 eh_2) hfrhq_8) hfrhq_17) hfrhq_26) hexhq_35) hD_58 eh_59) hfrhq_65) hfrhq_74) hfrhq_83) hexhq_92) hD_114 eh_115) hfrhq_121) hfrhq_130) _ _ hXl
              have k_135 : h_131 bu = some (.inr (22, fsb9)) := (z_exB hdl (by omega) (by omega) (z_exT hdl (by omega) (z_exN (z_ex_t (z_exB hdl (by omega) (by omega) (z_exB hdl (by omega) (by omega) (z_exT hdl (by omega) (z_exN (z_ex_t (z_exB hdl (by omega) (by omega) (z_exB hdl (by omega) (by omega) (z_exT hdl (by omega) (z_exN z_ex_r hD_1 eh_2) hfrhq_8) hfrhq_17) hfrhq_26) hexhq_35) hD_58 eh_59) hfrhq_65) hfrhq_74) hfrhq_83) hexhq_92) hD_114 eh_115) hfrhq_121) hfrhq_130) _ _ hob9
              have k_136 : h_131 nm = some (.inr (23, [.ref es9, .int (nI 0), .int hs9, .int hz9])) := (z_exB hdl (by omega) (by omega) (z_exT hdl (by omega) (z_exN (z_ex_t (z_exB hdl (by omega) (by omega) (z_exB hdl (by omega) (by omega) (z_exT hdl (by omega) (z_exN (z_ex_t (z_exB hdl (by omega) (by omega) (z_exB hdl (by omega) (by omega) (z_exT hdl (by omega) (z_exN z_ex_r hD_1 eh_2) hfrhq_8) hfrhq_17) hfrhq_26) hexhq_35) hD_58 eh_59) hfrhq_65) hfrhq_74) hfrhq_83) hexhq_92) hD_114 eh_115) hfrhq_121) hfrhq_130) _ _ hn91
              have k_137 : h_131 ((zm_G M).2.2.1 26) = some (.inr (23, [.ref ek9, .int (nI 0), .int (z_hs (z_lits.getD 26 [])), .int hzk9])) := (z_exB hdl (by omega) (by omega) (z_exT hdl (by omega) (z_exN (z_ex_t (z_exB hdl (by omega) (by omega) (z_exB hdl (by omega) (by omega) (z_exT hdl (by omega) (z_exN (z_ex_t (z_exB hdl (by omega) (by omega) (z_exB hdl (by omega) (by omega) (z_exT hdl (by omega) (z_exN z_ex_r hD_1 eh_2) hfrhq_8) hfrhq_17) hfrhq_26) hexhq_35) hD_58 eh_59) hfrhq_65) hfrhq_74) hfrhq_83) hexhq_92) hD_114 eh_115) hfrhq_121) hfrhq_130) _ _ hk91
              obtain ⟨fsob_138, ob_138⟩ := z_BF.o hbfhq_130
              refine z_aload_n hb dX22_word_116 rfl ?_
              refine z_aload_n hb dX22_word_117 rfl ?_
              refine z_call (b' := ((((((((((((((21 * (6 - m) + 9) - 1) - 1) - 1) - 1) - 2) - 1) - 1) - 1) - 2) - 2) - 1) - 1) - 1) - 1) (f' := ((((((((((((((3990 * (6 - m) + 1240) - 4) - 16) - 300) - 300) - 304) - 4) - 16) - 300) - 900) - 304) - 4) - 16) - 300) - 10) (rest := [.ref n_100]) (av := [.ref t, .ref ((zm_G M).2.2.1 27)]) (z_siteV hb ho zc18 k_133 q2349 q2351 qs25 ⟨_, _, _, _, zk_X22_take⟩ zy_X22_take zl_X22_take dX22_word_118 : z_Site M _ _ _ _ _ ([.ref ((zm_G M).2.2.1 27)].reverse ++ .ref t :: [.ref n_100]) [.ref n_100] _) zk_X22_take q146 hrm (m_X22_take ((z_exB hdl (by omega) (by omega) (z_exT hdl (by omega) (z_exN (z_ex_t (z_exB hdl (by omega) (by omega) (z_exB hdl (by omega) (by omega) (z_exT hdl (by omega) (z_exN (z_ex_t (z_exB hdl (by omega) (by omega) (z_exB hdl (by omega) (by omega) (z_exT hdl (by omega) (z_exN z_ex_r hD_1 eh_2) hfrhq_8) hfrhq_17) hfrhq_26) hexhq_35) hD_58 eh_59) hfrhq_65) hfrhq_74) hfrhq_83) hexhq_92) hD_114 eh_115) hfrhq_121) hfrhq_130) _ _ hpl) ((z_exB hdl (by omega) (by omega) (z_exT hdl (by omega) (z_exN (z_ex_t (z_exB hdl (by omega) (by omega) (z_exB hdl (by omega) (by omega) (z_exT hdl (by omega) (z_exN (z_ex_t (z_exB hdl (by omega) (by omega) (z_exB hdl (by omega) (by omega) (z_exT hdl (by omega) (z_exN z_ex_r hD_1 eh_2) hfrhq_8) hfrhq_17) hfrhq_26) hexhq_35) hD_58 eh_59) hfrhq_65) hfrhq_74) hfrhq_83) hexhq_92) hD_114 eh_115) hfrhq_121) hfrhq_130) _ _ hXl) (hBl.exx (z_exB hdl (by omega) (by omega) (z_exT hdl (by omega) (z_exN (z_ex_t (z_exB hdl (by omega) (by omega) (z_exB hdl (by omega) (by omega) (z_exT hdl (by omega) (z_exN (z_ex_t (z_exB hdl (by omega) (by omega) (z_exB hdl (by omega) (by omega) (z_exT hdl (by omega) (z_exN z_ex_r hD_1 eh_2) hfrhq_8) hfrhq_17) hfrhq_26) hexhq_35) hD_58 eh_59) hfrhq_65) hfrhq_74) hfrhq_83) hexhq_92) hD_114 eh_115) hfrhq_121) hfrhq_130)) hT hpT9 ((hKSl 27 (by decide)).ex (z_exB hdl (by omega) (by omega) (z_exT hdl (by omega) (z_exN (z_ex_t (z_exB hdl (by omega) (by omega) (z_exB hdl (by omega) (by omega) (z_exT hdl (by omega) (z_exN (z_ex_t (z_exB hdl (by omega) (by omega) (z_exB hdl (by omega) (by omega) (z_exT hdl (by omega) (z_exN z_ex_r hD_1 eh_2) hfrhq_8) hfrhq_17) hfrhq_26) hexhq_35) hD_58 eh_59) hfrhq_65) hfrhq_74) hfrhq_83) hexhq_92) hD_114 eh_115) hfrhq_121) hfrhq_130)) ht0) (by omega) (by decide) (Nat.le_of_ble_eq_true rfl) (by omega) (by omega) (fun v4 h4 n4 hq4 hn4 => ?_) (fun q4 h4 n4 hq4 hn4 => ?_)
              · obtain ⟨hok4, hv4, hp4, hfr4⟩ := z_ps_r hq4
                subst hv4
                rw [z_tk_t (z_tk2f hok4)] at hp4
                have k_139 : h4 x = some (.inr (0, [x0, x1, .ref bu, x3, x4, x5, x6])) := (z_wo.fr (z_exB hdl (by omega) (by omega) (z_exT hdl (by omega) (z_exN (z_ex_t (z_exB hdl (by omega) (by omega) (z_exB hdl (by omega) (by omega) (z_exT hdl (by omega) (z_exN (z_ex_t (z_exB hdl (by omega) (by omega) (z_exB hdl (by omega) (by omega) (z_exT hdl (by omega) (z_exN z_ex_r hD_1 eh_2) hfrhq_8) hfrhq_17) hfrhq_26) hexhq_35) hD_58 eh_59) hfrhq_65) hfrhq_74) hfrhq_83) hexhq_92) hD_114 eh_115) hfrhq_121) hfrhq_130) hfr4) _ _ (z_wo.at (z_x_t hpl hXl) hXl)
                obtain ⟨fsob_140, ob_140⟩ := z_BF.o (hbfhq_130.frc k_133 (by decide) hfr4)
                refine z_callQ1 (b' := (((((((((((((((21 * (6 - m) + 9) - 1) - 1) - 1) - 1) - 2) - 1) - 1) - 1) - 2) - 2) - 1) - 1) - 1) - 1) - 2) (f' := (((((((((((((((3990 * (6 - m) + 1240) - 4) - 16) - 300) - 300) - 304) - 4) - 16) - 300) - 900) - 304) - 4) - 16) - 300) - 10) - 900) (rest := []) (av := [.ref n_100, .int (nI (cs.getD (p + m) 0))]) (z_siteV hb ho zc22 ob_140 q2329 q2226 q2227 ⟨_, _, _, _, zk_J5_append_3⟩ zy_J5_append_3 zl_J5_append_3 dX22_word_121 : z_Site M _ _ _ _ _ ([.int (nI (cs.getD (p + m) 0))].reverse ++ .ref n_100 :: []) [] _) zk_J5_append_3 q101 hrm (m_J5_append_c (hbfhq_130.frc k_133 (by decide) hfr4) (by omega) (by have := hlnhq_130; omega)) (by omega) (by decide) (Nat.le_of_ble_eq_true rfl) (by omega) (by omega) (fun rhq_141 h_142 n_143 hq_141 hn_143 => ?_)
                obtain ⟨rfl, hq_141⟩ := hq_141
                obtain ⟨e9hq_141, cdhq_141, hbfhq_141, -, heehq_141, hcdhq_141, hfrhq_141⟩ := hq_141
                obtain rfl : cdhq_141 = 0 := hcdhq_141 rfl (by omega)
                have hlnhq_141 : ((([] : List Nat) ++ (32 :: z_pm cs p m)) ++ [(cs.getD (p + m) 0)]).length ≤ 9 := by rw [List.length_append]; have := hlnhq_130; have := (show [(cs.getD (p + m) 0)].length ≤ 1 from Nat.le_refl 1); show _ + _ ≤ _; omega
                have hlohq_141 := z_alw hlohq_130 (z_alw1 (show (cs.getD (p + m) 0) < 128 by omega))
                have k_144 : h_142 x = some (.inr (0, [x0, x1, .ref bu, x3, x4, x5, x6])) := (z_exB (z_wo.dm hdl) (by omega) (by omega) (z_wo.fr (z_exB hdl (by omega) (by omega) (z_exT hdl (by omega) (z_exN (z_ex_t (z_exB hdl (by omega) (by omega) (z_exB hdl (by omega) (by omega) (z_exT hdl (by omega) (z_exN (z_ex_t (z_exB hdl (by omega) (by omega) (z_exB hdl (by omega) (by omega) (z_exT hdl (by omega) (z_exN z_ex_r hD_1 eh_2) hfrhq_8) hfrhq_17) hfrhq_26) hexhq_35) hD_58 eh_59) hfrhq_65) hfrhq_74) hfrhq_83) hexhq_92) hD_114 eh_115) hfrhq_121) hfrhq_130) hfr4) hfrhq_141) _ _ (z_wo.at (z_x_t hpl hXl) hXl)
                obtain ⟨fsob_145, ob_145⟩ := z_BF.o hbfhq_141
                have tp_146 := hfrhq_141 _ _ hp4 (z_ne_bf (hbfhq_130.frc k_133 (by decide) hfr4) hp4 (by decide))
                refine z_callQ1 (b' := ((((((((((((((((21 * (6 - m) + 9) - 1) - 1) - 1) - 1) - 2) - 1) - 1) - 1) - 2) - 2) - 1) - 1) - 1) - 1) - 2) - 2) (f' := ((((((((((((((((3990 * (6 - m) + 1240) - 4) - 16) - 300) - 300) - 304) - 4) - 16) - 300) - 900) - 304) - 4) - 16) - 300) - 10) - 900) - 304) (rest := []) (av := [.ref n_100]) (z_siteV hb ho zc22 ob_145 q2290 q1033 q1034 ⟨_, _, _, _, zk_J5_toString⟩ zy_J5_toString zl_J5_toString dX22_word_124 : z_Site M _ _ _ _ _ ([].reverse ++ .ref n_100 :: []) [] _) zk_J5_toString q101 hrm (m_J5_toString hbfhq_141 (by have := hlnhq_141; omega) hlohq_141) (by omega) (by decide) (Nat.le_of_ble_eq_true rfl) (by omega) (by omega) (fun rhq_147 h_148 n_149 hq_147 hn_149 => ?_)
                obtain ⟨rfl, hq_147⟩ := hq_147
                obtain ⟨hnnhq_147, hsghq_147, hexhq_147⟩ := hq_147
                have k_150 : h_148 x = some (.inr (0, [x0, x1, .ref bu, x3, x4, x5, x6])) := (z_ex_t (z_exB (z_wo.dm hdl) (by omega) (by omega) (z_wo.fr (z_exB hdl (by omega) (by omega) (z_exT hdl (by omega) (z_exN (z_ex_t (z_exB hdl (by omega) (by omega) (z_exB hdl (by omega) (by omega) (z_exT hdl (by omega) (z_exN (z_ex_t (z_exB hdl (by omega) (by omega) (z_exB hdl (by omega) (by omega) (z_exT hdl (by omega) (z_exN z_ex_r hD_1 eh_2) hfrhq_8) hfrhq_17) hfrhq_26) hexhq_35) hD_58 eh_59) hfrhq_65) hfrhq_74) hfrhq_83) hexhq_92) hD_114 eh_115) hfrhq_121) hfrhq_130) hfr4) hfrhq_141) hexhq_147) _ _ (z_wo.at (z_x_t hpl hXl) hXl)
                have tp_151 := hexhq_147 _ _ tp_146
                refine z_astore_n (lv' := [(3, .ref n_143), (4, .int (nI 1)), (2, .ref ((zm_G M).2.2.1 27)), (1, .ref ((zm_G M).2.2.1 26)), (0, .ref t)]) hb dX22_word_127 (by rw [hN]; decide) rfl ?_
                refine z_goto (tgt := 9) hb dX22_word_128 (by decide) ?_
                refine z_lv [0, 2, 3, 4] (lv' := [(3, .ref n_143), (2, .ref ((zm_G M).2.2.1 27)), (1, .ref ((zm_G M).2.2.1 26)), (0, .ref t)]) rfl ?_
                exact z_bf (by omega) (by omega) (ih_9 (m + 1) n_149 h_148 n_143 _ (by omega) (by omega) (z_fr.t hE9 (z_wo.bk (z_ex_t (z_exB (z_wo.dm hdl) (by omega) (by omega) (z_wo.fr (z_exB hdl (by omega) (by omega) (z_exT hdl (by omega) (z_exN (z_ex_t (z_exB hdl (by omega) (by omega) (z_exB hdl (by omega) (by omega) (z_exT hdl (by omega) (z_exN (z_ex_t (z_exB hdl (by omega) (by omega) (z_exB hdl (by omega) (by omega) (z_exT hdl (by omega) (z_exN z_ex_r hD_1 eh_2) hfrhq_8) hfrhq_17) hfrhq_26) hexhq_35) hD_58 eh_59) hfrhq_65) hfrhq_74) hfrhq_83) hexhq_92) hD_114 eh_115) hfrhq_121) hfrhq_130) hfr4) hfrhq_141) hexhq_147))) tp_151 (by have z := hsghq_147; rw [List.append_assoc, List.cons_append, ← z_pm_succ (by omega)] at z; exact z) hnx9)
              · obtain ⟨b14, b24, b34, b44⟩ := z_ps_t hq4
                exact absurd ((z_tk2t b14).symm.trans c_40) (by decide)
            · exact absurd c_90 (by omega)
  refine z_lv [0, 1, 2, 3] (lv' := [(3, .ref ((zm_G M).2.2.1 28)), (2, .ref ((zm_G M).2.2.1 27)), (1, .ref ((zm_G M).2.2.1 26)), (0, .ref t)]) rfl ?_
  exact z_bf (by omega) (by omega) (lp_9 _ 0 n h ((zm_G M).2.2.1 28) _ (Nat.lt_succ_self _) (by omega) (fun y c q _ => q) hp (hKS 28 (by decide)) ⟨0, by decide, Nat.zero_le _, by omega, rfl⟩)

