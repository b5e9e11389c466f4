def z_isL (h : zH) (a : Nat) : Prop := ∃ y0 y1 y2 y3 y4 y5 y6 y7 : Value, h a = some (.inr (1, [y0, y1, y2, y3, y4, y5, y6, y7]))
theorem z_LN.isL {G : zG} {h : zH} {w : Nat → Int32} {v : Nat → Int64} {R S D a : Nat} (q : z_LN G h w v R S D a) : z_isL h a := by
  obtain ⟨lr, ls, lv, ra, sa, va, q⟩ := q
  exact ⟨_, _, _, _, _, _, _, _, q.1⟩
theorem z_isL.ex {h h2 : zH} {a : Nat} (q : z_isL h a) (e : z_ex h h2) : z_isL h2 a := by
  obtain ⟨y0, y1, y2, y3, y4, y5, y6, y7, q⟩ := q
  exact ⟨y0, y1, y2, y3, y4, y5, y6, y7, e _ _ q⟩
def z_dep (dep : Nat) : Nat := if dep = 8 then 8 else dep + 1
theorem m_X1_replaceBy {l : Launch} {G : zG} {h : zH} {n : Nat} {x la pa bu li : Nat} {fa : Int32} {de sn : Option Nat} {e dep b : Nat} {P : Nat → Nat} {r9 : Int32} (hO : h x = some (z_Ob la pa bu li fa de sn)) (hx0 : z_n0 G ≤ x) (hP : z_Pd G h pa e dep P) (hla : z_isL h la) (hPl : ∀ i, i < dep → z_isL h (P i)) : z_C l G yX1_replaceBy 4 0 0 [.ref x, .ref b, .int r9] h n (z_q1 (fun w9 h9 n9 => w9 = .int r9 ∧ n9 = n ∧ h9 x = some (z_Ob b pa bu li fa de sn) ∧ z_Pd G h9 pa e (z_dep dep) (z_psh P la) ∧ z_fr (fun y => y = x ∨ y = pa ∨ y = e) h h9)) := by
  obtain ⟨y0, y1, y2, y3, y4, y5, y6, y7, hla⟩ := hla
  unfold z_dep
  by_cases h8 : dep = 8
  · subst h8
    rw [if_pos rfl]
    obtain ⟨z0, z1, z2, z3, z4, z5, z6, z7, h7⟩ := hPl 7 (by omega)
    exact m_X1_replaceBy_eq hO hx0 hP hla h7
  · rw [if_neg h8]
    obtain ⟨hd, tl, f, q1, q2, q3, q4, q5, q6, q7, q8, q9⟩ := id hP
    exact m_X1_replaceBy_lt hO hx0 hP (by omega) (z_kobj hla) (fun z => by rw [z, q1] at hla; cases hla)
section ZCM
variable {G : zG} {h : zH} {n b0 : Nat} {w : Nat → Int32} {v : Nat → Int64} {R S D a kd : Nat} {x y z : Int32}
theorem z_res_ret {v9 : Option Value} {h' : zH} {n' : Nat} (q : z_res G h n b0 w v R S D a kd x y z (.returned v9) h' n') : (tC_why w R S D kd x y z).1 = 0 ∧ v9 = some (.int (tC_go w v R S D kd x y z).2.2.1) ∧ z_DR G h' b0 (tC_go w v R S D kd x y z).1 (tC_go w v R S D kd x y z).2.1 (tC_go w v R S D kd x y z).2.2.2.1 (tC_go w v R S D kd x y z).2.2.2.2.1 (tC_go w v R S D kd x y z).2.2.2.2.2 a ∧ z_fb b0 h h' := by
  rcases q with ⟨q0, w9, e, e2, q1, q2⟩ | ⟨r, d, q1, q2, q3, q4, -⟩ | ⟨q1, q2, q3, q4, -⟩
  · cases e; rw [e2]; exact ⟨q0, rfl, q1, q2⟩
  · cases q4
  · cases q4
theorem z_res_thr {q : Nat} {h' : zH} {n' : Nat} (q9 : z_res G h n b0 w v R S D a kd x y z (.threw q) h' n') : (tC_why w R S D kd x y z).1 ≠ 0 ∧ n ≤ q ∧ q < n' ∧ ((∃ r d, (tC_why w R S D kd x y z).2 = some (r, d) ∧ h' = z_up h q (.inr (5, z_den r d))) ∨ ((tC_why w R S D kd x y z).2 = none ∧ h' = z_up h q (.inr (z_xc kd (tC_why w R S D kd x y z).1, [])))) := by
  rcases q9 with ⟨q0, w9, e, -⟩ | ⟨r, d, q1, q2, q3, e, q5, q6, q7⟩ | ⟨q1, q2, q3, e, q5, q6, q7⟩
  · cases e
  · cases e; exact ⟨q1, q5, q6, Or.inl ⟨r, d, q2, q7⟩⟩
  · cases e; exact ⟨q1, q5, q6, Or.inr ⟨q2, q7⟩⟩
end ZCM
/-- classes of the other exceptions -/
theorem z_xc_or (kd code : Nat) : z_xc kd code = 26 ∨ z_xc kd code = 27 ∨ z_xc kd code = 28 := by
  unfold z_xc
  split <;> (try split) <;> simp
/-- what a change of the lane ends in -/
def z_cm (G : zG) (h : zH) (n : Nat) (w : Nat → Int32) (v : Nat → Int64) (R S D kd : Nat) (a b c : Int32) (x la pa bu li : Nat) (fa : Int32) (de sn : Option Nat) (e dep : Nat) (P : Nat → Nat) : zQ := fun o h' n' =>
  ((tC_why w R S D kd a b c).1 = 0 ∧ o = .returned (some (.int (tC_go w v R S D kd a b c).2.2.1)) ∧ ∃ bl, h' x = some (z_Ob bl pa bu li fa de sn) ∧ z_Pd G h' pa e (z_dep dep) (z_psh P la) ∧ z_LN G h' (tC_go w v R S D kd a b c).1 (tC_go w v R S D kd a b c).2.1 (tC_go w v R S D kd a b c).2.2.2.1 (tC_go w v R S D kd a b c).2.2.2.2.1 (tC_go w v R S D kd a b c).2.2.2.2.2 bl ∧ z_fr (fun y => y = x ∨ y = pa ∨ y = e) h h') ∨
  (∃ r d q dn fs, (tC_why w R S D kd a b c).1 ≠ 0 ∧ (tC_why w R S D kd a b c).2 = some (r, d) ∧ o = .threw q ∧ z_n0 G ≤ q ∧ h' q = some (.inr (30, fs)) ∧ h' x = some (z_Ob la pa bu li fa (some dn) sn) ∧ z_n0 G ≤ dn ∧ h' dn = some (.inr (5, z_den r d)) ∧ z_fr (fun y => y = x) h h') ∨
  (∃ q, (tC_why w R S D kd a b c).1 ≠ 0 ∧ (tC_why w R S D kd a b c).2 = none ∧ o = .threw q ∧ z_n0 G ≤ q ∧ h' q = some (.inr (z_xc kd (tC_why w R S D kd a b c).1, [])) ∧ z_ex h h')
theorem z_np_X1_commit {c : Nat} (hc : c = 26 ∨ c = 27 ∨ c = 28) {r : vw_C} (hr : zCL[c]? = some r) : ∀ z ∈ [((13 : Nat), (36 : Nat), (37 : Nat), (30 : Nat))], z_np RX1 r.1 30 z := by
  intro z hz
  rw [List.mem_singleton] at hz
  subst hz
  refine Or.inr ⟨by decide, _, q816, ?_⟩
  rcases hc with rfl | rfl | rfl
  · cases hr; exact List.mem_of_getElem? (i := 347) rfl
  · cases hr; exact List.mem_of_getElem? (i := 239) rfl
  · cases hr; exact List.mem_of_getElem? (i := 257) rfl

theorem z_fr9 {h h9 h11 : zH} {n x m : Nat} {c1 c2 : va_E} (d : z_dm h n) (e9 : z_ex h h9) (hm : n ≤ m) (e : h11 = z_up (z_up h9 x c1) m c2) : z_fr (fun y => y = x) h h11 := fun y c q l => by
  rw [e, z_up_n (by have := d y c q; omega), z_up_n l]; exact e9 y c q

theorem z_fr.t0 {P : Nat → Prop} {h h1 h2 : zH} (f : z_fr P h1 h2) (e : z_ex h h1) : z_fr P h h2 := fun y c q l => f y c (e y c q) l
theorem z_nlj {G : zG} {h : zH} {x la pa bu li e dep : Nat} {fa : Int32} {de sn : Option Nat} {P : Nat → Nat} (hO : h x = some (z_Ob la pa bu li fa de sn)) (hP : z_Pd G h pa e dep P) : ∀ y c, (y = x ∨ y = pa ∨ y = e) → h y = some c → ¬ z_lnj c := by
  obtain ⟨hd, tl, f, q1, q2, -⟩ := hP
  rintro y c (rfl | rfl | rfl) q l
  · rw [hO] at q; cases q; simp [z_lnj] at l
  · rw [q1] at q; cases q; simp [z_lnj] at l
  · rw [q2] at q; cases q; simp [z_lnj] at l

set_option maxHeartbeats 1000000 in
theorem m_X1_commit {l : Launch} {G : zG} {h : zH} {n : Nat} {x la pa bu li : Nat} {fa : Int32} {de sn : Option Nat} {e dep : Nat} {P : Nat → Nat} {w : Nat → Int32} {v : Nat → Int64} {R S D c9 wo sg kd : Nat} {p q : Int32} (hO : h x = some (z_Ob la pa bu li fa de sn)) (hx0 : z_n0 G ≤ x) (hP : z_Pd G h pa e dep P) (hPl : ∀ i, i < dep → z_isL h (P i)) (hL : z_LN G h w v R S D la) (hI : z_inv w v R S D c9) (hK : z_KC G h) (hc16 : sg < 65536) (hk9 : kd < 9) (hSw : z_Sg G h wo (z_wd kd) (z_hs (z_wd kd))) : z_C l G yX1_commit 42 300 6000 [.ref x, .ref wo, .int (nI sg), .int p, .int q] h n (z_cm G h n w v R S D kd (z_xyz kd (nI sg) p q).1 (z_xyz kd (nI sg) p q).2.1 (z_xyz kd (nI sg) p q).2.2 x la pa bu li fa de sn e dep P) := by
  refine z_start zk_X1_commit zpl_RX1 (Nat.le_of_ble_eq_true rfl) ?_
  intro hn0 M hl hG ho hb hN hr hm hH hrm hQ
  subst hl hG
  have ho : zm_o M = RX1 := ho
  refine z_dom (fun hdm => ?_)
  have hxn := hdm _ _ hO
  obtain ⟨hw, -⟩ := id hI
  obtain ⟨-, hR4, -, hS8, -, hD6, -⟩ := id hw
  obtain ⟨lr, ls, lv, ra, sa, va, hLn⟩ := id hL
  obtain ⟨fE, hEM⟩ := hK.em
  show z_V M h n 300 6000 0 [(0, .ref x), (1, .ref wo), (2, .int (nI sg)), (3, .int p), (4, .int q)] []
  refine z_new (N0 := 8) (b' := 299) (f' := 5992) (fs := [.null, .null, .null, .int (nI 0), .int (nI 0), .int (nI 0), .int (nI 0), .int (nI 0)]) (C := RX2) (T := TX2) (N := 8) hb ho zc1 in_X2 tyX2_ok q157 q158 q95 dX1_commit_0 (zdf_X2) (by omega) (by omega) ?_
  refine z_hn (fun h_1 eh_1 => ?_)
  have eh_1 : h_1 = z_up h n (.inr (1, [.null, .null, .null, .int (nI 0), .int (nI 0), .int (nI 0), .int (nI 0), .int (nI 0)])) := eh_1
  have k_2 : h_1 x = some (.inr (0, [.ref la, .ref pa, .ref bu, .ref li, .int fa, va_rf de, va_rf sn])) := z_nx eh_1 (Nat.ne_of_lt hxn) hO
  refine z_dup hb dX1_commit_3 rfl ?_
  refine z_aload_n hb dX1_commit_4 rfl ?_
  refine z_get (k := 0) (C := RX1) (T := TX1) (N := 7) hb ho zc0 in_X1 (zf_RX1_41 _) dX1_commit_5 k_2 (by decide) rfl ?_
  refine z_callQ0 (b' := 207) (f' := 2592) (rest := [.ref n]) (av := [.ref n, .ref la]) (z_siteI hb ho q470 q471 q472 rfl zy_X2_init_2 zl_X2_init_2 dX1_commit_8 : z_Site M _ _ _ _ _ ([.ref la].reverse ++ .ref n :: [.ref n]) [.ref n] _) zk_X2_init_2 q95 hrm (m_X2_init_2 (b0 := n) (hLn.ex (z_exN z_ex_r hdm eh_1)) hR4 hS8 hD6 (z_nxs eh_1) ((z_exN z_ex_r hdm eh_1) _ _ hEM) hK.e0 hn0 (Nat.le_refl n) (Nat.le_succ n)) (by omega) (by decide) (Nat.le_of_ble_eq_true rfl) (by omega) (by omega) (fun h8 n8 hq8 hn8 => ?_)
  obtain ⟨⟨lr2, er2, ls2, es2, lv2, ev2, ra2, sa2, va2, na2, ba2, hDr⟩, hf1⟩ := hq8
  have he2 : z_ex h h8 := fun y c q => hf1 y c ((z_exN z_ex_r hdm eh_1) y c q) (fun z => by have := hdm y c q; omega)
  have hx8 := he2 _ _ hO
  refine z_astore (lv' := [(5, .ref n), (0, .ref x), (1, .ref wo), (2, .int (nI sg)), (3, .int p), (4, .int q)]) hb dX1_commit_11 (by rw [hN]; decide) rfl ?_
  refine z_aload_n hb dX1_commit_13 rfl ?_
  refine z_aload hb dX1_commit_14 rfl ?_
  refine z_dom (fun hd8 => ?_)
  refine z_new (N0 := 4) (b' := 206) (f' := 2588) (fs := [.null, .int (nI 0), .int (nI 0), .int (nI 0)]) (C := RX5) (T := TX5) (N := 4) hb ho zc4 in_X5 tyX5_ok q817 q818 q115 dX1_commit_16 (zdf_X5) (by omega) (by omega) ?_
  refine z_hn (fun h_3 eh_3 => ?_)
  have eh_3 : h_3 = z_up h8 n8 (.inr (4, [.null, .int (nI 0), .int (nI 0), .int (nI 0)])) := eh_3
  have k_4 : h_3 x = some (.inr (0, [.ref la, .ref pa, .ref bu, .ref li, .int fa, va_rf de, va_rf sn])) := z_nx eh_3 (Nat.ne_of_lt (Nat.lt_of_lt_of_le hxn (by omega))) hx8
  refine z_dup hb dX1_commit_19 rfl ?_
  refine z_aload_n hb dX1_commit_20 rfl ?_
  refine z_iload_n hb dX1_commit_21 rfl ?_
  refine z_iload_n hb dX1_commit_22 rfl ?_
  refine z_iload hb dX1_commit_23 rfl ?_
  refine z_call0 (b' := 206) (f' := 2588) (rest := [.ref n8, .ref n, .ref x]) (av := [.ref n8, .ref wo, .int (nI sg), .int p, .int q]) (z_siteI hb ho q819 q820 q821 rfl zy_X5_init zl_X5_init dX1_commit_25 : z_Site M _ _ _ _ _ ([.ref wo, .int (nI sg), .int p, .int q].reverse ++ .ref n8 :: [.ref n8, .ref n, .ref x]) [.ref n8, .ref n, .ref x] _) zk_X5_init q115 hrm (m_X5_init (z_nxs eh_3) (by omega) hc16) (by omega) (by decide) (Nat.le_of_ble_eq_true rfl) (by omega) (by omega) ?_
  refine z_hn (fun h_5 eh_5 => ?_)
  have eh_5 : h_5 = z_up h_3 n8 (.inr (4, [.ref wo, .int (nI sg), .int p, .int q])) := eh_5
  have k_6 : h_5 x = some (.inr (0, [.ref la, .ref pa, .ref bu, .ref li, .int fa, va_rf de, va_rf sn])) := z_nx eh_5 (z_neO k_4 (z_nxs eh_3) rfl) k_4
  refine z_aload hb dX1_commit_28 rfl ?_
  have he4 : z_ex h8 h_5 := z_exW hd8 (Nat.le_refl _) eh_5 (z_exW hd8 (Nat.le_refl _) eh_3 z_ex_r)
  refine z_call (b' := 106) (f' := 1588) (rest := [.ref n, .ref x]) (av := [.ref n8, .ref n]) (z_siteV hb ho zc4 (z_nxs eh_5) q836 q837 q838 ⟨_, _, _, _, zk_X5_apply⟩ zy_X5_apply zl_X5_apply dX1_commit_30 : z_Site M _ _ _ _ _ ([.ref n].reverse ++ .ref n8 :: [.ref n, .ref x]) [.ref n, .ref x] _) zk_X5_apply q115 hrm (m_apply (hDr.kp he4.kp) hn0 (by omega) hI (hK.ex (z_ex_t he2 he4)) hc16 (z_nxs eh_5) hk9 (hSw.ex (z_ex_t he2 he4))) (by omega) (by decide) (Nat.le_of_ble_eq_true rfl) (by omega) (by omega) (fun v9 h9 n9 hq9 hn9 => ?_) (fun q9 h9 n9 hq9 hn9 => ?_)
  · obtain ⟨hw0, hv9, hDR, hf9⟩ := z_res_ret hq9
    subst hv9
    have he9 : z_ex h h9 := fun y c q => hf9 y c (he4 y c (he2 y c q)) (fun z => absurd z (by have := hdm y c q; omega))
    have hx9 := he9 _ _ hO
    refine z_callQ1 (b' := 106) (f' := 1588) (rest := []) (av := [.ref x, .ref n, .int ((tC_go w v R S D kd (z_xyz kd (nI sg) p q).1 (z_xyz kd (nI sg) p q).2.1 (z_xyz kd (nI sg) p q).2.2).2.2.1)]) (z_siteV hb ho zc0 hx9 q1617 q1619 qs14 ⟨_, _, _, _, zk_X1_replaceBy⟩ zy_X1_replaceBy zl_X1_replaceBy dX1_commit_33 : z_Site M _ _ _ _ _ ([.ref n, .int ((tC_go w v R S D kd (z_xyz kd (nI sg) p q).1 (z_xyz kd (nI sg) p q).2.1 (z_xyz kd (nI sg) p q).2.2).2.2.1)].reverse ++ .ref x :: []) [] _) zk_X1_replaceBy q94 hrm (m_X1_replaceBy hx9 hx0 (hP.ex he9) (hL.isL.ex he9) (fun i hi => (hPl i hi).ex he9)) (by omega) (by decide) (Nat.le_of_ble_eq_true rfl) (by omega) (by omega) (fun rhq10 h10 n10 hq10 hn10 => ?_)
    obtain ⟨rfl, hq10⟩ := hq10
    obtain ⟨rfl, hx10, hPd, hfr⟩ := hq10
    refine z_iret hb hr dX1_commit_36 ?_
    rw [hQ]
    exact Or.inl ⟨hw0, rfl, n, hx10, hPd, hDR.lN.kq (hfr.kq (z_nlj hx9 (hP.ex he9))), hfr.t0 he9⟩
  · obtain ⟨hw0, hq1, hq2, hq3⟩ := z_res_thr hq9
    rcases hq3 with ⟨r9, d9, hw2, eh9⟩ | ⟨hw2, eh9⟩
    · have hq9n : z_n0 (zm_G M) ≤ q9 := by omega
      have hx9 : h9 x = some (z_Ob la pa bu li fa de sn) := z_nx eh9 (by omega) (he4 _ _ hx8)
      refine z_catch ho hH (pre := []) (suf := []) (x := ((13 : Nat), (36 : Nat), (37 : Nat), (30 : Nat))) rfl zc5 (z_nxs eh9) hq9n (fun _ h => nomatch h) ⟨by decide, by decide⟩ (by decide) q816 q1153 ?_
      refine z_astore (lv' := [(6, .ref q9), (5, .ref n), (0, .ref x), (1, .ref wo), (2, .int (nI sg)), (3, .int p), (4, .int q)]) hb dX1_commit_37 (by rw [hN]; decide) rfl ?_
      have hqd : h9 q9 = some (.inr (5, z_den r9 d9)) := z_nxs eh9
      refine z_aload_n hb dX1_commit_39 rfl ?_
      refine z_aload hb dX1_commit_40 rfl ?_
      refine z_callQ1 (b' := 105) (f' := 1582) (rest := []) (av := [.ref x, .ref q9]) (z_siteV hb ho zc0 hx9 q1673 q1675 qs17 ⟨_, _, _, _, zk_X1_deny⟩ zy_X1_deny zl_X1_deny dX1_commit_42 : z_Site M _ _ _ _ _ ([.ref q9].reverse ++ .ref x :: []) [] _) zk_X1_deny q94 hrm (m_X1_deny hx9 hx0) (by omega) (by decide) (Nat.le_of_ble_eq_true rfl) (by omega) (by omega) (fun rhq11 h11 n11 hq11 hn11 => ?_)
      obtain ⟨rfl, hq11⟩ := hq11
      obtain ⟨rfl, fs9, eh11⟩ := hq11
      refine z_athrow hb dX1_commit_45 ?_
      have hq11 : h11 q9 = some (.inr (5, z_den r9 d9)) := by
        rw [eh11, z_up_n (by omega), z_up_n (fun z => by rw [z, hx9] at hqd; cases hqd)]; exact hqd
      refine z_out ho hH zc30 (z_nxs eh11) (by omega) (fun z hz => by rw [List.mem_singleton] at hz; subst hz; exact Or.inl (by decide)) ?_
      rw [hQ]
      exact Or.inr (Or.inl ⟨r9, d9, n9, q9, fs9, hw0, hw2, rfl, by omega, z_nxs eh11, by rw [eh11, z_up_n (by omega)]; exact z_up_s, hq9n, hq11, z_fr9 hdm (fun y c q => z_nx eh9 (by have := hdm y c q; omega) (he4 y c (he2 y c q))) (by omega) eh11⟩)
    · obtain ⟨rr, hr9⟩ := z_xc_ok kd (tC_why w R S D kd (z_xyz kd (nI sg) p q).1 (z_xyz kd (nI sg) p q).2.1 (z_xyz kd (nI sg) p q).2.2).1
      refine z_out ho hH hr9 (z_nxs eh9) (by omega) (z_np_X1_commit (z_xc_or _ _) hr9) ?_
      rw [hQ]
      exact Or.inr (Or.inr ⟨q9, hw0, hw2, rfl, by omega, z_nxs eh9, fun y c q => z_nx eh9 (by have := hdm y c q; omega) (he4 y c (he2 y c q))⟩)

