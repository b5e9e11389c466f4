theorem z_cm_thr {G : zG} {h : zH} {n : Nat} {w : Nat → Int32} {v : Nat → Int64} {R S D kd : Nat} {a b c : Int32} {x la pa bu li : Nat} {fa : Int32} {de sn : Option Nat} {e dep : Nat} {P : Nat → Nat} {q : Nat} {h' : zH} {n' : Nat} (q9 : z_cm G h n w v R S D kd a b c x la pa bu li fa de sn e dep P (.threw q) h' n') : ∃ ci fs r, zCL[ci]? = some r ∧ h' q = some (.inr (ci, fs)) ∧ z_n0 G ≤ q := by
  rcases q9 with ⟨-, e, -⟩ | ⟨r, d, q1, dn, fs, -, -, e, q2, q3, -⟩ | ⟨q1, -, -, e, q2, q3, -⟩
  · cases e
  · cases e; exact ⟨30, fs, _, zc30, q3, q2⟩
  · cases e
    obtain ⟨rr, hr⟩ := z_xc_ok kd (tC_why w R S D kd a b c).1
    exact ⟨_, _, rr, hr, q3, q2⟩
theorem z_cm_ret {G : zG} {h : zH} {n : Nat} {w : Nat → Int32} {v : Nat → Int64} {R S D kd : Nat} {a b c : Int32} {x la pa bu li : Nat} {fa : Int32} {de sn : Option Nat} {e dep : Nat} {P : Nat → Nat} {v9 : Option Value} {h' : zH} {n' : Nat} (q9 : z_cm G h n w v R S D kd a b c x la pa bu li fa de sn e dep P (.returned v9) h' n') : v9 = some (.int (tC_go w v R S D kd a b c).2.2.1) := by
  rcases q9 with ⟨-, e, -⟩ | ⟨r, d, q1, dn, fs, -, -, e, q2, q3, -⟩ | ⟨q1, -, -, e, q2, q3, -⟩
  · cases e; rfl
  · cases e
  · cases e
theorem z_cm_n {G : zG} {h : zH} {n n2 : Nat} {w : Nat → Int32} {v : Nat → Int64} {R S D kd : Nat} {a b c : Int32} {x la pa bu li : Nat} {fa : Int32} {de sn : Option Nat} {e dep : Nat} {P : Nat → Nat} {o : Outcome} {h' : zH} {n' : Nat} (q9 : z_cm G h n w v R S D kd a b c x la pa bu li fa de sn e dep P o h' n') : z_cm G h n2 w v R S D kd a b c x la pa bu li fa de sn e dep P o h' n' := q9

set_option maxHeartbeats 1000000 in
theorem m_X1_addRow {l : Launch} {G : zG} {h : zH} {n : Nat} {x la pa bu li : Nat} {fa : Int32} {de sn : Option Nat} {e dep : Nat} {P : Nat → Nat} {w : Nat → Int32} {v : Nat → Int64} {R S D c9 : Nat} {sg : Nat} {p q : Int32} (hO : h x = some (z_Ob la pa bu li fa de sn)) (hx0 : z_n0 G ≤ x) (hP : z_Pd G h pa e dep P) (hPl : ∀ i, i < dep → z_isL h (P i)) (hL : z_LN G h w v R S D la) (hI : z_inv w v R S D c9) (hK : z_KC G h) (hc16 : sg < 65536) : z_C l G yX1_addRow 43 300 6000 [.ref x, .int (nI sg), .int p, .int q] h n (z_cm G h n w v R S D 0 (nI sg) p q x la pa bu li fa de sn e dep P) := by
  refine z_start zk_X1_addRow zpl_RX1 (Nat.le_of_ble_eq_true rfl) ?_
  intro hn0 M hl hG ho hb hN hr hm hH hrm hQ
  subst hl hG
  have ho : zm_o M = RX1 := ho
  show z_V M h n 300 6000 0 [(0, .ref x), (1, .int (nI sg)), (2, .int p), (3, .int q)] []
  refine z_aload_n hb dX1_addRow_0 rfl ?_
  refine z_ldcS (i := 1) hb ho rfl rfl rfl dX1_addRow_1 ?_
  refine z_iload_n hb dX1_addRow_3 rfl ?_
  refine z_iload_n hb dX1_addRow_4 rfl ?_
  refine z_iload_n hb dX1_addRow_5 rfl ?_
  refine z_call (b' := 0) (f' := 0) (rest := []) (av := [.ref x, .ref ((zm_G M).2.2.1 1), .int (nI sg), .int p, .int q]) (z_siteV hb ho zc0 hO q812 q814 qs7 ⟨_, _, _, _, zk_X1_commit⟩ zy_X1_commit zl_X1_commit dX1_addRow_6 : z_Site M _ _ _ _ _ ([.ref ((zm_G M).2.2.1 1), .int (nI sg), .int p, .int q].reverse ++ .ref x :: []) [] _) zk_X1_commit q94 hrm (m_X1_commit (kd := 0) hO hx0 hP hPl hL hI hK hc16 (by decide) (hK.ks 1 (by decide))) (by omega) (by decide) (Nat.le_of_ble_eq_true rfl) (by omega) (by omega) (fun v9 h9 n9 hq9 hn9 => ?_) (fun q9 h9 n9 hq9 hn9 => ?_)
  · have hv9 := z_cm_ret hq9
    subst hv9
    refine z_iret hb hr dX1_addRow_9 ?_
    rw [hQ]
    exact hq9
  · obtain ⟨ci9, fs9, rr9, hc9, hq8, hq7⟩ := z_cm_thr hq9
    exact z_out ho hH hc9 hq8 hq7 (fun _ h => nomatch h) (by rw [hQ]; exact z_cm_n hq9)

set_option maxHeartbeats 1000000 in
theorem m_X1_removeRow {l : Launch} {G : zG} {h : zH} {n : Nat} {x la pa bu li : Nat} {fa : Int32} {de sn : Option Nat} {e dep : Nat} {P : Nat → Nat} {w : Nat → Int32} {v : Nat → Int64} {R S D c9 : Nat} {p : Int32} (hO : h x = some (z_Ob la pa bu li fa de sn)) (hx0 : z_n0 G ≤ x) (hP : z_Pd G h pa e dep P) (hPl : ∀ i, i < dep → z_isL h (P i)) (hL : z_LN G h w v R S D la) (hI : z_inv w v R S D c9) (hK : z_KC G h) : z_C l G yX1_removeRow 43 300 6000 [.ref x, .int p] h n (z_cm G h n w v R S D 1 p 0 0 x la pa bu li fa de sn e dep P) := by
  refine z_start zk_X1_removeRow zpl_RX1 (Nat.le_of_ble_eq_true rfl) ?_
  intro hn0 M hl hG ho hb hN hr hm hH hrm hQ
  subst hl hG
  have ho : zm_o M = RX1 := ho
  show z_V M h n 300 6000 0 [(0, .ref x), (1, .int p)] []
  refine z_aload_n hb dX1_removeRow_0 rfl ?_
  refine z_ldcS (i := 16) hb ho rfl rfl rfl dX1_removeRow_1 ?_
  refine z_bipush (x := nI 32) hb dX1_removeRow_3 (by decide) ?_
  refine z_iload_n hb dX1_removeRow_5 rfl ?_
  refine z_iconst (x := nI 0) hb dX1_removeRow_6 (by decide) ?_
  refine z_call (b' := 0) (f' := 0) (rest := []) (av := [.ref x, .ref ((zm_G M).2.2.1 16), .int (nI 32), .int p, .int (nI 0)]) (z_siteV hb ho zc0 hO q812 q814 qs7 ⟨_, _, _, _, zk_X1_commit⟩ zy_X1_commit zl_X1_commit dX1_removeRow_7 : z_Site M _ _ _ _ _ ([.ref ((zm_G M).2.2.1 16), .int (nI 32), .int p, .int (nI 0)].reverse ++ .ref x :: []) [] _) zk_X1_commit q94 hrm (m_X1_commit (kd := 1) hO hx0 hP hPl hL hI hK (by decide) (by decide) (hK.ks 16 (by decide))) (by omega) (by decide) (Nat.le_of_ble_eq_true rfl) (by omega) (by omega) (fun v9 h9 n9 hq9 hn9 => ?_) (fun q9 h9 n9 hq9 hn9 => ?_)
  · have hv9 := z_cm_ret hq9
    subst hv9
    refine z_iret hb hr dX1_removeRow_10 ?_
    rw [hQ]
    exact hq9
  · obtain ⟨ci9, fs9, rr9, hc9, hq8, hq7⟩ := z_cm_thr hq9
    exact z_out ho hH hc9 hq8 hq7 (fun _ h => nomatch h) (by rw [hQ]; exact z_cm_n hq9)

set_option maxHeartbeats 1000000 in
theorem m_X1_beginDay {l : Launch} {G : zG} {h : zH} {n : Nat} {x la pa bu li : Nat} {fa : Int32} {de sn : Option Nat} {e dep : Nat} {P : Nat → Nat} {w : Nat → Int32} {v : Nat → Int64} {R S D c9 : Nat} (hO : h x = some (z_Ob la pa bu li fa de sn)) (hx0 : z_n0 G ≤ x) (hP : z_Pd G h pa e dep P) (hPl : ∀ i, i < dep → z_isL h (P i)) (hL : z_LN G h w v R S D la) (hI : z_inv w v R S D c9) (hK : z_KC G h) : z_C l G yX1_beginDay 43 300 6000 [.ref x] h n (z_cm G h n w v R S D 2 0 0 0 x la pa bu li fa de sn e dep P) := by
  refine z_start zk_X1_beginDay zpl_RX1 (Nat.le_of_ble_eq_true rfl) ?_
  intro hn0 M hl hG ho hb hN hr hm hH hrm hQ
  subst hl hG
  have ho : zm_o M = RX1 := ho
  show z_V M h n 300 6000 0 [(0, .ref x)] []
  refine z_aload_n hb dX1_beginDay_0 rfl ?_
  refine z_ldcS (i := 17) hb ho rfl rfl rfl dX1_beginDay_1 ?_
  refine z_bipush (x := nI 32) hb dX1_beginDay_3 (by decide) ?_
  refine z_iconst (x := nI 0) hb dX1_beginDay_5 (by decide) ?_
  refine z_iconst (x := nI 0) hb dX1_beginDay_6 (by decide) ?_
  refine z_call (b' := 0) (f' := 0) (rest := []) (av := [.ref x, .ref ((zm_G M).2.2.1 17), .int (nI 32), .int (nI 0), .int (nI 0)]) (z_siteV hb ho zc0 hO q812 q814 qs7 ⟨_, _, _, _, zk_X1_commit⟩ zy_X1_commit zl_X1_commit dX1_beginDay_7 : z_Site M _ _ _ _ _ ([.ref ((zm_G M).2.2.1 17), .int (nI 32), .int (nI 0), .int (nI 0)].reverse ++ .ref x :: []) [] _) zk_X1_commit q94 hrm (m_X1_commit (kd := 2) hO hx0 hP hPl hL hI hK (by decide) (by decide) (hK.ks 17 (by decide))) (by omega) (by decide) (Nat.le_of_ble_eq_true rfl) (by omega) (by omega) (fun v9 h9 n9 hq9 hn9 => ?_) (fun q9 h9 n9 hq9 hn9 => ?_)
  · have hv9 := z_cm_ret hq9
    subst hv9
    refine z_iret hb hr dX1_beginDay_10 ?_
    rw [hQ]
    exact hq9
  · obtain ⟨ci9, fs9, rr9, hc9, hq8, hq7⟩ := z_cm_thr hq9
    exact z_out ho hH hc9 hq8 hq7 (fun _ h => nomatch h) (by rw [hQ]; exact z_cm_n hq9)

set_option maxHeartbeats 1000000 in
theorem m_X1_addBase {l : Launch} {G : zG} {h : zH} {n : Nat} {x la pa bu li : Nat} {fa : Int32} {de sn : Option Nat} {e dep : Nat} {P : Nat → Nat} {w : Nat → Int32} {v : Nat → Int64} {R S D c9 : Nat} {sg : Nat} {p : Int32} (hO : h x = some (z_Ob la pa bu li fa de sn)) (hx0 : z_n0 G ≤ x) (hP : z_Pd G h pa e dep P) (hPl : ∀ i, i < dep → z_isL h (P i)) (hL : z_LN G h w v R S D la) (hI : z_inv w v R S D c9) (hK : z_KC G h) (hc16 : sg < 65536) : z_C l G yX1_addBase 43 300 6000 [.ref x, .int (nI sg), .int p] h n (z_cm G h n w v R S D 3 (nI sg) p 0 x la pa bu li fa de sn e dep P) := by
  refine z_start zk_X1_addBase zpl_RX1 (Nat.le_of_ble_eq_true rfl) ?_
  intro hn0 M hl hG ho hb hN hr hm hH hrm hQ
  subst hl hG
  have ho : zm_o M = RX1 := ho
  show z_V M h n 300 6000 0 [(0, .ref x), (1, .int (nI sg)), (2, .int p)] []
  refine z_aload_n hb dX1_addBase_0 rfl ?_
  refine z_ldcS (i := 20) hb ho rfl rfl rfl dX1_addBase_1 ?_
  refine z_iload_n hb dX1_addBase_3 rfl ?_
  refine z_iload_n hb dX1_addBase_4 rfl ?_
  refine z_iconst (x := nI 0) hb dX1_addBase_5 (by decide) ?_
  refine z_call (b' := 0) (f' := 0) (rest := []) (av := [.ref x, .ref ((zm_G M).2.2.1 20), .int (nI sg), .int p, .int (nI 0)]) (z_siteV hb ho zc0 hO q812 q814 qs7 ⟨_, _, _, _, zk_X1_commit⟩ zy_X1_commit zl_X1_commit dX1_addBase_6 : z_Site M _ _ _ _ _ ([.ref ((zm_G M).2.2.1 20), .int (nI sg), .int p, .int (nI 0)].reverse ++ .ref x :: []) [] _) zk_X1_commit q94 hrm (m_X1_commit (kd := 3) hO hx0 hP hPl hL hI hK hc16 (by decide) (hK.ks 20 (by decide))) (by omega) (by decide) (Nat.le_of_ble_eq_true rfl) (by omega) (by omega) (fun v9 h9 n9 hq9 hn9 => ?_) (fun q9 h9 n9 hq9 hn9 => ?_)
  · have hv9 := z_cm_ret hq9
    subst hv9
    refine z_iret hb hr dX1_addBase_9 ?_
    rw [hQ]
    exact hq9
  · obtain ⟨ci9, fs9, rr9, hc9, hq8, hq7⟩ := z_cm_thr hq9
    exact z_out ho hH hc9 hq8 hq7 (fun _ h => nomatch h) (by rw [hQ]; exact z_cm_n hq9)

set_option maxHeartbeats 1000000 in
theorem m_X1_addPair {l : Launch} {G : zG} {h : zH} {n : Nat} {x la pa bu li : Nat} {fa : Int32} {de sn : Option Nat} {e dep : Nat} {P : Nat → Nat} {w : Nat → Int32} {v : Nat → Int64} {R S D c9 : Nat} {sg : Nat} {p q : Int32} (hO : h x = some (z_Ob la pa bu li fa de sn)) (hx0 : z_n0 G ≤ x) (hP : z_Pd G h pa e dep P) (hPl : ∀ i, i < dep → z_isL h (P i)) (hL : z_LN G h w v R S D la) (hI : z_inv w v R S D c9) (hK : z_KC G h) (hc16 : sg < 65536) : z_C l G yX1_addPair 43 300 6000 [.ref x, .int (nI sg), .int p, .int q] h n (z_cm G h n w v R S D 4 (nI sg) p q x la pa bu li fa de sn e dep P) := by
  refine z_start zk_X1_addPair zpl_RX1 (Nat.le_of_ble_eq_true rfl) ?_
  intro hn0 M hl hG ho hb hN hr hm hH hrm hQ
  subst hl hG
  have ho : zm_o M = RX1 := ho
  show z_V M h n 300 6000 0 [(0, .ref x), (1, .int (nI sg)), (2, .int p), (3, .int q)] []
  refine z_aload_n hb dX1_addPair_0 rfl ?_
  refine z_ldcS (i := 21) hb ho rfl rfl rfl dX1_addPair_1 ?_
  refine z_iload_n hb dX1_addPair_3 rfl ?_
  refine z_iload_n hb dX1_addPair_4 rfl ?_
  refine z_iload_n hb dX1_addPair_5 rfl ?_
  refine z_call (b' := 0) (f' := 0) (rest := []) (av := [.ref x, .ref ((zm_G M).2.2.1 21), .int (nI sg), .int p, .int q]) (z_siteV hb ho zc0 hO q812 q814 qs7 ⟨_, _, _, _, zk_X1_commit⟩ zy_X1_commit zl_X1_commit dX1_addPair_6 : z_Site M _ _ _ _ _ ([.ref ((zm_G M).2.2.1 21), .int (nI sg), .int p, .int q].reverse ++ .ref x :: []) [] _) zk_X1_commit q94 hrm (m_X1_commit (kd := 4) hO hx0 hP hPl hL hI hK hc16 (by decide) (hK.ks 21 (by decide))) (by omega) (by decide) (Nat.le_of_ble_eq_true rfl) (by omega) (by omega) (fun v9 h9 n9 hq9 hn9 => ?_) (fun q9 h9 n9 hq9 hn9 => ?_)
  · have hv9 := z_cm_ret hq9
    subst hv9
    refine z_iret hb hr dX1_addPair_9 ?_
    rw [hQ]
    exact hq9
  · obtain ⟨ci9, fs9, rr9, hc9, hq8, hq7⟩ := z_cm_thr hq9
    exact z_out ho hH hc9 hq8 hq7 (fun _ h => nomatch h) (by rw [hQ]; exact z_cm_n hq9)

set_option maxHeartbeats 1000000 in
theorem m_X1_addRunning {l : Launch} {G : zG} {h : zH} {n : Nat} {x la pa bu li : Nat} {fa : Int32} {de sn : Option Nat} {e dep : Nat} {P : Nat → Nat} {w : Nat → Int32} {v : Nat → Int64} {R S D c9 : Nat} {p : Int32} (hO : h x = some (z_Ob la pa bu li fa de sn)) (hx0 : z_n0 G ≤ x) (hP : z_Pd G h pa e dep P) (hPl : ∀ i, i < dep → z_isL h (P i)) (hL : z_LN G h w v R S D la) (hI : z_inv w v R S D c9) (hK : z_KC G h) : z_C l G yX1_addRunning 43 300 6000 [.ref x, .int p] h n (z_cm G h n w v R S D 5 p 0 0 x la pa bu li fa de sn e dep P) := by
  refine z_start zk_X1_addRunning zpl_RX1 (Nat.le_of_ble_eq_true rfl) ?_
  intro hn0 M hl hG ho hb hN hr hm hH hrm hQ
  subst hl hG
  have ho : zm_o M = RX1 := ho
  show z_V M h n 300 6000 0 [(0, .ref x), (1, .int p)] []
  refine z_aload_n hb dX1_addRunning_0 rfl ?_
  refine z_ldcS (i := 22) hb ho rfl rfl rfl dX1_addRunning_1 ?_
  refine z_bipush (x := nI 32) hb dX1_addRunning_3 (by decide) ?_
  refine z_iload_n hb dX1_addRunning_5 rfl ?_
  refine z_iconst (x := nI 0) hb dX1_addRunning_6 (by decide) ?_
  refine z_call (b' := 0) (f' := 0) (rest := []) (av := [.ref x, .ref ((zm_G M).2.2.1 22), .int (nI 32), .int p, .int (nI 0)]) (z_siteV hb ho zc0 hO q812 q814 qs7 ⟨_, _, _, _, zk_X1_commit⟩ zy_X1_commit zl_X1_commit dX1_addRunning_7 : z_Site M _ _ _ _ _ ([.ref ((zm_G M).2.2.1 22), .int (nI 32), .int p, .int (nI 0)].reverse ++ .ref x :: []) [] _) zk_X1_commit q94 hrm (m_X1_commit (kd := 5) hO hx0 hP hPl hL hI hK (by decide) (by decide) (hK.ks 22 (by decide))) (by omega) (by decide) (Nat.le_of_ble_eq_true rfl) (by omega) (by omega) (fun v9 h9 n9 hq9 hn9 => ?_) (fun q9 h9 n9 hq9 hn9 => ?_)
  · have hv9 := z_cm_ret hq9
    subst hv9
    refine z_iret hb hr dX1_addRunning_10 ?_
    rw [hQ]
    exact hq9
  · obtain ⟨ci9, fs9, rr9, hc9, hq8, hq7⟩ := z_cm_thr hq9
    exact z_out ho hH hc9 hq8 hq7 (fun _ h => nomatch h) (by rw [hQ]; exact z_cm_n hq9)

set_option maxHeartbeats 1000000 in
theorem m_X1_addBounded {l : Launch} {G : zG} {h : zH} {n : Nat} {x la pa bu li : Nat} {fa : Int32} {de sn : Option Nat} {e dep : Nat} {P : Nat → Nat} {w : Nat → Int32} {v : Nat → Int64} {R S D c9 : Nat} {p q : Int32} (hO : h x = some (z_Ob la pa bu li fa de sn)) (hx0 : z_n0 G ≤ x) (hP : z_Pd G h pa e dep P) (hPl : ∀ i, i < dep → z_isL h (P i)) (hL : z_LN G h w v R S D la) (hI : z_inv w v R S D c9) (hK : z_KC G h) : z_C l G yX1_addBounded 43 300 6000 [.ref x, .int p, .int q] h n (z_cm G h n w v R S D 6 p q 0 x la pa bu li fa de sn e dep P) := by
  refine z_start zk_X1_addBounded zpl_RX1 (Nat.le_of_ble_eq_true rfl) ?_
  intro hn0 M hl hG ho hb hN hr hm hH hrm hQ
  subst hl hG
  have ho : zm_o M = RX1 := ho
  show z_V M h n 300 6000 0 [(0, .ref x), (1, .int p), (2, .int q)] []
  refine z_aload_n hb dX1_addBounded_0 rfl ?_
  refine z_ldcS (i := 23) hb ho rfl rfl rfl dX1_addBounded_1 ?_
  refine z_bipush (x := nI 32) hb dX1_addBounded_3 (by decide) ?_
  refine z_iload_n hb dX1_addBounded_5 rfl ?_
  refine z_iload_n hb dX1_addBounded_6 rfl ?_
  refine z_call (b' := 0) (f' := 0) (rest := []) (av := [.ref x, .ref ((zm_G M).2.2.1 23), .int (nI 32), .int p, .int q]) (z_siteV hb ho zc0 hO q812 q814 qs7 ⟨_, _, _, _, zk_X1_commit⟩ zy_X1_commit zl_X1_commit dX1_addBounded_7 : z_Site M _ _ _ _ _ ([.ref ((zm_G M).2.2.1 23), .int (nI 32), .int p, .int q].reverse ++ .ref x :: []) [] _) zk_X1_commit q94 hrm (m_X1_commit (kd := 6) hO hx0 hP hPl hL hI hK (by decide) (by decide) (hK.ks 23 (by decide))) (by omega) (by decide) (Nat.le_of_ble_eq_true rfl) (by omega) (by omega) (fun v9 h9 n9 hq9 hn9 => ?_) (fun q9 h9 n9 hq9 hn9 => ?_)
  · have hv9 := z_cm_ret hq9
    subst hv9
    refine z_iret hb hr dX1_addBounded_10 ?_
    rw [hQ]
    exact hq9
  · obtain ⟨ci9, fs9, rr9, hc9, hq8, hq7⟩ := z_cm_thr hq9
    exact z_out ho hH hc9 hq8 hq7 (fun _ h => nomatch h) (by rw [hQ]; exact z_cm_n hq9)

set_option maxHeartbeats 1000000 in
theorem m_X1_removeStep {l : Launch} {G : zG} {h : zH} {n : Nat} {x la pa bu li : Nat} {fa : Int32} {de sn : Option Nat} {e dep : Nat} {P : Nat → Nat} {w : Nat → Int32} {v : Nat → Int64} {R S D c9 : Nat} {p : Int32} (hO : h x = some (z_Ob la pa bu li fa de sn)) (hx0 : z_n0 G ≤ x) (hP : z_Pd G h pa e dep P) (hPl : ∀ i, i < dep → z_isL h (P i)) (hL : z_LN G h w v R S D la) (hI : z_inv w v R S D c9) (hK : z_KC G h) : z_C l G yX1_removeStep 43 300 6000 [.ref x, .int p] h n (z_cm G h n w v R S D 7 p 0 0 x la pa bu li fa de sn e dep P) := by
  refine z_start zk_X1_removeStep zpl_RX1 (Nat.le_of_ble_eq_true rfl) ?_
  intro hn0 M hl hG ho hb hN hr hm hH hrm hQ
  subst hl hG
  have ho : zm_o M = RX1 := ho
  show z_V M h n 300 6000 0 [(0, .ref x), (1, .int p)] []
  refine z_aload_n hb dX1_removeStep_0 rfl ?_
  refine z_ldcS (i := 24) hb ho rfl rfl rfl dX1_removeStep_1 ?_
  refine z_bipush (x := nI 32) hb dX1_removeStep_3 (by decide) ?_
  refine z_iload_n hb dX1_removeStep_5 rfl ?_
  refine z_iconst (x := nI 0) hb dX1_removeStep_6 (by decide) ?_
  refine z_call (b' := 0) (f' := 0) (rest := []) (av := [.ref x, .ref ((zm_G M).2.2.1 24), .int (nI 32), .int p, .int (nI 0)]) (z_siteV hb ho zc0 hO q812 q814 qs7 ⟨_, _, _, _, zk_X1_commit⟩ zy_X1_commit zl_X1_commit dX1_removeStep_7 : z_Site M _ _ _ _ _ ([.ref ((zm_G M).2.2.1 24), .int (nI 32), .int p, .int (nI 0)].reverse ++ .ref x :: []) [] _) zk_X1_commit q94 hrm (m_X1_commit (kd := 7) hO hx0 hP hPl hL hI hK (by decide) (by decide) (hK.ks 24 (by decide))) (by omega) (by decide) (Nat.le_of_ble_eq_true rfl) (by omega) (by omega) (fun v9 h9 n9 hq9 hn9 => ?_) (fun q9 h9 n9 hq9 hn9 => ?_)
  · have hv9 := z_cm_ret hq9
    subst hv9
    refine z_iret hb hr dX1_removeStep_10 ?_
    rw [hQ]
    exact hq9
  · obtain ⟨ci9, fs9, rr9, hc9, hq8, hq7⟩ := z_cm_thr hq9
    exact z_out ho hH hc9 hq8 hq7 (fun _ h => nomatch h) (by rw [hQ]; exact z_cm_n hq9)

set_option maxHeartbeats 1000000 in
theorem m_X1_repair {l : Launch} {G : zG} {h : zH} {n : Nat} {x la pa bu li : Nat} {fa : Int32} {de sn : Option Nat} {e dep : Nat} {P : Nat → Nat} {w : Nat → Int32} {v : Nat → Int64} {R S D c9 : Nat} {p : Int32} (hO : h x = some (z_Ob la pa bu li fa de sn)) (hx0 : z_n0 G ≤ x) (hP : z_Pd G h pa e dep P) (hPl : ∀ i, i < dep → z_isL h (P i)) (hL : z_LN G h w v R S D la) (hI : z_inv w v R S D c9) (hK : z_KC G h) : z_C l G yX1_repair 43 300 6000 [.ref x, .int p] h n (z_cm G h n w v R S D 8 p 0 0 x la pa bu li fa de sn e dep P) := by
  refine z_start zk_X1_repair zpl_RX1 (Nat.le_of_ble_eq_true rfl) ?_
  intro hn0 M hl hG ho hb hN hr hm hH hrm hQ
  subst hl hG
  have ho : zm_o M = RX1 := ho
  show z_V M h n 300 6000 0 [(0, .ref x), (1, .int p)] []
  refine z_aload_n hb dX1_repair_0 rfl ?_
  refine z_ldcS (i := 25) hb ho rfl rfl rfl dX1_repair_1 ?_
  refine z_bipush (x := nI 32) hb dX1_repair_3 (by decide) ?_
  refine z_iload_n hb dX1_repair_5 rfl ?_
  refine z_iconst (x := nI 0) hb dX1_repair_6 (by decide) ?_
  refine z_call (b' := 0) (f' := 0) (rest := []) (av := [.ref x, .ref ((zm_G M).2.2.1 25), .int (nI 32), .int p, .int (nI 0)]) (z_siteV hb ho zc0 hO q812 q814 qs7 ⟨_, _, _, _, zk_X1_commit⟩ zy_X1_commit zl_X1_commit dX1_repair_7 : z_Site M _ _ _ _ _ ([.ref ((zm_G M).2.2.1 25), .int (nI 32), .int p, .int (nI 0)].reverse ++ .ref x :: []) [] _) zk_X1_commit q94 hrm (m_X1_commit (kd := 8) hO hx0 hP hPl hL hI hK (by decide) (by decide) (hK.ks 25 (by decide))) (by omega) (by decide) (Nat.le_of_ble_eq_true rfl) (by omega) (by omega) (fun v9 h9 n9 hq9 hn9 => ?_) (fun q9 h9 n9 hq9 hn9 => ?_)
  · have hv9 := z_cm_ret hq9
    subst hv9
    refine z_iret hb hr dX1_repair_10 ?_
    rw [hQ]
    exact hq9
  · obtain ⟨ci9, fs9, rr9, hc9, hq8, hq7⟩ := z_cm_thr hq9
    exact z_out ho hH hc9 hq8 hq7 (fun _ h => nomatch h) (by rw [hQ]; exact z_cm_n hq9)

