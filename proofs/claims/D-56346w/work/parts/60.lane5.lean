set_option maxHeartbeats 1000000 in
theorem m_X2_step_8 {l : Launch} {G : zG} {h : zH} {n : Nat} {t lr ls lv D : Nat} {ad re la rp : Int32}{e N S : Nat} {m9 : Int32} {f : Nat → Option Nat} {sa : Nat → Nat} {k : Nat} {fs9 : List Value} (ht9 : h t = some (.inr (1, [.ref lr, .ref ls, .ref lv, .int (nI D), .int ad, .int re, .int la, .int rp]))) (hO : h ls = some (.inr (20, [.int m9, .ref e, .int (nI S)]))) (hA : h e = some (z_ao G N f)) (hkN : S ≤ N) (hN2 : N ≤ 200) (hS : ∀ j, j < S → f j = some (sa j)) (hkS : k < S) (hS8 : S ≤ 8) (hx : h (sa k) = some (.inr (8, fs9))) : z_C l G yX2_step 7 1 6 [.ref t, .int (nI k)] h n (z_rv (.ref (sa k)) h n) := by
  refine z_start zk_X2_step zpl_RX2 (Nat.le_of_ble_eq_true rfl) ?_
  intro hn0 M hl hG ho hb hN hr hm hH hrm hQ
  subst hl hG
  have ho : zm_o M = RX2 := ho
  show z_V M h n 1 6 0 [(0, .ref t), (1, .int (nI k))] []
  refine z_iload_n hb dX2_step_0 rfl ?_
  refine z_aload_n hb dX2_step_1 rfl ?_
  refine z_get (k := 1) (C := RX2) (T := TX2) (N := 8) hb ho zc1 in_X2 (zf_RX2_18 _) dX2_step_2 ht9 (by decide) rfl ?_
  refine z_call1 (b' := 1) (f' := 6) (rest := [.int (nI k)]) (av := [.ref ls]) (z_siteF hb ho zc20 hO q1183 zx0 q322 q324 q325 q323 q321 zxl0 dX2_step_5 : z_Site M _ _ _ _ _ ([].reverse ++ .ref ls :: [.int (nI k)]) [.int (nI k)] _) zk_J2_size q98 hrm (m_J2_size hO) (by omega) (by decide) (Nat.le_of_ble_eq_true rfl) (by omega) (by omega) ?_
  refine z_callC0 (b' := 0) (f' := 0) (rest := []) (av := [.int (nI k), .int (nI S)]) (z_siteSN hb ho q1509 q1510 q94 ⟨_, _, _, _, zk_X1_requireIndex⟩ zy_X1_requireIndex zl_X1_requireIndex dX2_step_10 : z_Site M _ _ _ _ _ ([.int (nI k), .int (nI S)].reverse ++ []) [] _) zk_X1_requireIndex q94 hrm (m_X1_requireIndex (nI k) S) (by omega) (by decide) (Nat.le_of_ble_eq_true rfl) (by omega) (by omega) (fun c_10 => ?_) (fun c_10 => ?_)
  · refine z_aload_n hb dX2_step_13 rfl ?_
    refine z_get (k := 1) (C := RX2) (T := TX2) (N := 8) hb ho zc1 in_X2 (zf_RX2_18 _) dX2_step_14 ht9 (by decide) rfl ?_
    refine z_iload_n hb dX2_step_17 rfl ?_
    refine z_call1 (b' := 0) (f' := 0) (rest := []) (av := [.ref ls, .int (nI k)]) (z_siteF hb ho zc20 hO q660 zx6 q663 q665 q666 q664 q321 zxl6 dX2_step_18 : z_Site M _ _ _ _ _ ([.int (nI k)].reverse ++ .ref ls :: []) [] _) zk_J2_get q98 hrm (m_J2_get hO hA (by omega) (by omega) hS (by omega)) (by omega) (by decide) (Nat.le_of_ble_eq_true rfl) (by omega) (by omega) ?_
    refine z_cast hb ho zc8 hx q560 (Or.inr q3300) dX2_step_23 ?_
    refine z_aret hb hr (Or.inl ⟨_, rfl⟩) (Or.inr ⟨_, rfl⟩) dX2_step_26 ?_
    rw [hQ]
    exact ⟨rfl, rfl, rfl⟩
  · rw [z_inR hkS (by omega)] at c_10; cases c_10

set_option maxHeartbeats 1000000 in
theorem m_X2_step_9 {l : Launch} {G : zG} {h : zH} {n : Nat} {t lr ls lv D : Nat} {ad re la rp : Int32}{e N S : Nat} {m9 : Int32} {f : Nat → Option Nat} {sa : Nat → Nat} {k : Nat} {fs9 : List Value} (ht9 : h t = some (.inr (1, [.ref lr, .ref ls, .ref lv, .int (nI D), .int ad, .int re, .int la, .int rp]))) (hO : h ls = some (.inr (20, [.int m9, .ref e, .int (nI S)]))) (hA : h e = some (z_ao G N f)) (hkN : S ≤ N) (hN2 : N ≤ 200) (hS : ∀ j, j < S → f j = some (sa j)) (hkS : k < S) (hS8 : S ≤ 8) (hx : h (sa k) = some (.inr (9, fs9))) : z_C l G yX2_step 7 1 6 [.ref t, .int (nI k)] h n (z_rv (.ref (sa k)) h n) := by
  refine z_start zk_X2_step zpl_RX2 (Nat.le_of_ble_eq_true rfl) ?_
  intro hn0 M hl hG ho hb hN hr hm hH hrm hQ
  subst hl hG
  have ho : zm_o M = RX2 := ho
  show z_V M h n 1 6 0 [(0, .ref t), (1, .int (nI k))] []
  refine z_iload_n hb dX2_step_0 rfl ?_
  refine z_aload_n hb dX2_step_1 rfl ?_
  refine z_get (k := 1) (C := RX2) (T := TX2) (N := 8) hb ho zc1 in_X2 (zf_RX2_18 _) dX2_step_2 ht9 (by decide) rfl ?_
  refine z_call1 (b' := 1) (f' := 6) (rest := [.int (nI k)]) (av := [.ref ls]) (z_siteF hb ho zc20 hO q1183 zx0 q322 q324 q325 q323 q321 zxl0 dX2_step_5 : z_Site M _ _ _ _ _ ([].reverse ++ .ref ls :: [.int (nI k)]) [.int (nI k)] _) zk_J2_size q98 hrm (m_J2_size hO) (by omega) (by decide) (Nat.le_of_ble_eq_true rfl) (by omega) (by omega) ?_
  refine z_callC0 (b' := 0) (f' := 0) (rest := []) (av := [.int (nI k), .int (nI S)]) (z_siteSN hb ho q1509 q1510 q94 ⟨_, _, _, _, zk_X1_requireIndex⟩ zy_X1_requireIndex zl_X1_requireIndex dX2_step_10 : z_Site M _ _ _ _ _ ([.int (nI k), .int (nI S)].reverse ++ []) [] _) zk_X1_requireIndex q94 hrm (m_X1_requireIndex (nI k) S) (by omega) (by decide) (Nat.le_of_ble_eq_true rfl) (by omega) (by omega) (fun c_10 => ?_) (fun c_10 => ?_)
  · refine z_aload_n hb dX2_step_13 rfl ?_
    refine z_get (k := 1) (C := RX2) (T := TX2) (N := 8) hb ho zc1 in_X2 (zf_RX2_18 _) dX2_step_14 ht9 (by decide) rfl ?_
    refine z_iload_n hb dX2_step_17 rfl ?_
    refine z_call1 (b' := 0) (f' := 0) (rest := []) (av := [.ref ls, .int (nI k)]) (z_siteF hb ho zc20 hO q660 zx6 q663 q665 q666 q664 q321 zxl6 dX2_step_18 : z_Site M _ _ _ _ _ ([.int (nI k)].reverse ++ .ref ls :: []) [] _) zk_J2_get q98 hrm (m_J2_get hO hA (by omega) (by omega) hS (by omega)) (by omega) (by decide) (Nat.le_of_ble_eq_true rfl) (by omega) (by omega) ?_
    refine z_cast hb ho zc9 hx q560 (Or.inr q3296) dX2_step_23 ?_
    refine z_aret hb hr (Or.inl ⟨_, rfl⟩) (Or.inr ⟨_, rfl⟩) dX2_step_26 ?_
    rw [hQ]
    exact ⟨rfl, rfl, rfl⟩
  · rw [z_inR hkS (by omega)] at c_10; cases c_10

set_option maxHeartbeats 1000000 in
theorem m_X2_step_10 {l : Launch} {G : zG} {h : zH} {n : Nat} {t lr ls lv D : Nat} {ad re la rp : Int32}{e N S : Nat} {m9 : Int32} {f : Nat → Option Nat} {sa : Nat → Nat} {k : Nat} {fs9 : List Value} (ht9 : h t = some (.inr (1, [.ref lr, .ref ls, .ref lv, .int (nI D), .int ad, .int re, .int la, .int rp]))) (hO : h ls = some (.inr (20, [.int m9, .ref e, .int (nI S)]))) (hA : h e = some (z_ao G N f)) (hkN : S ≤ N) (hN2 : N ≤ 200) (hS : ∀ j, j < S → f j = some (sa j)) (hkS : k < S) (hS8 : S ≤ 8) (hx : h (sa k) = some (.inr (10, fs9))) : z_C l G yX2_step 7 1 6 [.ref t, .int (nI k)] h n (z_rv (.ref (sa k)) h n) := by
  refine z_start zk_X2_step zpl_RX2 (Nat.le_of_ble_eq_true rfl) ?_
  intro hn0 M hl hG ho hb hN hr hm hH hrm hQ
  subst hl hG
  have ho : zm_o M = RX2 := ho
  show z_V M h n 1 6 0 [(0, .ref t), (1, .int (nI k))] []
  refine z_iload_n hb dX2_step_0 rfl ?_
  refine z_aload_n hb dX2_step_1 rfl ?_
  refine z_get (k := 1) (C := RX2) (T := TX2) (N := 8) hb ho zc1 in_X2 (zf_RX2_18 _) dX2_step_2 ht9 (by decide) rfl ?_
  refine z_call1 (b' := 1) (f' := 6) (rest := [.int (nI k)]) (av := [.ref ls]) (z_siteF hb ho zc20 hO q1183 zx0 q322 q324 q325 q323 q321 zxl0 dX2_step_5 : z_Site M _ _ _ _ _ ([].reverse ++ .ref ls :: [.int (nI k)]) [.int (nI k)] _) zk_J2_size q98 hrm (m_J2_size hO) (by omega) (by decide) (Nat.le_of_ble_eq_true rfl) (by omega) (by omega) ?_
  refine z_callC0 (b' := 0) (f' := 0) (rest := []) (av := [.int (nI k), .int (nI S)]) (z_siteSN hb ho q1509 q1510 q94 ⟨_, _, _, _, zk_X1_requireIndex⟩ zy_X1_requireIndex zl_X1_requireIndex dX2_step_10 : z_Site M _ _ _ _ _ ([.int (nI k), .int (nI S)].reverse ++ []) [] _) zk_X1_requireIndex q94 hrm (m_X1_requireIndex (nI k) S) (by omega) (by decide) (Nat.le_of_ble_eq_true rfl) (by omega) (by omega) (fun c_10 => ?_) (fun c_10 => ?_)
  · refine z_aload_n hb dX2_step_13 rfl ?_
    refine z_get (k := 1) (C := RX2) (T := TX2) (N := 8) hb ho zc1 in_X2 (zf_RX2_18 _) dX2_step_14 ht9 (by decide) rfl ?_
    refine z_iload_n hb dX2_step_17 rfl ?_
    refine z_call1 (b' := 0) (f' := 0) (rest := []) (av := [.ref ls, .int (nI k)]) (z_siteF hb ho zc20 hO q660 zx6 q663 q665 q666 q664 q321 zxl6 dX2_step_18 : z_Site M _ _ _ _ _ ([.int (nI k)].reverse ++ .ref ls :: []) [] _) zk_J2_get q98 hrm (m_J2_get hO hA (by omega) (by omega) hS (by omega)) (by omega) (by decide) (Nat.le_of_ble_eq_true rfl) (by omega) (by omega) ?_
    refine z_cast hb ho zc10 hx q560 (Or.inr q3297) dX2_step_23 ?_
    refine z_aret hb hr (Or.inl ⟨_, rfl⟩) (Or.inr ⟨_, rfl⟩) dX2_step_26 ?_
    rw [hQ]
    exact ⟨rfl, rfl, rfl⟩
  · rw [z_inR hkS (by omega)] at c_10; cases c_10

set_option maxHeartbeats 1000000 in
theorem m_X2_step_11 {l : Launch} {G : zG} {h : zH} {n : Nat} {t lr ls lv D : Nat} {ad re la rp : Int32}{e N S : Nat} {m9 : Int32} {f : Nat → Option Nat} {sa : Nat → Nat} {k : Nat} {fs9 : List Value} (ht9 : h t = some (.inr (1, [.ref lr, .ref ls, .ref lv, .int (nI D), .int ad, .int re, .int la, .int rp]))) (hO : h ls = some (.inr (20, [.int m9, .ref e, .int (nI S)]))) (hA : h e = some (z_ao G N f)) (hkN : S ≤ N) (hN2 : N ≤ 200) (hS : ∀ j, j < S → f j = some (sa j)) (hkS : k < S) (hS8 : S ≤ 8) (hx : h (sa k) = some (.inr (11, fs9))) : z_C l G yX2_step 7 1 6 [.ref t, .int (nI k)] h n (z_rv (.ref (sa k)) h n) := by
  refine z_start zk_X2_step zpl_RX2 (Nat.le_of_ble_eq_true rfl) ?_
  intro hn0 M hl hG ho hb hN hr hm hH hrm hQ
  subst hl hG
  have ho : zm_o M = RX2 := ho
  show z_V M h n 1 6 0 [(0, .ref t), (1, .int (nI k))] []
  refine z_iload_n hb dX2_step_0 rfl ?_
  refine z_aload_n hb dX2_step_1 rfl ?_
  refine z_get (k := 1) (C := RX2) (T := TX2) (N := 8) hb ho zc1 in_X2 (zf_RX2_18 _) dX2_step_2 ht9 (by decide) rfl ?_
  refine z_call1 (b' := 1) (f' := 6) (rest := [.int (nI k)]) (av := [.ref ls]) (z_siteF hb ho zc20 hO q1183 zx0 q322 q324 q325 q323 q321 zxl0 dX2_step_5 : z_Site M _ _ _ _ _ ([].reverse ++ .ref ls :: [.int (nI k)]) [.int (nI k)] _) zk_J2_size q98 hrm (m_J2_size hO) (by omega) (by decide) (Nat.le_of_ble_eq_true rfl) (by omega) (by omega) ?_
  refine z_callC0 (b' := 0) (f' := 0) (rest := []) (av := [.int (nI k), .int (nI S)]) (z_siteSN hb ho q1509 q1510 q94 ⟨_, _, _, _, zk_X1_requireIndex⟩ zy_X1_requireIndex zl_X1_requireIndex dX2_step_10 : z_Site M _ _ _ _ _ ([.int (nI k), .int (nI S)].reverse ++ []) [] _) zk_X1_requireIndex q94 hrm (m_X1_requireIndex (nI k) S) (by omega) (by decide) (Nat.le_of_ble_eq_true rfl) (by omega) (by omega) (fun c_10 => ?_) (fun c_10 => ?_)
  · refine z_aload_n hb dX2_step_13 rfl ?_
    refine z_get (k := 1) (C := RX2) (T := TX2) (N := 8) hb ho zc1 in_X2 (zf_RX2_18 _) dX2_step_14 ht9 (by decide) rfl ?_
    refine z_iload_n hb dX2_step_17 rfl ?_
    refine z_call1 (b' := 0) (f' := 0) (rest := []) (av := [.ref ls, .int (nI k)]) (z_siteF hb ho zc20 hO q660 zx6 q663 q665 q666 q664 q321 zxl6 dX2_step_18 : z_Site M _ _ _ _ _ ([.int (nI k)].reverse ++ .ref ls :: []) [] _) zk_J2_get q98 hrm (m_J2_get hO hA (by omega) (by omega) hS (by omega)) (by omega) (by decide) (Nat.le_of_ble_eq_true rfl) (by omega) (by omega) ?_
    refine z_cast hb ho zc11 hx q560 (Or.inr q3298) dX2_step_23 ?_
    refine z_aret hb hr (Or.inl ⟨_, rfl⟩) (Or.inr ⟨_, rfl⟩) dX2_step_26 ?_
    rw [hQ]
    exact ⟨rfl, rfl, rfl⟩
  · rw [z_inR hkS (by omega)] at c_10; cases c_10

set_option maxHeartbeats 1000000 in
theorem m_X2_step_12 {l : Launch} {G : zG} {h : zH} {n : Nat} {t lr ls lv D : Nat} {ad re la rp : Int32}{e N S : Nat} {m9 : Int32} {f : Nat → Option Nat} {sa : Nat → Nat} {k : Nat} {fs9 : List Value} (ht9 : h t = some (.inr (1, [.ref lr, .ref ls, .ref lv, .int (nI D), .int ad, .int re, .int la, .int rp]))) (hO : h ls = some (.inr (20, [.int m9, .ref e, .int (nI S)]))) (hA : h e = some (z_ao G N f)) (hkN : S ≤ N) (hN2 : N ≤ 200) (hS : ∀ j, j < S → f j = some (sa j)) (hkS : k < S) (hS8 : S ≤ 8) (hx : h (sa k) = some (.inr (12, fs9))) : z_C l G yX2_step 7 1 6 [.ref t, .int (nI k)] h n (z_rv (.ref (sa k)) h n) := by
  refine z_start zk_X2_step zpl_RX2 (Nat.le_of_ble_eq_true rfl) ?_
  intro hn0 M hl hG ho hb hN hr hm hH hrm hQ
  subst hl hG
  have ho : zm_o M = RX2 := ho
  show z_V M h n 1 6 0 [(0, .ref t), (1, .int (nI k))] []
  refine z_iload_n hb dX2_step_0 rfl ?_
  refine z_aload_n hb dX2_step_1 rfl ?_
  refine z_get (k := 1) (C := RX2) (T := TX2) (N := 8) hb ho zc1 in_X2 (zf_RX2_18 _) dX2_step_2 ht9 (by decide) rfl ?_
  refine z_call1 (b' := 1) (f' := 6) (rest := [.int (nI k)]) (av := [.ref ls]) (z_siteF hb ho zc20 hO q1183 zx0 q322 q324 q325 q323 q321 zxl0 dX2_step_5 : z_Site M _ _ _ _ _ ([].reverse ++ .ref ls :: [.int (nI k)]) [.int (nI k)] _) zk_J2_size q98 hrm (m_J2_size hO) (by omega) (by decide) (Nat.le_of_ble_eq_true rfl) (by omega) (by omega) ?_
  refine z_callC0 (b' := 0) (f' := 0) (rest := []) (av := [.int (nI k), .int (nI S)]) (z_siteSN hb ho q1509 q1510 q94 ⟨_, _, _, _, zk_X1_requireIndex⟩ zy_X1_requireIndex zl_X1_requireIndex dX2_step_10 : z_Site M _ _ _ _ _ ([.int (nI k), .int (nI S)].reverse ++ []) [] _) zk_X1_requireIndex q94 hrm (m_X1_requireIndex (nI k) S) (by omega) (by decide) (Nat.le_of_ble_eq_true rfl) (by omega) (by omega) (fun c_10 => ?_) (fun c_10 => ?_)
  · refine z_aload_n hb dX2_step_13 rfl ?_
    refine z_get (k := 1) (C := RX2) (T := TX2) (N := 8) hb ho zc1 in_X2 (zf_RX2_18 _) dX2_step_14 ht9 (by decide) rfl ?_
    refine z_iload_n hb dX2_step_17 rfl ?_
    refine z_call1 (b' := 0) (f' := 0) (rest := []) (av := [.ref ls, .int (nI k)]) (z_siteF hb ho zc20 hO q660 zx6 q663 q665 q666 q664 q321 zxl6 dX2_step_18 : z_Site M _ _ _ _ _ ([.int (nI k)].reverse ++ .ref ls :: []) [] _) zk_J2_get q98 hrm (m_J2_get hO hA (by omega) (by omega) hS (by omega)) (by omega) (by decide) (Nat.le_of_ble_eq_true rfl) (by omega) (by omega) ?_
    refine z_cast hb ho zc12 hx q560 (Or.inr q3299) dX2_step_23 ?_
    refine z_aret hb hr (Or.inl ⟨_, rfl⟩) (Or.inr ⟨_, rfl⟩) dX2_step_26 ?_
    rw [hQ]
    exact ⟨rfl, rfl, rfl⟩
  · rw [z_inR hkS (by omega)] at c_10; cases c_10

set_option maxHeartbeats 1000000 in
theorem m_X2_step_13 {l : Launch} {G : zG} {h : zH} {n : Nat} {t lr ls lv D : Nat} {ad re la rp : Int32}{e N S : Nat} {m9 : Int32} {f : Nat → Option Nat} {sa : Nat → Nat} {k : Nat} {fs9 : List Value} (ht9 : h t = some (.inr (1, [.ref lr, .ref ls, .ref lv, .int (nI D), .int ad, .int re, .int la, .int rp]))) (hO : h ls = some (.inr (20, [.int m9, .ref e, .int (nI S)]))) (hA : h e = some (z_ao G N f)) (hkN : S ≤ N) (hN2 : N ≤ 200) (hS : ∀ j, j < S → f j = some (sa j)) (hkS : k < S) (hS8 : S ≤ 8) (hx : h (sa k) = some (.inr (13, fs9))) : z_C l G yX2_step 7 1 6 [.ref t, .int (nI k)] h n (z_rv (.ref (sa k)) h n) := by
  refine z_start zk_X2_step zpl_RX2 (Nat.le_of_ble_eq_true rfl) ?_
  intro hn0 M hl hG ho hb hN hr hm hH hrm hQ
  subst hl hG
  have ho : zm_o M = RX2 := ho
  show z_V M h n 1 6 0 [(0, .ref t), (1, .int (nI k))] []
  refine z_iload_n hb dX2_step_0 rfl ?_
  refine z_aload_n hb dX2_step_1 rfl ?_
  refine z_get (k := 1) (C := RX2) (T := TX2) (N := 8) hb ho zc1 in_X2 (zf_RX2_18 _) dX2_step_2 ht9 (by decide) rfl ?_
  refine z_call1 (b' := 1) (f' := 6) (rest := [.int (nI k)]) (av := [.ref ls]) (z_siteF hb ho zc20 hO q1183 zx0 q322 q324 q325 q323 q321 zxl0 dX2_step_5 : z_Site M _ _ _ _ _ ([].reverse ++ .ref ls :: [.int (nI k)]) [.int (nI k)] _) zk_J2_size q98 hrm (m_J2_size hO) (by omega) (by decide) (Nat.le_of_ble_eq_true rfl) (by omega) (by omega) ?_
  refine z_callC0 (b' := 0) (f' := 0) (rest := []) (av := [.int (nI k), .int (nI S)]) (z_siteSN hb ho q1509 q1510 q94 ⟨_, _, _, _, zk_X1_requireIndex⟩ zy_X1_requireIndex zl_X1_requireIndex dX2_step_10 : z_Site M _ _ _ _ _ ([.int (nI k), .int (nI S)].reverse ++ []) [] _) zk_X1_requireIndex q94 hrm (m_X1_requireIndex (nI k) S) (by omega) (by decide) (Nat.le_of_ble_eq_true rfl) (by omega) (by omega) (fun c_10 => ?_) (fun c_10 => ?_)
  · refine z_aload_n hb dX2_step_13 rfl ?_
    refine z_get (k := 1) (C := RX2) (T := TX2) (N := 8) hb ho zc1 in_X2 (zf_RX2_18 _) dX2_step_14 ht9 (by decide) rfl ?_
    refine z_iload_n hb dX2_step_17 rfl ?_
    refine z_call1 (b' := 0) (f' := 0) (rest := []) (av := [.ref ls, .int (nI k)]) (z_siteF hb ho zc20 hO q660 zx6 q663 q665 q666 q664 q321 zxl6 dX2_step_18 : z_Site M _ _ _ _ _ ([.int (nI k)].reverse ++ .ref ls :: []) [] _) zk_J2_get q98 hrm (m_J2_get hO hA (by omega) (by omega) hS (by omega)) (by omega) (by decide) (Nat.le_of_ble_eq_true rfl) (by omega) (by omega) ?_
    refine z_cast hb ho zc13 hx q560 (Or.inr q3295) dX2_step_23 ?_
    refine z_aret hb hr (Or.inl ⟨_, rfl⟩) (Or.inr ⟨_, rfl⟩) dX2_step_26 ?_
    rw [hQ]
    exact ⟨rfl, rfl, rfl⟩
  · rw [z_inR hkS (by omega)] at c_10; cases c_10

set_option maxHeartbeats 1000000 in
theorem m_X2_step_no0 {l : Launch} {G : zG} {h : zH} {n : Nat} {t lr ls lv D : Nat} {ad re la rp : Int32}{e N S : Nat} {m9 : Int32} {f : Nat → Option Nat} {sa : Nat → Nat} {x : Int32} (ht9 : h t = some (.inr (1, [.ref lr, .ref ls, .ref lv, .int (nI D), .int ad, .int re, .int la, .int rp]))) (hO : h ls = some (.inr (20, [.int m9, .ref e, .int (nI S)]))) (hS8 : S ≤ 8) (hx : tw_isS S x = false) : z_C l G yX2_step 7 1 6 [.ref t, .int x] h n (z_thr (z_up h n (.inr (28, []))) (n + 1) n) := by
  refine z_start zk_X2_step zpl_RX2 (Nat.le_of_ble_eq_true rfl) ?_
  intro hn0 M hl hG ho hb hN hr hm hH hrm hQ
  subst hl hG
  have ho : zm_o M = RX2 := ho
  unfold tw_isS at hx
  show z_V M h n 1 6 0 [(0, .ref t), (1, .int x)] []
  refine z_iload_n hb dX2_step_0 rfl ?_
  refine z_aload_n hb dX2_step_1 rfl ?_
  refine z_get (k := 1) (C := RX2) (T := TX2) (N := 8) hb ho zc1 in_X2 (zf_RX2_18 _) dX2_step_2 ht9 (by decide) rfl ?_
  refine z_call1 (b' := 1) (f' := 6) (rest := [.int x]) (av := [.ref ls]) (z_siteF hb ho zc20 hO q1183 zx0 q322 q324 q325 q323 q321 zxl0 dX2_step_5 : z_Site M _ _ _ _ _ ([].reverse ++ .ref ls :: [.int x]) [.int x] _) zk_J2_size q98 hrm (m_J2_size hO) (by omega) (by decide) (Nat.le_of_ble_eq_true rfl) (by omega) (by omega) ?_
  refine z_callC0 (b' := 0) (f' := 0) (rest := []) (av := [.int x, .int (nI S)]) (z_siteSN hb ho q1509 q1510 q94 ⟨_, _, _, _, zk_X1_requireIndex⟩ zy_X1_requireIndex zl_X1_requireIndex dX2_step_10 : z_Site M _ _ _ _ _ ([.int x, .int (nI S)].reverse ++ []) [] _) zk_X1_requireIndex q94 hrm (m_X1_requireIndex x S) (by omega) (by decide) (Nat.le_of_ble_eq_true rfl) (by omega) (by omega) (fun c_10 => ?_) (fun c_10 => ?_)
  · rw [hx] at c_10; cases c_10
  · exact z_out ho hH zc28 z_up_s (by omega) (fun _ h => nomatch h) (by rw [hQ]; exact ⟨rfl, rfl, rfl⟩)

theorem m_X2_step {l : Launch} {G : zG} {h : zH} {n : Nat} {w : Nat → Int32} {v : Nat → Int64} {R S D a lr ls lv : Nat} {ra sa va : Nat → Nat} (hL : z_Ln G h w v R S D a lr ls lv ra sa va) (hS8 : S ≤ 8) {k : Nat} (hk : k < S) : z_C l G yX2_step 7 1 6 [.ref a, .int (nI k)] h n (z_rv (.ref (sa k)) h n) := by
  obtain ⟨h1, h2, ⟨e, N, m9, f, h3, h4, h5, ⟨h6, h6n⟩, h7⟩, h8, h9, hs, hv, hi, hr⟩ := hL
  rcases hs k hk with ⟨-, q⟩ | ⟨-, q⟩ | ⟨-, q⟩ | ⟨-, -, -, q⟩ | ⟨-, -, -, q⟩ | ⟨-, -, -, q⟩ | ⟨-, -, -, q⟩
  · exact m_X2_step_8 h1 h3 h4 h5 h6 h7 hk hS8 q
  · exact m_X2_step_9 h1 h3 h4 h5 h6 h7 hk hS8 q
  · exact m_X2_step_10 h1 h3 h4 h5 h6 h7 hk hS8 q
  · exact m_X2_step_11 h1 h3 h4 h5 h6 h7 hk hS8 q
  · exact m_X2_step_11 h1 h3 h4 h5 h6 h7 hk hS8 q
  · exact m_X2_step_12 h1 h3 h4 h5 h6 h7 hk hS8 q
  · exact m_X2_step_13 h1 h3 h4 h5 h6 h7 hk hS8 q
theorem m_X2_step_no {l : Launch} {G : zG} {h : zH} {n : Nat} {w : Nat → Int32} {v : Nat → Int64} {R S D a lr ls lv : Nat} {ra sa va : Nat → Nat} (hL : z_Ln G h w v R S D a lr ls lv ra sa va) (hS8 : S ≤ 8) {x : Int32} (hx : tw_isS S x = false) : z_C l G yX2_step 7 1 6 [.ref a, .int x] h n (z_thr (z_up h n (.inr (28, []))) (n + 1) n) := by
  obtain ⟨h1, h2, ⟨e, N, m9, f, h3, h4, h5, ⟨h6, h6n⟩, h7⟩, -⟩ := hL
  exact m_X2_step_no0 (N := 0) (f := fun _ => none) (sa := fun _ => 0) h1 h3 hS8 hx

