set_option maxHeartbeats 1000000 in
theorem m_X2_indexOf_8 {l : Launch} {G : zG} {h : zH} {n : Nat} {t lr ls lv D : Nat} {ad re la rp : Int32}{e N S : Nat} {m9 : Int32} {f : Nat → Option Nat} {sa : Nat → Nat} {k : Nat} {fs9 : List Value} (ht9 : h t = some (.inr (1, [.ref lr, .ref ls, .ref lv, .int (nI D), .int ad, .int re, .int la, .int rp]))) (hO : h ls = some (.inr (20, [.int m9, .ref e, .int (nI S)]))) (hA : h e = some (z_ao G N f)) (hkN : S ≤ N) (hN2 : N ≤ 200) (hS : ∀ j, j < S → f j = some (sa j)) (hkS : k < S) (hx : h (sa k) = some (.inr (8, fs9))) (hne : ∀ j, j < k → sa j ≠ sa k) : z_C l G yX2_indexOf 4 0 0 [.ref t, .ref (sa k)] h n (z_rv (.int (nI k)) h n) := by
  refine z_start zk_X2_indexOf zpl_RX2 (Nat.le_of_ble_eq_true rfl) ?_
  intro hn0 M hl hG ho hb hN hr hm hH hrm hQ
  subst hl hG
  have ho : zm_o M = RX2 := ho
  show z_V M h n 0 0 0 [(0, .ref t), (1, .ref (sa k))] []
  refine z_aload_n hb dX2_indexOf_0 rfl ?_
  refine z_get (k := 1) (C := RX2) (T := TX2) (N := 8) hb ho zc1 in_X2 (zf_RX2_18 _) dX2_indexOf_1 ht9 (by decide) rfl ?_
  refine z_aload_n hb dX2_indexOf_4 rfl ?_
  refine z_call1 (b' := 0) (f' := 0) (rest := []) (av := [.ref ls, .ref (sa k)]) (z_siteF hb ho zc20 hO q605 zx5 q608 q610 q611 q609 q321 zxl5 dX2_indexOf_5 : z_Site M _ _ _ _ _ ([.ref (sa k)].reverse ++ .ref ls :: []) [] _) zk_J2_indexOf q98 hrm (m_J2_indexOf_8 hO hA hkN hN2 hS hx hkS rfl hne) (by omega) (by decide) (Nat.le_of_ble_eq_true rfl) (by omega) (by omega) ?_
  refine z_iret hb hr dX2_indexOf_10 ?_
  rw [hQ]
  exact ⟨rfl, rfl, rfl⟩

set_option maxHeartbeats 1000000 in
theorem m_X2_indexOf_9 {l : Launch} {G : zG} {h : zH} {n : Nat} {t lr ls lv D : Nat} {ad re la rp : Int32}{e N S : Nat} {m9 : Int32} {f : Nat → Option Nat} {sa : Nat → Nat} {k : Nat} {fs9 : List Value} (ht9 : h t = some (.inr (1, [.ref lr, .ref ls, .ref lv, .int (nI D), .int ad, .int re, .int la, .int rp]))) (hO : h ls = some (.inr (20, [.int m9, .ref e, .int (nI S)]))) (hA : h e = some (z_ao G N f)) (hkN : S ≤ N) (hN2 : N ≤ 200) (hS : ∀ j, j < S → f j = some (sa j)) (hkS : k < S) (hx : h (sa k) = some (.inr (9, fs9))) (hne : ∀ j, j < k → sa j ≠ sa k) : z_C l G yX2_indexOf 4 0 0 [.ref t, .ref (sa k)] h n (z_rv (.int (nI k)) h n) := by
  refine z_start zk_X2_indexOf zpl_RX2 (Nat.le_of_ble_eq_true rfl) ?_
  intro hn0 M hl hG ho hb hN hr hm hH hrm hQ
  subst hl hG
  have ho : zm_o M = RX2 := ho
  show z_V M h n 0 0 0 [(0, .ref t), (1, .ref (sa k))] []
  refine z_aload_n hb dX2_indexOf_0 rfl ?_
  refine z_get (k := 1) (C := RX2) (T := TX2) (N := 8) hb ho zc1 in_X2 (zf_RX2_18 _) dX2_indexOf_1 ht9 (by decide) rfl ?_
  refine z_aload_n hb dX2_indexOf_4 rfl ?_
  refine z_call1 (b' := 0) (f' := 0) (rest := []) (av := [.ref ls, .ref (sa k)]) (z_siteF hb ho zc20 hO q605 zx5 q608 q610 q611 q609 q321 zxl5 dX2_indexOf_5 : z_Site M _ _ _ _ _ ([.ref (sa k)].reverse ++ .ref ls :: []) [] _) zk_J2_indexOf q98 hrm (m_J2_indexOf_9 hO hA hkN hN2 hS hx hkS rfl hne) (by omega) (by decide) (Nat.le_of_ble_eq_true rfl) (by omega) (by omega) ?_
  refine z_iret hb hr dX2_indexOf_10 ?_
  rw [hQ]
  exact ⟨rfl, rfl, rfl⟩

set_option maxHeartbeats 1000000 in
theorem m_X2_indexOf_10 {l : Launch} {G : zG} {h : zH} {n : Nat} {t lr ls lv D : Nat} {ad re la rp : Int32}{e N S : Nat} {m9 : Int32} {f : Nat → Option Nat} {sa : Nat → Nat} {k : Nat} {fs9 : List Value} (ht9 : h t = some (.inr (1, [.ref lr, .ref ls, .ref lv, .int (nI D), .int ad, .int re, .int la, .int rp]))) (hO : h ls = some (.inr (20, [.int m9, .ref e, .int (nI S)]))) (hA : h e = some (z_ao G N f)) (hkN : S ≤ N) (hN2 : N ≤ 200) (hS : ∀ j, j < S → f j = some (sa j)) (hkS : k < S) (hx : h (sa k) = some (.inr (10, fs9))) (hne : ∀ j, j < k → sa j ≠ sa k) : z_C l G yX2_indexOf 4 0 0 [.ref t, .ref (sa k)] h n (z_rv (.int (nI k)) h n) := by
  refine z_start zk_X2_indexOf zpl_RX2 (Nat.le_of_ble_eq_true rfl) ?_
  intro hn0 M hl hG ho hb hN hr hm hH hrm hQ
  subst hl hG
  have ho : zm_o M = RX2 := ho
  show z_V M h n 0 0 0 [(0, .ref t), (1, .ref (sa k))] []
  refine z_aload_n hb dX2_indexOf_0 rfl ?_
  refine z_get (k := 1) (C := RX2) (T := TX2) (N := 8) hb ho zc1 in_X2 (zf_RX2_18 _) dX2_indexOf_1 ht9 (by decide) rfl ?_
  refine z_aload_n hb dX2_indexOf_4 rfl ?_
  refine z_call1 (b' := 0) (f' := 0) (rest := []) (av := [.ref ls, .ref (sa k)]) (z_siteF hb ho zc20 hO q605 zx5 q608 q610 q611 q609 q321 zxl5 dX2_indexOf_5 : z_Site M _ _ _ _ _ ([.ref (sa k)].reverse ++ .ref ls :: []) [] _) zk_J2_indexOf q98 hrm (m_J2_indexOf_10 hO hA hkN hN2 hS hx hkS rfl hne) (by omega) (by decide) (Nat.le_of_ble_eq_true rfl) (by omega) (by omega) ?_
  refine z_iret hb hr dX2_indexOf_10 ?_
  rw [hQ]
  exact ⟨rfl, rfl, rfl⟩

set_option maxHeartbeats 1000000 in
theorem m_X2_indexOf_11 {l : Launch} {G : zG} {h : zH} {n : Nat} {t lr ls lv D : Nat} {ad re la rp : Int32}{e N S : Nat} {m9 : Int32} {f : Nat → Option Nat} {sa : Nat → Nat} {k : Nat} {fs9 : List Value} (ht9 : h t = some (.inr (1, [.ref lr, .ref ls, .ref lv, .int (nI D), .int ad, .int re, .int la, .int rp]))) (hO : h ls = some (.inr (20, [.int m9, .ref e, .int (nI S)]))) (hA : h e = some (z_ao G N f)) (hkN : S ≤ N) (hN2 : N ≤ 200) (hS : ∀ j, j < S → f j = some (sa j)) (hkS : k < S) (hx : h (sa k) = some (.inr (11, fs9))) (hne : ∀ j, j < k → sa j ≠ sa k) : z_C l G yX2_indexOf 4 0 0 [.ref t, .ref (sa k)] h n (z_rv (.int (nI k)) h n) := by
  refine z_start zk_X2_indexOf zpl_RX2 (Nat.le_of_ble_eq_true rfl) ?_
  intro hn0 M hl hG ho hb hN hr hm hH hrm hQ
  subst hl hG
  have ho : zm_o M = RX2 := ho
  show z_V M h n 0 0 0 [(0, .ref t), (1, .ref (sa k))] []
  refine z_aload_n hb dX2_indexOf_0 rfl ?_
  refine z_get (k := 1) (C := RX2) (T := TX2) (N := 8) hb ho zc1 in_X2 (zf_RX2_18 _) dX2_indexOf_1 ht9 (by decide) rfl ?_
  refine z_aload_n hb dX2_indexOf_4 rfl ?_
  refine z_call1 (b' := 0) (f' := 0) (rest := []) (av := [.ref ls, .ref (sa k)]) (z_siteF hb ho zc20 hO q605 zx5 q608 q610 q611 q609 q321 zxl5 dX2_indexOf_5 : z_Site M _ _ _ _ _ ([.ref (sa k)].reverse ++ .ref ls :: []) [] _) zk_J2_indexOf q98 hrm (m_J2_indexOf_11 hO hA hkN hN2 hS hx hkS rfl hne) (by omega) (by decide) (Nat.le_of_ble_eq_true rfl) (by omega) (by omega) ?_
  refine z_iret hb hr dX2_indexOf_10 ?_
  rw [hQ]
  exact ⟨rfl, rfl, rfl⟩

set_option maxHeartbeats 1000000 in
theorem m_X2_indexOf_12 {l : Launch} {G : zG} {h : zH} {n : Nat} {t lr ls lv D : Nat} {ad re la rp : Int32}{e N S : Nat} {m9 : Int32} {f : Nat → Option Nat} {sa : Nat → Nat} {k : Nat} {fs9 : List Value} (ht9 : h t = some (.inr (1, [.ref lr, .ref ls, .ref lv, .int (nI D), .int ad, .int re, .int la, .int rp]))) (hO : h ls = some (.inr (20, [.int m9, .ref e, .int (nI S)]))) (hA : h e = some (z_ao G N f)) (hkN : S ≤ N) (hN2 : N ≤ 200) (hS : ∀ j, j < S → f j = some (sa j)) (hkS : k < S) (hx : h (sa k) = some (.inr (12, fs9))) (hne : ∀ j, j < k → sa j ≠ sa k) : z_C l G yX2_indexOf 4 0 0 [.ref t, .ref (sa k)] h n (z_rv (.int (nI k)) h n) := by
  refine z_start zk_X2_indexOf zpl_RX2 (Nat.le_of_ble_eq_true rfl) ?_
  intro hn0 M hl hG ho hb hN hr hm hH hrm hQ
  subst hl hG
  have ho : zm_o M = RX2 := ho
  show z_V M h n 0 0 0 [(0, .ref t), (1, .ref (sa k))] []
  refine z_aload_n hb dX2_indexOf_0 rfl ?_
  refine z_get (k := 1) (C := RX2) (T := TX2) (N := 8) hb ho zc1 in_X2 (zf_RX2_18 _) dX2_indexOf_1 ht9 (by decide) rfl ?_
  refine z_aload_n hb dX2_indexOf_4 rfl ?_
  refine z_call1 (b' := 0) (f' := 0) (rest := []) (av := [.ref ls, .ref (sa k)]) (z_siteF hb ho zc20 hO q605 zx5 q608 q610 q611 q609 q321 zxl5 dX2_indexOf_5 : z_Site M _ _ _ _ _ ([.ref (sa k)].reverse ++ .ref ls :: []) [] _) zk_J2_indexOf q98 hrm (m_J2_indexOf_12 hO hA hkN hN2 hS hx hkS rfl hne) (by omega) (by decide) (Nat.le_of_ble_eq_true rfl) (by omega) (by omega) ?_
  refine z_iret hb hr dX2_indexOf_10 ?_
  rw [hQ]
  exact ⟨rfl, rfl, rfl⟩

set_option maxHeartbeats 1000000 in
theorem m_X2_indexOf_13 {l : Launch} {G : zG} {h : zH} {n : Nat} {t lr ls lv D : Nat} {ad re la rp : Int32}{e N S : Nat} {m9 : Int32} {f : Nat → Option Nat} {sa : Nat → Nat} {k : Nat} {fs9 : List Value} (ht9 : h t = some (.inr (1, [.ref lr, .ref ls, .ref lv, .int (nI D), .int ad, .int re, .int la, .int rp]))) (hO : h ls = some (.inr (20, [.int m9, .ref e, .int (nI S)]))) (hA : h e = some (z_ao G N f)) (hkN : S ≤ N) (hN2 : N ≤ 200) (hS : ∀ j, j < S → f j = some (sa j)) (hkS : k < S) (hx : h (sa k) = some (.inr (13, fs9))) (hne : ∀ j, j < k → sa j ≠ sa k) : z_C l G yX2_indexOf 4 0 0 [.ref t, .ref (sa k)] h n (z_rv (.int (nI k)) h n) := by
  refine z_start zk_X2_indexOf zpl_RX2 (Nat.le_of_ble_eq_true rfl) ?_
  intro hn0 M hl hG ho hb hN hr hm hH hrm hQ
  subst hl hG
  have ho : zm_o M = RX2 := ho
  show z_V M h n 0 0 0 [(0, .ref t), (1, .ref (sa k))] []
  refine z_aload_n hb dX2_indexOf_0 rfl ?_
  refine z_get (k := 1) (C := RX2) (T := TX2) (N := 8) hb ho zc1 in_X2 (zf_RX2_18 _) dX2_indexOf_1 ht9 (by decide) rfl ?_
  refine z_aload_n hb dX2_indexOf_4 rfl ?_
  refine z_call1 (b' := 0) (f' := 0) (rest := []) (av := [.ref ls, .ref (sa k)]) (z_siteF hb ho zc20 hO q605 zx5 q608 q610 q611 q609 q321 zxl5 dX2_indexOf_5 : z_Site M _ _ _ _ _ ([.ref (sa k)].reverse ++ .ref ls :: []) [] _) zk_J2_indexOf q98 hrm (m_J2_indexOf_13 hO hA hkN hN2 hS hx hkS rfl hne) (by omega) (by decide) (Nat.le_of_ble_eq_true rfl) (by omega) (by omega) ?_
  refine z_iret hb hr dX2_indexOf_10 ?_
  rw [hQ]
  exact ⟨rfl, rfl, rfl⟩

theorem m_X2_indexOf {l : Launch} {G : zG} {h : zH} {n : Nat} {w : Nat → Int32} {v : Nat → Int64} {R S D a lr ls lv : Nat} {ra sa va : Nat → Nat} (hL : z_Ln G h w v R S D a lr ls lv ra sa va) {k : Nat} (hk : k < S) : z_C l G yX2_indexOf 4 0 0 [.ref a, .ref (sa k)] h n (z_rv (.int (nI k)) h n) := by
  obtain ⟨h1, h2, ⟨e, N, m9, f, h3, h4, h5, ⟨h6, h6n⟩, h7⟩, h8, h9, hs, hv, hi, hr⟩ := hL
  have hne : ∀ j, j < k → sa j ≠ sa k := fun j hj q => absurd (hi j k (by omega) hk q) (by omega)
  rcases hs k hk with ⟨-, q⟩ | ⟨-, q⟩ | ⟨-, q⟩ | ⟨-, -, -, q⟩ | ⟨-, -, -, q⟩ | ⟨-, -, -, q⟩ | ⟨-, -, -, q⟩
  · exact m_X2_indexOf_8 h1 h3 h4 h5 h6 h7 hk q hne
  · exact m_X2_indexOf_9 h1 h3 h4 h5 h6 h7 hk q hne
  · exact m_X2_indexOf_10 h1 h3 h4 h5 h6 h7 hk q hne
  · exact m_X2_indexOf_11 h1 h3 h4 h5 h6 h7 hk q hne
  · exact m_X2_indexOf_11 h1 h3 h4 h5 h6 h7 hk q hne
  · exact m_X2_indexOf_12 h1 h3 h4 h5 h6 h7 hk q hne
  · exact m_X2_indexOf_13 h1 h3 h4 h5 h6 h7 hk q hne

