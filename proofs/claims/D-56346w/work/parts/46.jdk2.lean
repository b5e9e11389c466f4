/-- x is an object of a class that goes into an Object[] -/
def z_obj (h : zH) (x : Nat) : Prop := ∃ (ci : Nat) (fs : List Value) (r : vw_C), h x = some (.inr (ci, fs)) ∧ zCL[ci]? = some r ∧ Cond.castable r.1 "java/lang/Object" ∈ lw_tbl
theorem z_obj.up {h : zH} {x a : Nat} {e : va_E} (h1 : z_obj h x) (hne : x ≠ a) : z_obj (z_up h a e) x := by
  obtain ⟨ci, fs, r, h2, h3, h4⟩ := h1
  exact ⟨ci, fs, r, (z_up_n hne).trans h2, h3, h4⟩
theorem z_up3 {h : zH} {a b : Nat} {e1 e2 e3 : va_E} : z_up (z_up (z_up h a e1) b e2) a e3 = z_up (z_up h b e2) a e3 := by
  funext x
  by_cases h1 : x = a
  · rw [h1, z_up_s, z_up_s]
  · rw [z_up_n h1, z_up_n h1]
    by_cases h2 : x = b
    · rw [h2, z_up_s, z_up_s]
    · rw [z_up_n h2, z_up_n h2, z_up_n h1]

set_option maxHeartbeats 1000000 in
theorem m_J0_init {l : Launch} {G : zG} {h : zH} {n : Nat} {t : Nat}  : z_C l G yJ0_init 1 0 0 [.ref t] h n (z_r0 h n) := by
  refine z_start zk_J0_init zpl_RJ0 (Nat.le_of_ble_eq_true rfl) ?_
  intro hn0 M hl hG ho hb hN hr hm hH hrm hQ
  subst hl hG
  have ho : zm_o M = RJ0 := ho
  show z_V M h n 0 0 0 [(0, .ref t)] []
  refine z_aload_n hb dJ0_init_0 rfl ?_
  refine z_oinit hb ho hrm (by omega) q174 q155 q156 (by decide) dJ0_init_1 ?_
  refine z_vret hb hr dJ0_init_4 ?_
  rw [hQ]
  exact ⟨rfl, rfl, rfl⟩

set_option maxHeartbeats 1000000 in
theorem m_J1_init {l : Launch} {G : zG} {h : zH} {n : Nat} {t : Nat} (ht9 : h t = some (.inr (20, [.int (nI 0), .null, .int (nI 0)]))) (hnt : z_n0 G ≤ t) : z_C l G yJ1_init 2 0 0 [.ref t] h n (z_r0 (z_up h t (.inr (20, [.int (nI 0), .null, .int (nI 0)]))) n) := by
  refine z_start zk_J1_init zpl_RJ1 (Nat.le_of_ble_eq_true rfl) ?_
  intro hn0 M hl hG ho hb hN hr hm hH hrm hQ
  subst hl hG
  have ho : zm_o M = RJ1 := ho
  show z_V M h n 0 0 0 [(0, .ref t)] []
  refine z_aload_n hb dJ1_init_0 rfl ?_
  refine z_call0 (b' := 0) (f' := 0) (rest := []) (av := [.ref t]) (z_siteI hb ho q171 q172 q173 rfl zy_J0_init zl_J0_init dJ1_init_1 : z_Site M _ _ _ _ _ ([].reverse ++ .ref t :: []) [] _) zk_J0_init q96 hrm (m_J0_init) (by omega) (by decide) (Nat.le_of_ble_eq_true rfl) (by omega) (by omega) ?_
  refine z_aload_n hb dJ1_init_4 rfl ?_
  refine z_iconst (x := nI 0) hb dJ1_init_5 (by decide) ?_
  refine z_put (k := 0) (C := RJ2) (T := TJ2) (N := 3) hb ho zc20 in_J2 tyJ2_ok nmJ2 (zf_RJ1_7 _) dJ1_init_6 ht9 hnt (by decide) (Or.inl rfl) rfl rfl rfl (Nat.le_of_ble_eq_true rfl) ?_
  refine z_hn (fun h_1 eh_1 => ?_)
  have eh_1 : h_1 = z_up h t (.inr (20, [.int (nI 0), .null, .int (nI 0)])) := eh_1
  refine z_vret hb hr dJ1_init_9 ?_
  rw [hQ]
  exact ⟨rfl, (by rw [eh_1] <;> simp only [z_up_up]), rfl⟩

set_option maxHeartbeats 1000000 in
theorem m_J2_init {l : Launch} {G : zG} {h : zH} {n : Nat} {t : Nat} (ht9 : h t = some (.inr (20, [.int (nI 0), .null, .int (nI 0)]))) (hnt : z_n0 G ≤ t) : z_C l G yJ2_init 3 0 0 [.ref t] h n (z_r0 (z_up h t (.inr (20, [.int (nI 0), .ref (G.2.2.1 1002), .int (nI 0)]))) n) := by
  refine z_start zk_J2_init zpl_RJ2 (Nat.le_of_ble_eq_true rfl) ?_
  intro hn0 M hl hG ho hb hN hr hm hH hrm hQ
  subst hl hG
  have ho : zm_o M = RJ2 := ho
  show z_V M h n 0 0 0 [(0, .ref t)] []
  refine z_aload_n hb dJ2_init_0 rfl ?_
  refine z_call0 (b' := 0) (f' := 0) (rest := []) (av := [.ref t]) (z_siteI hb ho q168 q169 q170 rfl zy_J1_init zl_J1_init dJ2_init_1 : z_Site M _ _ _ _ _ ([].reverse ++ .ref t :: []) [] _) zk_J1_init q97 hrm (m_J1_init ht9 hnt) (by omega) (by decide) (Nat.le_of_ble_eq_true rfl) (by omega) (by omega) ?_
  refine z_hn (fun h_1 eh_1 => ?_)
  have eh_1 : h_1 = z_up h t (.inr (20, [.int (nI 0), .null, .int (nI 0)])) := eh_1
  refine z_aload_n hb dJ2_init_4 rfl ?_
  refine z_gets (i := 6) hb ho rfl (zf_RJ2_39 _) dJ2_init_5 ?_
  refine z_put (k := 1) (C := RJ2) (T := TJ2) (N := 3) hb ho zc20 in_J2 tyJ2_ok nmJ2 (zf_RJ2_9 _) dJ2_init_8 (z_nxs eh_1) hnt (by decide) (Or.inl rfl) rfl rfl rfl (Nat.le_of_ble_eq_true rfl) ?_
  refine z_hn (fun h_2 eh_2 => ?_)
  have eh_2 : h_2 = z_up h_1 t (.inr (20, [.int (nI 0), .ref ((zm_G M).2.2.1 1002), .int (nI 0)])) := eh_2
  refine z_vret hb hr dJ2_init_11 ?_
  rw [hQ]
  exact ⟨rfl, (by rw [eh_2, eh_1] <;> simp only [z_up_up]), rfl⟩

set_option maxHeartbeats 1000000 in
theorem m_J15_copyOf_2 {l : Launch} {G : zG} {h : zH} {n : Nat} {a N m : Nat} {f : Nat → Option Nat} (hA : h a = some (z_ao G N f)) (ha0 : z_n0 G ≤ a) (han : a < n) (hNm : N ≤ m) (hm2 : m ≤ 200) (hel : ∀ i, i < N → ∀ y, f i = some y → y < n ∧ z_obj h y) : z_C l G yJ15_copyOf_2 1 1 m [.ref a, .int (nI m), .ref (G.2.2.1 1005)] h n (z_rv (.ref n) (z_up h n (z_ao G m (va_cpy f (fun _ => none) 0 0 N))) (n + 1)) := by
  refine z_start zk_J15_copyOf_2 zpl_RJ15 (Nat.le_of_ble_eq_true rfl) ?_
  intro hn0 M hl hG ho hb hN hr hm hH hrm hQ
  subst hl hG
  have ho : zm_o M = RJ15 := ho
  show z_V M h n 1 m 0 [(0, .ref a), (1, .int (nI m)), (2, .ref ((zm_G M).2.2.1 1005))] []
  refine z_aload_n hb dJ15_copyOf_2_0 rfl ?_
  refine z_ldcM hb ho q550 dJ15_copyOf_2_1 ?_
  refine z_acmp_ne (rx := some ((zm_G M).2.2.1 1005)) (ry := some ((zm_G M).2.2.1 1005)) (tgt := 13) hb dJ15_copyOf_2_3 (by decide) (fun c_3 => ?_) (fun c_3 => ?_)
  · exact absurd rfl c_3
  · refine z_iload_n hb dJ15_copyOf_2_6 rfl ?_
    refine z_anew (N := m) (b' := 0) (f' := m - m) hb ho q551 dJ15_copyOf_2_7 rfl (by omega) (by omega) (by omega) ?_
    refine z_hn (fun h_1 eh_1 => ?_)
    have eh_1 : h_1 = z_up h n (.inl ((zm_G M).2.1 5, m, .inr (.inr (.inr (.inr (fun _ => none)))))) := eh_1
    have k_2 : h_1 a = some (.inl ((zm_G M).2.1 5, N, .inr (.inr (.inr (.inr f))))) := z_nx eh_1 (Nat.ne_of_lt han) hA
    refine z_goto (tgt := 24) hb dJ15_copyOf_2_10 (by decide) ?_
    refine z_astore_n (lv' := [(3, .ref n), (0, .ref a), (1, .int (nI m)), (2, .ref ((zm_G M).2.2.1 1005))]) hb dJ15_copyOf_2_24 (by rw [hN]; decide) rfl ?_
    refine z_aload_n hb dJ15_copyOf_2_25 rfl ?_
    refine z_iconst (x := nI 0) hb dJ15_copyOf_2_26 (by decide) ?_
    refine z_aload_n hb dJ15_copyOf_2_27 rfl ?_
    refine z_iconst (x := nI 0) hb dJ15_copyOf_2_28 (by decide) ?_
    refine z_aload_n hb dJ15_copyOf_2_29 rfl ?_
    refine z_alen (kk := 5) hb rfl dJ15_copyOf_2_30 k_2 ?_
    refine z_iload_n hb dJ15_copyOf_2_31 rfl ?_
    refine z_mmin hb ho hrm (by omega) q552 q553 q111 q554 dJ15_copyOf_2_32 (Nat.le_of_ble_eq_true rfl) ?_
    refine z_toI (y := nI N) (if_neg (nI_nlt hNm (by omega))) ?_
    refine z_copyo hb ho hrm (by omega) q555 q557 q556 q113 dJ15_copyOf_2_35 k_2 (z_nxs eh_1) (by omega) rfl rfl rfl (by omega) (by omega) (by omega) (by omega) (fun i hi y hy => by rw [Nat.zero_add] at hy; rw [eh_1]; exact (hel i hi y hy).2.up (Nat.ne_of_lt (hel i hi y hy).1)) (Nat.le_of_ble_eq_true rfl) ?_
    refine z_hn (fun h_3 eh_3 => ?_)
    have eh_3 : h_3 = z_up h_1 n (.inl ((zm_G M).2.1 5, m, .inr (.inr (.inr (.inr (va_cpy f (fun _ => none) 0 0 N)))))) := eh_3
    refine z_aload_n hb dJ15_copyOf_2_38 rfl ?_
    refine z_aret hb hr (Or.inr ⟨_, rfl⟩) (Or.inr ⟨_, rfl⟩) dJ15_copyOf_2_39 ?_
    rw [hQ]
    exact ⟨rfl, (by rw [eh_3, eh_1] <;> simp only [z_up_up]), rfl⟩

set_option maxHeartbeats 1000000 in
theorem m_J15_copyOf {l : Launch} {G : zG} {h : zH} {n : Nat} {a N m : Nat} {f : Nat → Option Nat} (hA : h a = some (z_ao G N f)) (ha0 : z_n0 G ≤ a) (han : a < n) (hNm : N ≤ m) (hm2 : m ≤ 200) (hel : ∀ i, i < N → ∀ y, f i = some y → y < n ∧ z_obj h y) : z_C l G yJ15_copyOf 2 1 m [.ref a, .int (nI m)] h n (z_rv (.ref n) (z_up h n (z_ao G m (va_cpy f (fun _ => none) 0 0 N))) (n + 1)) := by
  refine z_start zk_J15_copyOf zpl_RJ15 (Nat.le_of_ble_eq_true rfl) ?_
  intro hn0 M hl hG ho hb hN hr hm hH hrm hQ
  subst hl hG
  have ho : zm_o M = RJ15 := ho
  show z_V M h n 1 m 0 [(0, .ref a), (1, .int (nI m))] []
  refine z_aload_n hb dJ15_copyOf_0 rfl ?_
  refine z_iload_n hb dJ15_copyOf_1 rfl ?_
  refine z_aload_n hb dJ15_copyOf_2 rfl ?_
  refine z_getC hb ho hrm (by omega) q508 q3339 q3338 q509 q546 dJ15_copyOf_3 hA ha0 (Nat.le_of_ble_eq_true rfl) ?_
  refine z_call1 (b' := 0) (f' := m - m) (rest := []) (av := [.ref a, .int (nI m), .ref ((zm_G M).2.2.1 1005)]) (z_siteS hb ho q547 q548 q112 ⟨_, _, _, _, zk_J15_copyOf_2⟩ zy_J15_copyOf_2 zl_J15_copyOf_2 dJ15_copyOf_6 : z_Site M _ _ _ _ _ ([.ref a, .int (nI m), .ref ((zm_G M).2.2.1 1005)].reverse ++ []) [] _) zk_J15_copyOf_2 q112 hrm (m_J15_copyOf_2 hA ha0 han hNm hm2 hel) (by omega) (by decide) (Nat.le_of_ble_eq_true rfl) (by omega) (by omega) ?_
  refine z_aret hb hr (Or.inr ⟨_, rfl⟩) (Or.inr ⟨_, rfl⟩) dJ15_copyOf_9 ?_
  rw [hQ]
  exact ⟨rfl, rfl, rfl⟩

