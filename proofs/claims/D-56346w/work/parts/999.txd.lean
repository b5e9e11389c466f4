/-- the bytes f of N hold the chars cs -/
def z_ct (cd N : Nat) (f : Nat → Int32) (cs : List Nat) : Prop := (cd = 0 ∧ cs.length ≤ N ∧ ∀ j, j < cs.length → cs.getD j 0 < 256 ∧ f j = z_bt (cs.getD j 0)) ∨ (cd = 1 ∧ N % 2 = 0 ∧ 2 * cs.length ≤ N ∧ ∀ j, j < cs.length → cs.getD j 0 < 65536 ∧ f (2 * j) = z_bt (cs.getD j 0) ∧ f (2 * j + 1) = z_bt (cs.getD j 0 / 256))
/-- the StringBuilder b with array e and coder cd holds the chars cs -/
def z_BF (G : zG) (h : zH) (b e cd : Nat) (cs : List Nat) : Prop := ∃ (N : Nat) (f : Nat → Int32) (ml : Bool), h b = some (z_sb e cd ml cs.length) ∧ h e = some (z_ab G N f) ∧ z_n0 G ≤ b ∧ z_n0 G ≤ e ∧ 16 ≤ N ∧ N ≤ 300 * (cd + 1) ∧ z_fB f N ∧ z_ct cd N f cs
theorem z_fBup {f : Nat → Int32} {N k c : Nat} (h : z_fB f N) (hc : c < 65536) : z_fB (va_up f k (z_bt c)) N := fun j hj => by
  unfold va_up
  by_cases q : j = k
  · rw [if_pos q]; exact z_bt_fit hc
  · rw [if_neg q]; exact h j hj
theorem z_len1 {cs : List Nat} {c : Nat} : (cs ++ [c]).length = cs.length + 1 := by simp
theorem z_get1 {cs : List Nat} {c j : Nat} (h : j < cs.length) : (cs ++ [c]).getD j 0 = cs.getD j 0 := by
  rw [List.getD_eq_getElem?_getD, List.getD_eq_getElem?_getD, List.getElem?_append_left h]
theorem z_get2 {cs : List Nat} {c : Nat} : (cs ++ [c]).getD cs.length 0 = c := by
  rw [List.getD_eq_getElem?_getD, List.getElem?_append_right (Nat.le_refl _), Nat.sub_self]; rfl
theorem z_BF_p0 {G : zG} {h : zH} {b e N c : Nat} {ml : Bool} {f f1 : Nat → Int32} {cs : List Nat} (q1 : h b = some (z_sb e 0 ml (cs.length + 1))) (q2 : h e = some (z_ab G N (va_up f1 cs.length (z_bt c)))) (hb : z_n0 G ≤ b) (he : z_n0 G ≤ e) (h16 : 16 ≤ N) (h3 : N ≤ 300) (hfb : z_fB f1 N) (hc : c < 256) (hk : cs.length + 1 ≤ N) (hf : ∀ j, j < cs.length → cs.getD j 0 < 256 ∧ f j = z_bt (cs.getD j 0)) (hff : ∀ j, j < cs.length → f1 j = f j) : z_BF G h b e 0 (cs ++ [c]) := by
  refine ⟨N, _, ml, by rw [z_len1]; exact q1, q2, hb, he, h16, by omega, z_fBup hfb (by omega), Or.inl ⟨rfl, by rw [z_len1]; exact hk, fun j hj => ?_⟩⟩
  rw [z_len1] at hj
  by_cases z : j < cs.length
  · rw [z_get1 z]
    refine ⟨(hf j z).1, ?_⟩
    unfold va_up
    rw [if_neg (by omega), hff j z]; exact (hf j z).2
  · rw [show j = cs.length by omega, z_get2]
    exact ⟨hc, if_pos rfl⟩
theorem z_BF_p1 {G : zG} {h : zH} {b e N c : Nat} {ml : Bool} {f1 : Nat → Int32} {cs : List Nat} (q1 : h b = some (z_sb e 1 ml (cs.length + 1))) (q2 : h e = some (z_ab G N (va_up (va_up f1 (2 * cs.length) (z_bt c)) (2 * cs.length + 1) (z_bt (c / 256))))) (hb : z_n0 G ≤ b) (he : z_n0 G ≤ e) (h16 : 16 ≤ N) (h3 : N ≤ 600) (hev : N % 2 = 0) (hfb : z_fB f1 N) (hc : c < 65536) (hk : 2 * (cs.length + 1) ≤ N) (hf : ∀ j, j < cs.length → cs.getD j 0 < 65536 ∧ f1 (2 * j) = z_bt (cs.getD j 0) ∧ f1 (2 * j + 1) = z_bt (cs.getD j 0 / 256)) : z_BF G h b e 1 (cs ++ [c]) := by
  refine ⟨N, _, ml, by rw [z_len1]; exact q1, q2, hb, he, h16, by omega, z_fBup (z_fBup hfb hc) (by omega), Or.inr ⟨rfl, hev, by rw [z_len1]; exact hk, fun j hj => ?_⟩⟩
  rw [z_len1] at hj
  by_cases z : j < cs.length
  · rw [z_get1 z]
    refine ⟨(hf j z).1, ?_, ?_⟩
    · unfold va_up
      rw [if_neg (by omega), if_neg (by omega)]; exact (hf j z).2.1
    · unfold va_up
      rw [if_neg (by omega), if_neg (by omega)]; exact (hf j z).2.2
  · rw [show j = cs.length by omega, z_get2]
    refine ⟨hc, ?_, if_pos rfl⟩
    unfold va_up
    rw [if_neg (by omega), if_pos rfl]
theorem z_frA {h h1 h2 h3 : zH} {n b e e2 : Nat} {c1 c2 : va_E} (d : z_dm h n) (f : z_fr (fun y => y = b) h h1) (q2 : h2 = z_up h1 b c1) (q3 : h3 = z_up h2 e2 c2) (he : e2 = e ∨ n ≤ e2) : z_fr (fun y => y = b ∨ y = e) h h3 := fun y c q l => by
  have := d y c q
  rw [q3, z_up_n (fun z => by rcases he with w | w <;> first | exact l (Or.inr (z.trans w)) | omega), q2, z_up_n (fun z => l (Or.inl z))]
  exact f y c q (fun z => l (Or.inl z))
theorem z_frB {h h1 h2 h3 h4 : zH} {n n1 b e : Nat} {c1 c2 : va_E} (d : z_dm h n) (hn : n ≤ n1) (f : z_fr (fun y => y = b) h h1) (f2 : z_fr (fun y => y = b) h1 h2) (q2 : h3 = z_up h2 b c1) (q3 : h4 = z_up h3 n1 c2) : z_fr (fun y => y = b ∨ y = e) h h4 := fun y c q l => by
  have := d y c q
  rw [q3, z_up_n (by omega), q2, z_up_n (fun z => l (Or.inl z))]
  exact f2 y c (f y c q (fun z => l (Or.inl z))) (fun z => l (Or.inl z))

theorem z_inf_s {cs : List Nat} {i : Nat} {g : Nat → Int32} (h : ∀ j, j < i → g (2 * j) = z_bt (cs.getD j 0) ∧ g (2 * j + 1) = z_bt (cs.getD j 0 / 256)) : ∀ j, j < i + 1 → va_up (va_up g (2 * i) (z_bt (cs.getD i 0))) (2 * i + 1) (z_bt (cs.getD i 0 / 256)) (2 * j) = z_bt (cs.getD j 0) ∧ va_up (va_up g (2 * i) (z_bt (cs.getD i 0))) (2 * i + 1) (z_bt (cs.getD i 0 / 256)) (2 * j + 1) = z_bt (cs.getD j 0 / 256) := by
  intro j hj
  by_cases z : j = i
  · subst z
    constructor
    · unfold va_up
      rw [if_neg (by omega), if_pos rfl]
    · exact if_pos rfl
  · have := h j (by omega)
    constructor
    · unfold va_up
      rw [if_neg (by omega), if_neg (by omega)]; exact this.1
    · unfold va_up
      rw [if_neg (by omega), if_neg (by omega)]; exact this.2

set_option maxHeartbeats 1000000 in
theorem m_J7_inflate {l : Launch} {G : zG} {h : zH} {n : Nat} {e d N m k : Nat} {f g0 : Nat → Int32} {cs : List Nat} (hA : h e = some (z_ab G N f)) (hD : h d = some (z_ab G m g0)) (hd0 : z_n0 G ≤ d) (hed : e ≠ d) (hkN : k ≤ N) (hN9 : N < 1000) (hkm : k ≤ m / 2) (hm9 : m < 1000) (hg0 : z_fB g0 m) (hf : ∀ j, j < k → cs.getD j 0 < 256 ∧ f j = z_bt (cs.getD j 0)) : z_C l G yJ7_inflate 4 0 0 [.ref e, .int (nI 0), .ref d, .int (nI 0), .int (nI k)] h n (z_q0 (fun h9 n9 => n9 = n ∧ ∃ g, h9 = z_up h d (z_ab G m g) ∧ z_fB g m ∧ ∀ j, j < k → g (2 * j) = z_bt (cs.getD j 0) ∧ g (2 * j + 1) = z_bt (cs.getD j 0 / 256))) := by
  refine z_start zk_J7_inflate zpl_RJ7 (Nat.le_of_ble_eq_true rfl) ?_
  intro hn0 M hl hG ho hb hN hr hm hH hrm hQ
  subst hl hG
  have ho : zm_o M = RJ7 := ho
  show z_V M h n 0 0 0 [(0, .ref e), (1, .int (nI 0)), (2, .ref d), (3, .int (nI 0)), (4, .int (nI k))] []
  refine z_iload_n hb dJ7_inflate_0 rfl ?_
  refine z_iload hb dJ7_inflate_1 rfl ?_
  refine z_aload_n hb dJ7_inflate_3 rfl ?_
  refine z_call0 (b' := 0) (f' := 0) (rest := []) (av := [.int (nI 0), .int (nI k), .ref d]) (z_siteS hb ho q992 q993 q103 ⟨_, _, _, _, zk_J7_checkBoundsOffCount⟩ zy_J7_checkBoundsOffCount zl_J7_checkBoundsOffCount dJ7_inflate_4 : z_Site M _ _ _ _ _ ([.int (nI 0), .int (nI k), .ref d].reverse ++ []) [] _) zk_J7_checkBoundsOffCount q103 hrm (m_J7_checkBoundsOffCount hD hm9 (by omega)) (by omega) (by decide) (Nat.le_of_ble_eq_true rfl) (by omega) (by omega) ?_
  refine z_iconst (x := nI 0) hb dJ7_inflate_7 (by decide) ?_
  refine z_istore (lv' := [(5, .int (nI 0)), (0, .ref e), (1, .int (nI 0)), (2, .ref d), (3, .int (nI 0)), (4, .int (nI k))]) hb dJ7_inflate_8 (by rw [hN]; decide) rfl ?_
  have lp_10 : ∀ (k9_10 : Nat) (i : Nat) (g : Nat → Int32), k + 1 - i < k9_10 → (i ≤ k) → (z_fB g m) → (∀ j, j < i → g (2 * j) = z_bt (cs.getD j 0) ∧ g (2 * j + 1) = z_bt (cs.getD j 0 / 256)) → z_V M (z_up h d (z_ab (zm_G M) m g)) n 0 0 10 [(5, .int (nI i)), (0, .ref e), (1, .int (nI i)), (2, .ref d), (3, .int (nI i)), (4, .int (nI k))] [] := by
    intro k9_10
    induction k9_10 with
    | zero => intro i g hk9_10; exact absurd hk9_10 (Nat.not_lt_zero _)
    | succ k9_10 ih_10 =>
      intro i g hk9_10 hi hg hgd
      refine z_iload hb dJ7_inflate_10 rfl ?_
      refine z_iload hb dJ7_inflate_12 rfl ?_
      refine z_icmp_geN (tgt := 41) hb dJ7_inflate_14 (by decide) (by omega) (by omega) (fun c_14 => ?_) (fun c_14 => ?_)
      · refine z_vret hb hr dJ7_inflate_41 ?_
        rw [hQ]
        exact ⟨rfl, rfl, g, rfl, hg, fun j hj => hgd j (by omega)⟩
      · have hci := hf i (by omega)
        refine z_aload_n hb dJ7_inflate_17 rfl ?_
        refine z_iload_n hb dJ7_inflate_18 rfl ?_
        refine z_iinc (k0 := 4) (lv' := [(3, .int (nI (i + 1))), (5, .int (nI i)), (0, .ref e), (1, .int (nI i)), (2, .ref d), (4, .int (nI k))]) hb dJ7_inflate_19 rfl (nI_1 i) (by rw [hN]; decide) rfl ?_
        refine z_aload_n hb dJ7_inflate_22 rfl ?_
        refine z_iload_n hb dJ7_inflate_23 rfl ?_
        refine z_iinc (k0 := 3) (lv' := [(1, .int (nI (i + 1))), (3, .int (nI (i + 1))), (5, .int (nI i)), (0, .ref e), (2, .ref d), (4, .int (nI k))]) hb dJ7_inflate_24 rfl (nI_1 i) (by rw [hN]; decide) rfl ?_
        refine z_bald (j := i) hb dJ7_inflate_27 (z_nx rfl hed hA) rfl (by omega) (by omega) ?_
        refine z_toI (y := z_bt (cs.getD i 0)) hci.2 ?_
        refine z_sipush (x := nI 255) hb dJ7_inflate_28 (by decide) ?_
        refine z_iand hb dJ7_inflate_31 ?_
        refine z_toI (y := nI (cs.getD i 0)) ((z_bt_and (by omega)).trans (congrArg nI (Nat.mod_eq_of_lt hci.1))) ?_
        refine z_call0 (b' := 0) (f' := 0) (rest := []) (av := [.ref d, .int (nI i), .int (nI (cs.getD i 0))]) (z_siteS hb ho q962 q963 q103 ⟨_, _, _, _, zk_J7_putChar⟩ zy_J7_putChar zl_J7_putChar dJ7_inflate_32 : z_Site M _ _ _ _ _ ([.ref d, .int (nI i), .int (nI (cs.getD i 0))].reverse ++ []) [] _) zk_J7_putChar q103 hrm (m_J7_putChar z_up_s hm9 (by omega) (by omega) hd0) (by omega) (by decide) (Nat.le_of_ble_eq_true rfl) (by omega) (by omega) ?_
        refine z_hh (h2 := z_up h d (.inl ((zm_G M).2.1 3, m, .inl (va_up (va_up g (2 * i) (z_bt (cs.getD i 0))) (2 * i + 1) (z_bt (cs.getD i 0 / 256)))))) (by rw [z_up_up]) ?_
        refine z_iinc (k0 := 2) (lv' := [(5, .int (nI (i + 1))), (1, .int (nI (i + 1))), (3, .int (nI (i + 1))), (0, .ref e), (2, .ref d), (4, .int (nI k))]) hb dJ7_inflate_35 rfl (nI_1 i) (by rw [hN]; decide) rfl ?_
        refine z_goto (tgt := 10) hb dJ7_inflate_38 (by decide) ?_
        refine z_lv [0, 3, 1, 4, 2, 5] (lv' := [(5, .int (nI (i + 1))), (0, .ref e), (1, .int (nI (i + 1))), (2, .ref d), (3, .int (nI (i + 1))), (4, .int (nI k))]) rfl ?_
        exact ih_10 (i + 1) _ (by omega) (by omega) (z_fBup (z_fBup hg (by omega)) (by omega)) (z_inf_s hgd)
  refine z_lv [0, 1, 2, 3, 4, 5] (lv' := [(5, .int (nI 0)), (0, .ref e), (1, .int (nI 0)), (2, .ref d), (3, .int (nI 0)), (4, .int (nI k))]) rfl ?_
  refine z_hh (h2 := z_up h d (z_ab (zm_G M) m g0)) (by rw [z_up_id hD]) ?_
  exact lp_10 _ 0 g0 (Nat.lt_succ_self _) (Nat.zero_le _) hg0 (fun j hj => absurd hj (Nat.not_lt_zero _))

set_option maxHeartbeats 1000000 in
theorem m_J16_inflate {l : Launch} {G : zG} {h : zH} {n : Nat} {e d N m k : Nat} {f g0 : Nat → Int32} {cs : List Nat} (hA : h e = some (z_ab G N f)) (hD : h d = some (z_ab G m g0)) (hd0 : z_n0 G ≤ d) (hed : e ≠ d) (hkN : k ≤ N) (hN9 : N < 1000) (hkm : k ≤ m / 2) (hm9 : m < 1000) (hg0 : z_fB g0 m) (hf : ∀ j, j < k → cs.getD j 0 < 256 ∧ f j = z_bt (cs.getD j 0)) : z_C l G yJ16_inflate 5 0 0 [.ref e, .int (nI 0), .ref d, .int (nI 0), .int (nI k)] h n (z_q0 (fun h9 n9 => n9 = n ∧ ∃ g, h9 = z_up h d (z_ab G m g) ∧ z_fB g m ∧ ∀ j, j < k → g (2 * j) = z_bt (cs.getD j 0) ∧ g (2 * j + 1) = z_bt (cs.getD j 0 / 256))) := by
  refine z_start zk_J16_inflate zpl_RJ16 (Nat.le_of_ble_eq_true rfl) ?_
  intro hn0 M hl hG ho hb hN hr hm hH hrm hQ
  subst hl hG
  have ho : zm_o M = RJ16 := ho
  show z_V M h n 0 0 0 [(0, .ref e), (1, .int (nI 0)), (2, .ref d), (3, .int (nI 0)), (4, .int (nI k))] []
  refine z_aload_n hb dJ16_inflate_0 rfl ?_
  refine z_iload_n hb dJ16_inflate_1 rfl ?_
  refine z_aload_n hb dJ16_inflate_2 rfl ?_
  refine z_iload_n hb dJ16_inflate_3 rfl ?_
  refine z_iload hb dJ16_inflate_4 rfl ?_
  refine z_callQ0 (b' := 0) (f' := 0) (rest := []) (av := [.ref e, .int (nI 0), .ref d, .int (nI 0), .int (nI k)]) (z_siteS hb ho q989 q990 q103 ⟨_, _, _, _, zk_J7_inflate⟩ zy_J7_inflate zl_J7_inflate dJ16_inflate_6 : z_Site M _ _ _ _ _ ([.ref e, .int (nI 0), .ref d, .int (nI 0), .int (nI k)].reverse ++ []) [] _) zk_J7_inflate q103 hrm (m_J7_inflate hA hD hd0 hed hkN hN9 hkm hm9 hg0 hf) (by omega) (by decide) (Nat.le_of_ble_eq_true rfl) (by omega) (by omega) (fun h6 n6 hq6 hn6 => ?_)
  obtain ⟨rfl, g, rfl, hg, hgd⟩ := hq6
  refine z_vret hb hr dJ16_inflate_9 ?_
  rw [hQ]
  exact ⟨rfl, rfl, g, rfl, hg, hgd⟩

set_option maxHeartbeats 1000000 in
theorem m_J4_inflate {l : Launch} {G : zG} {h : zH} {n : Nat} {b e N : Nat} {ml : Bool} {f : Nat → Int32} {cs : List Nat} (hB : h b = some (z_sb e 0 ml cs.length)) (hA : h e = some (z_ab G N f)) (hb9 : z_n0 G ≤ b) (hN9 : N < 400) (hkN : cs.length ≤ N) (hf : ∀ j, j < cs.length → cs.getD j 0 < 256 ∧ f j = z_bt (cs.getD j 0)) : z_C l G yJ4_inflate 6 1 (2 * N) [.ref b] h n (z_q0 (fun h9 n9 => n9 = n + 1 ∧ ∃ g, h9 b = some (z_sb n 1 ml cs.length) ∧ h9 n = some (z_ab G (2 * N) g) ∧ z_fB g (2 * N) ∧ (∀ j, j < cs.length → g (2 * j) = z_bt (cs.getD j 0) ∧ g (2 * j + 1) = z_bt (cs.getD j 0 / 256)) ∧ z_fr (fun y => y = b) h h9)) := by
  refine z_start zk_J4_inflate zpl_RJ4 (Nat.le_of_ble_eq_true rfl) ?_
  intro hn0 M hl hG ho hb hN hr hm hH hrm hQ
  subst hl hG
  have ho : zm_o M = RJ4 := ho
  refine z_dom (fun hdm => ?_)
  have hbn := hdm _ _ hB
  have hen := hdm _ _ hA
  show z_V M h n 1 (2 * N) 0 [(0, .ref b)] []
  refine z_aload_n hb dJ4_inflate_0 rfl ?_
  refine z_call1 (b' := 1) (f' := 2 * N) (rest := []) (av := [.ref b]) (z_siteV hb ho zc22 hB q943 q944 q946 ⟨_, _, _, _, zk_J4_isLatin1⟩ zy_J4_isLatin1 zl_J4_isLatin1 dJ4_inflate_1 : z_Site M _ _ _ _ _ ([].reverse ++ .ref b :: []) [] _) zk_J4_isLatin1 q100 hrm (m_J4_isLatin1_0 hB) (by omega) (by decide) (Nat.le_of_ble_eq_true rfl) (by omega) (by omega) ?_
  refine z_if_neN (tgt := 8) hb dJ4_inflate_4 (by decide) (by omega) (fun c_4 => ?_) (fun c_4 => ?_)
  · refine z_aload_n hb dJ4_inflate_8 rfl ?_
    refine z_get (k := 0) (C := RJ5) (T := TJ5) (N := 4) hb ho zc22 in_J5 (zf_RJ4_15 _) dJ4_inflate_9 hB (by decide) rfl ?_
    refine z_alen (kk := 3) hb rfl dJ4_inflate_12 hA ?_
    refine z_call1 (b' := 0) (f' := (2 * N) - (2 * N)) (rest := []) (av := [.int (nI N)]) (z_siteS hb ho q263 q264 q103 ⟨_, _, _, _, zk_J7_newBytesFor⟩ zy_J7_newBytesFor zl_J7_newBytesFor dJ4_inflate_13 : z_Site M _ _ _ _ _ ([.int (nI N)].reverse ++ []) [] _) zk_J7_newBytesFor q103 hrm (m_J7_newBytesFor (by omega)) (by omega) (by decide) (Nat.le_of_ble_eq_true rfl) (by omega) (by omega) ?_
    refine z_hn (fun h_1 eh_1 => ?_)
    have eh_1 : h_1 = z_up h n (.inl ((zm_G M).2.1 3, 2 * N, .inl (fun _ => 0))) := eh_1
    have k_2 : h_1 b = some (.inr (22, [.ref e, .int (nI 0), .int (z_b ml), .int (nI cs.length)])) := z_nx eh_1 (Nat.ne_of_lt hbn) hB
    have k_3 : h_1 e = some (.inl ((zm_G M).2.1 3, N, .inl f)) := z_nx eh_1 (Nat.ne_of_lt hen) hA
    refine z_astore_n (lv' := [(1, .ref n), (0, .ref b)]) hb dJ4_inflate_16 (by rw [hN]; decide) rfl ?_
    refine z_aload_n hb dJ4_inflate_17 rfl ?_
    refine z_get (k := 0) (C := RJ5) (T := TJ5) (N := 4) hb ho zc22 in_J5 (zf_RJ4_15 _) dJ4_inflate_18 k_2 (by decide) rfl ?_
    refine z_iconst (x := nI 0) hb dJ4_inflate_21 (by decide) ?_
    refine z_aload_n hb dJ4_inflate_22 rfl ?_
    refine z_iconst (x := nI 0) hb dJ4_inflate_23 (by decide) ?_
    refine z_aload_n hb dJ4_inflate_24 rfl ?_
    refine z_get (k := 3) (C := RJ5) (T := TJ5) (N := 4) hb ho zc22 in_J5 (zf_RJ4_79 _) dJ4_inflate_25 k_2 (by decide) rfl ?_
    refine z_callQ0 (b' := 0) (f' := (2 * N) - (2 * N)) (rest := []) (av := [.ref e, .int (nI 0), .ref n, .int (nI 0), .int (nI cs.length)]) (z_siteS hb ho q986 q987 q116 ⟨_, _, _, _, zk_J16_inflate⟩ zy_J16_inflate zl_J16_inflate dJ4_inflate_28 : z_Site M _ _ _ _ _ ([.ref e, .int (nI 0), .ref n, .int (nI 0), .int (nI cs.length)].reverse ++ []) [] _) zk_J16_inflate q116 hrm (m_J16_inflate (cs := cs) k_3 (z_nxs eh_1) (by omega) (Nat.ne_of_lt hen) hkN (by omega) (by omega) (by omega) (fun _ _ => rfl) hf) (by omega) (by decide) (Nat.le_of_ble_eq_true rfl) (by omega) (by omega) (fun h28 n28 hq28 hn28 => ?_)
    obtain ⟨rfl, g, eg, hg, hgd⟩ := hq28
    have kb9 : h28 b = some (z_sb e 0 ml cs.length) := by rw [eg, z_up_n (Nat.ne_of_lt hbn)]; exact k_2
    have kn9 : h28 n = some (z_ab (zm_G M) (2 * N) g) := by rw [eg]; exact z_up_s
    refine z_aload_n hb dJ4_inflate_31 rfl ?_
    refine z_aload_n hb dJ4_inflate_32 rfl ?_
    refine z_put (k := 0) (C := RJ5) (T := TJ5) (N := 4) hb ho zc22 in_J5 tyJ5_ok nmJ5 (zf_RJ4_15 _) dJ4_inflate_33 kb9 hb9 (by decide) (Or.inl rfl) rfl rfl rfl (Nat.le_of_ble_eq_true rfl) ?_
    refine z_hn (fun h_4 eh_4 => ?_)
    have eh_4 : h_4 = z_up h28 b (.inr (22, [.ref n, .int (nI 0), .int (z_b ml), .int (nI cs.length)])) := eh_4
    have k_5 : h_4 n = some (.inl ((zm_G M).2.1 3, 2 * N, .inl g)) := z_nx eh_4 (Nat.ne_of_gt hbn) kn9
    refine z_aload_n hb dJ4_inflate_36 rfl ?_
    refine z_iconst (x := nI 1) hb dJ4_inflate_37 (by decide) ?_
    refine z_put (k := 1) (C := RJ5) (T := TJ5) (N := 4) hb ho zc22 in_J5 tyJ5_ok nmJ5 (zf_RJ4_22 _) dJ4_inflate_38 (z_nxs eh_4) hb9 (by decide) (Or.inl rfl) rfl rfl rfl (Nat.le_of_ble_eq_true rfl) ?_
    refine z_hn (fun h_6 eh_6 => ?_)
    have eh_6 : h_6 = z_up h_4 b (.inr (22, [.ref n, .int (nI 1), .int (z_b ml), .int (nI cs.length)])) := eh_6
    have k_7 : h_6 n = some (.inl ((zm_G M).2.1 3, 2 * N, .inl g)) := z_nx eh_6 (Nat.ne_of_gt hbn) k_5
    refine z_vret hb hr dJ4_inflate_41 ?_
    rw [hQ]
    exact ⟨rfl, rfl, g, (z_nxs eh_6), k_7, hg, hgd, fun y c q l => by have := hdm y c q; rw [eh_6, z_up_n l, eh_4, z_up_n l, eg, z_up_n (by omega), eh_1, z_up_n (by omega)]; exact q⟩
  · exact absurd c_4 (by omega)

