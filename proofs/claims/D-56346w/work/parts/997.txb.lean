/-! bytes of a char -/
def z_bt (c : Nat) : Int32 := (nI c).toInt8.toInt32
theorem z_bt_nar (c : Nat) : narrow .byte (.int (z_bt c)) = .int (z_bt c) := by
  show Value.int (((nI c).toInt8.toInt32).toInt8.toInt32) = _
  rw [Int8.toInt8_toInt32]; rfl
theorem z_bt_mod (c : Nat) : z_bt c = z_bt (c % 256) := by
  unfold z_bt nI
  congr 1
  apply Int8.toBitVec_inj.mp
  apply BitVec.eq_of_toNat_eq
  show ((Int32.ofNat c).toBitVec.signExtend 8).toNat = ((Int32.ofNat (c % 256)).toBitVec.signExtend 8).toNat
  rw [BitVec.signExtend_eq_setWidth_of_le _ (by decide), BitVec.signExtend_eq_setWidth_of_le _ (by decide)]
  simp [Int32.ofNat, Int32.toBitVec]
theorem z_sr {c k : Nat} (hc : c < 2 ^ 31) (hk : k < 32) : nI c >>> nI k = nI (c / 2 ^ k) := by
  unfold nI
  apply Int32.toBitVec_inj.mp
  apply BitVec.eq_of_toNat_eq
  have hm : (BitVec.ofNat 32 c).msb = false := by
    rw [BitVec.msb_eq_false_iff_two_mul_lt]; simp; omega
  have h1 : (Int32.ofNat c >>> Int32.ofNat k).toBitVec = (BitVec.ofNat 32 c).sshiftRight k := by
    rw [Int32.toBitVec_shiftRight]
    show (BitVec.ofNat 32 c).sshiftRight (BitVec.smod (BitVec.ofNat 32 k) 32).toNat = _
    congr 1
    have : ∀ k, k < 32 → (BitVec.smod (BitVec.ofNat 32 k) 32).toNat = k := by decide
    exact this k hk
  rw [h1, BitVec.sshiftRight_eq_of_msb_false hm]
  simp [Int32.ofNat, Int32.toBitVec, BitVec.toNat_ushiftRight, Nat.shiftRight_eq_div_pow]
  have : c / 2 ^ k ≤ c := Nat.div_le_self _ _
  rw [Nat.mod_eq_of_lt (by omega), Nat.mod_eq_of_lt (by omega)]
theorem z_orN (a b : Nat) : nI a ||| nI b = nI (a ||| b) := by
  unfold nI
  apply Int32.toBitVec_inj.mp
  show BitVec.ofNat 32 a ||| BitVec.ofNat 32 b = BitVec.ofNat 32 (a ||| b)
  rw [BitVec.ofNat_or]

theorem z_slN {b k : Nat} (hk : k < 32) : nI b <<< nI k = nI (b * 2 ^ k) := by
  unfold nI
  apply Int32.toBitVec_inj.mp
  apply BitVec.eq_of_toNat_eq
  have h1 : (Int32.ofNat b <<< Int32.ofNat k).toBitVec = (BitVec.ofNat 32 b) <<< k := by
    rw [Int32.toBitVec_shiftLeft]
    show (BitVec.ofNat 32 b) <<< (BitVec.smod (BitVec.ofNat 32 k) 32).toNat = _
    congr 1
    have : ∀ k, k < 32 → (BitVec.smod (BitVec.ofNat 32 k) 32).toNat = k := by decide
    exact this k hk
  rw [h1]
  simp [Int32.ofNat, Int32.toBitVec, BitVec.toNat_shiftLeft, Nat.shiftLeft_eq]
theorem z_jn {a b : Nat} (ha : a < 256) : nI a ||| nI (256 * b) = nI (256 * b + a) := by
  rw [z_orN, Nat.or_comm]
  exact congrArg nI (show 256 * b + a = 256 * b ||| a from Nat.two_pow_add_eq_or_of_lt (i := 8) ha b).symm
theorem z_m31 {k : Nat} (hk : k < 32) : nI k &&& 31 = nI k := by
  have : ∀ k, k < 32 → nI k &&& 31 = nI k := by decide
  exact this k hk
theorem z_bt_and {c : Nat} (_ : c < 65536) : z_bt c &&& nI 255 = nI (c % 256) := by
  have : ∀ c, c < 256 → z_bt c &&& nI 255 = nI c := by decide +kernel
  rw [z_bt_mod, this _ (Nat.mod_lt _ (by decide))]
theorem z_bt_fit {c : Nat} (_ : c < 65536) : fits .byte (.int (z_bt c)) = true := by
  have : ∀ c, c < 256 → fits .byte (.int (z_bt c)) = true := by decide +kernel
  rw [z_bt_mod]; exact this _ (Nat.mod_lt _ (by decide))
theorem z_bt_lo {c : Nat} (h : c < 128) : z_bt c = nI c := by
  have : ∀ c, c < 128 → z_bt c = nI c := by decide +kernel
  exact this c h
theorem z_sr8 {c : Nat} (h : c < 65536) : nI c >>> (nI 8 &&& 31) = nI (c / 256) := by
  rw [z_m31 (by decide), z_sr (by omega) (by decide)]
theorem z_sl8 {b : Nat} (_ : b < 256) : nI b <<< (nI 8 &&& 31) = nI (256 * b) := by
  rw [z_m31 (by decide), z_slN (by decide), Nat.mul_comm]
theorem z_sl0 {b : Nat} (_ : b < 1000) : nI b <<< (nI 0 &&& 31) = nI b := by
  rw [z_m31 (by decide), z_slN (by decide), Nat.pow_zero, Nat.mul_one]
theorem z_sl1 {b : Nat} (_ : b < 1000) : nI b <<< (nI 1 &&& 31) = nI (2 * b) := by
  rw [z_m31 (by decide), z_slN (by decide), Nat.pow_one, Nat.mul_comm]
theorem z_sr1 {b : Nat} (h : b < 1000) : nI b >>> (nI 1 &&& 31) = nI (b / 2) := by
  rw [z_m31 (by decide), z_sr (by omega) (by decide), Nat.pow_one]
theorem z_or3 {a b c : Nat} (ha : a < 1024) (hb : b < 1024) (hc : c < 1024) : ¬ (nI a ||| nI b) ||| nI c < 0 := by
  rw [z_orN, z_orN]
  have := Nat.or_lt_two_pow (n := 10) (Nat.or_lt_two_pow (n := 10) ha hb) hc
  exact nI_pos (by omega)

set_option maxHeartbeats 1000000 in
theorem m_J18_checkIndex_r {l : Launch} {G : zG} {h : zH} {n : Nat} {i k t : Nat} (hi : i < k) (hk : k < 2 ^ 31) : z_C l G yJ18_checkIndex 1 0 0 [.int (nI i), .int (nI k), .ref t] h n (z_rv (.int (nI i)) h n) := by
  refine z_start zk_J18_checkIndex zpl_RJ18 (Nat.le_of_ble_eq_true rfl) ?_
  intro hn0 M hl hG ho hb hN hr hm hH hrm hQ
  subst hl hG
  have ho : zm_o M = RJ18 := ho
  show z_V M h n 0 0 0 [(0, .int (nI i)), (1, .int (nI k)), (2, .ref t)] []
  refine z_iload_n hb dJ18_checkIndex_0 rfl ?_
  refine z_if_ltN (tgt := 9) hb dJ18_checkIndex_1 (by decide) (by omega) ?_
  refine z_iload_n hb dJ18_checkIndex_4 rfl ?_
  refine z_iload_n hb dJ18_checkIndex_5 rfl ?_
  refine z_icmp_ltN (tgt := 16) hb dJ18_checkIndex_6 (by decide) (by omega) (by omega) (fun c_6 => ?_) (fun c_6 => ?_)
  · refine z_iload_n hb dJ18_checkIndex_16 rfl ?_
    refine z_iret hb hr dJ18_checkIndex_17 ?_
    rw [hQ]
    exact ⟨rfl, rfl, rfl⟩
  · exact absurd c_6 (by omega)

set_option maxHeartbeats 1000000 in
theorem m_J6_checkIndex {l : Launch} {G : zG} {h : zH} {n : Nat} {i k : Nat} (hi : i < k) (hk : k < 2 ^ 31) : z_C l G yJ6_checkIndex 2 0 0 [.int (nI i), .int (nI k)] h n (z_r0 h n) := by
  refine z_start zk_J6_checkIndex zpl_RJ6 (Nat.le_of_ble_eq_true rfl) ?_
  intro hn0 M hl hG ho hb hN hr hm hH hrm hQ
  subst hl hG
  have ho : zm_o M = RJ6 := ho
  show z_V M h n 0 0 0 [(0, .int (nI i)), (1, .int (nI k))] []
  refine z_iload_n hb dJ6_checkIndex_0 rfl ?_
  refine z_iload_n hb dJ6_checkIndex_1 rfl ?_
  refine z_gets (i := 10) hb ho rfl (zf_RJ6_1053 _) dJ6_checkIndex_2 ?_
  rcases z_nr_c ((zm_G M).2.2.1 1007) with hz9 | ⟨t9, hz9⟩
  · refine z_top9 (y := .null) hz9 ?_
    refine z_call1 (b' := 0) (f' := 0) (rest := []) (av := [.int (nI i), .int (nI k), .null]) (z_siteS hb ho q2244 q672 q118 ⟨_, _, _, _, zk_J18_checkIndex⟩ zy_J18_checkIndex zl_J18_checkIndex dJ6_checkIndex_5 : z_Site M _ _ _ _ _ ([.int (nI i), .int (nI k), .null].reverse ++ []) [] _) zk_J18_checkIndex q118 hrm (m_J18_checkIndex hi hk) (by omega) (by decide) (Nat.le_of_ble_eq_true rfl) (by omega) (by omega) ?_
    refine z_pop hb dJ6_checkIndex_8 rfl ?_
    refine z_vret hb hr dJ6_checkIndex_9 ?_
    rw [hQ]
    exact ⟨rfl, rfl, rfl⟩
  · refine z_top9 (y := .ref t9) hz9 ?_
    refine z_call1 (b' := 0) (f' := 0) (rest := []) (av := [.int (nI i), .int (nI k), .ref t9]) (z_siteS hb ho q2244 q672 q118 ⟨_, _, _, _, zk_J18_checkIndex⟩ zy_J18_checkIndex zl_J18_checkIndex dJ6_checkIndex_5 : z_Site M _ _ _ _ _ ([.int (nI i), .int (nI k), .ref t9].reverse ++ []) [] _) zk_J18_checkIndex q118 hrm (m_J18_checkIndex_r hi hk) (by omega) (by decide) (Nat.le_of_ble_eq_true rfl) (by omega) (by omega) ?_
    refine z_pop hb dJ6_checkIndex_8 rfl ?_
    refine z_vret hb hr dJ6_checkIndex_9 ?_
    rw [hQ]
    exact ⟨rfl, rfl, rfl⟩

set_option maxHeartbeats 1000000 in
theorem m_J7_length {l : Launch} {G : zG} {h : zH} {n : Nat} {e N : Nat} {f : Nat → Int32} (hA : h e = some (z_ab G N f)) (hN9 : N < 1000) : z_C l G yJ7_length 1 0 0 [.ref e] h n (z_rv (.int (nI (N / 2))) h n) := by
  refine z_start zk_J7_length zpl_RJ7 (Nat.le_of_ble_eq_true rfl) ?_
  intro hn0 M hl hG ho hb hN hr hm hH hrm hQ
  subst hl hG
  have ho : zm_o M = RJ7 := ho
  show z_V M h n 0 0 0 [(0, .ref e)] []
  refine z_aload_n hb dJ7_length_0 rfl ?_
  refine z_alen (kk := 3) hb rfl dJ7_length_1 hA ?_
  refine z_iconst (x := nI 1) hb dJ7_length_2 (by decide) ?_
  refine z_ishr hb dJ7_length_3 ?_
  refine z_toI (y := nI (N / 2)) (z_sr1 hN9) ?_
  refine z_iret hb hr dJ7_length_4 ?_
  rw [hQ]
  exact ⟨rfl, rfl, rfl⟩

set_option maxHeartbeats 1000000 in
theorem m_J7_checkIndex {l : Launch} {G : zG} {h : zH} {n : Nat} {e N : Nat} {f : Nat → Int32} {i : Nat} (hA : h e = some (z_ab G N f)) (hN9 : N < 1000) (hi : i < N / 2) : z_C l G yJ7_checkIndex 3 0 0 [.int (nI i), .ref e] h n (z_r0 h n) := by
  refine z_start zk_J7_checkIndex zpl_RJ7 (Nat.le_of_ble_eq_true rfl) ?_
  intro hn0 M hl hG ho hb hN hr hm hH hrm hQ
  subst hl hG
  have ho : zm_o M = RJ7 := ho
  show z_V M h n 0 0 0 [(0, .int (nI i)), (1, .ref e)] []
  refine z_iload_n hb dJ7_checkIndex_0 rfl ?_
  refine z_aload_n hb dJ7_checkIndex_1 rfl ?_
  refine z_call1 (b' := 0) (f' := 0) (rest := [.int (nI i)]) (av := [.ref e]) (z_siteS hb ho q878 q879 q103 ⟨_, _, _, _, zk_J7_length⟩ zy_J7_length zl_J7_length dJ7_checkIndex_2 : z_Site M _ _ _ _ _ ([.ref e].reverse ++ [.int (nI i)]) [.int (nI i)] _) zk_J7_length q103 hrm (m_J7_length hA hN9) (by omega) (by decide) (Nat.le_of_ble_eq_true rfl) (by omega) (by omega) ?_
  refine z_call0 (b' := 0) (f' := 0) (rest := []) (av := [.int (nI i), .int (nI (N / 2))]) (z_siteS hb ho q2241 q2242 q102 ⟨_, _, _, _, zk_J6_checkIndex⟩ zy_J6_checkIndex zl_J6_checkIndex dJ7_checkIndex_5 : z_Site M _ _ _ _ _ ([.int (nI i), .int (nI (N / 2))].reverse ++ []) [] _) zk_J6_checkIndex q102 hrm (m_J6_checkIndex hi (by omega)) (by omega) (by decide) (Nat.le_of_ble_eq_true rfl) (by omega) (by omega) ?_
  refine z_vret hb hr dJ7_checkIndex_8 ?_
  rw [hQ]
  exact ⟨rfl, rfl, rfl⟩

set_option maxHeartbeats 1000000 in
theorem m_J7_getChar {l : Launch} {G : zG} {h : zH} {n : Nat} {e N : Nat} {f : Nat → Int32} {i c : Nat} (hA : h e = some (z_ab G N f)) (hN9 : N < 1000) (hi : i < N / 2) (hc16 : c < 65536) (hf1 : f (2 * i) = z_bt c) (hf2 : f (2 * i + 1) = z_bt (c / 256)) : z_C l G yJ7_getChar 2 0 0 [.ref e, .int (nI i)] h n (z_rv (.int (nI c)) h n) := by
  refine z_start zk_J7_getChar zpl_RJ7 (Nat.le_of_ble_eq_true rfl) ?_
  intro hn0 M hl hG ho hb hN hr hm hH hrm hQ
  subst hl hG
  have ho : zm_o M = RJ7 := ho
  show z_V M h n 0 0 0 [(0, .ref e), (1, .int (nI i))] []
  refine z_gets (i := 1) hb ho rfl (zf_RJ7_44 _) dJ7_getChar_0 ?_
  refine z_toI (y := nI 1) rfl ?_
  refine z_if_neN (tgt := 28) hb dJ7_getChar_3 (by decide) (by omega) (fun c_3 => ?_) (fun c_3 => ?_)
  · refine z_iload_n hb dJ7_getChar_28 rfl ?_
    refine z_iconst (x := nI 1) hb dJ7_getChar_29 (by decide) ?_
    refine z_ishl hb dJ7_getChar_30 ?_
    refine z_toI (y := nI (2 * i)) (z_sl1 (by omega)) ?_
    refine z_istore_n (lv' := [(1, .int (nI (2 * i))), (0, .ref e)]) hb dJ7_getChar_31 (by rw [hN]; decide) rfl ?_
    refine z_aload_n hb dJ7_getChar_32 rfl ?_
    refine z_iload_n hb dJ7_getChar_33 rfl ?_
    refine z_iinc (k0 := 0) (lv' := [(1, .int (nI (2 * i + 1))), (0, .ref e)]) hb dJ7_getChar_34 rfl (nI_1 (2 * i)) (by rw [hN]; decide) rfl ?_
    refine z_bald (j := 2 * i) hb dJ7_getChar_37 hA rfl (by omega) (by omega) ?_
    refine z_toI (y := z_bt c) hf1 ?_
    refine z_sipush (x := nI 255) hb dJ7_getChar_38 (by decide) ?_
    refine z_iand hb dJ7_getChar_41 ?_
    refine z_toI (y := nI (c % 256)) (z_bt_and hc16) ?_
    refine z_gets (i := 2) hb ho rfl (zf_RJ7_59 _) dJ7_getChar_42 ?_
    refine z_toI (y := nI 0) rfl ?_
    refine z_ishl hb dJ7_getChar_45 ?_
    refine z_toI (y := nI (c % 256)) (z_sl0 (by omega)) ?_
    refine z_aload_n hb dJ7_getChar_46 rfl ?_
    refine z_iload_n hb dJ7_getChar_47 rfl ?_
    refine z_bald (j := 2 * i + 1) hb dJ7_getChar_48 hA rfl (by omega) (by omega) ?_
    refine z_toI (y := z_bt (c / 256)) hf2 ?_
    refine z_sipush (x := nI 255) hb dJ7_getChar_49 (by decide) ?_
    refine z_iand hb dJ7_getChar_52 ?_
    refine z_toI (y := nI (c / 256)) ((z_bt_and (by omega)).trans (congrArg nI (by omega))) ?_
    refine z_gets (i := 3) hb ho rfl (zf_RJ7_63 _) dJ7_getChar_53 ?_
    refine z_toI (y := nI 8) rfl ?_
    refine z_ishl hb dJ7_getChar_56 ?_
    refine z_toI (y := nI (256 * (c / 256))) (z_sl8 (by omega)) ?_
    refine z_ior hb dJ7_getChar_57 ?_
    refine z_toI (y := nI c) ((z_jn (by omega)).trans (congrArg nI (by omega))) ?_
    refine z_i2c hb dJ7_getChar_58 (z_i2cN (by omega)) ?_
    refine z_zret hb hr (pk_charN (by omega)).1 dJ7_getChar_59 ?_
    rw [hQ]
    exact ⟨rfl, rfl, rfl⟩
  · exact absurd c_3 (by omega)

set_option maxHeartbeats 1000000 in
theorem m_J7_putChar {l : Launch} {G : zG} {h : zH} {n : Nat} {e N : Nat} {f : Nat → Int32} {i c : Nat} (hA : h e = some (z_ab G N f)) (hN9 : N < 1000) (hi : i < N / 2) (hc16 : c < 65536) (he0 : z_n0 G ≤ e) : z_C l G yJ7_putChar 2 0 0 [.ref e, .int (nI i), .int (nI c)] h n (z_r0 (z_up h e (z_ab G N (va_up (va_up f (2 * i) (z_bt c)) (2 * i + 1) (z_bt (c / 256))))) n) := by
  refine z_start zk_J7_putChar zpl_RJ7 (Nat.le_of_ble_eq_true rfl) ?_
  intro hn0 M hl hG ho hb hN hr hm hH hrm hQ
  subst hl hG
  have ho : zm_o M = RJ7 := ho
  show z_V M h n 0 0 0 [(0, .ref e), (1, .int (nI i)), (2, .int (nI c))] []
  refine z_gets (i := 1) hb ho rfl (zf_RJ7_44 _) dJ7_putChar_0 ?_
  refine z_toI (y := nI 1) rfl ?_
  refine z_if_neN (tgt := 28) hb dJ7_putChar_3 (by decide) (by omega) (fun c_3 => ?_) (fun c_3 => ?_)
  · refine z_iload_n hb dJ7_putChar_28 rfl ?_
    refine z_iconst (x := nI 1) hb dJ7_putChar_29 (by decide) ?_
    refine z_ishl hb dJ7_putChar_30 ?_
    refine z_toI (y := nI (2 * i)) (z_sl1 (by omega)) ?_
    refine z_istore_n (lv' := [(1, .int (nI (2 * i))), (0, .ref e), (2, .int (nI c))]) hb dJ7_putChar_31 (by rw [hN]; decide) rfl ?_
    refine z_aload_n hb dJ7_putChar_32 rfl ?_
    refine z_iload_n hb dJ7_putChar_33 rfl ?_
    refine z_iinc (k0 := 0) (lv' := [(1, .int (nI (2 * i + 1))), (0, .ref e), (2, .int (nI c))]) hb dJ7_putChar_34 rfl (nI_1 (2 * i)) (by rw [hN]; decide) rfl ?_
    refine z_iload_n hb dJ7_putChar_37 rfl ?_
    refine z_gets (i := 2) hb ho rfl (zf_RJ7_59 _) dJ7_putChar_38 ?_
    refine z_toI (y := nI 0) rfl ?_
    refine z_ishr hb dJ7_putChar_41 ?_
    refine z_toI (y := nI c) (z_shr0 _) ?_
    refine z_i2b hb dJ7_putChar_42 rfl ?_
    refine z_toI (y := z_bt c) rfl ?_
    refine z_bast (j := 2 * i) (v := (z_bt c)) hb dJ7_putChar_43 hA he0 rfl (by omega) (by omega) (z_bt_nar _) ?_
    refine z_hn (fun h_1 eh_1 => ?_)
    have eh_1 : h_1 = z_up h e (.inl ((zm_G M).2.1 3, N, .inl (va_up f (2 * i) (z_bt c)))) := eh_1
    refine z_aload_n hb dJ7_putChar_44 rfl ?_
    refine z_iload_n hb dJ7_putChar_45 rfl ?_
    refine z_iload_n hb dJ7_putChar_46 rfl ?_
    refine z_gets (i := 3) hb ho rfl (zf_RJ7_63 _) dJ7_putChar_47 ?_
    refine z_toI (y := nI 8) rfl ?_
    refine z_ishr hb dJ7_putChar_50 ?_
    refine z_toI (y := nI (c / 256)) (z_sr8 hc16) ?_
    refine z_i2b hb dJ7_putChar_51 rfl ?_
    refine z_toI (y := z_bt (c / 256)) rfl ?_
    refine z_bast (j := 2 * i + 1) (v := (z_bt (c / 256))) hb dJ7_putChar_52 (z_nxs eh_1) he0 rfl (by omega) (by omega) (z_bt_nar _) ?_
    refine z_hn (fun h_2 eh_2 => ?_)
    have eh_2 : h_2 = z_up h_1 e (.inl ((zm_G M).2.1 3, N, .inl (va_up (va_up f (2 * i) (z_bt c)) (2 * i + 1) (z_bt (c / 256))))) := eh_2
    refine z_vret hb hr dJ7_putChar_53 ?_
    rw [hQ]
    exact ⟨rfl, (by rw [eh_2, eh_1] <;> simp only [z_up_up]), rfl⟩
  · exact absurd c_3 (by omega)

set_option maxHeartbeats 1000000 in
theorem m_J7_putCharSB {l : Launch} {G : zG} {h : zH} {n : Nat} {e N : Nat} {f : Nat → Int32} {i c : Nat} (hA : h e = some (z_ab G N f)) (hN9 : N < 1000) (hi : i < N / 2) (hc16 : c < 65536) (he0 : z_n0 G ≤ e) : z_C l G yJ7_putCharSB 4 0 0 [.ref e, .int (nI i), .int (nI c)] h n (z_r0 (z_up h e (z_ab G N (va_up (va_up f (2 * i) (z_bt c)) (2 * i + 1) (z_bt (c / 256))))) n) := by
  refine z_start zk_J7_putCharSB zpl_RJ7 (Nat.le_of_ble_eq_true rfl) ?_
  intro hn0 M hl hG ho hb hN hr hm hH hrm hQ
  subst hl hG
  have ho : zm_o M = RJ7 := ho
  show z_V M h n 0 0 0 [(0, .ref e), (1, .int (nI i)), (2, .int (nI c))] []
  refine z_iload_n hb dJ7_putCharSB_0 rfl ?_
  refine z_aload_n hb dJ7_putCharSB_1 rfl ?_
  refine z_call0 (b' := 0) (f' := 0) (rest := []) (av := [.int (nI i), .ref e]) (z_siteS hb ho q2238 q2239 q103 ⟨_, _, _, _, zk_J7_checkIndex⟩ zy_J7_checkIndex zl_J7_checkIndex dJ7_putCharSB_2 : z_Site M _ _ _ _ _ ([.int (nI i), .ref e].reverse ++ []) [] _) zk_J7_checkIndex q103 hrm (m_J7_checkIndex hA hN9 hi) (by omega) (by decide) (Nat.le_of_ble_eq_true rfl) (by omega) (by omega) ?_
  refine z_aload_n hb dJ7_putCharSB_5 rfl ?_
  refine z_iload_n hb dJ7_putCharSB_6 rfl ?_
  refine z_iload_n hb dJ7_putCharSB_7 rfl ?_
  refine z_call0 (b' := 0) (f' := 0) (rest := []) (av := [.ref e, .int (nI i), .int (nI c)]) (z_siteS hb ho q962 q963 q103 ⟨_, _, _, _, zk_J7_putChar⟩ zy_J7_putChar zl_J7_putChar dJ7_putCharSB_8 : z_Site M _ _ _ _ _ ([.ref e, .int (nI i), .int (nI c)].reverse ++ []) [] _) zk_J7_putChar q103 hrm (m_J7_putChar hA hN9 hi hc16 he0) (by omega) (by decide) (Nat.le_of_ble_eq_true rfl) (by omega) (by omega) ?_
  refine z_hn (fun h_1 eh_1 => ?_)
  have eh_1 : h_1 = z_up h e (.inl ((zm_G M).2.1 3, N, .inl (va_up (va_up f (2 * i) (z_bt c)) (2 * i + 1) (z_bt (c / 256))))) := eh_1
  refine z_vret hb hr dJ7_putCharSB_11 ?_
  rw [hQ]
  exact ⟨rfl, (by rw [eh_1] <;> simp only [z_up_up]), rfl⟩

set_option maxHeartbeats 1000000 in
theorem m_J7_newBytesLength {l : Launch} {G : zG} {h : zH} {n : Nat} {N : Nat} (hN9 : N < 1000) : z_C l G yJ7_newBytesLength 1 0 0 [.int (nI N)] h n (z_rv (.int (nI (2 * N))) h n) := by
  refine z_start zk_J7_newBytesLength zpl_RJ7 (Nat.le_of_ble_eq_true rfl) ?_
  intro hn0 M hl hG ho hb hN hr hm hH hrm hQ
  subst hl hG
  have ho : zm_o M = RJ7 := ho
  show z_V M h n 0 0 0 [(0, .int (nI N))] []
  refine z_iload_n hb dJ7_newBytesLength_0 rfl ?_
  refine z_if_geN (tgt := 12) hb dJ7_newBytesLength_1 (by decide) (by omega) ?_
  refine z_iload_n hb dJ7_newBytesLength_12 rfl ?_
  refine z_ldc hb ho q269 dJ7_newBytesLength_13 ?_
  refine z_icmp_lt (tgt := 55) hb dJ7_newBytesLength_15 (by decide) (fun c_15 => ?_) (fun c_15 => ?_)
  · refine z_iload_n hb dJ7_newBytesLength_55 rfl ?_
    refine z_iconst (x := nI 1) hb dJ7_newBytesLength_56 (by decide) ?_
    refine z_ishl hb dJ7_newBytesLength_57 ?_
    refine z_toI (y := nI (2 * N)) (z_sl1 hN9) ?_
    refine z_iret hb hr dJ7_newBytesLength_58 ?_
    rw [hQ]
    exact ⟨rfl, rfl, rfl⟩
  · exact absurd ((nI_ltI (a := N) (b := 1073741823) (by omega) (by omega)).mpr (by omega)) c_15

set_option maxHeartbeats 1000000 in
theorem m_J7_newBytesFor {l : Launch} {G : zG} {h : zH} {n : Nat} {N : Nat} (hN9 : N < 1000) : z_C l G yJ7_newBytesFor 2 1 (2 * N) [.int (nI N)] h n (z_rv (.ref n) (z_up h n (z_ab G (2 * N) (fun _ => 0))) (n + 1)) := by
  refine z_start zk_J7_newBytesFor zpl_RJ7 (Nat.le_of_ble_eq_true rfl) ?_
  intro hn0 M hl hG ho hb hN hr hm hH hrm hQ
  subst hl hG
  have ho : zm_o M = RJ7 := ho
  show z_V M h n 1 (2 * N) 0 [(0, .int (nI N))] []
  refine z_iload_n hb dJ7_newBytesFor_0 rfl ?_
  refine z_call1 (b' := 1) (f' := 2 * N) (rest := []) (av := [.int (nI N)]) (z_siteS hb ho q266 q267 q103 ⟨_, _, _, _, zk_J7_newBytesLength⟩ zy_J7_newBytesLength zl_J7_newBytesLength dJ7_newBytesFor_1 : z_Site M _ _ _ _ _ ([.int (nI N)].reverse ++ []) [] _) zk_J7_newBytesLength q103 hrm (m_J7_newBytesLength hN9) (by omega) (by decide) (Nat.le_of_ble_eq_true rfl) (by omega) (by omega) ?_
  refine z_newb (N := 2 * N) (b' := 0) (f' := (2 * N) - (2 * N)) hb q284 dJ7_newBytesFor_4 rfl (by omega) (by omega) (by omega) ?_
  refine z_hn (fun h_1 eh_1 => ?_)
  have eh_1 : h_1 = z_up h n (.inl ((zm_G M).2.1 3, 2 * N, .inl (fun _ => 0))) := eh_1
  refine z_aret hb hr (Or.inr ⟨_, rfl⟩) (Or.inr ⟨_, rfl⟩) dJ7_newBytesFor_6 ?_
  rw [hQ]
  exact ⟨rfl, (by rw [eh_1] <;> simp only [z_up_up]), rfl⟩

set_option maxHeartbeats 1000000 in
theorem m_J18_checkFromIndexSize_n {l : Launch} {G : zG} {h : zH} {n : Nat} {o s k : Nat} (hos : o + s ≤ k) (hk : k < 1000) : z_C l G yJ18_checkFromIndexSize 1 0 0 [.int (nI o), .int (nI s), .int (nI k), .null] h n (z_rv (.int (nI o)) h n) := by
  refine z_start zk_J18_checkFromIndexSize zpl_RJ18 (Nat.le_of_ble_eq_true rfl) ?_
  intro hn0 M hl hG ho hb hN hr hm hH hrm hQ
  subst hl hG
  have ho : zm_o M = RJ18 := ho
  show z_V M h n 0 0 0 [(0, .int (nI o)), (1, .int (nI s)), (2, .int (nI k)), (3, .null)] []
  refine z_iload_n hb dJ18_checkFromIndexSize_0 rfl ?_
  refine z_iload_n hb dJ18_checkFromIndexSize_1 rfl ?_
  refine z_ior hb dJ18_checkFromIndexSize_2 ?_
  refine z_iload_n hb dJ18_checkFromIndexSize_3 rfl ?_
  refine z_ior hb dJ18_checkFromIndexSize_4 ?_
  refine z_if_lt (tgt := 15) hb dJ18_checkFromIndexSize_5 (by decide) (fun c_5 => ?_) (fun c_5 => ?_)
  · exact absurd c_5 (z_or3 (by omega) (by omega) (by omega))
  · refine z_iload_n hb dJ18_checkFromIndexSize_8 rfl ?_
    refine z_iload_n hb dJ18_checkFromIndexSize_9 rfl ?_
    refine z_iload_n hb dJ18_checkFromIndexSize_10 rfl ?_
    refine z_isub hb dJ18_checkFromIndexSize_11 ?_
    refine z_toI (y := nI (k - o)) (pk_sub (by omega)) ?_
    refine z_icmp_leN (tgt := 23) hb dJ18_checkFromIndexSize_12 (by decide) (by omega) (by omega) (fun c_12 => ?_) (fun c_12 => ?_)
    · refine z_iload_n hb dJ18_checkFromIndexSize_23 rfl ?_
      refine z_iret hb hr dJ18_checkFromIndexSize_24 ?_
      rw [hQ]
      exact ⟨rfl, rfl, rfl⟩
    · exact absurd c_12 (by omega)

set_option maxHeartbeats 1000000 in
theorem m_J18_checkFromIndexSize_r {l : Launch} {G : zG} {h : zH} {n : Nat} {o s k : Nat} {t : Nat} (hos : o + s ≤ k) (hk : k < 1000) : z_C l G yJ18_checkFromIndexSize 1 0 0 [.int (nI o), .int (nI s), .int (nI k), .ref t] h n (z_rv (.int (nI o)) h n) := by
  refine z_start zk_J18_checkFromIndexSize zpl_RJ18 (Nat.le_of_ble_eq_true rfl) ?_
  intro hn0 M hl hG ho hb hN hr hm hH hrm hQ
  subst hl hG
  have ho : zm_o M = RJ18 := ho
  show z_V M h n 0 0 0 [(0, .int (nI o)), (1, .int (nI s)), (2, .int (nI k)), (3, .ref t)] []
  refine z_iload_n hb dJ18_checkFromIndexSize_0 rfl ?_
  refine z_iload_n hb dJ18_checkFromIndexSize_1 rfl ?_
  refine z_ior hb dJ18_checkFromIndexSize_2 ?_
  refine z_iload_n hb dJ18_checkFromIndexSize_3 rfl ?_
  refine z_ior hb dJ18_checkFromIndexSize_4 ?_
  refine z_if_lt (tgt := 15) hb dJ18_checkFromIndexSize_5 (by decide) (fun c_5 => ?_) (fun c_5 => ?_)
  · exact absurd c_5 (z_or3 (by omega) (by omega) (by omega))
  · refine z_iload_n hb dJ18_checkFromIndexSize_8 rfl ?_
    refine z_iload_n hb dJ18_checkFromIndexSize_9 rfl ?_
    refine z_iload_n hb dJ18_checkFromIndexSize_10 rfl ?_
    refine z_isub hb dJ18_checkFromIndexSize_11 ?_
    refine z_toI (y := nI (k - o)) (pk_sub (by omega)) ?_
    refine z_icmp_leN (tgt := 23) hb dJ18_checkFromIndexSize_12 (by decide) (by omega) (by omega) (fun c_12 => ?_) (fun c_12 => ?_)
    · refine z_iload_n hb dJ18_checkFromIndexSize_23 rfl ?_
      refine z_iret hb hr dJ18_checkFromIndexSize_24 ?_
      rw [hQ]
      exact ⟨rfl, rfl, rfl⟩
    · exact absurd c_12 (by omega)

set_option maxHeartbeats 1000000 in
theorem m_J6_checkBoundsOffCount {l : Launch} {G : zG} {h : zH} {n : Nat} {o s k : Nat} (hos : o + s ≤ k) (hk : k < 1000) : z_C l G yJ6_checkBoundsOffCount 2 0 0 [.int (nI o), .int (nI s), .int (nI k)] h n (z_rv (.int (nI o)) h n) := by
  refine z_start zk_J6_checkBoundsOffCount zpl_RJ6 (Nat.le_of_ble_eq_true rfl) ?_
  intro hn0 M hl hG ho hb hN hr hm hH hrm hQ
  subst hl hG
  have ho : zm_o M = RJ6 := ho
  show z_V M h n 0 0 0 [(0, .int (nI o)), (1, .int (nI s)), (2, .int (nI k))] []
  refine z_iload_n hb dJ6_checkBoundsOffCount_0 rfl ?_
  refine z_iload_n hb dJ6_checkBoundsOffCount_1 rfl ?_
  refine z_iload_n hb dJ6_checkBoundsOffCount_2 rfl ?_
  refine z_gets (i := 10) hb ho rfl (zf_RJ6_1053 _) dJ6_checkBoundsOffCount_3 ?_
  rcases z_nr_c ((zm_G M).2.2.1 1007) with hz9 | ⟨t9, hz9⟩
  · refine z_top9 (y := .null) hz9 ?_
    refine z_call1 (b' := 0) (f' := 0) (rest := []) (av := [.int (nI o), .int (nI s), .int (nI k), .null]) (z_siteS hb ho q998 q999 q118 ⟨_, _, _, _, zk_J18_checkFromIndexSize⟩ zy_J18_checkFromIndexSize zl_J18_checkFromIndexSize dJ6_checkBoundsOffCount_6 : z_Site M _ _ _ _ _ ([.int (nI o), .int (nI s), .int (nI k), .null].reverse ++ []) [] _) zk_J18_checkFromIndexSize q118 hrm (m_J18_checkFromIndexSize_n hos hk) (by omega) (by decide) (Nat.le_of_ble_eq_true rfl) (by omega) (by omega) ?_
    refine z_iret hb hr dJ6_checkBoundsOffCount_9 ?_
    rw [hQ]
    exact ⟨rfl, rfl, rfl⟩
  · refine z_top9 (y := .ref t9) hz9 ?_
    refine z_call1 (b' := 0) (f' := 0) (rest := []) (av := [.int (nI o), .int (nI s), .int (nI k), .ref t9]) (z_siteS hb ho q998 q999 q118 ⟨_, _, _, _, zk_J18_checkFromIndexSize⟩ zy_J18_checkFromIndexSize zl_J18_checkFromIndexSize dJ6_checkBoundsOffCount_6 : z_Site M _ _ _ _ _ ([.int (nI o), .int (nI s), .int (nI k), .ref t9].reverse ++ []) [] _) zk_J18_checkFromIndexSize q118 hrm (m_J18_checkFromIndexSize_r hos hk) (by omega) (by decide) (Nat.le_of_ble_eq_true rfl) (by omega) (by omega) ?_
    refine z_iret hb hr dJ6_checkBoundsOffCount_9 ?_
    rw [hQ]
    exact ⟨rfl, rfl, rfl⟩

set_option maxHeartbeats 1000000 in
theorem m_J7_checkBoundsOffCount {l : Launch} {G : zG} {h : zH} {n : Nat} {e N : Nat} {f : Nat → Int32} {o s : Nat} (hA : h e = some (z_ab G N f)) (hN9 : N < 1000) (hos : o + s ≤ N / 2) : z_C l G yJ7_checkBoundsOffCount 3 0 0 [.int (nI o), .int (nI s), .ref e] h n (z_r0 h n) := by
  refine z_start zk_J7_checkBoundsOffCount zpl_RJ7 (Nat.le_of_ble_eq_true rfl) ?_
  intro hn0 M hl hG ho hb hN hr hm hH hrm hQ
  subst hl hG
  have ho : zm_o M = RJ7 := ho
  show z_V M h n 0 0 0 [(0, .int (nI o)), (1, .int (nI s)), (2, .ref e)] []
  refine z_iload_n hb dJ7_checkBoundsOffCount_0 rfl ?_
  refine z_iload_n hb dJ7_checkBoundsOffCount_1 rfl ?_
  refine z_aload_n hb dJ7_checkBoundsOffCount_2 rfl ?_
  refine z_call1 (b' := 0) (f' := 0) (rest := [.int (nI s), .int (nI o)]) (av := [.ref e]) (z_siteS hb ho q878 q879 q103 ⟨_, _, _, _, zk_J7_length⟩ zy_J7_length zl_J7_length dJ7_checkBoundsOffCount_3 : z_Site M _ _ _ _ _ ([.ref e].reverse ++ [.int (nI s), .int (nI o)]) [.int (nI s), .int (nI o)] _) zk_J7_length q103 hrm (m_J7_length hA hN9) (by omega) (by decide) (Nat.le_of_ble_eq_true rfl) (by omega) (by omega) ?_
  refine z_call1 (b' := 0) (f' := 0) (rest := []) (av := [.int (nI o), .int (nI s), .int (nI (N / 2))]) (z_siteS hb ho q995 q996 q102 ⟨_, _, _, _, zk_J6_checkBoundsOffCount⟩ zy_J6_checkBoundsOffCount zl_J6_checkBoundsOffCount dJ7_checkBoundsOffCount_6 : z_Site M _ _ _ _ _ ([.int (nI o), .int (nI s), .int (nI (N / 2))].reverse ++ []) [] _) zk_J6_checkBoundsOffCount q102 hrm (m_J6_checkBoundsOffCount hos (by omega)) (by omega) (by decide) (Nat.le_of_ble_eq_true rfl) (by omega) (by omega) ?_
  refine z_pop hb dJ7_checkBoundsOffCount_9 rfl ?_
  refine z_vret hb hr dJ7_checkBoundsOffCount_10 ?_
  rw [hQ]
  exact ⟨rfl, rfl, rfl⟩

