/-! digits -/
theorem z_dN {a k : Nat} (h : k ≤ a) : nI a + (-(nI k)) = nI (a - k) := by
  rw [← Int32.sub_eq_add_neg]; exact pk_sub h
def ngI (a : Nat) : Int32 := -(nI a)
def ngL (a : Nat) : Int64 := -(lN a)
theorem ngI_t {a : Nat} (h : a ≤ 2 ^ 31) : (ngI a).toInt = -(a : Int) := by
  rcases Nat.lt_or_ge a (2 ^ 31) with q | q
  · unfold ngI
    rw [Int32.toInt_neg, nI_toInt q, Int.bmod_eq_of_le (by omega) (by omega)]
  · rw [show a = 2 ^ 31 by omega]; decide +kernel
theorem ngL_t {a : Nat} (h : a < 2 ^ 63) : (ngL a).toInt = -(a : Int) := by
  unfold ngL
  rw [Int64.toInt_neg, pk_lT h, Int.bmod_eq_of_le (by omega) (by omega)]
theorem ngI_le {a b : Nat} (ha : a ≤ 2 ^ 31) (hb : b ≤ 2 ^ 31) : ngI a ≤ ngI b ↔ b ≤ a := by
  rw [Int32.le_iff_toInt_le, ngI_t ha, ngI_t hb]; omega
theorem ngI_lt {a b : Nat} (ha : a ≤ 2 ^ 31) (hb : b ≤ 2 ^ 31) : ngI a < ngI b ↔ b < a := by
  rw [Int32.lt_iff_toInt_lt, ngI_t ha, ngI_t hb]; omega
theorem ngL_le {a b : Nat} (ha : a < 2 ^ 63) (hb : b < 2 ^ 63) : ngL a ≤ ngL b ↔ b ≤ a := by
  rw [Int64.le_iff_toInt_le, ngL_t ha, ngL_t hb]; omega
theorem ngL_lt {a b : Nat} (ha : a < 2 ^ 63) (hb : b < 2 ^ 63) : ngL a < ngL b ↔ b < a := by
  rw [Int64.lt_iff_toInt_lt, ngL_t ha, ngL_t hb]; omega
theorem ngI_div {a : Nat} (h : a ≤ 2 ^ 31) : ngI a / nI 100 = ngI (a / 100) := by
  apply Int32.toInt_inj.mp
  rw [Int32.toInt_div, ngI_t h, ngI_t (by omega), show (nI 100).toInt = 100 from rfl, Int.neg_tdiv]
  show (-((a : Int).tdiv 100)).bmod (2 ^ 32) = _
  rw [Int.tdiv_eq_ediv_of_nonneg (by omega), Int.bmod_eq_of_le (by omega) (by omega)]
  omega
theorem ngL_div {a : Nat} (h : a < 2 ^ 63) : ngL a / (100 : Int64) = ngL (a / 100) := by
  apply Int64.toInt_inj.mp
  rw [Int64.toInt_div, ngL_t h, ngL_t (by omega), show ((100 : Int64)).toInt = 100 from rfl, Int.neg_tdiv]
  show (-((a : Int).tdiv 100)).bmod (2 ^ 64) = _
  rw [Int.tdiv_eq_ediv_of_nonneg (by omega), Int.bmod_eq_of_le (by omega) (by omega)]
  omega
theorem ngI_rem {a : Nat} : ngI (a / 100) * nI 100 - ngI a = nI (a % 100) := by
  unfold ngI
  rw [Int32.neg_mul, pk_mul, Int32.sub_eq_add_neg, Int32.neg_neg, Int32.add_comm, ← Int32.sub_eq_add_neg, pk_sub (by omega)]
  congr 1; omega
theorem ngL_rem {a : Nat} : (ngL (a / 100) * (100 : Int64) - ngL a).toInt32 = nI (a % 100) := by
  unfold ngL
  have e : -(lN (a / 100)) * (100 : Int64) - -(lN a) = lN (a % 100) := by
    rw [show (100 : Int64) = lN 100 from rfl, Int64.neg_mul, show lN (a / 100) * lN 100 = lN (a / 100 * 100) from (Int64.ofNat_mul _ _).symm, Int64.sub_eq_add_neg, Int64.neg_neg, Int64.add_comm, ← Int64.sub_eq_add_neg, show lN a - lN (a / 100 * 100) = lN (a - a / 100 * 100) from (Int64.ofNat_sub _ _ (by omega)).symm]
    congr 1; omega
  rw [e]; exact Int64.toInt32_ofNat'
theorem ngL_i {a : Nat} : (ngL a).toInt32 = ngI a := by
  unfold ngL ngI
  rw [Int64.toInt32_neg]
  exact congrArg (fun x => -x) Int64.toInt32_ofNat'
theorem ngI_ng (a : Nat) : -(ngI a) = nI a := Int32.neg_neg
theorem ngI_abs {x : Int32} (h : x < 0) : ∃ a, 1 ≤ a ∧ a ≤ 2 ^ 31 ∧ x = ngI a := by
  have h1 : x.toInt < 0 := Int32.lt_iff_toInt_lt.mp h
  have h2 := Int32.le_toInt x
  refine ⟨(-x.toInt).toNat, by omega, by omega, Int32.toInt_inj.mp ?_⟩
  rw [ngI_t (by omega)]; omega
theorem ngL_abs {x : Int64} (h : x < 0) (hb : x.toInt.natAbs < 2 ^ 63) : x = ngL x.toInt.natAbs ∧ 1 ≤ x.toInt.natAbs := by
  have h1 : x.toInt < 0 := Int64.lt_iff_toInt_lt.mp h
  refine ⟨Int64.toInt_inj.mp ?_, by omega⟩
  rw [ngL_t hb]; omega
theorem ngL_pos {x : Int64} (h : ¬ x < 0) : x = lN x.toInt.natAbs := by
  have h1 : 0 ≤ x.toInt := Int64.le_iff_toInt_le.mp (Int64.not_lt.mp h)
  have h2 := Int64.toInt_lt x
  apply Int64.toInt_inj.mp
  rw [pk_lT (by omega)]; omega
/-- nd digits has a -/
def z_isd (a nd : Nat) : Prop := 1 ≤ nd ∧ a < 10 ^ nd ∧ (nd = 1 ∨ 10 ^ (nd - 1) ≤ a)
theorem z_p10 {i j : Nat} (h : i ≤ j) : 10 ^ i ≤ 10 ^ j := Nat.pow_le_pow_right (by decide) h
theorem z_isd_lt {a nd i : Nat} (h : z_isd a nd) (q : a < 10 ^ i) (hi : 1 ≤ i) : nd ≤ i := by
  rcases h.2.2 with z | z
  · omega
  · rcases Nat.lt_or_ge i nd with y | y
    · have := z_p10 (show i ≤ nd - 1 by omega); omega
    · exact y
theorem z_isd_ge {a nd i : Nat} (h : z_isd a nd) (q : 10 ^ i ≤ a) : i < nd := by
  rcases Nat.lt_or_ge i nd with y | y
  · exact y
  · have := z_p10 y; have := h.2.1; omega
theorem z_isd_dge {a nd m k : Nat} (h : z_isd a nd) (q : 10 ^ k ≤ a / 10 ^ m) : m + k < nd := by
  refine z_isd_ge h ?_
  rw [Nat.pow_add, Nat.mul_comm]
  exact (Nat.le_div_iff_mul_le (Nat.pow_pos (by decide))).mp q
theorem z_isd_dlt {a nd m k : Nat} (h : z_isd a nd) (q : a / 10 ^ m < 10 ^ k) (hk : 1 ≤ m + k) : nd ≤ m + k := by
  refine z_isd_lt h ?_ hk
  rw [Nat.pow_add, Nat.mul_comm]
  exact (Nat.div_lt_iff_lt_mul (Nat.pow_pos (by decide))).mp q
theorem z_dvs {a m : Nat} (j : Nat) : a / 10 ^ (m + j) = a / 10 ^ m / 10 ^ j := by rw [Nat.pow_add, Nat.div_div_eq_div_mul]
theorem z_dv0 (a : Nat) : a / 10 ^ 0 = a := by rw [Nat.pow_zero, Nat.div_one]
/-- m digits of a are written up to idx -/
def z_wdg (f : Nat → Int32) (idx a m : Nat) : Nat → Int32 := fun j => if idx - m ≤ j ∧ j < idx then nI (48 + a / 10 ^ (idx - 1 - j) % 10) else f j
def z_on : Nat → Int32 := fun j => nI (48 + j % 10)
def z_tn : Nat → Int32 := fun j => nI (48 + j / 10)
theorem z_wdg_0 {f : Nat → Int32} {idx a : Nat} : z_wdg f idx a 0 = f := by
  funext j; unfold z_wdg; rw [if_neg (by omega)]
theorem z_wdg_s {f : Nat → Int32} {idx a m : Nat} (h : m < idx) : va_up (z_wdg f idx a m) (idx - m - 1) (nI (48 + a / 10 ^ m % 10)) = z_wdg f idx a (m + 1) := by
  funext j
  unfold va_up z_wdg
  by_cases q : j = idx - m - 1
  · rw [if_pos q, if_pos (by omega), show idx - 1 - j = m by omega]
  · rw [if_neg q]
    by_cases z : idx - m ≤ j ∧ j < idx
    · rw [if_pos z, if_pos (by omega)]
    · rw [if_neg z, if_neg (by omega)]
theorem z_wdg_o {f : Nat → Int32} {idx a m : Nat} (h : m < idx) : va_up (z_wdg f idx a m) (idx - m - 1) (z_on (a / 10 ^ m % 100)) = z_wdg f idx a (m + 1) := by
  rw [← z_wdg_s h]; unfold z_on; rw [show a / 10 ^ m % 100 % 10 = a / 10 ^ m % 10 by omega]
theorem z_wdg_t {f : Nat → Int32} {idx a m : Nat} (h : m + 1 < idx) : va_up (z_wdg f idx a (m + 1)) (idx - m - 1 - 1) (z_tn (a / 10 ^ m % 100)) = z_wdg f idx a (m + 2) := by
  rw [show z_wdg f idx a (m + 2) = z_wdg f idx a (m + 1 + 1) from rfl, ← z_wdg_s h, show idx - (m + 1) - 1 = idx - m - 1 - 1 by omega]
  unfold z_tn
  rw [z_dvs 1, Nat.pow_one, show a / 10 ^ m % 100 / 10 = a / 10 ^ m / 10 % 10 by omega]
theorem z_wdg_o' {f : Nat → Int32} {idx a m : Nat} (h : m < idx) (hl : a / 10 ^ m < 100) : va_up (z_wdg f idx a m) (idx - m - 1) (z_on (a / 10 ^ m)) = z_wdg f idx a (m + 1) := by
  have := z_wdg_o (f := f) h (a := a); rw [Nat.mod_eq_of_lt hl] at this; exact this
theorem z_wdg_t' {f : Nat → Int32} {idx a m : Nat} (h : m + 1 < idx) (hl : a / 10 ^ m < 100) : va_up (z_wdg f idx a (m + 1)) (idx - m - 1 - 1) (z_tn (a / 10 ^ m)) = z_wdg f idx a (m + 2) := by
  have := z_wdg_t (f := f) h (a := a); rw [Nat.mod_eq_of_lt hl] at this; exact this
def z_sgw (f : Nat → Int32) (idx a nd : Nat) : Bool → (Nat → Int32)
  | false => z_wdg f idx a nd
  | true => va_up (z_wdg f idx a nd) (idx - nd - 1) (nI 45)
theorem z_on_nar (j : Nat) : narrow .byte (.int (z_on j)) = .int (z_on j) := by
  have : ∀ j, j < 10 → narrow .byte (.int (nI (48 + j))) = .int (nI (48 + j)) := by decide +kernel
  exact this _ (Nat.mod_lt _ (by decide))
theorem z_tn_nar {j : Nat} (h : j < 100) : narrow .byte (.int (z_tn j)) = .int (z_tn j) := by
  have : ∀ j, j < 10 → narrow .byte (.int (nI (48 + j))) = .int (nI (48 + j)) := by decide +kernel
  exact this _ (by omega)
theorem z_ng100 {a : Nat} (h : a ≤ 2 ^ 31) : ((-100) : Int32) < ngI a ↔ a < 100 := ngI_lt (a := 100) (by omega) h
theorem z_ng9 {a : Nat} (h : a ≤ 2 ^ 31) : ((-9) : Int32) ≤ ngI a ↔ a ≤ 9 := ngI_le (a := 9) (by omega) h
theorem z_ngML {a : Nat} (h : a < 2 ^ 63) : ((-2147483648) : Int64) < ngL a ↔ a < 2 ^ 31 := ngL_lt (a := 2147483648) (by omega) h

theorem z_ss {a i : Nat} (ha : a ≤ 2 ^ 31) (hi : i ≤ 9) (c : ngI a ≤ ngI (10 ^ i)) : 10 ^ i ≤ a := by
  have e10 : 10 ^ i ≤ 10 ^ 9 := z_p10 hi
  exact (ngI_le ha (by omega)).mp c
theorem z_ss2 {a i : Nat} (ha : a ≤ 2 ^ 31) (hi : i ≤ 9) (c : ¬ ngI a ≤ ngI (10 ^ i)) : a < 10 ^ i := by
  have e10 : 10 ^ i ≤ 10 ^ 9 := z_p10 hi
  rcases Nat.lt_or_ge a (10 ^ i) with q | q
  · exact q
  · exact absurd ((ngI_le ha (by omega)).mpr q) c

theorem z_lvE {M : zM} {h : zH} {n b f pc : Nat} {lv lv2 : List (Nat × Value)} {st : List Value} (e : lv = lv2) (k : z_V M h n b f pc lv2 st) : z_V M h n b f pc lv st := e ▸ k

set_option maxHeartbeats 1000000 in
theorem m_J19_stringSize_p {l : Launch} {G : zG} {h : zH} {n : Nat} {a nd : Nat} (ha : a < 2 ^ 31) (hnd : z_isd a nd) : z_C l G yJ19_stringSize 1 0 0 [.int (nI a)] h n (z_rv (.int (nI (nd + 0))) h n) := by
  refine z_start zk_J19_stringSize zpl_RJ19 (Nat.le_of_ble_eq_true rfl) ?_
  intro hn0 M hl hG ho hb hN hr hm hH hrm hQ
  subst hl hG
  have ho : zm_o M = RJ19 := ho
  show z_V M h n 0 0 0 [(0, .int (nI a))] []
  refine z_iconst (x := nI 1) hb dJ19_stringSize_0 (by decide) ?_
  refine z_istore_n (lv' := [(1, .int (nI 1)), (0, .int (nI a))]) hb dJ19_stringSize_1 (by rw [hN]; decide) rfl ?_
  refine z_iload_n hb dJ19_stringSize_2 rfl ?_
  refine z_if_lt (tgt := 11) hb dJ19_stringSize_3 (by decide) (fun c_3 => ?_) (fun c_3 => ?_)
  · exact absurd c_3 (nI_pos ha)
  · refine z_iconst (x := nI 0) hb dJ19_stringSize_6 (by decide) ?_
    refine z_istore_n (lv' := [(1, .int (nI 0)), (0, .int (nI a))]) hb dJ19_stringSize_7 (by rw [hN]; decide) rfl ?_
    refine z_iload_n hb dJ19_stringSize_8 rfl ?_
    refine z_ineg hb dJ19_stringSize_9 ?_
    refine z_toI (y := ngI a) rfl ?_
    refine z_istore_n (lv' := [(0, .int (ngI a)), (1, .int (nI 0))]) hb dJ19_stringSize_10 (by rw [hN]; decide) rfl ?_
    refine z_bipush (x := (-10)) hb dJ19_stringSize_11 (by decide) ?_
    refine z_toI (y := ngI (10 ^ 1)) rfl ?_
    refine z_istore_n (lv' := [(2, .int (ngI (10 ^ 1))), (0, .int (ngI a)), (1, .int (nI 0))]) hb dJ19_stringSize_13 (by rw [hN]; decide) rfl ?_
    refine z_iconst (x := nI 1) hb dJ19_stringSize_14 (by decide) ?_
    refine z_istore_n (lv' := [(3, .int (nI 1)), (2, .int (ngI (10 ^ 1))), (0, .int (ngI a)), (1, .int (nI 0))]) hb dJ19_stringSize_15 (by rw [hN]; decide) rfl ?_
    have lp_16 : ∀ (k9_16 : Nat) (i : Nat), 11 - i < k9_16 → (1 ≤ i ∧ i ≤ 10 ∧ i ≤ nd) → z_V M h n 0 0 16 [(0, .int (ngI a)), (1, .int (nI 0)), (2, .int (ngI (10 ^ i))), (3, .int (nI i))] [] := by
      intro k9_16
      induction k9_16 with
      | zero => intro i hk9_16; exact absurd hk9_16 (Nat.not_lt_zero _)
      | succ k9_16 ih_16 =>
        intro i hk9_16 hi
        refine z_iload_n hb dJ19_stringSize_16 rfl ?_
        refine z_bipush (x := nI 10) hb dJ19_stringSize_17 (by decide) ?_
        refine z_icmp_geN (tgt := 42) hb dJ19_stringSize_19 (by decide) (by omega) (by omega) (fun c_19 => ?_) (fun c_19 => ?_)
        · refine z_bipush (x := nI 10) hb dJ19_stringSize_42 (by decide) ?_
          refine z_iload_n hb dJ19_stringSize_44 rfl ?_
          refine z_iadd hb dJ19_stringSize_45 ?_
          refine z_toI (y := nI 10) (nI_add 10 0) ?_
          refine z_iret hb hr dJ19_stringSize_46 ?_
          rw [hQ]
          obtain rfl : nd = 10 := Nat.le_antisymm (z_isd_lt hnd (show a < 10 ^ 10 by omega) (by omega)) (by omega)
          exact ⟨rfl, rfl, rfl⟩
        · refine z_iload_n hb dJ19_stringSize_22 rfl ?_
          refine z_iload_n hb dJ19_stringSize_23 rfl ?_
          refine z_icmp_le (tgt := 31) hb dJ19_stringSize_24 (by decide) (fun c_24 => ?_) (fun c_24 => ?_)
          · refine z_bipush (x := nI 10) hb dJ19_stringSize_31 (by decide) ?_
            refine z_iload_n hb dJ19_stringSize_33 rfl ?_
            refine z_imul hb dJ19_stringSize_34 ?_
            refine z_toI (y := ngI (10 ^ (i + 1))) (by unfold ngI; rw [Int32.mul_neg, pk_mul, Nat.pow_succ, Nat.mul_comm]) ?_
            refine z_istore_n (lv' := [(2, .int (ngI (10 ^ (i + 1)))), (0, .int (ngI a)), (1, .int (nI 0)), (3, .int (nI i))]) hb dJ19_stringSize_35 (by rw [hN]; decide) rfl ?_
            refine z_iinc (k0 := 3) (lv' := [(3, .int (nI (i + 1))), (2, .int (ngI (10 ^ (i + 1)))), (0, .int (ngI a)), (1, .int (nI 0))]) hb dJ19_stringSize_36 rfl (nI_1 i) (by rw [hN]; decide) rfl ?_
            refine z_goto (tgt := 16) hb dJ19_stringSize_39 (by decide) ?_
            refine z_lv [2, 3, 1, 0] (lv' := [(0, .int (ngI a)), (1, .int (nI 0)), (2, .int (ngI (10 ^ (i + 1)))), (3, .int (nI (i + 1)))]) rfl ?_
            exact ih_16 (i + 1) (by omega) ⟨by omega, by omega, z_isd_ge hnd (z_ss (by omega) (by omega) c_24)⟩
          · refine z_iload_n hb dJ19_stringSize_27 rfl ?_
            refine z_iload_n hb dJ19_stringSize_28 rfl ?_
            refine z_iadd hb dJ19_stringSize_29 ?_
            refine z_toI (y := nI i) (nI_add i 0) ?_
            refine z_iret hb hr dJ19_stringSize_30 ?_
            rw [hQ]
            obtain rfl : nd = i := Nat.le_antisymm (z_isd_lt hnd (z_ss2 (by omega) (by omega) c_24) (by omega)) (by omega)
            exact ⟨rfl, rfl, rfl⟩
    refine z_lv [2, 3, 1, 0] (lv' := [(0, .int (ngI a)), (1, .int (nI 0)), (2, .int (ngI (10 ^ 1))), (3, .int (nI 1))]) rfl ?_
    exact lp_16 _ 1 (Nat.lt_succ_self _) ⟨Nat.le_refl _, by omega, hnd.1⟩

set_option maxHeartbeats 1000000 in
theorem m_J19_stringSize_n {l : Launch} {G : zG} {h : zH} {n : Nat} {a nd : Nat} (ha : a ≤ 2 ^ 31 ∧ 1 ≤ a) (hnd : z_isd a nd) : z_C l G yJ19_stringSize 1 0 0 [.int (ngI a)] h n (z_rv (.int (nI (nd + 1))) h n) := by
  refine z_start zk_J19_stringSize zpl_RJ19 (Nat.le_of_ble_eq_true rfl) ?_
  intro hn0 M hl hG ho hb hN hr hm hH hrm hQ
  subst hl hG
  have ho : zm_o M = RJ19 := ho
  show z_V M h n 0 0 0 [(0, .int (ngI a))] []
  refine z_iconst (x := nI 1) hb dJ19_stringSize_0 (by decide) ?_
  refine z_istore_n (lv' := [(1, .int (nI 1)), (0, .int (ngI a))]) hb dJ19_stringSize_1 (by rw [hN]; decide) rfl ?_
  refine z_iload_n hb dJ19_stringSize_2 rfl ?_
  refine z_if_lt (tgt := 11) hb dJ19_stringSize_3 (by decide) (fun c_3 => ?_) (fun c_3 => ?_)
  · refine z_bipush (x := (-10)) hb dJ19_stringSize_11 (by decide) ?_
    refine z_toI (y := ngI (10 ^ 1)) rfl ?_
    refine z_istore_n (lv' := [(2, .int (ngI (10 ^ 1))), (1, .int (nI 1)), (0, .int (ngI a))]) hb dJ19_stringSize_13 (by rw [hN]; decide) rfl ?_
    refine z_iconst (x := nI 1) hb dJ19_stringSize_14 (by decide) ?_
    refine z_istore_n (lv' := [(3, .int (nI 1)), (2, .int (ngI (10 ^ 1))), (1, .int (nI 1)), (0, .int (ngI a))]) hb dJ19_stringSize_15 (by rw [hN]; decide) rfl ?_
    have lp_16 : ∀ (k9_16 : Nat) (i : Nat), 11 - i < k9_16 → (1 ≤ i ∧ i ≤ 10 ∧ i ≤ nd) → z_V M h n 0 0 16 [(0, .int (ngI a)), (1, .int (nI 1)), (2, .int (ngI (10 ^ i))), (3, .int (nI i))] [] := by
      intro k9_16
      induction k9_16 with
      | zero => intro i hk9_16; exact absurd hk9_16 (Nat.not_lt_zero _)
      | succ k9_16 ih_16 =>
        intro i hk9_16 hi
        refine z_iload_n hb dJ19_stringSize_16 rfl ?_
        refine z_bipush (x := nI 10) hb dJ19_stringSize_17 (by decide) ?_
        refine z_icmp_geN (tgt := 42) hb dJ19_stringSize_19 (by decide) (by omega) (by omega) (fun c_19 => ?_) (fun c_19 => ?_)
        · refine z_bipush (x := nI 10) hb dJ19_stringSize_42 (by decide) ?_
          refine z_iload_n hb dJ19_stringSize_44 rfl ?_
          refine z_iadd hb dJ19_stringSize_45 ?_
          refine z_toI (y := nI 11) (nI_add 10 1) ?_
          refine z_iret hb hr dJ19_stringSize_46 ?_
          rw [hQ]
          obtain rfl : nd = 10 := Nat.le_antisymm (z_isd_lt hnd (show a < 10 ^ 10 by omega) (by omega)) (by omega)
          exact ⟨rfl, rfl, rfl⟩
        · refine z_iload_n hb dJ19_stringSize_22 rfl ?_
          refine z_iload_n hb dJ19_stringSize_23 rfl ?_
          refine z_icmp_le (tgt := 31) hb dJ19_stringSize_24 (by decide) (fun c_24 => ?_) (fun c_24 => ?_)
          · refine z_bipush (x := nI 10) hb dJ19_stringSize_31 (by decide) ?_
            refine z_iload_n hb dJ19_stringSize_33 rfl ?_
            refine z_imul hb dJ19_stringSize_34 ?_
            refine z_toI (y := ngI (10 ^ (i + 1))) (by unfold ngI; rw [Int32.mul_neg, pk_mul, Nat.pow_succ, Nat.mul_comm]) ?_
            refine z_istore_n (lv' := [(2, .int (ngI (10 ^ (i + 1)))), (0, .int (ngI a)), (1, .int (nI 1)), (3, .int (nI i))]) hb dJ19_stringSize_35 (by rw [hN]; decide) rfl ?_
            refine z_iinc (k0 := 3) (lv' := [(3, .int (nI (i + 1))), (2, .int (ngI (10 ^ (i + 1)))), (0, .int (ngI a)), (1, .int (nI 1))]) hb dJ19_stringSize_36 rfl (nI_1 i) (by rw [hN]; decide) rfl ?_
            refine z_goto (tgt := 16) hb dJ19_stringSize_39 (by decide) ?_
            refine z_lv [2, 3, 1, 0] (lv' := [(0, .int (ngI a)), (1, .int (nI 1)), (2, .int (ngI (10 ^ (i + 1)))), (3, .int (nI (i + 1)))]) rfl ?_
            exact ih_16 (i + 1) (by omega) ⟨by omega, by omega, z_isd_ge hnd (z_ss (by omega) (by omega) c_24)⟩
          · refine z_iload_n hb dJ19_stringSize_27 rfl ?_
            refine z_iload_n hb dJ19_stringSize_28 rfl ?_
            refine z_iadd hb dJ19_stringSize_29 ?_
            refine z_toI (y := nI (i + 1)) (nI_add i 1) ?_
            refine z_iret hb hr dJ19_stringSize_30 ?_
            rw [hQ]
            obtain rfl : nd = i := Nat.le_antisymm (z_isd_lt hnd (z_ss2 (by omega) (by omega) c_24) (by omega)) (by omega)
            exact ⟨rfl, rfl, rfl⟩
    refine z_lv [3, 2, 1, 0] (lv' := [(0, .int (ngI a)), (1, .int (nI 1)), (2, .int (ngI (10 ^ 1))), (3, .int (nI 1))]) rfl ?_
    exact lp_16 _ 1 (Nat.lt_succ_self _) ⟨Nat.le_refl _, by omega, hnd.1⟩
  · exact absurd (Int32.lt_iff_toInt_lt.mpr (by rw [ngI_t ha.1]; show -(a : Int) < 0; omega)) c_3

set_option maxHeartbeats 1000000 in
theorem m_J19_getChars_p {l : Launch} {G : zG} {h : zH} {n : Nat} {a nd idx N e : Nat} {f0 : Nat → Int32} (hA : h e = some (z_ab G N f0)) (hd1 : h (G.2.2.1 1000) = some (z_ab G 100 z_on)) (hd2 : h (G.2.2.1 1001) = some (z_ab G 100 z_tn)) (he0 : z_n0 G ≤ e) (hn1 : G.2.2.1 1000 < z_n0 G ∧ G.2.2.1 1001 < z_n0 G) (hN9 : N < 1000) (hnd : z_isd a nd) (ha : a < 2 ^ 31) (hix : nd + 0 ≤ idx ∧ idx ≤ N) : z_C l G yJ19_getChars 1 0 0 [.int (nI a), .int (nI idx), .ref e] h n (z_rv (.int (nI (idx - nd - 0))) (z_up h e (z_ab G N (z_sgw f0 idx a nd false))) n) := by
  refine z_start zk_J19_getChars zpl_RJ19 (Nat.le_of_ble_eq_true rfl) ?_
  intro hn0 M hl hG ho hb hN hr hm hH hrm hQ
  subst hl hG
  have ho : zm_o M = RJ19 := ho
  have hne1 : (zm_G M).2.2.1 1000 ≠ e := by omega
  have hne2 : (zm_G M).2.2.1 1001 ≠ e := by omega
  show z_V M h n 0 0 0 [(0, .int (nI a)), (1, .int (nI idx)), (2, .ref e)] []
  refine z_iload_n hb dJ19_getChars_0 rfl ?_
  refine z_istore (lv' := [(5, .int (nI idx)), (0, .int (nI a)), (1, .int (nI idx)), (2, .ref e)]) hb dJ19_getChars_1 (by rw [hN]; decide) rfl ?_
  refine z_iload_n hb dJ19_getChars_3 rfl ?_
  refine z_if_ge (tgt := 11) hb dJ19_getChars_4 (by decide) (fun c_4 => ?_) (fun c_4 => ?_)
  · refine z_iconst (x := nI 0) hb dJ19_getChars_11 (by decide) ?_
    refine z_istore (lv' := [(6, .int (nI 0)), (5, .int (nI idx)), (0, .int (nI a)), (1, .int (nI idx)), (2, .ref e)]) hb dJ19_getChars_12 (by rw [hN]; decide) rfl ?_
    refine z_iload hb dJ19_getChars_14 rfl ?_
    refine z_if_neN (tgt := 22) hb dJ19_getChars_16 (by decide) (by omega) (fun c_16 => ?_) (fun c_16 => ?_)
    · exact absurd c_16 (by omega)
    · refine z_iload_n hb dJ19_getChars_19 rfl ?_
      refine z_ineg hb dJ19_getChars_20 ?_
      refine z_toI (y := ngI a) rfl ?_
      refine z_istore_n (lv' := [(0, .int (ngI a)), (6, .int (nI 0)), (5, .int (nI idx)), (1, .int (nI idx)), (2, .ref e)]) hb dJ19_getChars_21 (by rw [hN]; decide) rfl ?_
      have lp_22 : ∀ (k9_22 : Nat) (m : Nat), idx - m < k9_22 → (m + 1 ≤ nd) → z_V M (z_up h e (z_ab (zm_G M) N (z_wdg f0 idx a m))) n 0 0 22 [(5, .int (nI (idx - m))), (6, .int (nI 0)), (0, .int (ngI (a / 10 ^ m))), (1, .int (nI idx)), (2, .ref e)] [] := by
        intro k9_22
        induction k9_22 with
        | zero => intro m hk9_22; exact absurd hk9_22 (Nat.not_lt_zero _)
        | succ k9_22 ih_22 =>
          intro m hk9_22 hm
          refine z_iload_n hb dJ19_getChars_22 rfl ?_
          refine z_bipush (x := (-100)) hb dJ19_getChars_23 (by decide) ?_
          refine z_icmp_gt (tgt := 72) hb dJ19_getChars_25 (by decide) (fun c_25 => ?_) (fun c_25 => ?_)
          · have ham : a / 10 ^ m ≤ a := Nat.div_le_self _ _
            have hl9 : a / 10 ^ m < 100 := (z_ng100 (Nat.le_trans (Nat.div_le_self _ _) (by omega))).mp c_25
            have hm2 := z_isd_dlt hnd (k := 2) (show a / 10 ^ m < 10 ^ 2 by omega) (by omega)
            refine z_aload_n hb dJ19_getChars_72 rfl ?_
            refine z_iinc (k0 := 0) (lv' := [(5, .int (nI ((idx - m) - 1))), (6, .int (nI 0)), (0, .int (ngI (a / 10 ^ m))), (1, .int (nI idx)), (2, .ref e)]) hb dJ19_getChars_73 rfl (z_dN (k := 1) (by omega)) (by rw [hN]; decide) rfl ?_
            refine z_iload hb dJ19_getChars_76 rfl ?_
            refine z_gets (i := 4) hb ho rfl (zf_RJ19_83 _) dJ19_getChars_78 ?_
            refine z_iload_n hb dJ19_getChars_81 rfl ?_
            refine z_ineg hb dJ19_getChars_82 ?_
            refine z_toI (y := nI (a / 10 ^ m)) (ngI_ng _) ?_
            refine z_bald (j := a / 10 ^ m) hb dJ19_getChars_83 (z_nx rfl hne1 hd1) rfl (by omega) (by omega) ?_
            refine z_bast (j := (idx - m) - 1) (v := (z_on (a / 10 ^ m))) hb dJ19_getChars_84 z_up_s he0 rfl (by omega) (by omega) (z_on_nar _) ?_
            refine z_hn (fun h_1 eh_1 => ?_)
            have eh_1 : h_1 = z_up (z_up h e (z_ab (zm_G M) N (z_wdg f0 idx a m))) e (.inl ((zm_G M).2.1 3, N, .inl (va_up (z_wdg f0 idx a m) ((idx - m) - 1) (z_on (a / 10 ^ m))))) := eh_1
            have k_2 : h_1 ((zm_G M).2.2.1 1000) = some (.inl ((zm_G M).2.1 3, 100, .inl z_on)) := z_nx eh_1 hne1 (z_nx rfl hne1 hd1)
            have k_3 : h_1 ((zm_G M).2.2.1 1001) = some (.inl ((zm_G M).2.1 3, 100, .inl z_tn)) := z_nx eh_1 hne2 (z_nx rfl hne2 hd2)
            refine z_iload_n hb dJ19_getChars_85 rfl ?_
            refine z_bipush (x := (-9)) hb dJ19_getChars_86 (by decide) ?_
            refine z_icmp_ge (tgt := 104) hb dJ19_getChars_88 (by decide) (fun c_88 => ?_) (fun c_88 => ?_)
            · refine z_iload hb dJ19_getChars_104 rfl ?_
              refine z_if_eqN (tgt := 118) hb dJ19_getChars_106 (by decide) (by omega) (fun c_106 => ?_) (fun c_106 => ?_)
              · refine z_iload hb dJ19_getChars_118 rfl ?_
                refine z_iret hb hr dJ19_getChars_120 ?_
                rw [hQ]
                have hx9 : a / 10 ^ m ≤ 9 := (z_ng9 (by omega)).mp c_88
                obtain rfl : nd = m + 1 := by have := z_isd_dlt hnd (k := 1) (show a / 10 ^ m < 10 ^ 1 by omega) (by omega); omega
                refine ⟨congrArg (fun q => Outcome.returned (some q)) (congrArg (fun q => Value.int (nI q)) (by omega)), ?_, rfl⟩
                show _ = z_up h e (z_ab _ N (z_wdg f0 idx a (m + 1)))
                rw [eh_1, z_up_up, z_wdg_o' (by omega) hl9]
              · exact absurd c_106 (by omega)
            · have hx8 : ¬ a / 10 ^ m ≤ 9 := fun q => c_88 ((z_ng9 (by omega)).mpr q)
              have hm4 := z_isd_dge hnd (k := 1) (show 10 ^ 1 ≤ a / 10 ^ m by omega)
              refine z_aload_n hb dJ19_getChars_91 rfl ?_
              refine z_iinc (k0 := 0) (lv' := [(5, .int (nI (((idx - m) - 1) - 1))), (6, .int (nI 0)), (0, .int (ngI (a / 10 ^ m))), (1, .int (nI idx)), (2, .ref e)]) hb dJ19_getChars_92 rfl (z_dN (k := 1) (by omega)) (by rw [hN]; decide) rfl ?_
              refine z_iload hb dJ19_getChars_95 rfl ?_
              refine z_gets (i := 5) hb ho rfl (zf_RJ19_87 _) dJ19_getChars_97 ?_
              refine z_iload_n hb dJ19_getChars_100 rfl ?_
              refine z_ineg hb dJ19_getChars_101 ?_
              refine z_toI (y := nI (a / 10 ^ m)) (ngI_ng _) ?_
              refine z_bald (j := a / 10 ^ m) hb dJ19_getChars_102 k_3 rfl (by omega) (by omega) ?_
              refine z_bast (j := ((idx - m) - 1) - 1) (v := (z_tn (a / 10 ^ m))) hb dJ19_getChars_103 (z_nxs eh_1) he0 rfl (by omega) (by omega) (z_tn_nar (by omega)) ?_
              refine z_hn (fun h_4 eh_4 => ?_)
              have eh_4 : h_4 = z_up h_1 e (.inl ((zm_G M).2.1 3, N, .inl (va_up (va_up (z_wdg f0 idx a m) ((idx - m) - 1) (z_on (a / 10 ^ m))) (((idx - m) - 1) - 1) (z_tn (a / 10 ^ m))))) := eh_4
              have k_5 : h_4 ((zm_G M).2.2.1 1000) = some (.inl ((zm_G M).2.1 3, 100, .inl z_on)) := z_nx eh_4 hne1 k_2
              have k_6 : h_4 ((zm_G M).2.2.1 1001) = some (.inl ((zm_G M).2.1 3, 100, .inl z_tn)) := z_nx eh_4 hne2 k_3
              refine z_iload hb dJ19_getChars_104 rfl ?_
              refine z_if_eqN (tgt := 118) hb dJ19_getChars_106 (by decide) (by omega) (fun c_106 => ?_) (fun c_106 => ?_)
              · refine z_iload hb dJ19_getChars_118 rfl ?_
                refine z_iret hb hr dJ19_getChars_120 ?_
                rw [hQ]
                have hx9 : ¬ a / 10 ^ m ≤ 9 := fun q => c_88 ((z_ng9 (by omega)).mpr q)
                obtain rfl : nd = m + 2 := by have := z_isd_dge hnd (k := 1) (show 10 ^ 1 ≤ a / 10 ^ m by omega); omega
                refine ⟨congrArg (fun q => Outcome.returned (some q)) (congrArg (fun q => Value.int (nI q)) (by omega)), ?_, rfl⟩
                show _ = z_up h e (z_ab _ N (z_wdg f0 idx a (m + 2)))
                rw [eh_4, eh_1, z_up_up, z_up_up, z_wdg_o' (by omega) hl9, z_wdg_t' (by omega) hl9]
              · exact absurd c_106 (by omega)
          · have ham : a / 10 ^ m ≤ a := Nat.div_le_self _ _
            have hg9 : 100 ≤ a / 10 ^ m := by
              rcases Nat.lt_or_ge (a / 10 ^ m) 100 with q | q
              · exact absurd ((z_ng100 (by omega)).mpr q) c_25
              · exact q
            have hm3 := z_isd_dge hnd (k := 2) (show 10 ^ 2 ≤ a / 10 ^ m by omega)
            refine z_iload_n hb dJ19_getChars_28 rfl ?_
            refine z_bipush (x := nI 100) hb dJ19_getChars_29 (by decide) ?_
            refine z_idiv hb dJ19_getChars_31 (nI_ne0 (by omega) (by omega)) ?_
            refine z_toI (y := ngI (a / 10 ^ m / 100)) (ngI_div (by omega)) ?_
            refine z_istore_n (lv' := [(3, .int (ngI (a / 10 ^ m / 100))), (5, .int (nI (idx - m))), (6, .int (nI 0)), (0, .int (ngI (a / 10 ^ m))), (1, .int (nI idx)), (2, .ref e)]) hb dJ19_getChars_32 (by rw [hN]; decide) rfl ?_
            refine z_iload_n hb dJ19_getChars_33 rfl ?_
            refine z_bipush (x := nI 100) hb dJ19_getChars_34 (by decide) ?_
            refine z_imul hb dJ19_getChars_36 ?_
            refine z_iload_n hb dJ19_getChars_37 rfl ?_
            refine z_isub hb dJ19_getChars_38 ?_
            refine z_toI (y := nI (a / 10 ^ m % 100)) ngI_rem ?_
            refine z_istore (lv' := [(4, .int (nI (a / 10 ^ m % 100))), (3, .int (ngI (a / 10 ^ m / 100))), (5, .int (nI (idx - m))), (6, .int (nI 0)), (0, .int (ngI (a / 10 ^ m))), (1, .int (nI idx)), (2, .ref e)]) hb dJ19_getChars_39 (by rw [hN]; decide) rfl ?_
            refine z_iload_n hb dJ19_getChars_41 rfl ?_
            refine z_istore_n (lv' := [(0, .int (ngI (a / 10 ^ m / 100))), (4, .int (nI (a / 10 ^ m % 100))), (3, .int (ngI (a / 10 ^ m / 100))), (5, .int (nI (idx - m))), (6, .int (nI 0)), (1, .int (nI idx)), (2, .ref e)]) hb dJ19_getChars_42 (by rw [hN]; decide) rfl ?_
            refine z_aload_n hb dJ19_getChars_43 rfl ?_
            refine z_iinc (k0 := 3) (lv' := [(5, .int (nI ((idx - m) - 1))), (0, .int (ngI (a / 10 ^ m / 100))), (4, .int (nI (a / 10 ^ m % 100))), (3, .int (ngI (a / 10 ^ m / 100))), (6, .int (nI 0)), (1, .int (nI idx)), (2, .ref e)]) hb dJ19_getChars_44 rfl (z_dN (k := 1) (by omega)) (by rw [hN]; decide) rfl ?_
            refine z_iload hb dJ19_getChars_47 rfl ?_
            refine z_gets (i := 4) hb ho rfl (zf_RJ19_83 _) dJ19_getChars_49 ?_
            refine z_iload hb dJ19_getChars_52 rfl ?_
            refine z_bald (j := a / 10 ^ m % 100) hb dJ19_getChars_54 (z_nx rfl hne1 hd1) rfl (by omega) (by omega) ?_
            refine z_bast (j := (idx - m) - 1) (v := (z_on (a / 10 ^ m % 100))) hb dJ19_getChars_55 z_up_s he0 rfl (by omega) (by omega) (z_on_nar _) ?_
            refine z_hn (fun h_7 eh_7 => ?_)
            have eh_7 : h_7 = z_up (z_up h e (z_ab (zm_G M) N (z_wdg f0 idx a m))) e (.inl ((zm_G M).2.1 3, N, .inl (va_up (z_wdg f0 idx a m) ((idx - m) - 1) (z_on (a / 10 ^ m % 100))))) := eh_7
            have k_8 : h_7 ((zm_G M).2.2.1 1000) = some (.inl ((zm_G M).2.1 3, 100, .inl z_on)) := z_nx eh_7 hne1 (z_nx rfl hne1 hd1)
            have k_9 : h_7 ((zm_G M).2.2.1 1001) = some (.inl ((zm_G M).2.1 3, 100, .inl z_tn)) := z_nx eh_7 hne2 (z_nx rfl hne2 hd2)
            refine z_aload_n hb dJ19_getChars_56 rfl ?_
            refine z_iinc (k0 := 0) (lv' := [(5, .int (nI (((idx - m) - 1) - 1))), (0, .int (ngI (a / 10 ^ m / 100))), (4, .int (nI (a / 10 ^ m % 100))), (3, .int (ngI (a / 10 ^ m / 100))), (6, .int (nI 0)), (1, .int (nI idx)), (2, .ref e)]) hb dJ19_getChars_57 rfl (z_dN (k := 1) (by omega)) (by rw [hN]; decide) rfl ?_
            refine z_iload hb dJ19_getChars_60 rfl ?_
            refine z_gets (i := 5) hb ho rfl (zf_RJ19_87 _) dJ19_getChars_62 ?_
            refine z_iload hb dJ19_getChars_65 rfl ?_
            refine z_bald (j := a / 10 ^ m % 100) hb dJ19_getChars_67 k_9 rfl (by omega) (by omega) ?_
            refine z_bast (j := ((idx - m) - 1) - 1) (v := (z_tn (a / 10 ^ m % 100))) hb dJ19_getChars_68 (z_nxs eh_7) he0 rfl (by omega) (by omega) (z_tn_nar (by omega)) ?_
            refine z_hn (fun h_10 eh_10 => ?_)
            have eh_10 : h_10 = z_up h_7 e (.inl ((zm_G M).2.1 3, N, .inl (va_up (va_up (z_wdg f0 idx a m) ((idx - m) - 1) (z_on (a / 10 ^ m % 100))) (((idx - m) - 1) - 1) (z_tn (a / 10 ^ m % 100))))) := eh_10
            have k_11 : h_10 ((zm_G M).2.2.1 1000) = some (.inl ((zm_G M).2.1 3, 100, .inl z_on)) := z_nx eh_10 hne1 k_8
            have k_12 : h_10 ((zm_G M).2.2.1 1001) = some (.inl ((zm_G M).2.1 3, 100, .inl z_tn)) := z_nx eh_10 hne2 k_9
            refine z_goto (tgt := 22) hb dJ19_getChars_69 (by decide) ?_
            refine z_hh (h2 := z_up h e (z_ab (zm_G M) N (z_wdg f0 idx a (m + 2)))) (by rw [eh_10, eh_7, z_up_up, z_up_up, z_wdg_o (by omega), z_wdg_t (by omega)]) ?_
            refine z_lv [0, 4, 1, 5, 6] (lv' := [(5, .int (nI (((idx - m) - 1) - 1))), (6, .int (nI 0)), (0, .int (ngI (a / 10 ^ m / 100))), (1, .int (nI idx)), (2, .ref e)]) rfl ?_
            refine z_lvE (lv2 := [(5, .int (nI (idx - (m + 2)))), (6, .int (nI 0)), (0, .int (ngI (a / 10 ^ (m + 2)))), (1, .int (nI idx)), (2, .ref e)]) (by rw [show idx - m - 1 - 1 = idx - (m + 2) by omega, show a / 10 ^ m / 100 = a / 10 ^ (m + 2) from (z_dvs 2).symm]) ?_
            exact ih_22 (m + 2) (by omega) (by omega)
      refine z_lv [2, 1, 0, 3, 4] (lv' := [(5, .int (nI idx)), (6, .int (nI 0)), (0, .int (ngI a)), (1, .int (nI idx)), (2, .ref e)]) rfl ?_
      refine z_hh (h2 := z_up h e (z_ab (zm_G M) N (z_wdg f0 idx a 0))) (by rw [z_wdg_0, z_up_self hA]) ?_
      refine z_lvE (lv2 := [(5, .int (nI (idx - 0))), (6, .int (nI 0)), (0, .int (ngI (a / 10 ^ 0))), (1, .int (nI idx)), (2, .ref e)]) (by rw [z_dv0, Nat.sub_zero]) ?_
      exact lp_22 _ 0 (Nat.lt_succ_self _) hnd.1
  · exact absurd (nI_pos' ha) c_4

set_option maxHeartbeats 1000000 in
theorem m_J19_getChars_n {l : Launch} {G : zG} {h : zH} {n : Nat} {a nd idx N e : Nat} {f0 : Nat → Int32} (hA : h e = some (z_ab G N f0)) (hd1 : h (G.2.2.1 1000) = some (z_ab G 100 z_on)) (hd2 : h (G.2.2.1 1001) = some (z_ab G 100 z_tn)) (he0 : z_n0 G ≤ e) (hn1 : G.2.2.1 1000 < z_n0 G ∧ G.2.2.1 1001 < z_n0 G) (hN9 : N < 1000) (hnd : z_isd a nd) (ha : a ≤ 2 ^ 31 ∧ 1 ≤ a) (hix : nd + 1 ≤ idx ∧ idx ≤ N) : z_C l G yJ19_getChars 1 0 0 [.int (ngI a), .int (nI idx), .ref e] h n (z_rv (.int (nI (idx - nd - 1))) (z_up h e (z_ab G N (z_sgw f0 idx a nd true))) n) := by
  refine z_start zk_J19_getChars zpl_RJ19 (Nat.le_of_ble_eq_true rfl) ?_
  intro hn0 M hl hG ho hb hN hr hm hH hrm hQ
  subst hl hG
  have ho : zm_o M = RJ19 := ho
  have hne1 : (zm_G M).2.2.1 1000 ≠ e := by omega
  have hne2 : (zm_G M).2.2.1 1001 ≠ e := by omega
  show z_V M h n 0 0 0 [(0, .int (ngI a)), (1, .int (nI idx)), (2, .ref e)] []
  refine z_iload_n hb dJ19_getChars_0 rfl ?_
  refine z_istore (lv' := [(5, .int (nI idx)), (0, .int (ngI a)), (1, .int (nI idx)), (2, .ref e)]) hb dJ19_getChars_1 (by rw [hN]; decide) rfl ?_
  refine z_iload_n hb dJ19_getChars_3 rfl ?_
  refine z_if_ge (tgt := 11) hb dJ19_getChars_4 (by decide) (fun c_4 => ?_) (fun c_4 => ?_)
  · exact absurd c_4 (Int32.not_le.mpr (Int32.lt_iff_toInt_lt.mpr (by rw [ngI_t ha.1]; show -(a : Int) < 0; omega)))
  · refine z_iconst (x := nI 1) hb dJ19_getChars_7 (by decide) ?_
    refine z_goto (tgt := 12) hb dJ19_getChars_8 (by decide) ?_
    refine z_istore (lv' := [(6, .int (nI 1)), (5, .int (nI idx)), (0, .int (ngI a)), (1, .int (nI idx)), (2, .ref e)]) hb dJ19_getChars_12 (by rw [hN]; decide) rfl ?_
    refine z_iload hb dJ19_getChars_14 rfl ?_
    refine z_if_neN (tgt := 22) hb dJ19_getChars_16 (by decide) (by omega) (fun c_16 => ?_) (fun c_16 => ?_)
    · have lp_22 : ∀ (k9_22 : Nat) (m : Nat), idx - m < k9_22 → (m + 1 ≤ nd) → z_V M (z_up h e (z_ab (zm_G M) N (z_wdg f0 idx a m))) n 0 0 22 [(5, .int (nI (idx - m))), (6, .int (nI 1)), (0, .int (ngI (a / 10 ^ m))), (1, .int (nI idx)), (2, .ref e)] [] := by
        intro k9_22
        induction k9_22 with
        | zero => intro m hk9_22; exact absurd hk9_22 (Nat.not_lt_zero _)
        | succ k9_22 ih_22 =>
          intro m hk9_22 hm
          refine z_iload_n hb dJ19_getChars_22 rfl ?_
          refine z_bipush (x := (-100)) hb dJ19_getChars_23 (by decide) ?_
          refine z_icmp_gt (tgt := 72) hb dJ19_getChars_25 (by decide) (fun c_25 => ?_) (fun c_25 => ?_)
          · have ham : a / 10 ^ m ≤ a := Nat.div_le_self _ _
            have hl9 : a / 10 ^ m < 100 := (z_ng100 (Nat.le_trans (Nat.div_le_self _ _) (by omega))).mp c_25
            have hm2 := z_isd_dlt hnd (k := 2) (show a / 10 ^ m < 10 ^ 2 by omega) (by omega)
            refine z_aload_n hb dJ19_getChars_72 rfl ?_
            refine z_iinc (k0 := 0) (lv' := [(5, .int (nI ((idx - m) - 1))), (6, .int (nI 1)), (0, .int (ngI (a / 10 ^ m))), (1, .int (nI idx)), (2, .ref e)]) hb dJ19_getChars_73 rfl (z_dN (k := 1) (by omega)) (by rw [hN]; decide) rfl ?_
            refine z_iload hb dJ19_getChars_76 rfl ?_
            refine z_gets (i := 4) hb ho rfl (zf_RJ19_83 _) dJ19_getChars_78 ?_
            refine z_iload_n hb dJ19_getChars_81 rfl ?_
            refine z_ineg hb dJ19_getChars_82 ?_
            refine z_toI (y := nI (a / 10 ^ m)) (ngI_ng _) ?_
            refine z_bald (j := a / 10 ^ m) hb dJ19_getChars_83 (z_nx rfl hne1 hd1) rfl (by omega) (by omega) ?_
            refine z_bast (j := (idx - m) - 1) (v := (z_on (a / 10 ^ m))) hb dJ19_getChars_84 z_up_s he0 rfl (by omega) (by omega) (z_on_nar _) ?_
            refine z_hn (fun h_1 eh_1 => ?_)
            have eh_1 : h_1 = z_up (z_up h e (z_ab (zm_G M) N (z_wdg f0 idx a m))) e (.inl ((zm_G M).2.1 3, N, .inl (va_up (z_wdg f0 idx a m) ((idx - m) - 1) (z_on (a / 10 ^ m))))) := eh_1
            have k_2 : h_1 ((zm_G M).2.2.1 1000) = some (.inl ((zm_G M).2.1 3, 100, .inl z_on)) := z_nx eh_1 hne1 (z_nx rfl hne1 hd1)
            have k_3 : h_1 ((zm_G M).2.2.1 1001) = some (.inl ((zm_G M).2.1 3, 100, .inl z_tn)) := z_nx eh_1 hne2 (z_nx rfl hne2 hd2)
            refine z_iload_n hb dJ19_getChars_85 rfl ?_
            refine z_bipush (x := (-9)) hb dJ19_getChars_86 (by decide) ?_
            refine z_icmp_ge (tgt := 104) hb dJ19_getChars_88 (by decide) (fun c_88 => ?_) (fun c_88 => ?_)
            · refine z_iload hb dJ19_getChars_104 rfl ?_
              refine z_if_eqN (tgt := 118) hb dJ19_getChars_106 (by decide) (by omega) (fun c_106 => ?_) (fun c_106 => ?_)
              · exact absurd c_106 (by omega)
              · refine z_aload_n hb dJ19_getChars_109 rfl ?_
                refine z_iinc (k0 := 0) (lv' := [(5, .int (nI (((idx - m) - 1) - 1))), (6, .int (nI 1)), (0, .int (ngI (a / 10 ^ m))), (1, .int (nI idx)), (2, .ref e)]) hb dJ19_getChars_110 rfl (z_dN (k := 1) (by omega)) (by rw [hN]; decide) rfl ?_
                refine z_iload hb dJ19_getChars_113 rfl ?_
                refine z_bipush (x := nI 45) hb dJ19_getChars_115 (by decide) ?_
                refine z_bast (j := ((idx - m) - 1) - 1) (v := (nI 45)) hb dJ19_getChars_117 (z_nxs eh_1) he0 rfl (by omega) (by omega) rfl ?_
                refine z_hn (fun h_4 eh_4 => ?_)
                have eh_4 : h_4 = z_up h_1 e (.inl ((zm_G M).2.1 3, N, .inl (va_up (va_up (z_wdg f0 idx a m) ((idx - m) - 1) (z_on (a / 10 ^ m))) (((idx - m) - 1) - 1) (nI 45)))) := eh_4
                have k_5 : h_4 ((zm_G M).2.2.1 1000) = some (.inl ((zm_G M).2.1 3, 100, .inl z_on)) := z_nx eh_4 hne1 k_2
                have k_6 : h_4 ((zm_G M).2.2.1 1001) = some (.inl ((zm_G M).2.1 3, 100, .inl z_tn)) := z_nx eh_4 hne2 k_3
                refine z_iload hb dJ19_getChars_118 rfl ?_
                refine z_iret hb hr dJ19_getChars_120 ?_
                rw [hQ]
                have hx9 : a / 10 ^ m ≤ 9 := (z_ng9 (by omega)).mp c_88
                obtain rfl : nd = m + 1 := by have := z_isd_dlt hnd (k := 1) (show a / 10 ^ m < 10 ^ 1 by omega) (by omega); omega
                refine ⟨congrArg (fun q => Outcome.returned (some q)) (congrArg (fun q => Value.int (nI q)) (by omega)), ?_, rfl⟩
                show _ = z_up h e (z_ab _ N (va_up (z_wdg f0 idx a (m + 1)) (idx - (m + 1) - 1) (nI 45)))
                rw [show idx - (m + 1) - 1 = idx - m - 1 - 1 by omega, eh_4, eh_1, z_up_up, z_up_up, z_wdg_o' (by omega) hl9]
            · have hx8 : ¬ a / 10 ^ m ≤ 9 := fun q => c_88 ((z_ng9 (by omega)).mpr q)
              have hm4 := z_isd_dge hnd (k := 1) (show 10 ^ 1 ≤ a / 10 ^ m by omega)
              refine z_aload_n hb dJ19_getChars_91 rfl ?_
              refine z_iinc (k0 := 0) (lv' := [(5, .int (nI (((idx - m) - 1) - 1))), (6, .int (nI 1)), (0, .int (ngI (a / 10 ^ m))), (1, .int (nI idx)), (2, .ref e)]) hb dJ19_getChars_92 rfl (z_dN (k := 1) (by omega)) (by rw [hN]; decide) rfl ?_
              refine z_iload hb dJ19_getChars_95 rfl ?_
              refine z_gets (i := 5) hb ho rfl (zf_RJ19_87 _) dJ19_getChars_97 ?_
              refine z_iload_n hb dJ19_getChars_100 rfl ?_
              refine z_ineg hb dJ19_getChars_101 ?_
              refine z_toI (y := nI (a / 10 ^ m)) (ngI_ng _) ?_
              refine z_bald (j := a / 10 ^ m) hb dJ19_getChars_102 k_3 rfl (by omega) (by omega) ?_
              refine z_bast (j := ((idx - m) - 1) - 1) (v := (z_tn (a / 10 ^ m))) hb dJ19_getChars_103 (z_nxs eh_1) he0 rfl (by omega) (by omega) (z_tn_nar (by omega)) ?_
              refine z_hn (fun h_7 eh_7 => ?_)
              have eh_7 : h_7 = z_up h_1 e (.inl ((zm_G M).2.1 3, N, .inl (va_up (va_up (z_wdg f0 idx a m) ((idx - m) - 1) (z_on (a / 10 ^ m))) (((idx - m) - 1) - 1) (z_tn (a / 10 ^ m))))) := eh_7
              have k_8 : h_7 ((zm_G M).2.2.1 1000) = some (.inl ((zm_G M).2.1 3, 100, .inl z_on)) := z_nx eh_7 hne1 k_2
              have k_9 : h_7 ((zm_G M).2.2.1 1001) = some (.inl ((zm_G M).2.1 3, 100, .inl z_tn)) := z_nx eh_7 hne2 k_3
              refine z_iload hb dJ19_getChars_104 rfl ?_
              refine z_if_eqN (tgt := 118) hb dJ19_getChars_106 (by decide) (by omega) (fun c_106 => ?_) (fun c_106 => ?_)
              · exact absurd c_106 (by omega)
              · refine z_aload_n hb dJ19_getChars_109 rfl ?_
                refine z_iinc (k0 := 0) (lv' := [(5, .int (nI ((((idx - m) - 1) - 1) - 1))), (6, .int (nI 1)), (0, .int (ngI (a / 10 ^ m))), (1, .int (nI idx)), (2, .ref e)]) hb dJ19_getChars_110 rfl (z_dN (k := 1) (by omega)) (by rw [hN]; decide) rfl ?_
                refine z_iload hb dJ19_getChars_113 rfl ?_
                refine z_bipush (x := nI 45) hb dJ19_getChars_115 (by decide) ?_
                refine z_bast (j := (((idx - m) - 1) - 1) - 1) (v := (nI 45)) hb dJ19_getChars_117 (z_nxs eh_7) he0 rfl (by omega) (by omega) rfl ?_
                refine z_hn (fun h_10 eh_10 => ?_)
                have eh_10 : h_10 = z_up h_7 e (.inl ((zm_G M).2.1 3, N, .inl (va_up (va_up (va_up (z_wdg f0 idx a m) ((idx - m) - 1) (z_on (a / 10 ^ m))) (((idx - m) - 1) - 1) (z_tn (a / 10 ^ m))) ((((idx - m) - 1) - 1) - 1) (nI 45)))) := eh_10
                have k_11 : h_10 ((zm_G M).2.2.1 1000) = some (.inl ((zm_G M).2.1 3, 100, .inl z_on)) := z_nx eh_10 hne1 k_8
                have k_12 : h_10 ((zm_G M).2.2.1 1001) = some (.inl ((zm_G M).2.1 3, 100, .inl z_tn)) := z_nx eh_10 hne2 k_9
                refine z_iload hb dJ19_getChars_118 rfl ?_
                refine z_iret hb hr dJ19_getChars_120 ?_
                rw [hQ]
                have hx9 : ¬ a / 10 ^ m ≤ 9 := fun q => c_88 ((z_ng9 (by omega)).mpr q)
                obtain rfl : nd = m + 2 := by have := z_isd_dge hnd (k := 1) (show 10 ^ 1 ≤ a / 10 ^ m by omega); omega
                refine ⟨congrArg (fun q => Outcome.returned (some q)) (congrArg (fun q => Value.int (nI q)) (by omega)), ?_, rfl⟩
                show _ = z_up h e (z_ab _ N (va_up (z_wdg f0 idx a (m + 2)) (idx - (m + 2) - 1) (nI 45)))
                rw [show idx - (m + 2) - 1 = idx - m - 1 - 1 - 1 by omega, eh_10, eh_7, eh_1, z_up_up, z_up_up, z_up_up, z_wdg_o' (by omega) hl9, z_wdg_t' (by omega) hl9]
          · have ham : a / 10 ^ m ≤ a := Nat.div_le_self _ _
            have hg9 : 100 ≤ a / 10 ^ m := by
              rcases Nat.lt_or_ge (a / 10 ^ m) 100 with q | q
              · exact absurd ((z_ng100 (by omega)).mpr q) c_25
              · exact q
            have hm3 := z_isd_dge hnd (k := 2) (show 10 ^ 2 ≤ a / 10 ^ m by omega)
            refine z_iload_n hb dJ19_getChars_28 rfl ?_
            refine z_bipush (x := nI 100) hb dJ19_getChars_29 (by decide) ?_
            refine z_idiv hb dJ19_getChars_31 (nI_ne0 (by omega) (by omega)) ?_
            refine z_toI (y := ngI (a / 10 ^ m / 100)) (ngI_div (by omega)) ?_
            refine z_istore_n (lv' := [(3, .int (ngI (a / 10 ^ m / 100))), (5, .int (nI (idx - m))), (6, .int (nI 1)), (0, .int (ngI (a / 10 ^ m))), (1, .int (nI idx)), (2, .ref e)]) hb dJ19_getChars_32 (by rw [hN]; decide) rfl ?_
            refine z_iload_n hb dJ19_getChars_33 rfl ?_
            refine z_bipush (x := nI 100) hb dJ19_getChars_34 (by decide) ?_
            refine z_imul hb dJ19_getChars_36 ?_
            refine z_iload_n hb dJ19_getChars_37 rfl ?_
            refine z_isub hb dJ19_getChars_38 ?_
            refine z_toI (y := nI (a / 10 ^ m % 100)) ngI_rem ?_
            refine z_istore (lv' := [(4, .int (nI (a / 10 ^ m % 100))), (3, .int (ngI (a / 10 ^ m / 100))), (5, .int (nI (idx - m))), (6, .int (nI 1)), (0, .int (ngI (a / 10 ^ m))), (1, .int (nI idx)), (2, .ref e)]) hb dJ19_getChars_39 (by rw [hN]; decide) rfl ?_
            refine z_iload_n hb dJ19_getChars_41 rfl ?_
            refine z_istore_n (lv' := [(0, .int (ngI (a / 10 ^ m / 100))), (4, .int (nI (a / 10 ^ m % 100))), (3, .int (ngI (a / 10 ^ m / 100))), (5, .int (nI (idx - m))), (6, .int (nI 1)), (1, .int (nI idx)), (2, .ref e)]) hb dJ19_getChars_42 (by rw [hN]; decide) rfl ?_
            refine z_aload_n hb dJ19_getChars_43 rfl ?_
            refine z_iinc (k0 := 3) (lv' := [(5, .int (nI ((idx - m) - 1))), (0, .int (ngI (a / 10 ^ m / 100))), (4, .int (nI (a / 10 ^ m % 100))), (3, .int (ngI (a / 10 ^ m / 100))), (6, .int (nI 1)), (1, .int (nI idx)), (2, .ref e)]) hb dJ19_getChars_44 rfl (z_dN (k := 1) (by omega)) (by rw [hN]; decide) rfl ?_
            refine z_iload hb dJ19_getChars_47 rfl ?_
            refine z_gets (i := 4) hb ho rfl (zf_RJ19_83 _) dJ19_getChars_49 ?_
            refine z_iload hb dJ19_getChars_52 rfl ?_
            refine z_bald (j := a / 10 ^ m % 100) hb dJ19_getChars_54 (z_nx rfl hne1 hd1) rfl (by omega) (by omega) ?_
            refine z_bast (j := (idx - m) - 1) (v := (z_on (a / 10 ^ m % 100))) hb dJ19_getChars_55 z_up_s he0 rfl (by omega) (by omega) (z_on_nar _) ?_
            refine z_hn (fun h_13 eh_13 => ?_)
            have eh_13 : h_13 = z_up (z_up h e (z_ab (zm_G M) N (z_wdg f0 idx a m))) e (.inl ((zm_G M).2.1 3, N, .inl (va_up (z_wdg f0 idx a m) ((idx - m) - 1) (z_on (a / 10 ^ m % 100))))) := eh_13
            have k_14 : h_13 ((zm_G M).2.2.1 1000) = some (.inl ((zm_G M).2.1 3, 100, .inl z_on)) := z_nx eh_13 hne1 (z_nx rfl hne1 hd1)
            have k_15 : h_13 ((zm_G M).2.2.1 1001) = some (.inl ((zm_G M).2.1 3, 100, .inl z_tn)) := z_nx eh_13 hne2 (z_nx rfl hne2 hd2)
            refine z_aload_n hb dJ19_getChars_56 rfl ?_
            refine z_iinc (k0 := 0) (lv' := [(5, .int (nI (((idx - m) - 1) - 1))), (0, .int (ngI (a / 10 ^ m / 100))), (4, .int (nI (a / 10 ^ m % 100))), (3, .int (ngI (a / 10 ^ m / 100))), (6, .int (nI 1)), (1, .int (nI idx)), (2, .ref e)]) hb dJ19_getChars_57 rfl (z_dN (k := 1) (by omega)) (by rw [hN]; decide) rfl ?_
            refine z_iload hb dJ19_getChars_60 rfl ?_
            refine z_gets (i := 5) hb ho rfl (zf_RJ19_87 _) dJ19_getChars_62 ?_
            refine z_iload hb dJ19_getChars_65 rfl ?_
            refine z_bald (j := a / 10 ^ m % 100) hb dJ19_getChars_67 k_15 rfl (by omega) (by omega) ?_
            refine z_bast (j := ((idx - m) - 1) - 1) (v := (z_tn (a / 10 ^ m % 100))) hb dJ19_getChars_68 (z_nxs eh_13) he0 rfl (by omega) (by omega) (z_tn_nar (by omega)) ?_
            refine z_hn (fun h_16 eh_16 => ?_)
            have eh_16 : h_16 = z_up h_13 e (.inl ((zm_G M).2.1 3, N, .inl (va_up (va_up (z_wdg f0 idx a m) ((idx - m) - 1) (z_on (a / 10 ^ m % 100))) (((idx - m) - 1) - 1) (z_tn (a / 10 ^ m % 100))))) := eh_16
            have k_17 : h_16 ((zm_G M).2.2.1 1000) = some (.inl ((zm_G M).2.1 3, 100, .inl z_on)) := z_nx eh_16 hne1 k_14
            have k_18 : h_16 ((zm_G M).2.2.1 1001) = some (.inl ((zm_G M).2.1 3, 100, .inl z_tn)) := z_nx eh_16 hne2 k_15
            refine z_goto (tgt := 22) hb dJ19_getChars_69 (by decide) ?_
            refine z_hh (h2 := z_up h e (z_ab (zm_G M) N (z_wdg f0 idx a (m + 2)))) (by rw [eh_16, eh_13, z_up_up, z_up_up, z_wdg_o (by omega), z_wdg_t (by omega)]) ?_
            refine z_lv [0, 4, 1, 5, 6] (lv' := [(5, .int (nI (((idx - m) - 1) - 1))), (6, .int (nI 1)), (0, .int (ngI (a / 10 ^ m / 100))), (1, .int (nI idx)), (2, .ref e)]) rfl ?_
            refine z_lvE (lv2 := [(5, .int (nI (idx - (m + 2)))), (6, .int (nI 1)), (0, .int (ngI (a / 10 ^ (m + 2)))), (1, .int (nI idx)), (2, .ref e)]) (by rw [show idx - m - 1 - 1 = idx - (m + 2) by omega, show a / 10 ^ m / 100 = a / 10 ^ (m + 2) from (z_dvs 2).symm]) ?_
            exact ih_22 (m + 2) (by omega) (by omega)
      refine z_lv [1, 0, 2, 3, 4] (lv' := [(5, .int (nI idx)), (6, .int (nI 1)), (0, .int (ngI a)), (1, .int (nI idx)), (2, .ref e)]) rfl ?_
      refine z_hh (h2 := z_up h e (z_ab (zm_G M) N (z_wdg f0 idx a 0))) (by rw [z_wdg_0, z_up_self hA]) ?_
      refine z_lvE (lv2 := [(5, .int (nI (idx - 0))), (6, .int (nI 1)), (0, .int (ngI (a / 10 ^ 0))), (1, .int (nI idx)), (2, .ref e)]) (by rw [z_dv0, Nat.sub_zero]) ?_
      exact lp_22 _ 0 (Nat.lt_succ_self _) hnd.1
    · exact absurd c_16 (by omega)

