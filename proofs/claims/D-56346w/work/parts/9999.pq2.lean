/-! one bit of an Int32, of an Int64 -/
theorem z_pl_bt {x : Int32} {o : Nat} (ho : o < 32) : tw_pl x o = bt x o := by
  have h0 : bt (nI 1) 0 = true := by decide
  have hz : ∀ i, i < 32 → i ≠ 0 → bt (nI 1) i = false := by decide +kernel
  have h1 : bt ((x >>> (nI o &&& 31)) &&& nI 1) 0 = bt x o := by
    rw [b_and, b_sshr o ho x (by omega), if_pos (by omega), Nat.add_zero, h0, Bool.and_true]
  have h2 : ∀ i, i < 32 → i ≠ 0 → bt ((x >>> (nI o &&& 31)) &&& nI 1) i = false := fun i hi q => by
    rw [b_and, hz i hi q, Bool.and_false]
  unfold tw_pl
  cases hb : bt x o
  · refine decide_eq_false fun e => ?_
    rw [e, h0, hb] at h1
    cases h1
  · refine decide_eq_true (b_ext fun i hi => ?_)
    by_cases q : i = 0
    · subst q; rw [h1, hb, h0]
    · rw [h2 i hi q, hz i hi q]
theorem z_bt_nI {q o : Nat} (ho : o < 32) : bt (nI q) o = q.testBit o := by
  show (BitVec.ofNat 32 q).getLsbD o = _
  rw [BitVec.getLsbD_ofNat, decide_eq_true ho, Bool.true_and]
theorem z_bt_sh {f o : Nat} (hf : f < 8) (ho : o < 8) : bt (nI 1 <<< (nI f &&& 31)) o = decide (f = o) := by
  have : ∀ f, f < 8 → ∀ o, o < 8 → bt (nI 1 <<< (nI f &&& 31)) o = decide (f = o) := by decide +kernel
  exact this f hf o ho
def z_g (v : Int64) (i : Nat) : Bool := v.toBitVec.getLsbD i
theorem z_g_ext {x y : Int64} (h : ∀ i, i < 64 → z_g x i = z_g y i) : x = y := Int64.toBitVec_inj.mp (BitVec.eq_of_getLsbD_eq (fun i hi => h i hi))
theorem z_g_or (x y : Int64) (i : Nat) : z_g (x ||| y) i = (z_g x i || z_g y i) := by unfold z_g; rw [Int64.toBitVec_or, BitVec.getLsbD_or]
theorem z_g_and (x y : Int64) (i : Nat) : z_g (x &&& y) i = (z_g x i && z_g y i) := by unfold z_g; rw [Int64.toBitVec_and, BitVec.getLsbD_and]
theorem z_g_0 (i : Nat) : z_g 0 i = false := BitVec.getLsbD_zero
theorem z_g_lN {m i : Nat} (hi : i < 64) : z_g (lN m) i = m.testBit i := by
  show (BitVec.ofNat 64 m).getLsbD i = _
  rw [BitVec.getLsbD_ofNat, decide_eq_true hi, Bool.true_and]
theorem z_g_shr {p : Nat} (hp : p < 64) (v : Int64) {i : Nat} (hi : i < 64) : z_g (v >>> ((nI p).toInt64 &&& 63)) i = if p + i < 64 then z_g v (p + i) else z_g v 63 := by
  have h1 : (BitVec.ofNat 64 p).toNat = p := by rw [BitVec.toNat_ofNat, Nat.mod_eq_of_lt (by omega)]
  unfold z_g
  rw [wb_c p hp, Int64.toBitVec_shiftRight]
  show (v.toBitVec.sshiftRight ((lN p).toBitVec.smod 64).toNat).getLsbD i = _
  rw [wb_tb, wb_sm p hp, h1, BitVec.getLsbD_sshiftRight, BitVec.msb_eq_getLsbD_last]
  simp [hi]
theorem z_g_sh {p i : Nat} (hp : p < 64) (hi : i < 64) : z_g (1 <<< ((nI p).toInt64 &&& 63)) i = decide (p = i) := by
  rw [show (1 : Int64) = lN 1 from rfl, wb_shl 1 hp, Nat.one_mul, z_g_lN hi, Nat.testBit_two_pow]
theorem z_bit_g {v : Int64} {p : Nat} (hp : p < 64) : tw_bit v p = z_g v p := by
  have h0 : z_g 1 0 = true := by decide
  have hz : ∀ i, i < 64 → i ≠ 0 → z_g 1 i = false := by decide +kernel
  have h1 : z_g ((v >>> ((nI p).toInt64 &&& 63)) &&& 1) 0 = z_g v p := by
    rw [z_g_and, z_g_shr hp v (by omega), if_pos (by omega), Nat.add_zero, h0, Bool.and_true]
  have h2 : ∀ i, i < 64 → i ≠ 0 → z_g ((v >>> ((nI p).toInt64 &&& 63)) &&& 1) i = false := fun i hi q => by
    rw [z_g_and, hz i hi q, Bool.and_false]
  unfold tw_bit
  cases hb : z_g v p
  · refine decide_eq_false fun e => ?_
    rw [e, h0, hb] at h1
    cases h1
  · refine decide_eq_true (z_g_ext fun i hi => ?_)
    by_cases q : i = 0
    · subst q; rw [h1, hb, h0]
    · rw [h2 i hi q, hz i hi q]
/-! which steps a step depends on -/
theorem z_lr_at {w v : Nat → Int32} {S o : Nat} (hi : z_inp w S) (hS : S ≤ 8) (ho : o < 8) : ∀ K, K ≤ S → ∀ j, j < K → bt (tw_lr w v K j) o = z_dp w o K j
  | 0, _, j, hj => absurd hj (Nat.not_lt_zero _)
  | K + 1, hK, j, hj => by
    show bt (va_up (tw_lr w v K) K (tw_lr1 w (tw_lr w v K) K) j) o = (if j = K then (if tw_base w K then false else (decide (tw_f w K = o) || decide (tw_s w K = o)) || (z_dp w o K (tw_f w K) || z_dp w o K (tw_s w K))) else z_dp w o K j)
    unfold va_up
    by_cases q : j = K
    · rw [if_pos q, if_pos q]
      unfold tw_lr1
      cases hb : tw_base w K
      · obtain ⟨h1, h2⟩ := hi.lt (by omega) hb
        rw [if_neg Bool.false_ne_true, if_neg Bool.false_ne_true, b_or, b_or, b_or, z_bt_sh (by omega) ho, z_bt_sh (by omega) ho, z_lr_at hi hS ho K (by omega) _ h1, z_lr_at hi hS ho K (by omega) _ h2]
        cases decide (tw_f w K = o) <;> cases decide (tw_s w K = o) <;> cases z_dp w o K (tw_f w K) <;> cases z_dp w o K (tw_s w K) <;> rfl
      · rw [if_pos rfl, if_pos rfl]; exact b_0 o
    · rw [if_neg q, if_neg q]
      exact z_lr_at hi hS ho K (by omega) j (by omega)
theorem z_lr_dp {w v : Nat → Int32} {S k o : Nat} (hi : z_inp w S) (hS : S ≤ 8) (hk : k < S) (ho : o < S) : decide ((tw_lr w v S k >>> (nI o &&& 31)) &&& nI 1 = nI 1) = z_dp w o (k + 1) k := by
  show tw_pl (tw_lr w v S k) o = _
  rw [z_pl_bt (by omega), z_lr_at hi hS (by omega) S (Nat.le_refl _) k hk, z_dp_st hk]
/-! rows behind a number: one row's bit -/
def z_anN (F : Nat → Bool) : Nat → Bool
  | 0 => false
  | e + 1 => z_anN F e || F e
theorem z_anN_cg {F F' : Nat → Bool} : ∀ e, (∀ x, x < e → F x = F' x) → z_anN F e = z_anN F' e
  | 0, _ => rfl
  | e + 1, h => by rw [z_anN, z_anN, z_anN_cg e fun x hx => h x (by omega), h e (by omega)]
def z_bq (w : Nat → Int32) (cnt : Nat → Nat → Bool) (B : Nat → Nat → Bool) (k d : Nat) : Bool :=
  if tw_base w k then cnt k d else if w (176 + 4 * k) = nI 107 then B (tw_f w k) d else if w (176 + 4 * k) = nI 114 then z_anN (B (tw_f w k)) (d + 1) else B (tw_f w k) d || B (tw_s w k) d
theorem z_bq_u {w : Nat → Int32} {S D : Nat} {cnt : Nat → Nat → Bool} {B C : Nat → Nat → Bool} (hi : z_inp w S) (hB : ∀ k, k < S → ∀ d, d ≤ D → B k d = z_bq w cnt B k d) (hC : ∀ k, k < S → ∀ d, d ≤ D → C k d = z_bq w cnt C k d) : ∀ n k, k < n → k < S → ∀ d, d ≤ D → B k d = C k d
  | 0, k, h0 => absurd h0 (Nat.not_lt_zero _)
  | n + 1, k, h0 => fun hk d hd => by
    rw [hB k hk d hd, hC k hk d hd]
    unfold z_bq
    cases hb : tw_base w k
    · obtain ⟨h1, h2⟩ := hi.lt hk hb
      have e : ∀ j, j < k → ∀ x, x ≤ d → B j x = C j x := fun j hj x hx => z_bq_u hi hB hC n j (by omega) (by omega) x (by omega)
      rw [e _ h1 d (Nat.le_refl _), e _ h2 d (Nat.le_refl _), z_anN_cg (d + 1) fun x hx => e _ h1 x (by omega)]
    · rfl
theorem z_bq_c {w : Nat → Int32} {cnt cnt' : Nat → Nat → Bool} {B : Nat → Nat → Bool} {k d : Nat} (h : tw_base w k = true → cnt k d = cnt' k d) : z_bq w cnt B k d = z_bq w cnt' B k d := by
  unfold z_bq
  cases hb : tw_base w k
  · rfl
  · rw [if_pos rfl, if_pos rfl, h hb]
theorem z_g_own {w : Nat → Int32} {k : Nat} {d g : Int32} {p : Nat} : ∀ n, n ≤ 64 → z_g (tw_own w k d g n) p = (decide (p < n) && tw_cnt w p k d g)
  | 0, _ => by rw [show tw_own w k d g 0 = 0 from rfl, z_g_0]; rfl
  | n + 1, hn => by
    rw [tw_own, z_g_or, z_g_own n (by omega)]
    by_cases h64 : p < 64
    · have e : z_g (if tw_cnt w n k d g then (1 : Int64) <<< ((nI n).toInt64 &&& 63) else 0) p = (tw_cnt w n k d g && decide (n = p)) := by
        cases tw_cnt w n k d g
        · exact z_g_0 p
        · rw [if_pos rfl, z_g_sh (by omega) h64]; rfl
      rw [e]
      by_cases q : p = n
      · subst q
        simp
      · have : decide (n = p) = false := decide_eq_false (fun z => q z.symm)
        rw [this, Bool.and_false, Bool.or_false]
        congr 1
        by_cases z : p < n
        · rw [decide_eq_true z, decide_eq_true (by omega)]
        · rw [decide_eq_false z, decide_eq_false (by omega)]
    · rw [show z_g (if tw_cnt w n k d g then (1 : Int64) <<< ((nI n).toInt64 &&& 63) else 0) p = false from BitVec.getLsbD_of_ge _ _ (by omega), decide_eq_false (show ¬ p < n by omega), decide_eq_false (show ¬ p < n + 1 by omega)]
      rfl
/-- the component's table of rows behind -/
def z_ub (w : Nat → Int32) (R g : Nat) : Nat → (Nat → Int64)
  | 0 => fun _ => 0
  | k + 1 => fun j => if 7 * k ≤ j ∧ j < 7 * k + 7 then z_rbk w (z_ub w R g k) R g k (j - 7 * k) else z_ub w R g k j
theorem z_rbr_cg {u u' : Nat → Int64} {a : Nat} : ∀ e, (∀ x, x < e → u (7 * a + x) = u' (7 * a + x)) → z_rbr u a e = z_rbr u' a e
  | 0, _ => rfl
  | e + 1, h => by rw [z_rbr, z_rbr, z_rbr_cg e fun x hx => h x (by omega), h e (by omega)]
theorem z_rbk_cg {w : Nat → Int32} {u u' : Nat → Int64} {S R g k d : Nat} (hi : z_inp w S) (hk : k < S) (h : ∀ j, j < k → ∀ x, x ≤ d → u (7 * j + x) = u' (7 * j + x)) : z_rbk w u R g k d = z_rbk w u' R g k d := by
  unfold z_rbk
  cases hb : tw_base w k
  · obtain ⟨h1, h2⟩ := hi.lt hk hb
    rw [h _ h1 d (Nat.le_refl _), h _ h2 d (Nat.le_refl _), z_rbr_cg (d + 1) fun x hx => h _ h1 x (by omega)]
  · rfl
theorem z_ub_st {w : Nat → Int32} {R g k d : Nat} (hd : d < 7) : ∀ K, k < K → z_ub w R g K (7 * k + d) = z_rbk w (z_ub w R g k) R g k d
  | 0, h => absurd h (Nat.not_lt_zero _)
  | K + 1, h => by
    show (if 7 * K ≤ 7 * k + d ∧ 7 * k + d < 7 * K + 7 then z_rbk w (z_ub w R g K) R g K (7 * k + d - 7 * K) else z_ub w R g K (7 * k + d)) = _
    by_cases q : k = K
    · subst q
      rw [if_pos (by omega), Nat.add_sub_cancel_left]
    · rw [if_neg (by omega), z_ub_st hd K (by omega)]
theorem z_ub_at {w : Nat → Int32} {S R g k d : Nat} (hi : z_inp w S) (hk : k < S) (hd : d < 7) : z_ub w R g S (7 * k + d) = z_rbk w (z_ub w R g S) R g k d := by
  rw [z_ub_st hd S hk]
  exact z_rbk_cg hi hk fun j hj x hx => by rw [z_ub_st (by omega) k hj, z_ub_st (by omega) S (by omega)]
theorem z_g_rbr {u : Nat → Int64} {a p : Nat} : ∀ e, z_g (z_rbr u a e) p = z_anN (fun x => z_g (u (7 * a + x)) p) e
  | 0 => z_g_0 p
  | e + 1 => by rw [z_rbr, z_g_or, z_g_rbr e]; rfl
theorem z_g_rbk {w : Nat → Int32} {u : Nat → Int64} {R g k d p : Nat} (hR : R ≤ 40) (hp : p < R) : z_g (z_rbk w u R g k d) p = z_bq w (fun k d => tw_cnt w p k (nI d) (nI g)) (fun k d => z_g (u (7 * k + d)) p) k d := by
  unfold z_rbk z_bq
  cases tw_base w k
  · rw [if_neg Bool.false_ne_true, if_neg Bool.false_ne_true]
    split
    · rfl
    · split
      · exact z_g_rbr (d + 1)
      · exact z_g_or _ _ _
  · rw [if_pos rfl, if_pos rfl, z_g_own R (by omega), decide_eq_true hp, Bool.true_and]

