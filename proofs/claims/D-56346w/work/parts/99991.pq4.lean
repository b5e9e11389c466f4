/-! Long.bitCount -/
def z_mk (c : Nat) : Nat → Nat
  | 0 => 0
  | j + 1 => 256 * z_mk c j + c
def z_s1 (K n : Nat) : Nat := n - ((n / 2) &&& K)
def z_s2 (K n : Nat) : Nat := (n &&& K) + ((n / 4) &&& K)
def z_s3 (K n : Nat) : Nat := (n + n / 16) &&& K
theorem z_ands {a b K c : Nat} (hb : b < 256) (hc : c < 256) : (256 * a + b) &&& (256 * K + c) = 256 * (a &&& K) + (b &&& c) := by
  have h1 : ((256 * a + b) &&& (256 * K + c)) / 256 = a &&& K := by
    have := Nat.and_div_two_pow (a := 256 * a + b) (b := 256 * K + c) (n := 8)
    rw [show (2 : Nat) ^ 8 = 256 from rfl] at this
    rw [this]
    congr 1 <;> omega
  have h2 : ((256 * a + b) &&& (256 * K + c)) % 256 = b &&& c := by
    have := Nat.and_mod_two_pow (a := 256 * a + b) (b := 256 * K + c) (n := 8)
    rw [show (2 : Nat) ^ 8 = 256 from rfl] at this
    rw [this]
    congr 1 <;> omega
  omega
theorem z_s1_s {j q r : Nat} (hr : r < 256) : z_s1 (z_mk 85 (j + 1)) (256 * q + r) = 256 * z_s1 (z_mk 85 j) q + z_s1 85 r := by
  have e : ∀ t, t < 2 → ∀ r, r < 256 → (128 * t + r / 2) &&& 85 = (r / 2) &&& 85 := by decide +kernel
  have h1 : (256 * q + r) / 2 = 256 * (q / 2) + (128 * (q % 2) + r / 2) := by omega
  unfold z_s1
  rw [h1, z_mk, z_ands (by omega) (by omega), e _ (Nat.mod_lt _ (by decide)) r hr]
  have g1 : (q / 2 &&& z_mk 85 j) ≤ q / 2 := Nat.and_le_left
  have g2 : (r / 2 &&& 85) ≤ r / 2 := Nat.and_le_left
  omega
theorem z_s2_s {j q r : Nat} (hr : r < 256) : z_s2 (z_mk 51 (j + 1)) (256 * q + r) = 256 * z_s2 (z_mk 51 j) q + z_s2 51 r := by
  have e : ∀ t, t < 4 → ∀ r, r < 256 → (64 * t + r / 4) &&& 51 = (r / 4) &&& 51 := by decide +kernel
  have h1 : (256 * q + r) / 4 = 256 * (q / 4) + (64 * (q % 4) + r / 4) := by omega
  unfold z_s2
  rw [h1, z_mk, z_ands hr (by omega), z_ands (b := 64 * (q % 4) + r / 4) (by omega) (by omega), e _ (Nat.mod_lt _ (by decide)) r hr]
  omega
theorem z_s3_s {j q r : Nat} (hr : r < 69) (hq : q % 16 ≤ 4) : z_s3 (z_mk 15 (j + 1)) (256 * q + r) = 256 * z_s3 (z_mk 15 j) q + z_s3 15 r := by
  have e : ∀ t, t < 5 → ∀ r, r < 69 → r + 16 * t + r / 16 < 256 ∧ (r + 16 * t + r / 16) &&& 15 = (r + r / 16) &&& 15 := by decide +kernel
  obtain ⟨e1, e2⟩ := e (q % 16) (by omega) r hr
  have h1 : (256 * q + r) + (256 * q + r) / 16 = 256 * (q + q / 16) + (r + 16 * (q % 16) + r / 16) := by omega
  unfold z_s3
  rw [h1, z_mk, z_ands e1 (by omega), e2]
def z_p8 (r : Nat) : Nat := z_s3 15 (z_s2 51 (z_s1 85 r))
def z_pw (j n : Nat) : Nat := z_s3 (z_mk 15 j) (z_s2 (z_mk 51 j) (z_s1 (z_mk 85 j) n))
theorem z_nib : ∀ j n, n < 256 ^ j → (z_s2 (z_mk 51 j) (z_s1 (z_mk 85 j) n)) % 16 ≤ 4
  | 0, n, h => by
    rw [show n = 0 by simpa using h]
    decide
  | j + 1, n, h => by
    have e : ∀ r, r < 256 → z_s1 85 r < 256 ∧ z_s2 51 (z_s1 85 r) % 16 ≤ 4 := by decide +kernel
    obtain ⟨e1, e2⟩ := e (n % 256) (Nat.mod_lt _ (by decide))
    rw [show n = 256 * (n / 256) + n % 256 by omega, z_s1_s (Nat.mod_lt _ (by decide)), z_s2_s e1]
    omega
theorem z_pw_s {j q r : Nat} (hr : r < 256) (hq : q < 256 ^ j) : z_pw (j + 1) (256 * q + r) = 256 * z_pw j q + z_p8 r := by
  have e : ∀ r, r < 256 → z_s1 85 r < 256 ∧ z_s2 51 (z_s1 85 r) < 69 := by decide +kernel
  obtain ⟨e1, e2⟩ := e r hr
  unfold z_pw z_p8
  rw [z_s1_s hr, z_s2_s e1, z_s3_s e2 (z_nib j q hq)]
/-- the number of bits below k -/
def z_bn (n : Nat) : Nat → Nat
  | 0 => 0
  | k + 1 => z_bn n k + (n.testBit k).toNat
theorem z_bn_s {n : Nat} : ∀ k, z_bn n (k + 1) = (n.testBit 0).toNat + z_bn (n / 2) k
  | 0 => by simp [z_bn]
  | k + 1 => by
    rw [z_bn, z_bn_s k, z_bn, Nat.testBit_succ]
    omega
theorem z_bn8 {q r : Nat} (hr : r < 256) (k : Nat) : z_bn (256 * q + r) (8 + k) = z_p8 r + z_bn q k := by
  have h : ∀ (n m : Nat), z_bn n (m + k) = z_bn n m + z_bn (n / 2 ^ m) k := by
    intro n m
    induction m generalizing n with
    | zero => simp [z_bn]
    | succ m ih => rw [show m + 1 + k = (m + k) + 1 by omega, z_bn_s, ih, z_bn_s, Nat.pow_succ, Nat.mul_comm, Nat.div_div_eq_div_mul]; omega
  rw [h, show (256 * q + r) / 2 ^ 8 = q by omega]
  congr 1
  have e : ∀ r, r < 256 → z_bn r 8 = z_p8 r := by decide +kernel
  rw [← e r hr]
  have c : ∀ j, j ≤ 8 → z_bn (256 * q + r) j = z_bn r j := by
    intro j
    induction j with
    | zero => intro _; rfl
    | succ j ih =>
      intro hj
      rw [z_bn, z_bn, ih (by omega)]
      congr 2
      rw [show 256 * q + r = 2 ^ 8 * q + r by omega, Nat.testBit_two_pow_mul_add q (show r < 2 ^ 8 by omega) j, if_pos (by omega)]
  exact c 8 (Nat.le_refl _)
theorem z_p8_le {r : Nat} (hr : r < 256) : z_p8 r ≤ 8 := by
  have e : ∀ r, r < 256 → z_p8 r ≤ 8 := by decide +kernel
  exact e r hr
theorem z_pw0 (n : Nat) (h : n < 256 ^ 0) : z_pw 0 n = 0 := by
  rw [show n = 0 by simpa using h]
  decide
def z_t1 (x : Nat) : Nat := x + x / 256
def z_t2 (x : Nat) : Nat := x + x / 65536
def z_t3 (x : Nat) : Nat := x + x / 4294967296
/-- bytes of at most eight are summed up -/
theorem z_sum9 {a b c d e f g h : Nat} (ha : a ≤ 8) (hb : b ≤ 8) (hc : c ≤ 8) (hd : d ≤ 8) (he : e ≤ 8) (hf : f ≤ 8) (hg : g ≤ 8) (hh : h ≤ 8) {x : Nat} (hx : x = a + 256 * (b + 256 * (c + 256 * (d + 256 * (e + 256 * (f + 256 * (g + 256 * h))))))) : z_t3 (z_t2 (z_t1 x)) % 128 = a + b + c + d + e + f + g + h ∧ z_t3 (z_t2 (z_t1 x)) < 2 ^ 63 ∧ z_t2 (z_t1 x) < 2 ^ 63 ∧ z_t1 x < 2 ^ 63 ∧ x < 2 ^ 63 := by
  have t1 : z_t1 x = (a + b) + 256 * ((b + c) + 256 * ((c + d) + 256 * ((d + e) + 256 * ((e + f) + 256 * ((f + g) + 256 * ((g + h) + 256 * h)))))) := by
    have : x / 256 = b + 256 * (c + 256 * (d + 256 * (e + 256 * (f + 256 * (g + 256 * h))))) := by omega
    unfold z_t1
    omega
  generalize z_t1 x = y at t1 ⊢
  have t2 : z_t2 y = (a + b + (c + d)) + 256 * ((b + c + (d + e)) + 256 * ((c + d + (e + f)) + 256 * ((d + e + (f + g)) + 256 * ((e + f + (g + h)) + 256 * ((f + g + h) + 256 * ((g + h) + 256 * h)))))) := by
    have : y / 65536 = (c + d) + 256 * ((d + e) + 256 * ((e + f) + 256 * ((f + g) + 256 * ((g + h) + 256 * h)))) := by omega
    unfold z_t2
    omega
  generalize z_t2 y = z at t2 ⊢
  have t3 : z / 4294967296 = (e + f + (g + h)) + 256 * ((f + g + h) + 256 * ((g + h) + 256 * h)) := by omega
  unfold z_t3
  refine ⟨?_, ?_, ?_, ?_, ?_⟩ <;> omega
theorem z_pwU {j n : Nat} (h : n < 256 ^ (j + 1)) : z_pw (j + 1) n = z_p8 (n % 256) + 256 * z_pw j (n / 256) ∧ n / 256 < 256 ^ j ∧ z_p8 (n % 256) ≤ 8 ∧ ∀ k, z_bn n (8 + k) = z_p8 (n % 256) + z_bn (n / 256) k := by
  have hq : n / 256 < 256 ^ j := by rw [Nat.pow_succ] at h; omega
  have hr : n % 256 < 256 := Nat.mod_lt _ (by decide)
  have e : 256 * (n / 256) + n % 256 = n := by omega
  refine ⟨?_, hq, z_p8_le hr, fun k => ?_⟩
  · have := z_pw_s (j := j) hr hq
    rw [e] at this
    omega
  · have := z_bn8 (q := n / 256) hr k
    rw [e] at this
    exact this
theorem z_pw8 {m : Nat} (h : m < 2 ^ 64) : z_t3 (z_t2 (z_t1 (z_pw 8 m))) % 128 = z_bn m 64 ∧ z_t3 (z_t2 (z_t1 (z_pw 8 m))) < 2 ^ 63 ∧ z_t2 (z_t1 (z_pw 8 m)) < 2 ^ 63 ∧ z_t1 (z_pw 8 m) < 2 ^ 63 ∧ z_pw 8 m < 2 ^ 63 := by
  obtain ⟨a1, a2, a3, a4⟩ := z_pwU (j := 7) (n := m) (by simpa using h)
  obtain ⟨b1, b2, b3, b4⟩ := z_pwU (j := 6) a2
  obtain ⟨c1, c2, c3, c4⟩ := z_pwU (j := 5) b2
  obtain ⟨d1, d2, d3, d4⟩ := z_pwU (j := 4) c2
  obtain ⟨e1, e2, e3, e4⟩ := z_pwU (j := 3) d2
  obtain ⟨f1, f2, f3, f4⟩ := z_pwU (j := 2) e2
  obtain ⟨g1, g2, g3, g4⟩ := z_pwU (j := 1) f2
  obtain ⟨h1, h2, h3, h4⟩ := z_pwU (j := 0) g2
  have h5 := z_pw0 _ h2
  simp only [Nat.reduceAdd] at a1 b1 c1 d1 e1 f1 g1 h1
  have q := z_sum9 a3 b3 c3 d3 e3 f3 g3 h3 (x := z_pw 8 m) (by rw [a1, b1, c1, d1, e1, f1, g1, h1, h5, Nat.mul_zero, Nat.add_zero])
  refine ⟨q.1.trans ?_, q.2⟩
  have i1 := a4 56
  have i2 := b4 48
  have i3 := c4 40
  have i4 := d4 32
  have i5 := e4 24
  have i6 := f4 16
  have i7 := g4 8
  have i8 := h4 0
  have i9 : ∀ x, z_bn x 0 = 0 := fun _ => rfl
  rw [i9] at i8
  simp only [Nat.reduceAdd] at i1 i2 i3 i4 i5 i6 i7 i8
  omega
section ZBC
variable {m : Nat}
theorem z_l1_n (h : m < 2 ^ 64) : z_l1 (lN m) = lN (z_s1 (z_mk 85 8) m) := by
  have c : (6148914691236517205 : Int64) = lN (z_mk 85 8) := by decide +kernel
  have k : z_mk 85 8 < 2 ^ 64 := by decide +kernel
  unfold z_l1 z_s1
  rw [wb_shr h (by decide), c, wb_and (Nat.lt_of_le_of_lt (Nat.div_le_self _ _) h) k]
  exact (Int64.ofNat_sub _ _ (Nat.le_trans Nat.and_le_left (Nat.div_le_self _ _))).symm
theorem z_l2_n (h : m < 2 ^ 64) : z_l2 (lN m) = lN (z_s2 (z_mk 51 8) m) := by
  have c : (3689348814741910323 : Int64) = lN (z_mk 51 8) := by decide +kernel
  have k : z_mk 51 8 < 2 ^ 64 := by decide +kernel
  unfold z_l2 z_s2
  rw [wb_shr h (by decide), c, wb_and h k, wb_and (Nat.lt_of_le_of_lt (Nat.div_le_self _ _) h) k]
  exact (Int64.ofNat_add _ _).symm
theorem z_l3_n (h : m < 2 ^ 63) : z_l3 (lN m) = lN (z_s3 (z_mk 15 8) m) := by
  have c : (1085102592571150095 : Int64) = lN (z_mk 15 8) := by decide +kernel
  have k : z_mk 15 8 < 2 ^ 64 := by decide +kernel
  unfold z_l3 z_s3
  rw [wb_shr (show m < 2 ^ 64 by omega) (by decide), c, show lN m + lN (m / 2 ^ 4) = lN (m + m / 16) from (Int64.ofNat_add _ _).symm, wb_and (show m + m / 16 < 2 ^ 64 by omega) k]
theorem z_l4_n (h : m < 2 ^ 63) : z_l4 (lN m) = lN (z_t1 m) := by
  unfold z_l4 z_t1
  rw [wb_shr (show m < 2 ^ 64 by omega) (by decide)]
  exact (Int64.ofNat_add _ _).symm
theorem z_l5_n (h : m < 2 ^ 63) : z_l5 (lN m) = lN (z_t2 m) := by
  unfold z_l5 z_t2
  rw [wb_shr (show m < 2 ^ 64 by omega) (by decide)]
  exact (Int64.ofNat_add _ _).symm
theorem z_l6_n (h : m < 2 ^ 63) : z_l6 (lN m) = lN (z_t3 m) := by
  unfold z_l6 z_t3
  rw [wb_shr (show m < 2 ^ 64 by omega) (by decide)]
  exact (Int64.ofNat_add _ _).symm
theorem z_l7_n : z_l7 (lN m) = nI (m % 128) := by
  unfold z_l7
  rw [show (lN m).toInt32 = nI m from Int64.toInt32_ofNat']
  have : nI m &&& nI 127 = nI (m &&& 127) := by
    apply Int32.toBitVec_inj.mp
    show BitVec.ofNat 32 m &&& BitVec.ofNat 32 127 = BitVec.ofNat 32 (m &&& 127)
    rw [BitVec.ofNat_and]
  rw [this]
  exact congrArg nI (Nat.and_two_pow_sub_one_eq_mod m 7)
theorem z_bcl_n (h : m < 2 ^ 64) : z_bcl (lN m) = nI (z_bn m 64) := by
  obtain ⟨q1, q2, q3, q4, q5⟩ := z_pw8 h
  have k1 : z_s1 (z_mk 85 8) m < 2 ^ 64 := Nat.lt_of_le_of_lt (Nat.sub_le _ _) h
  have k2 : z_s2 (z_mk 51 8) (z_s1 (z_mk 85 8) m) < 2 ^ 63 := by
    have k : z_mk 51 8 = 3689348814741910323 := by decide +kernel
    unfold z_s2
    have g1 : (z_s1 (z_mk 85 8) m &&& z_mk 51 8) ≤ z_mk 51 8 := Nat.and_le_right
    have g2 : (z_s1 (z_mk 85 8) m / 4 &&& z_mk 51 8) ≤ z_mk 51 8 := Nat.and_le_right
    omega
  unfold z_bcl
  rw [z_l1_n h, z_l2_n k1, z_l3_n k2]
  show z_l7 (z_l6 (z_l5 (z_l4 (lN (z_pw 8 m))))) = _
  rw [z_l4_n q5, z_l5_n q4, z_l6_n q3, z_l7_n, q1]
end ZBC
/-- Long.bitCount of a number whose bits at and beyond R are none -/
theorem z_bcl_bc {x : Int64} {R : Nat} (hR : R ≤ 64) (hz : ∀ p, R ≤ p → p < 64 → z_g x p = false) : z_bcl x = nI (tw_bc x R) := by
  obtain ⟨m, hm, rfl⟩ := wb_of x
  rw [z_bcl_n hm]
  congr 1
  have h1 : ∀ k, k ≤ 64 → z_bn m k = tw_bc (lN m) k := by
    intro k
    induction k with
    | zero => intro _; rfl
    | succ k ih => intro hk; rw [z_bn, tw_bc, ih (by omega), z_bit_g (by omega), z_g_lN (by omega)]
  rw [h1 64 (Nat.le_refl _)]
  have h2 : ∀ j, R + j ≤ 64 → tw_bc (lN m) (R + j) = tw_bc (lN m) R := by
    intro j
    induction j with
    | zero => intro _; rfl
    | succ j ih => intro hj; rw [show R + (j + 1) = (R + j) + 1 by omega, tw_bc, ih (by omega), z_bit_g (by omega), hz (R + j) (by omega) (by omega)]; rfl
  have := h2 (64 - R) (by omega)
  rw [show R + (64 - R) = 64 by omega] at this
  exact this
/-- rows behind a number: the component's answer is the twin's -/
theorem z_rb_eq {w : Nat → Int32} {S R g D : Nat} {b : Nat → Int64} (hi : z_inp w S) (hD : D < 7) (hR : R ≤ 40) {k d : Nat} (hk : k < S) (hd : d ≤ D) : z_bcl (z_ub w R g S (7 * k + d)) = nI (tw_bc (tw_lb w R g D b S (7 * k + d)) R) := by
  rw [← z_rb_bits (b := b) hi hD hR hk hd]
  exact z_bcl_bc (by omega) fun p hp _ => z_ub_hi hi hR hp (k + 1) k (Nat.lt_succ_self _) hk d (by omega)

