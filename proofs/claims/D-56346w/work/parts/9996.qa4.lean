set_option maxHeartbeats 1000000 in
theorem m_X1_requireSize {l : Launch} {G : zG} {h : zH} {n : Nat} (x : Int32)  : z_C l G yX1_requireSize 8 1 6 [.int x] h n (z_qc (decide (nI 0 ≤ x ∧ x ≤ nI 8)) 27 h n) := by
  refine z_start zk_X1_requireSize zpl_RX1 (Nat.le_of_ble_eq_true rfl) ?_
  intro hn0 M hl hG ho hb hN hr hm hH hrm hQ
  subst hl hG
  have ho : zm_o M = RX1 := ho
  show z_V M h n 1 6 0 [(0, .int x)] []
  refine z_iload_n hb dX1_requireSize_0 rfl ?_
  refine z_iconst (x := nI 0) hb dX1_requireSize_1 (by decide) ?_
  refine z_bipush (x := nI 8) hb dX1_requireSize_2 (by decide) ?_
  refine z_callC0 (b' := 0) (f' := 0) (rest := []) (av := [.int x, .int (nI 0), .int (nI 8)]) (z_siteS hb ho q1134 q1135 q94 ⟨_, _, _, _, zk_X1_requireRange⟩ zy_X1_requireRange zl_X1_requireRange dX1_requireSize_4 : z_Site M _ _ _ _ _ ([.int x, .int (nI 0), .int (nI 8)].reverse ++ []) [] _) zk_X1_requireRange q94 hrm (m_X1_requireRange x (nI 0) (nI 8)) (by omega) (by decide) (Nat.le_of_ble_eq_true rfl) (by omega) (by omega) (fun c_4 => ?_) (fun c_4 => ?_)
  · refine z_vret hb hr dX1_requireSize_7 ?_
    rw [hQ]
    exact z_qc_t c_4 ⟨rfl, rfl, rfl⟩
  · exact z_out ho hH zc27 z_up_s (by omega) (fun _ h => nomatch h) (by rw [hQ]; exact z_qc_f c_4 ⟨rfl, rfl, rfl⟩)

def z_bpc (W : Nat → Int64) (x : Int32) (q : Nat) (r : Nat × Int64) : Int64 := if x < tw_many (nI (q + 1)) 8 then r.2 else W (q + 1)
def z_bp1 (W : Nat → Int64) (x : Int32) (q : Nat) (r : Nat × Int64) : Nat × Int64 := (if z_bpc W x q r < r.2 then q + 1 else r.1, if z_bpc W x q r < r.2 then z_bpc W x q r else r.2)
/-- the best plan up to q, its cost -/
def z_bp (W : Nat → Int64) (x : Int32) : Nat → Nat × Int64
  | 0 => (0, W 0)
  | q + 1 => z_bp1 W x q (z_bp W x q)
theorem z_bp_le {W : Nat → Int64} {x : Int32} : ∀ q, (z_bp W x q).1 ≤ q
  | 0 => Nat.le_refl _
  | q + 1 => by
    have := z_bp_le (W := W) (x := x) q
    rw [z_bp]
    show (if z_bpc W x q (z_bp W x q) < (z_bp W x q).2 then q + 1 else (z_bp W x q).1) ≤ q + 1
    split <;> omega
theorem z_p256 {S : Nat} (h : S ≤ 8) : 1 ≤ 2 ^ S ∧ 2 ^ S ≤ 256 := ⟨Nat.one_le_two_pow, Nat.pow_le_pow_right (n := 2) (by decide) h⟩

/-! bitCount -/
def z_bi1 (x : Int32) : Int32 := x - ((x.toUInt32 >>> ((nI 1).toUInt32 &&& Int32.toUInt32 31)).toInt32 &&& 1431655765)
def z_bi2 (x : Int32) : Int32 := (x &&& 858993459) + ((x.toUInt32 >>> ((nI 2).toUInt32 &&& Int32.toUInt32 31)).toInt32 &&& 858993459)
def z_bi3 (x : Int32) : Int32 := (x + (x.toUInt32 >>> ((nI 4).toUInt32 &&& Int32.toUInt32 31)).toInt32) &&& 252645135
def z_bi4 (x : Int32) : Int32 := x + (x.toUInt32 >>> ((nI 8).toUInt32 &&& Int32.toUInt32 31)).toInt32
def z_bi5 (x : Int32) : Int32 := x + (x.toUInt32 >>> ((nI 16).toUInt32 &&& Int32.toUInt32 31)).toInt32
def z_bi6 (x : Int32) : Int32 := x &&& nI 63
theorem z_bc8 {p : Nat} (hp : p < 256) : z_bi6 (z_bi5 (z_bi4 (z_bi3 (z_bi2 (z_bi1 (nI p)))))) = tw_many (nI p) 8 := by
  have : ∀ p, p < 256 → z_bi6 (z_bi5 (z_bi4 (z_bi3 (z_bi2 (z_bi1 (nI p)))))) = tw_many (nI p) 8 := by decide +kernel
  exact this p hp
def z_l1 (x : Int64) : Int64 := x - ((x.toUInt64 >>> ((nI 1).toInt64.toUInt64 &&& Int64.toUInt64 63)).toInt64 &&& 6148914691236517205)
def z_l2 (x : Int64) : Int64 := (x &&& 3689348814741910323) + ((x.toUInt64 >>> ((nI 2).toInt64.toUInt64 &&& Int64.toUInt64 63)).toInt64 &&& 3689348814741910323)
def z_l3 (x : Int64) : Int64 := (x + (x.toUInt64 >>> ((nI 4).toInt64.toUInt64 &&& Int64.toUInt64 63)).toInt64) &&& 1085102592571150095
def z_l4 (x : Int64) : Int64 := x + (x.toUInt64 >>> ((nI 8).toInt64.toUInt64 &&& Int64.toUInt64 63)).toInt64
def z_l5 (x : Int64) : Int64 := x + (x.toUInt64 >>> ((nI 16).toInt64.toUInt64 &&& Int64.toUInt64 63)).toInt64
def z_l6 (x : Int64) : Int64 := x + (x.toUInt64 >>> ((nI 32).toInt64.toUInt64 &&& Int64.toUInt64 63)).toInt64
def z_l7 (x : Int64) : Int32 := x.toInt32 &&& nI 127
def z_bcl (x : Int64) : Int32 := z_l7 (z_l6 (z_l5 (z_l4 (z_l3 (z_l2 (z_l1 x))))))
section ZLW
variable {M : zM} {h : zH} {n b f pc : Nat} {lv : List (Nat × Value)} {rest : List Value} {cc : ByteArray} {own : String}
theorem z_ldcw {idx : Nat} {v : Int32} (hb : zm_c M = cc) (ho : zm_o M = own) (w : Cond.constant own idx v ∈ lw_all) (d : decode cc pc = .ok (.ldc_w idx, 3)) (kk : z_V M h n b f (pc + 3) lv (.int v :: rest)) : z_V M h n b f pc lv rest := by
  intro p e s m args below meth c A H locs ls k9 j9 hR hsz hlo hlv hk9 hj9
  have hown : s.vm.findClass own = some m.cls := by rw [← ho]; exact A.2.2.2.1
  exact lv_ldcw A.1 (A.2.1.trans hb) hown (A.2.2.2.2.1.g args _ w) d (kk p e s m args below meth c A H locs ls k9 j9 hR hsz hlo hlv hk9 hj9)
theorem z_ldcwS {i idx : Nat} {q : String × Nat × String} (hb : zm_c M = cc) (ho : zm_o M = own) (hq : zStr[i]? = some q) (h1 : q.1 = own) (h2 : q.2.1 = idx) (d : decode cc pc = .ok (.ldc_w idx, 3)) (kk : z_V M h n b f (pc + 3) lv (.ref ((zm_G M).2.2.1 i) :: rest)) : z_V M h n b f pc lv rest := by
  intro p e s m args below meth c A H locs ls k9 j9 hR hsz hlo hlv hk9 hj9
  have hW := A.2.2.2.2.1
  have hown : s.vm.findClass own = some m.cls := by rw [← ho]; exact A.2.2.2.1
  have hv := hW.2.2.2.2.1 i q hq
  rw [h1, h2] at hv
  intro T hT X
  obtain ⟨t, a1, b1⟩ := kk p e s m args below meth c A H locs ls k9 j9 hR hsz hlo hlv hk9 hj9 T hT X
  exact ⟨t, X.ldcStringW A.1 hown (text := q.2.2) (a := (zm_G M).2.2.1 i) hv.1 hv.2 (g := F0 m pc ls rest) rfl (by rw [A.2.1.trans hb]; exact d) t a1, b1⟩
end ZLW

set_option maxHeartbeats 1000000 in
theorem m_J19_bitCount {l : Launch} {G : zG} {h : zH} {n : Nat} {p : Nat} (hp : p < 256) : z_C l G yJ19_bitCount 1 0 0 [.int (nI p)] h n (z_rn (.int (tw_many (nI p) 8)) h) := by
  refine z_start zk_J19_bitCount zpl_RJ19 (Nat.le_of_ble_eq_true rfl) ?_
  intro hn0 M hl hG ho hb hN hr hm hH hrm hQ
  subst hl hG
  have ho : zm_o M = RJ19 := ho
  show z_V M h n 0 0 0 [(0, .int (nI p))] []
  refine z_dom (fun hD0 => ?_)
  refine z_iload_n hb dJ19_bitCount_0 rfl ?_
  refine z_iload_n hb dJ19_bitCount_1 rfl ?_
  refine z_iconst (x := nI 1) hb dJ19_bitCount_2 (by decide) ?_
  refine z_iushr hb dJ19_bitCount_3 rfl ?_
  refine z_ldcw hb ho q2118 dJ19_bitCount_4 ?_
  refine z_iand hb dJ19_bitCount_7 ?_
  refine z_isub hb dJ19_bitCount_8 ?_
  refine z_toI (y := z_bi1 (nI p)) rfl ?_
  refine z_istore_n (lv' := [(0, .int (z_bi1 (nI p)))]) hb dJ19_bitCount_9 (by rw [hN]; decide) rfl ?_
  refine z_iload_n hb dJ19_bitCount_10 rfl ?_
  refine z_ldcw hb ho q2119 dJ19_bitCount_11 ?_
  refine z_iand hb dJ19_bitCount_14 ?_
  refine z_iload_n hb dJ19_bitCount_15 rfl ?_
  refine z_iconst (x := nI 2) hb dJ19_bitCount_16 (by decide) ?_
  refine z_iushr hb dJ19_bitCount_17 rfl ?_
  refine z_ldcw hb ho q2119 dJ19_bitCount_18 ?_
  refine z_iand hb dJ19_bitCount_21 ?_
  refine z_iadd hb dJ19_bitCount_22 ?_
  refine z_toI (y := z_bi2 (z_bi1 (nI p))) rfl ?_
  refine z_istore_n (lv' := [(0, .int (z_bi2 (z_bi1 (nI p))))]) hb dJ19_bitCount_23 (by rw [hN]; decide) rfl ?_
  refine z_iload_n hb dJ19_bitCount_24 rfl ?_
  refine z_iload_n hb dJ19_bitCount_25 rfl ?_
  refine z_iconst (x := nI 4) hb dJ19_bitCount_26 (by decide) ?_
  refine z_iushr hb dJ19_bitCount_27 rfl ?_
  refine z_iadd hb dJ19_bitCount_28 ?_
  refine z_ldcw hb ho q2120 dJ19_bitCount_29 ?_
  refine z_iand hb dJ19_bitCount_32 ?_
  refine z_toI (y := z_bi3 (z_bi2 (z_bi1 (nI p)))) rfl ?_
  refine z_istore_n (lv' := [(0, .int (z_bi3 (z_bi2 (z_bi1 (nI p)))))]) hb dJ19_bitCount_33 (by rw [hN]; decide) rfl ?_
  refine z_iload_n hb dJ19_bitCount_34 rfl ?_
  refine z_iload_n hb dJ19_bitCount_35 rfl ?_
  refine z_bipush (x := nI 8) hb dJ19_bitCount_36 (by decide) ?_
  refine z_iushr hb dJ19_bitCount_38 rfl ?_
  refine z_iadd hb dJ19_bitCount_39 ?_
  refine z_toI (y := z_bi4 (z_bi3 (z_bi2 (z_bi1 (nI p))))) rfl ?_
  refine z_istore_n (lv' := [(0, .int (z_bi4 (z_bi3 (z_bi2 (z_bi1 (nI p))))))]) hb dJ19_bitCount_40 (by rw [hN]; decide) rfl ?_
  refine z_iload_n hb dJ19_bitCount_41 rfl ?_
  refine z_iload_n hb dJ19_bitCount_42 rfl ?_
  refine z_bipush (x := nI 16) hb dJ19_bitCount_43 (by decide) ?_
  refine z_iushr hb dJ19_bitCount_45 rfl ?_
  refine z_iadd hb dJ19_bitCount_46 ?_
  refine z_toI (y := z_bi5 (z_bi4 (z_bi3 (z_bi2 (z_bi1 (nI p)))))) rfl ?_
  refine z_istore_n (lv' := [(0, .int (z_bi5 (z_bi4 (z_bi3 (z_bi2 (z_bi1 (nI p)))))))]) hb dJ19_bitCount_47 (by rw [hN]; decide) rfl ?_
  refine z_iload_n hb dJ19_bitCount_48 rfl ?_
  refine z_bipush (x := nI 63) hb dJ19_bitCount_49 (by decide) ?_
  refine z_iand hb dJ19_bitCount_51 ?_
  refine z_iret hb hr dJ19_bitCount_52 ?_
  rw [hQ]
  exact z_rn_e (congrArg Value.int (z_bc8 hp))

set_option maxHeartbeats 1000000 in
theorem m_J27_bitCount {l : Launch} {G : zG} {h : zH} {n : Nat} {x : Int64}  : z_C l G yJ27_bitCount 1 0 0 [.long x] h n (z_rn (.int (z_bcl x)) h) := by
  refine z_start zk_J27_bitCount zpl_RJ27 (Nat.le_of_ble_eq_true rfl) ?_
  intro hn0 M hl hG ho hb hN hr hm hH hrm hQ
  subst hl hG
  have ho : zm_o M = RJ27 := ho
  show z_V M h n 0 0 0 [(0, .long x)] []
  refine z_dom (fun hD0 => ?_)
  refine z_lload_n hb dJ27_bitCount_0 rfl ?_
  refine z_lload_n hb dJ27_bitCount_1 rfl ?_
  refine z_iconst (x := nI 1) hb dJ27_bitCount_2 (by decide) ?_
  refine z_lushr hb dJ27_bitCount_3 rfl ?_
  refine z_ldc2 hb ho q1972 dJ27_bitCount_4 ?_
  refine z_land hb dJ27_bitCount_7 ?_
  refine z_lsub hb dJ27_bitCount_8 ?_
  refine z_toL (y := z_l1 x) rfl ?_
  refine z_lstore_n (lv' := [(0, .long (z_l1 x))]) hb dJ27_bitCount_9 (by rw [hN]; decide) rfl ?_
  refine z_lload_n hb dJ27_bitCount_10 rfl ?_
  refine z_ldc2 hb ho q1973 dJ27_bitCount_11 ?_
  refine z_land hb dJ27_bitCount_14 ?_
  refine z_lload_n hb dJ27_bitCount_15 rfl ?_
  refine z_iconst (x := nI 2) hb dJ27_bitCount_16 (by decide) ?_
  refine z_lushr hb dJ27_bitCount_17 rfl ?_
  refine z_ldc2 hb ho q1973 dJ27_bitCount_18 ?_
  refine z_land hb dJ27_bitCount_21 ?_
  refine z_ladd hb dJ27_bitCount_22 ?_
  refine z_toL (y := z_l2 (z_l1 x)) rfl ?_
  refine z_lstore_n (lv' := [(0, .long (z_l2 (z_l1 x)))]) hb dJ27_bitCount_23 (by rw [hN]; decide) rfl ?_
  refine z_lload_n hb dJ27_bitCount_24 rfl ?_
  refine z_lload_n hb dJ27_bitCount_25 rfl ?_
  refine z_iconst (x := nI 4) hb dJ27_bitCount_26 (by decide) ?_
  refine z_lushr hb dJ27_bitCount_27 rfl ?_
  refine z_ladd hb dJ27_bitCount_28 ?_
  refine z_ldc2 hb ho q1974 dJ27_bitCount_29 ?_
  refine z_land hb dJ27_bitCount_32 ?_
  refine z_toL (y := z_l3 (z_l2 (z_l1 x))) rfl ?_
  refine z_lstore_n (lv' := [(0, .long (z_l3 (z_l2 (z_l1 x))))]) hb dJ27_bitCount_33 (by rw [hN]; decide) rfl ?_
  refine z_lload_n hb dJ27_bitCount_34 rfl ?_
  refine z_lload_n hb dJ27_bitCount_35 rfl ?_
  refine z_bipush (x := nI 8) hb dJ27_bitCount_36 (by decide) ?_
  refine z_lushr hb dJ27_bitCount_38 rfl ?_
  refine z_ladd hb dJ27_bitCount_39 ?_
  refine z_toL (y := z_l4 (z_l3 (z_l2 (z_l1 x)))) rfl ?_
  refine z_lstore_n (lv' := [(0, .long (z_l4 (z_l3 (z_l2 (z_l1 x)))))]) hb dJ27_bitCount_40 (by rw [hN]; decide) rfl ?_
  refine z_lload_n hb dJ27_bitCount_41 rfl ?_
  refine z_lload_n hb dJ27_bitCount_42 rfl ?_
  refine z_bipush (x := nI 16) hb dJ27_bitCount_43 (by decide) ?_
  refine z_lushr hb dJ27_bitCount_45 rfl ?_
  refine z_ladd hb dJ27_bitCount_46 ?_
  refine z_toL (y := z_l5 (z_l4 (z_l3 (z_l2 (z_l1 x))))) rfl ?_
  refine z_lstore_n (lv' := [(0, .long (z_l5 (z_l4 (z_l3 (z_l2 (z_l1 x))))))]) hb dJ27_bitCount_47 (by rw [hN]; decide) rfl ?_
  refine z_lload_n hb dJ27_bitCount_48 rfl ?_
  refine z_lload_n hb dJ27_bitCount_49 rfl ?_
  refine z_bipush (x := nI 32) hb dJ27_bitCount_50 (by decide) ?_
  refine z_lushr hb dJ27_bitCount_52 rfl ?_
  refine z_ladd hb dJ27_bitCount_53 ?_
  refine z_toL (y := z_l6 (z_l5 (z_l4 (z_l3 (z_l2 (z_l1 x)))))) rfl ?_
  refine z_lstore_n (lv' := [(0, .long (z_l6 (z_l5 (z_l4 (z_l3 (z_l2 (z_l1 x)))))))]) hb dJ27_bitCount_54 (by rw [hN]; decide) rfl ?_
  refine z_lload_n hb dJ27_bitCount_55 rfl ?_
  refine z_l2i (v := (z_l6 (z_l5 (z_l4 (z_l3 (z_l2 (z_l1 x)))))).toInt32) hb dJ27_bitCount_56 rfl ?_
  refine z_bipush (x := nI 127) hb dJ27_bitCount_57 (by decide) ?_
  refine z_iand hb dJ27_bitCount_59 ?_
  refine z_iret hb hr dJ27_bitCount_60 ?_
  rw [hQ]
  exact ⟨rfl, rfl⟩

set_option maxHeartbeats 1000000 in
theorem m_X1_rowsBehind_ok {l : Launch} {G : zG} {h : zH} {n : Nat} {t : Nat} {x1 x2 x3 x4 x5 x6 : Value} {w : Nat → Int32} {v : Nat → Int64} {R S D a lr ls lv : Nat} {ra sa va : Nat → Nat} {k d g : Nat} {u : Nat → Int64} (hX : h t = some (.inr (0, [.ref a, x1, x2, x3, x4, x5, x6]))) (hL : z_Ln G h w v R S D a lr ls lv ra sa va) (hk : k < S) (hS8 : S ≤ 8) (hR4 : R ≤ 40) (hD6 : D ≤ 6) (hd : d ≤ D) (hg : g < 5) (hu : ∀ k, k < S → ∀ d, d ≤ D → u (7 * k + d) = z_rbk w u R g k d) : z_C l G yX1_rowsBehind (2 * k + 12) 4 24 [.ref t, .int (nI k), .int (nI d), .int (nI (97 + g))] h n (z_rn (.int (z_bcl (u (7 * k + d)))) h) := by
  refine z_start zk_X1_rowsBehind zpl_RX1 (Nat.le_of_ble_eq_true rfl) ?_
  intro hn0 M hl hG ho hb hN hr hm hH hrm hQ
  subst hl hG
  have ho : zm_o M = RX1 := ho
  obtain ⟨h1, ⟨e0, N0, m0, f0, r1, r2, r3, ⟨r4, r4n⟩, r5⟩, ⟨e, N, m9, f, h3, h4, h5, ⟨h6, h6n⟩, h7⟩, ⟨ev, Nv, mv, fv, v1, v2, v3, ⟨v4, v4n⟩, v5⟩, h9, hs, hv, hi, hrI⟩ := id hL
  show z_V M h n 4 24 0 [(0, .ref t), (1, .int (nI k)), (2, .int (nI d)), (3, .int (nI (97 + g)))] []
  refine z_dom (fun hD0 => ?_)
  refine z_aload_n hb dX1_rowsBehind_0 rfl ?_
  refine z_get (k := 0) (C := RX1) (T := TX1) (N := 7) hb ho zc0 in_X1 (zf_RX1_41 _) dX1_rowsBehind_1 hX (by decide) rfl ?_
  refine z_iload_n hb dX1_rowsBehind_4 rfl ?_
  refine z_call1 (b' := 3) (f' := 18) (rest := []) (av := [.ref a, .int (nI k)]) (z_siteV hb ho zc1 h1 q1842 q1506 q1507 ⟨_, _, _, _, zk_X2_step⟩ zy_X2_step zl_X2_step dX1_rowsBehind_5 : z_Site M _ _ _ _ _ ([.int (nI k)].reverse ++ .ref a :: []) [] _) zk_X2_step q95 hrm (m_X2_step hL hS8 hk) (by omega) (by decide) (Nat.le_of_ble_eq_true rfl) (by omega) (by omega) ?_
  refine z_astore (lv' := [(4, .ref (sa k)), (0, .ref t), (1, .int (nI k)), (2, .int (nI d)), (3, .int (nI (97 + g)))]) hb dX1_rowsBehind_8 (by rw [hN]; decide) rfl ?_
  refine z_aload_n hb dX1_rowsBehind_10 rfl ?_
  refine z_get (k := 0) (C := RX1) (T := TX1) (N := 7) hb ho zc0 in_X1 (zf_RX1_41 _) dX1_rowsBehind_11 hX (by decide) rfl ?_
  refine z_iload_n hb dX1_rowsBehind_14 rfl ?_
  refine z_call0 (b' := 2) (f' := 12) (rest := []) (av := [.ref a, .int (nI d)]) (z_siteV hb ho zc1 h1 q1894 q1610 q1611 ⟨_, _, _, _, zk_X2_requireDay⟩ zy_X2_requireDay zl_X2_requireDay dX1_rowsBehind_15 : z_Site M _ _ _ _ _ ([.int (nI d)].reverse ++ .ref a :: []) [] _) zk_X2_requireDay q95 hrm (m_X2_requireDay_ok h1 hD6 hd) (by omega) (by decide) (Nat.le_of_ble_eq_true rfl) (by omega) (by omega) ?_
  refine z_aload hb dX1_rowsBehind_18 rfl ?_
  refine z_aload_n hb dX1_rowsBehind_20 rfl ?_
  refine z_get (k := 0) (C := RX1) (T := TX1) (N := 7) hb ho zc0 in_X1 (zf_RX1_41 _) dX1_rowsBehind_21 hX (by decide) rfl ?_
  refine z_get (k := 0) (C := RX2) (T := TX2) (N := 8) hb ho zc1 in_X2 (zf_RX1_123 _) dX1_rowsBehind_24 h1 (by decide) rfl ?_
  refine z_iload_n hb dX1_rowsBehind_27 rfl ?_
  refine z_iload_n hb dX1_rowsBehind_28 rfl ?_
  refine z_call1 (b' := 1) (f' := 6) (rest := [.int (nI d), .ref lr, .ref (sa k)]) (av := [.int (nI (97 + g))]) (z_siteS hb ho q1895 q1132 q94 ⟨_, _, _, _, zk_X1_groupNumber⟩ zy_X1_groupNumber zl_X1_groupNumber dX1_rowsBehind_29 : z_Site M _ _ _ _ _ ([.int (nI (97 + g))].reverse ++ [.int (nI d), .ref lr, .ref (sa k)]) [.int (nI d), .ref lr, .ref (sa k)] _) zk_X1_groupNumber q94 hrm (m_X1_groupNumber_ok hg) (by omega) (by decide) (Nat.le_of_ble_eq_true rfl) (by omega) (by omega) ?_
  have J_35 : ∀ n_1 : Nat, n ≤ n_1 → z_V M h n_1 1 6 35 [(4, .ref (sa k)), (0, .ref t), (1, .int (nI k)), (2, .int (nI d)), (3, .int (nI (97 + g)))] [.long (u (7 * k + d))] := by
    intro n_1 hn_1
    refine z_callN1 (b' := 1) (f' := 6) (rest := []) (av := [.long (u (7 * k + d))]) (z_siteS hb ho q1969 q1970 q141 ⟨_, _, _, _, zk_J27_bitCount⟩ zy_J27_bitCount zl_J27_bitCount dX1_rowsBehind_35 : z_Site M _ _ _ _ _ ([.long (u (7 * k + d))].reverse ++ []) [] _) zk_J27_bitCount q141 hrm (m_J27_bitCount) (by omega) (by decide) (Nat.le_of_ble_eq_true rfl) (by omega) (by omega) (fun n_2 hn_2 => ?_)
    refine z_iret hb hr dX1_rowsBehind_38 ?_
    rw [hQ]
    exact ⟨rfl, rfl⟩
  rcases hs k hk with ⟨q1, q9⟩ | ⟨q1, q9⟩ | ⟨q1, q9⟩ | ⟨q1, q2, q3, q9⟩ | ⟨q1, q2, q3, q9⟩ | ⟨q1, q2, q3, q9⟩ | ⟨q1, q2, q3, q9⟩
  · refine z_callN1 (b' := 1) (f' := 6) (rest := []) (av := [.ref (sa k), .ref lr, .int (nI d), .int (nI g)]) (z_siteU hb ho zc8 q9 q1945 q1947 (Or.inl q1946) q1952 q1968 ⟨by decide +kernel, by decide +kernel⟩ (by show _ = some 3; decide +kernel) dX1_rowsBehind_32 : z_Site M _ _ _ _ _ ([.ref lr, .int (nI d), .int (nI g)].reverse ++ .ref (sa k) :: []) [] _) zk_X10_rowsBehind q128 hrm (m_rb hL hR4 hD6 hu _ _ (Nat.lt_succ_self _) hk _ hd _ _ q9 _) (by omega) (by decide) (Nat.le_of_ble_eq_true rfl) (by omega) (by omega) (fun n_3 hn_3 => ?_)
    exact J_35 _ (by omega)
  · refine z_callN1 (b' := 1) (f' := 6) (rest := []) (av := [.ref (sa k), .ref lr, .int (nI d), .int (nI g)]) (z_siteU hb ho zc9 q9 q1945 q1947 (Or.inl q1946) q1952 q1964 ⟨by decide +kernel, by decide +kernel⟩ (by show _ = some 3; decide +kernel) dX1_rowsBehind_32 : z_Site M _ _ _ _ _ ([.ref lr, .int (nI d), .int (nI g)].reverse ++ .ref (sa k) :: []) [] _) zk_X10_rowsBehind q128 hrm (m_rb hL hR4 hD6 hu _ _ (Nat.lt_succ_self _) hk _ hd _ _ q9 _) (by omega) (by decide) (Nat.le_of_ble_eq_true rfl) (by omega) (by omega) (fun n_4 hn_4 => ?_)
    exact J_35 _ (by omega)
  · refine z_callN1 (b' := 1) (f' := 6) (rest := []) (av := [.ref (sa k), .ref lr, .int (nI d), .int (nI g)]) (z_siteU hb ho zc10 q9 q1945 q1947 (Or.inl q1946) q1952 q1965 ⟨by decide +kernel, by decide +kernel⟩ (by show _ = some 3; decide +kernel) dX1_rowsBehind_32 : z_Site M _ _ _ _ _ ([.ref lr, .int (nI d), .int (nI g)].reverse ++ .ref (sa k) :: []) [] _) zk_X10_rowsBehind q128 hrm (m_rb hL hR4 hD6 hu _ _ (Nat.lt_succ_self _) hk _ hd _ _ q9 _) (by omega) (by decide) (Nat.le_of_ble_eq_true rfl) (by omega) (by omega) (fun n_5 hn_5 => ?_)
    exact J_35 _ (by omega)
  · refine z_callN1 (b' := 1) (f' := 6) (rest := []) (av := [.ref (sa k), .ref lr, .int (nI d), .int (nI g)]) (z_siteU hb ho zc11 q9 q1945 q1947 (Or.inl q1946) q1958 q1966 ⟨by decide +kernel, by decide +kernel⟩ (by show _ = some 3; decide +kernel) dX1_rowsBehind_32 : z_Site M _ _ _ _ _ ([.ref lr, .int (nI d), .int (nI g)].reverse ++ .ref (sa k) :: []) [] _) zk_X14_rowsBehind q133 hrm (m_rb hL hR4 hD6 hu _ _ (Nat.lt_succ_self _) hk _ hd _ _ q9 _) (by omega) (by decide) (Nat.le_of_ble_eq_true rfl) (by omega) (by omega) (fun n_6 hn_6 => ?_)
    exact J_35 _ (by omega)
  · refine z_callN1 (b' := 1) (f' := 6) (rest := []) (av := [.ref (sa k), .ref lr, .int (nI d), .int (nI g)]) (z_siteU hb ho zc11 q9 q1945 q1947 (Or.inl q1946) q1958 q1966 ⟨by decide +kernel, by decide +kernel⟩ (by show _ = some 3; decide +kernel) dX1_rowsBehind_32 : z_Site M _ _ _ _ _ ([.ref lr, .int (nI d), .int (nI g)].reverse ++ .ref (sa k) :: []) [] _) zk_X14_rowsBehind q133 hrm (m_rb hL hR4 hD6 hu _ _ (Nat.lt_succ_self _) hk _ hd _ _ q9 _) (by omega) (by decide) (Nat.le_of_ble_eq_true rfl) (by omega) (by omega) (fun n_7 hn_7 => ?_)
    exact J_35 _ (by omega)
  · refine z_callN1 (b' := 1) (f' := 6) (rest := []) (av := [.ref (sa k), .ref lr, .int (nI d), .int (nI g)]) (z_siteU hb ho zc12 q9 q1945 q1947 (Or.inl q1946) q1961 q1967 ⟨by decide +kernel, by decide +kernel⟩ (by show _ = some 3; decide +kernel) dX1_rowsBehind_32 : z_Site M _ _ _ _ _ ([.ref lr, .int (nI d), .int (nI g)].reverse ++ .ref (sa k) :: []) [] _) zk_X16_rowsBehind q135 hrm (m_rb hL hR4 hD6 hu _ _ (Nat.lt_succ_self _) hk _ hd _ _ q9 _) (by omega) (by decide) (Nat.le_of_ble_eq_true rfl) (by omega) (by omega) (fun n_8 hn_8 => ?_)
    exact J_35 _ (by omega)
  · refine z_callN1 (b' := 1) (f' := 6) (rest := []) (av := [.ref (sa k), .ref lr, .int (nI d), .int (nI g)]) (z_siteU hb ho zc13 q9 q1945 q1947 (Or.inl q1946) q1949 q1948 ⟨by decide +kernel, by decide +kernel⟩ (by show _ = some 3; decide +kernel) dX1_rowsBehind_32 : z_Site M _ _ _ _ _ ([.ref lr, .int (nI d), .int (nI g)].reverse ++ .ref (sa k) :: []) [] _) zk_X17_rowsBehind q136 hrm (m_rb hL hR4 hD6 hu _ _ (Nat.lt_succ_self _) hk _ hd _ _ q9 _) (by omega) (by decide) (Nat.le_of_ble_eq_true rfl) (by omega) (by omega) (fun n_9 hn_9 => ?_)
    exact J_35 _ (by omega)

set_option maxHeartbeats 1000000 in
theorem m_X1_bestPlan_ok {l : Launch} {G : zG} {h : zH} {n : Nat} {t : Nat} {x1 x2 x3 x4 x5 x6 : Value} {w : Nat → Int32} {v : Nat → Int64} {R S D a lr ls lv : Nat} {ra sa va : Nat → Nat} {x : Int32} {W : Nat → Int64} (hX : h t = some (.inr (0, [.ref a, x1, x2, x3, x4, x5, x6]))) (hL : z_Ln G h w v R S D a lr ls lv ra sa va) (hS8 : S ≤ 8) (hR4 : R ≤ 40) (hx : decide (nI 0 ≤ x ∧ x ≤ nI 8) = true) (hW : ∀ C q, tw_wh w R S (nI q) C = W q) : z_C l G yX1_bestPlan 9 4 23 [.ref t, .int x] h n (z_rn (.int (nI (z_bp W x (2 ^ S - 1)).1)) h) := by
  refine z_start zk_X1_bestPlan zpl_RX1 (Nat.le_of_ble_eq_true rfl) ?_
  intro hn0 M hl hG ho hb hN hr hm hH hrm hQ
  subst hl hG
  have ho : zm_o M = RX1 := ho
  obtain ⟨h1, ⟨e0, N0, m0, f0, r1, r2, r3, ⟨r4, r4n⟩, r5⟩, ⟨e, N, m9, f, h3, h4, h5, ⟨h6, h6n⟩, h7⟩, ⟨ev, Nv, mv, fv, v1, v2, v3, ⟨v4, v4n⟩, v5⟩, h9, hs, hv, hi, hrI⟩ := id hL
  obtain ⟨hP1, hP2⟩ := z_p256 hS8
  show z_V M h n 4 23 0 [(0, .ref t), (1, .int x)] []
  refine z_dom (fun hD0 => ?_)
  refine z_iload_n hb dX1_bestPlan_0 rfl ?_
  refine z_callC0 (b' := 3) (f' := 17) (rest := []) (av := [.int x]) (z_siteS hb ho q2112 q2113 q94 ⟨_, _, _, _, zk_X1_requireSize⟩ zy_X1_requireSize zl_X1_requireSize dX1_bestPlan_1 : z_Site M _ _ _ _ _ ([.int x].reverse ++ []) [] _) zk_X1_requireSize q94 hrm (m_X1_requireSize x) (by omega) (by decide) (Nat.le_of_ble_eq_true rfl) (by omega) (by omega) (fun c_1 => ?_) (fun c_1 => ?_)
  · refine z_dom (fun hD_1 => ?_)
    refine z_new (N0 := 3) (b' := 2) (f' := 14) (fs := [.null, .int (nI 0), .null]) (C := RX20) (T := TX20) (N := 3) hb ho zc16 in_X20 tyX20_ok q2048 q2049 q143 dX1_bestPlan_4 (zdf_X20) (by omega) (by omega) ?_
    refine z_hn (fun h_2 eh_2 => ?_)
    have eh_2 : h_2 = z_up h n (.inr (16, [.null, .int (nI 0), .null])) := eh_2
    have k_3 : h_2 t = some (.inr (0, [.ref a, x1, x2, x3, x4, x5, x6])) := z_nx eh_2 (Nat.ne_of_lt (hD_1 _ _ hX)) hX
    have k_4 : h_2 a = some (.inr (1, [.ref lr, .ref ls, .ref lv, .int (nI D), .int (w 2), .int (w 4), .int (w 5), .int (w 6)])) := z_nx eh_2 (Nat.ne_of_lt (hD_1 _ _ h1)) h1
    have k_5 : h_2 lr = some (.inr (20, [.int m0, .ref e0, .int (nI R)])) := z_nx eh_2 (Nat.ne_of_lt (hD_1 _ _ r1)) r1
    have k_6 : h_2 e0 = some (.inl ((zm_G M).2.1 5, N0, .inr (.inr (.inr (.inr f0))))) := z_nx eh_2 (Nat.ne_of_lt (hD_1 _ _ r2)) r2
    have k_7 : h_2 ls = some (.inr (20, [.int m9, .ref e, .int (nI S)])) := z_nx eh_2 (Nat.ne_of_lt (hD_1 _ _ h3)) h3
    have k_8 : h_2 e = some (.inl ((zm_G M).2.1 5, N, .inr (.inr (.inr (.inr f))))) := z_nx eh_2 (Nat.ne_of_lt (hD_1 _ _ h4)) h4
    have k_9 : h_2 lv = some (.inr (20, [.int mv, .ref ev, .int (nI S)])) := z_nx eh_2 (Nat.ne_of_lt (hD_1 _ _ v1)) v1
    have k_10 : h_2 ev = some (.inl ((zm_G M).2.1 5, Nv, .inr (.inr (.inr (.inr fv))))) := z_nx eh_2 (Nat.ne_of_lt (hD_1 _ _ v2)) v2
    refine z_dup hb dX1_bestPlan_7 rfl ?_
    refine z_aload_n hb dX1_bestPlan_8 rfl ?_
    refine z_get (k := 0) (C := RX1) (T := TX1) (N := 7) hb ho zc0 in_X1 (zf_RX1_41 _) dX1_bestPlan_9 k_3 (by decide) rfl ?_
    refine z_callQ0 (b' := 1) (f' := 6) (rest := [.ref n]) (av := [.ref n, .ref a]) (z_siteI hb ho q2050 q2051 q2052 rfl zy_X20_init zl_X20_init dX1_bestPlan_12 : z_Site M _ _ _ _ _ ([.ref a].reverse ++ .ref n :: [.ref n]) [.ref n] _) zk_X20_init q143 hrm (m_X20_init (hL.ex (z_exN z_ex_r hD_1 eh_2)) (z_nxs eh_2) (by omega) (by omega)) (by omega) (by decide) (Nat.le_of_ble_eq_true rfl) (by omega) (by omega) (fun h_12 n_13 hq_11 hn_13 => ?_)
    obtain ⟨ec13, hct13, hce13, hle13, hfr13⟩ := hq_11
    have k_15 : h_12 t = some (.inr (0, [.ref a, x1, x2, x3, x4, x5, x6])) := hfr13 _ _ k_3 (Nat.ne_of_lt (hD_1 _ _ hX))
    have k_16 : h_12 a = some (.inr (1, [.ref lr, .ref ls, .ref lv, .int (nI D), .int (w 2), .int (w 4), .int (w 5), .int (w 6)])) := hfr13 _ _ k_4 (Nat.ne_of_lt (hD_1 _ _ h1))
    have k_17 : h_12 lr = some (.inr (20, [.int m0, .ref e0, .int (nI R)])) := hfr13 _ _ k_5 (Nat.ne_of_lt (hD_1 _ _ r1))
    have k_18 : h_12 e0 = some (.inl ((zm_G M).2.1 5, N0, .inr (.inr (.inr (.inr f0))))) := hfr13 _ _ k_6 (Nat.ne_of_lt (hD_1 _ _ r2))
    have k_19 : h_12 ls = some (.inr (20, [.int m9, .ref e, .int (nI S)])) := hfr13 _ _ k_7 (Nat.ne_of_lt (hD_1 _ _ h3))
    have k_20 : h_12 e = some (.inl ((zm_G M).2.1 5, N, .inr (.inr (.inr (.inr f))))) := hfr13 _ _ k_8 (Nat.ne_of_lt (hD_1 _ _ h4))
    have k_21 : h_12 lv = some (.inr (20, [.int mv, .ref ev, .int (nI S)])) := hfr13 _ _ k_9 (Nat.ne_of_lt (hD_1 _ _ v1))
    have k_22 : h_12 ev = some (.inl ((zm_G M).2.1 5, Nv, .inr (.inr (.inr (.inr fv))))) := hfr13 _ _ k_10 (Nat.ne_of_lt (hD_1 _ _ v2))
    refine z_astore_n (lv' := [(2, .ref n), (0, .ref t), (1, .int x)]) hb dX1_bestPlan_15 (by rw [hN]; decide) rfl ?_
    refine z_iconst (x := nI 0) hb dX1_bestPlan_16 (by decide) ?_
    refine z_istore_n (lv' := [(3, .int (nI 0)), (2, .ref n), (0, .ref t), (1, .int x)]) hb dX1_bestPlan_17 (by rw [hN]; decide) rfl ?_
    refine z_aload_n hb dX1_bestPlan_18 rfl ?_
    refine z_iconst (x := nI 0) hb dX1_bestPlan_19 (by decide) ?_
    refine z_callQ1 (b' := 1) (f' := 6) (rest := []) (av := [.ref n, .int (nI 0)]) (z_siteV hb ho zc16 hct13 q2067 q2068 q2069 ⟨_, _, _, _, zk_X20_findAll⟩ zy_X20_findAll zl_X20_findAll dX1_bestPlan_20 : z_Site M _ _ _ _ _ ([.int (nI 0)].reverse ++ .ref n :: []) [] _) zk_X20_findAll q143 hrm (m_X20_findAll (x := (nI 0)) (hL.ex (z_exT hD0 (by omega) (z_exN z_ex_r hD_1 eh_2) hfr13)) hS8 hR4 hct13 hce13 (by omega)) (by omega) (by decide) (Nat.le_of_ble_eq_true rfl) (by omega) (by omega) (fun rhq_23 h_24 n_25 hq_23 hn_25 => ?_)
    obtain ⟨rfl, hq_23⟩ := hq_23
    have k_26 : h_24 t = some (.inr (0, [.ref a, x1, x2, x3, x4, x5, x6])) := z_nx hq_23 (z_neA k_15 hce13) k_15
    have k_27 : h_24 a = some (.inr (1, [.ref lr, .ref ls, .ref lv, .int (nI D), .int (w 2), .int (w 4), .int (w 5), .int (w 6)])) := z_nx hq_23 (z_neA k_16 hce13) k_16
    have k_28 : h_24 lr = some (.inr (20, [.int m0, .ref e0, .int (nI R)])) := z_nx hq_23 (z_neA k_17 hce13) k_17
    have k_29 : h_24 e0 = some (.inl ((zm_G M).2.1 5, N0, .inr (.inr (.inr (.inr f0))))) := z_nx hq_23 (z_neXol k_18 hce13) k_18
    have k_30 : h_24 ls = some (.inr (20, [.int m9, .ref e, .int (nI S)])) := z_nx hq_23 (z_neA k_19 hce13) k_19
    have k_31 : h_24 e = some (.inl ((zm_G M).2.1 5, N, .inr (.inr (.inr (.inr f))))) := z_nx hq_23 (z_neXol k_20 hce13) k_20
    have k_32 : h_24 lv = some (.inr (20, [.int mv, .ref ev, .int (nI S)])) := z_nx hq_23 (z_neA k_21 hce13) k_21
    have k_33 : h_24 ev = some (.inl ((zm_G M).2.1 5, Nv, .inr (.inr (.inr (.inr fv))))) := z_nx hq_23 (z_neXol k_22 hce13) k_22
    have k_34 : h_24 n = some (.inr (16, [.ref ls, .int (nI R), .ref ec13])) := z_nx hq_23 (z_neA hct13 hce13) hct13
    refine z_toL (y := W 0) (hW _ _) ?_
    refine z_lstore (lv' := [(4, .long (W 0)), (3, .int (nI 0)), (2, .ref n), (0, .ref t), (1, .int x)]) hb dX1_bestPlan_23 (by rw [hN]; decide) rfl ?_
    refine z_iconst (x := nI 1) hb dX1_bestPlan_25 (by decide) ?_
    refine z_istore (lv' := [(6, .int (nI 1)), (4, .long (W 0)), (3, .int (nI 0)), (2, .ref n), (0, .ref t), (1, .int x)]) hb dX1_bestPlan_26 (by rw [hN]; decide) rfl ?_
    have lp_28 : ∀ (k9_28 : Nat) (q : Nat) (nn : Nat) (hh : zH) (C : Nat → Int64), 2 ^ S + 1 - q < k9_28 → (q + 1 ≤ 2 ^ S) → (n_25 ≤ nn) → (z_ex h hh) → (hh n = some (.inr (16, [.ref ls, .int (nI R), .ref ec13]))) → (hh ec13 = some (z_al (zm_G M) 8 C)) → z_V M hh nn 1 6 28 [(0, .ref t), (1, .int x), (2, .ref n), (3, .int (nI ((z_bp W x q).1))), (4, .long ((z_bp W x q).2)), (6, .int (nI (q + 1)))] [] := by
      intro k9_28
      induction k9_28 with
      | zero => intro q nn hh C hk9_28; exact absurd hk9_28 (Nat.not_lt_zero _)
      | succ k9_28 ih_28 =>
        intro q nn hh C hk9_28 hq hnn hE9 hT9 hC9
        refine z_iload hb dX1_bestPlan_28 rfl ?_
        refine z_aload_n hb dX1_bestPlan_30 rfl ?_
        refine z_callN1 (b' := 1) (f' := 6) (rest := [.int (nI (q + 1))]) (av := [.ref t]) (z_siteV hb ho zc0 (hE9 _ _ hX) q2044 q2046 qs20 ⟨_, _, _, _, zk_X1_plans⟩ zy_X1_plans zl_X1_plans dX1_bestPlan_31 : z_Site M _ _ _ _ _ ([].reverse ++ .ref t :: [.int (nI (q + 1))]) [.int (nI (q + 1))] _) zk_X1_plans q94 hrm (m_X1_plans (hE9 _ _ hX) (hL.ex hE9) hS8) (by omega) (by decide) (Nat.le_of_ble_eq_true rfl) (by omega) (by omega) (fun n_35 hn_35 => ?_)
        refine z_icmp_geN (tgt := 89) hb dX1_bestPlan_34 (by decide) (by omega) (by omega) (fun c_34 => ?_) (fun c_34 => ?_)
        · refine z_iload_n hb dX1_bestPlan_89 rfl ?_
          refine z_less hE9 ?_
          refine z_iret hb hr dX1_bestPlan_90 ?_
          rw [hQ]
          have hq9 : q = 2 ^ S - 1 := by omega
          exact z_rn_e (by rw [hq9])
        · refine z_iload hb dX1_bestPlan_37 rfl ?_
          refine z_callN1 (b' := 1) (f' := 6) (rest := []) (av := [.int (nI (q + 1))]) (z_siteS hb ho q2115 q2116 q120 ⟨_, _, _, _, zk_J19_bitCount⟩ zy_J19_bitCount zl_J19_bitCount dX1_bestPlan_39 : z_Site M _ _ _ _ _ ([.int (nI (q + 1))].reverse ++ []) [] _) zk_J19_bitCount q120 hrm (m_J19_bitCount (by omega)) (by omega) (by decide) (Nat.le_of_ble_eq_true rfl) (by omega) (by omega) (fun n_36 hn_36 => ?_)
          refine z_iload_n hb dX1_bestPlan_42 rfl ?_
          refine z_icmp_gt (tgt := 55) hb dX1_bestPlan_43 (by decide) (fun c_43 => ?_) (fun c_43 => ?_)
          · refine z_lload hb dX1_bestPlan_55 rfl ?_
            refine z_lstore (lv' := [(7, .long ((z_bp W x q).2)), (0, .ref t), (1, .int x), (2, .ref n), (3, .int (nI ((z_bp W x q).1))), (4, .long ((z_bp W x q).2)), (6, .int (nI (q + 1)))]) hb dX1_bestPlan_57 (by rw [hN]; decide) rfl ?_
            refine z_lload hb dX1_bestPlan_59 rfl ?_
            refine z_lload hb dX1_bestPlan_61 rfl ?_
            refine z_lif_ge (tgt := 72) hb dX1_bestPlan_63 dX1_bestPlan_64 (by decide) (fun c_64 => ?_) (fun c_64 => ?_)
            · refine z_iload_n hb dX1_bestPlan_72 rfl ?_
              refine z_toI (y := nI ((z_bp W x (q + 1)).1)) (by simp only [z_bp, z_bp1, z_bpc, if_pos c_43, if_neg (Int64.not_lt.mpr c_64)]) ?_
              refine z_istore_n (lv' := [(3, .int (nI ((z_bp W x (q + 1)).1))), (7, .long ((z_bp W x q).2)), (0, .ref t), (1, .int x), (2, .ref n), (4, .long ((z_bp W x q).2)), (6, .int (nI (q + 1)))]) hb dX1_bestPlan_73 (by rw [hN]; decide) rfl ?_
              refine z_lload hb dX1_bestPlan_74 rfl ?_
              refine z_lload hb dX1_bestPlan_76 rfl ?_
              refine z_lmin hb ho hrm (by omega) q2121 q2122 q111 q2123 dX1_bestPlan_78 (Nat.le_of_ble_eq_true rfl) ?_
              refine z_toL (y := (z_bp W x (q + 1)).2) (by simp only [z_bp, z_bp1, z_bpc, if_pos c_43, if_neg (Int64.not_lt.mpr c_64)]) ?_
              refine z_lstore (lv' := [(4, .long ((z_bp W x (q + 1)).2)), (3, .int (nI ((z_bp W x (q + 1)).1))), (7, .long ((z_bp W x q).2)), (0, .ref t), (1, .int x), (2, .ref n), (6, .int (nI (q + 1)))]) hb dX1_bestPlan_81 (by rw [hN]; decide) rfl ?_
              refine z_iinc (k0 := 6) (lv' := [(6, .int (nI (q + 2))), (4, .long ((z_bp W x (q + 1)).2)), (3, .int (nI ((z_bp W x (q + 1)).1))), (7, .long ((z_bp W x q).2)), (0, .ref t), (1, .int x), (2, .ref n)]) hb dX1_bestPlan_83 rfl (nI_1 (q + 1)) (by rw [hN]; decide) rfl ?_
              refine z_goto (tgt := 28) hb dX1_bestPlan_86 (by decide) ?_
              refine z_lv [4, 5, 6, 2, 1, 0] (lv' := [(0, .ref t), (1, .int x), (2, .ref n), (3, .int (nI ((z_bp W x (q + 1)).1))), (4, .long ((z_bp W x (q + 1)).2)), (6, .int (nI (q + 2)))]) rfl ?_
              exact ih_28 (q + 1) n_36 hh C (by omega) (by omega) (by omega) hE9 hT9 hC9
            · refine z_iload hb dX1_bestPlan_67 rfl ?_
              refine z_toI (y := nI ((z_bp W x (q + 1)).1)) (by simp only [z_bp, z_bp1, z_bpc, if_pos c_43, if_pos (Int64.not_le.mp c_64)]) ?_
              refine z_goto (tgt := 73) hb dX1_bestPlan_69 (by decide) ?_
              refine z_istore_n (lv' := [(3, .int (nI ((z_bp W x (q + 1)).1))), (7, .long ((z_bp W x q).2)), (0, .ref t), (1, .int x), (2, .ref n), (4, .long ((z_bp W x q).2)), (6, .int (nI (q + 1)))]) hb dX1_bestPlan_73 (by rw [hN]; decide) rfl ?_
              refine z_lload hb dX1_bestPlan_74 rfl ?_
              refine z_lload hb dX1_bestPlan_76 rfl ?_
              refine z_lmin hb ho hrm (by omega) q2121 q2122 q111 q2123 dX1_bestPlan_78 (Nat.le_of_ble_eq_true rfl) ?_
              refine z_toL (y := (z_bp W x (q + 1)).2) (by simp only [z_bp, z_bp1, z_bpc, if_pos c_43, if_pos (Int64.not_le.mp c_64)]) ?_
              refine z_lstore (lv' := [(4, .long ((z_bp W x (q + 1)).2)), (3, .int (nI ((z_bp W x (q + 1)).1))), (7, .long ((z_bp W x q).2)), (0, .ref t), (1, .int x), (2, .ref n), (6, .int (nI (q + 1)))]) hb dX1_bestPlan_81 (by rw [hN]; decide) rfl ?_
              refine z_iinc (k0 := 6) (lv' := [(6, .int (nI (q + 2))), (4, .long ((z_bp W x (q + 1)).2)), (3, .int (nI ((z_bp W x (q + 1)).1))), (7, .long ((z_bp W x q).2)), (0, .ref t), (1, .int x), (2, .ref n)]) hb dX1_bestPlan_83 rfl (nI_1 (q + 1)) (by rw [hN]; decide) rfl ?_
              refine z_goto (tgt := 28) hb dX1_bestPlan_86 (by decide) ?_
              refine z_lv [4, 5, 6, 2, 1, 0] (lv' := [(0, .ref t), (1, .int x), (2, .ref n), (3, .int (nI ((z_bp W x (q + 1)).1))), (4, .long ((z_bp W x (q + 1)).2)), (6, .int (nI (q + 2)))]) rfl ?_
              exact ih_28 (q + 1) n_36 hh C (by omega) (by omega) (by omega) hE9 hT9 hC9
          · refine z_aload_n hb dX1_bestPlan_46 rfl ?_
            refine z_iload hb dX1_bestPlan_47 rfl ?_
            refine z_callQ1 (b' := 1) (f' := 6) (rest := []) (av := [.ref n, .int (nI (q + 1))]) (z_siteV hb ho zc16 hT9 q2067 q2068 q2069 ⟨_, _, _, _, zk_X20_findAll⟩ zy_X20_findAll zl_X20_findAll dX1_bestPlan_49 : z_Site M _ _ _ _ _ ([.int (nI (q + 1))].reverse ++ .ref n :: []) [] _) zk_X20_findAll q143 hrm (m_X20_findAll (x := (nI (q + 1))) (hL.ex hE9) hS8 hR4 hT9 hC9 (by omega)) (by omega) (by decide) (Nat.le_of_ble_eq_true rfl) (by omega) (by omega) (fun rhq_37 h_38 n_39 hq_37 hn_39 => ?_)
            obtain ⟨rfl, hq_37⟩ := hq_37
            have k_40 : h_38 t = some (.inr (0, [.ref a, x1, x2, x3, x4, x5, x6])) := z_nx hq_37 (z_neA (hE9 _ _ hX) hC9) (hE9 _ _ hX)
            have k_41 : h_38 a = some (.inr (1, [.ref lr, .ref ls, .ref lv, .int (nI D), .int (w 2), .int (w 4), .int (w 5), .int (w 6)])) := z_nx hq_37 (z_neA (hE9 _ _ h1) hC9) (hE9 _ _ h1)
            have k_42 : h_38 lr = some (.inr (20, [.int m0, .ref e0, .int (nI R)])) := z_nx hq_37 (z_neA (hE9 _ _ r1) hC9) (hE9 _ _ r1)
            have k_43 : h_38 e0 = some (.inl ((zm_G M).2.1 5, N0, .inr (.inr (.inr (.inr f0))))) := z_nx hq_37 (z_neXol (hE9 _ _ r2) hC9) (hE9 _ _ r2)
            have k_44 : h_38 ls = some (.inr (20, [.int m9, .ref e, .int (nI S)])) := z_nx hq_37 (z_neA (hE9 _ _ h3) hC9) (hE9 _ _ h3)
            have k_45 : h_38 e = some (.inl ((zm_G M).2.1 5, N, .inr (.inr (.inr (.inr f))))) := z_nx hq_37 (z_neXol (hE9 _ _ h4) hC9) (hE9 _ _ h4)
            have k_46 : h_38 lv = some (.inr (20, [.int mv, .ref ev, .int (nI S)])) := z_nx hq_37 (z_neA (hE9 _ _ v1) hC9) (hE9 _ _ v1)
            have k_47 : h_38 ev = some (.inl ((zm_G M).2.1 5, Nv, .inr (.inr (.inr (.inr fv))))) := z_nx hq_37 (z_neXol (hE9 _ _ v2) hC9) (hE9 _ _ v2)
            have k_48 : h_38 n = some (.inr (16, [.ref ls, .int (nI R), .ref ec13])) := z_nx hq_37 (z_neA hT9 hC9) hT9
            refine z_toL (y := W (q + 1)) (hW _ _) ?_
            refine z_goto (tgt := 57) hb dX1_bestPlan_52 (by decide) ?_
            refine z_lstore (lv' := [(7, .long (W (q + 1))), (0, .ref t), (1, .int x), (2, .ref n), (3, .int (nI ((z_bp W x q).1))), (4, .long ((z_bp W x q).2)), (6, .int (nI (q + 1)))]) hb dX1_bestPlan_57 (by rw [hN]; decide) rfl ?_
            refine z_lload hb dX1_bestPlan_59 rfl ?_
            refine z_lload hb dX1_bestPlan_61 rfl ?_
            refine z_lif_ge (tgt := 72) hb dX1_bestPlan_63 dX1_bestPlan_64 (by decide) (fun c_64 => ?_) (fun c_64 => ?_)
            · refine z_iload_n hb dX1_bestPlan_72 rfl ?_
              refine z_toI (y := nI ((z_bp W x (q + 1)).1)) (by simp only [z_bp, z_bp1, z_bpc, if_neg c_43, if_neg (Int64.not_lt.mpr c_64)]) ?_
              refine z_istore_n (lv' := [(3, .int (nI ((z_bp W x (q + 1)).1))), (7, .long (W (q + 1))), (0, .ref t), (1, .int x), (2, .ref n), (4, .long ((z_bp W x q).2)), (6, .int (nI (q + 1)))]) hb dX1_bestPlan_73 (by rw [hN]; decide) rfl ?_
              refine z_lload hb dX1_bestPlan_74 rfl ?_
              refine z_lload hb dX1_bestPlan_76 rfl ?_
              refine z_lmin hb ho hrm (by omega) q2121 q2122 q111 q2123 dX1_bestPlan_78 (Nat.le_of_ble_eq_true rfl) ?_
              refine z_toL (y := (z_bp W x (q + 1)).2) (by simp only [z_bp, z_bp1, z_bpc, if_neg c_43, if_neg (Int64.not_lt.mpr c_64)]) ?_
              refine z_lstore (lv' := [(4, .long ((z_bp W x (q + 1)).2)), (3, .int (nI ((z_bp W x (q + 1)).1))), (7, .long (W (q + 1))), (0, .ref t), (1, .int x), (2, .ref n), (6, .int (nI (q + 1)))]) hb dX1_bestPlan_81 (by rw [hN]; decide) rfl ?_
              refine z_iinc (k0 := 6) (lv' := [(6, .int (nI (q + 2))), (4, .long ((z_bp W x (q + 1)).2)), (3, .int (nI ((z_bp W x (q + 1)).1))), (7, .long (W (q + 1))), (0, .ref t), (1, .int x), (2, .ref n)]) hb dX1_bestPlan_83 rfl (nI_1 (q + 1)) (by rw [hN]; decide) rfl ?_
              refine z_goto (tgt := 28) hb dX1_bestPlan_86 (by decide) ?_
              refine z_lv [4, 5, 6, 2, 1, 0] (lv' := [(0, .ref t), (1, .int x), (2, .ref n), (3, .int (nI ((z_bp W x (q + 1)).1))), (4, .long ((z_bp W x (q + 1)).2)), (6, .int (nI (q + 2)))]) rfl ?_
              exact ih_28 (q + 1) n_39 h_38 (tw_lc w R (nI (q + 1)) C S) (by omega) (by omega) (by omega) (z_exW hD0 (by omega) hq_37 hE9) k_48 (z_nxs hq_37)
            · refine z_iload hb dX1_bestPlan_67 rfl ?_
              refine z_toI (y := nI ((z_bp W x (q + 1)).1)) (by simp only [z_bp, z_bp1, z_bpc, if_neg c_43, if_pos (Int64.not_le.mp c_64)]) ?_
              refine z_goto (tgt := 73) hb dX1_bestPlan_69 (by decide) ?_
              refine z_istore_n (lv' := [(3, .int (nI ((z_bp W x (q + 1)).1))), (7, .long (W (q + 1))), (0, .ref t), (1, .int x), (2, .ref n), (4, .long ((z_bp W x q).2)), (6, .int (nI (q + 1)))]) hb dX1_bestPlan_73 (by rw [hN]; decide) rfl ?_
              refine z_lload hb dX1_bestPlan_74 rfl ?_
              refine z_lload hb dX1_bestPlan_76 rfl ?_
              refine z_lmin hb ho hrm (by omega) q2121 q2122 q111 q2123 dX1_bestPlan_78 (Nat.le_of_ble_eq_true rfl) ?_
              refine z_toL (y := (z_bp W x (q + 1)).2) (by simp only [z_bp, z_bp1, z_bpc, if_neg c_43, if_pos (Int64.not_le.mp c_64)]) ?_
              refine z_lstore (lv' := [(4, .long ((z_bp W x (q + 1)).2)), (3, .int (nI ((z_bp W x (q + 1)).1))), (7, .long (W (q + 1))), (0, .ref t), (1, .int x), (2, .ref n), (6, .int (nI (q + 1)))]) hb dX1_bestPlan_81 (by rw [hN]; decide) rfl ?_
              refine z_iinc (k0 := 6) (lv' := [(6, .int (nI (q + 2))), (4, .long ((z_bp W x (q + 1)).2)), (3, .int (nI ((z_bp W x (q + 1)).1))), (7, .long (W (q + 1))), (0, .ref t), (1, .int x), (2, .ref n)]) hb dX1_bestPlan_83 rfl (nI_1 (q + 1)) (by rw [hN]; decide) rfl ?_
              refine z_goto (tgt := 28) hb dX1_bestPlan_86 (by decide) ?_
              refine z_lv [4, 5, 6, 2, 1, 0] (lv' := [(0, .ref t), (1, .int x), (2, .ref n), (3, .int (nI ((z_bp W x (q + 1)).1))), (4, .long ((z_bp W x (q + 1)).2)), (6, .int (nI (q + 2)))]) rfl ?_
              exact ih_28 (q + 1) n_39 h_38 (tw_lc w R (nI (q + 1)) C S) (by omega) (by omega) (by omega) (z_exW hD0 (by omega) hq_37 hE9) k_48 (z_nxs hq_37)
    refine z_lv [4, 5, 3, 2, 1, 0] (lv' := [(0, .ref t), (1, .int x), (2, .ref n), (3, .int (nI 0)), (4, .long (W 0)), (6, .int (nI 1))]) rfl ?_
    exact lp_28 _ 0 n_25 h_24 (tw_lc w R (nI 0) (fun _ => 0) S) (Nat.lt_succ_self _) (by omega) (by omega) (z_exW hD0 (by omega) hq_23 (z_exT hD0 (by omega) (z_exN z_ex_r hD_1 eh_2) hfr13)) k_34 (z_nxs hq_23)
  · rw [hx] at c_1; cases c_1

set_option maxHeartbeats 1000000 in
theorem m_X1_bestPlan_no {l : Launch} {G : zG} {h : zH} {n : Nat} {t : Nat} {x1 x2 x3 x4 x5 x6 : Value} {w : Nat → Int32} {v : Nat → Int64} {R S D a lr ls lv : Nat} {ra sa va : Nat → Nat} {x : Int32} (hX : h t = some (.inr (0, [.ref a, x1, x2, x3, x4, x5, x6]))) (hL : z_Ln G h w v R S D a lr ls lv ra sa va) (hS8 : S ≤ 8) (hx : decide (nI 0 ≤ x ∧ x ≤ nI 8) = false) : z_C l G yX1_bestPlan 9 4 23 [.ref t, .int x] h n (z_tf 27 [] h n) := by
  refine z_start zk_X1_bestPlan zpl_RX1 (Nat.le_of_ble_eq_true rfl) ?_
  intro hn0 M hl hG ho hb hN hr hm hH hrm hQ
  subst hl hG
  have ho : zm_o M = RX1 := ho
  obtain ⟨h1, ⟨e0, N0, m0, f0, r1, r2, r3, ⟨r4, r4n⟩, r5⟩, ⟨e, N, m9, f, h3, h4, h5, ⟨h6, h6n⟩, h7⟩, ⟨ev, Nv, mv, fv, v1, v2, v3, ⟨v4, v4n⟩, v5⟩, h9, hs, hv, hi, hrI⟩ := id hL
  show z_V M h n 4 23 0 [(0, .ref t), (1, .int x)] []
  refine z_dom (fun hD0 => ?_)
  refine z_iload_n hb dX1_bestPlan_0 rfl ?_
  refine z_callC0 (b' := 3) (f' := 17) (rest := []) (av := [.int x]) (z_siteS hb ho q2112 q2113 q94 ⟨_, _, _, _, zk_X1_requireSize⟩ zy_X1_requireSize zl_X1_requireSize dX1_bestPlan_1 : z_Site M _ _ _ _ _ ([.int x].reverse ++ []) [] _) zk_X1_requireSize q94 hrm (m_X1_requireSize x) (by omega) (by decide) (Nat.le_of_ble_eq_true rfl) (by omega) (by omega) (fun c_1 => ?_) (fun c_1 => ?_)
  · rw [hx] at c_1; cases c_1
  · exact z_out ho hH zc27 z_up_s (by omega) (fun _ h => nomatch h) (by rw [hQ]; exact ⟨_, rfl, by omega, Nat.lt_succ_self _, rfl⟩)

set_option maxHeartbeats 1000000 in
theorem m_X1_bestCost_ok {l : Launch} {G : zG} {h : zH} {n : Nat} {t : Nat} {x1 x2 x3 x4 x5 x6 : Value} {w : Nat → Int32} {v : Nat → Int64} {R S D a lr ls lv : Nat} {ra sa va : Nat → Nat} {x : Int32} {W : Nat → Int64} (hX : h t = some (.inr (0, [.ref a, x1, x2, x3, x4, x5, x6]))) (hL : z_Ln G h w v R S D a lr ls lv ra sa va) (hS8 : S ≤ 8) (hR4 : R ≤ 40) (hx : decide (nI 0 ≤ x ∧ x ≤ nI 8) = true) (hW : ∀ C q, tw_wh w R S (nI q) C = W q) : z_C l G yX1_bestCost 10 8 46 [.ref t, .int x] h n (z_rn (.long (W (z_bp W x (2 ^ S - 1)).1)) h) := by
  refine z_start zk_X1_bestCost zpl_RX1 (Nat.le_of_ble_eq_true rfl) ?_
  intro hn0 M hl hG ho hb hN hr hm hH hrm hQ
  subst hl hG
  have ho : zm_o M = RX1 := ho
  obtain ⟨h1, ⟨e0, N0, m0, f0, r1, r2, r3, ⟨r4, r4n⟩, r5⟩, ⟨e, N, m9, f, h3, h4, h5, ⟨h6, h6n⟩, h7⟩, ⟨ev, Nv, mv, fv, v1, v2, v3, ⟨v4, v4n⟩, v5⟩, h9, hs, hv, hi, hrI⟩ := id hL
  show z_V M h n 8 46 0 [(0, .ref t), (1, .int x)] []
  refine z_dom (fun hD0 => ?_)
  refine z_dom (fun hD_1 => ?_)
  refine z_new (N0 := 3) (b' := 7) (f' := 43) (fs := [.null, .int (nI 0), .null]) (C := RX20) (T := TX20) (N := 3) hb ho zc16 in_X20 tyX20_ok q2048 q2049 q143 dX1_bestCost_0 (zdf_X20) (by omega) (by omega) ?_
  refine z_hn (fun h_2 eh_2 => ?_)
  have eh_2 : h_2 = z_up h n (.inr (16, [.null, .int (nI 0), .null])) := eh_2
  have k_3 : h_2 t = some (.inr (0, [.ref a, x1, x2, x3, x4, x5, x6])) := z_nx eh_2 (Nat.ne_of_lt (hD_1 _ _ hX)) hX
  have k_4 : h_2 a = some (.inr (1, [.ref lr, .ref ls, .ref lv, .int (nI D), .int (w 2), .int (w 4), .int (w 5), .int (w 6)])) := z_nx eh_2 (Nat.ne_of_lt (hD_1 _ _ h1)) h1
  have k_5 : h_2 lr = some (.inr (20, [.int m0, .ref e0, .int (nI R)])) := z_nx eh_2 (Nat.ne_of_lt (hD_1 _ _ r1)) r1
  have k_6 : h_2 e0 = some (.inl ((zm_G M).2.1 5, N0, .inr (.inr (.inr (.inr f0))))) := z_nx eh_2 (Nat.ne_of_lt (hD_1 _ _ r2)) r2
  have k_7 : h_2 ls = some (.inr (20, [.int m9, .ref e, .int (nI S)])) := z_nx eh_2 (Nat.ne_of_lt (hD_1 _ _ h3)) h3
  have k_8 : h_2 e = some (.inl ((zm_G M).2.1 5, N, .inr (.inr (.inr (.inr f))))) := z_nx eh_2 (Nat.ne_of_lt (hD_1 _ _ h4)) h4
  have k_9 : h_2 lv = some (.inr (20, [.int mv, .ref ev, .int (nI S)])) := z_nx eh_2 (Nat.ne_of_lt (hD_1 _ _ v1)) v1
  have k_10 : h_2 ev = some (.inl ((zm_G M).2.1 5, Nv, .inr (.inr (.inr (.inr fv))))) := z_nx eh_2 (Nat.ne_of_lt (hD_1 _ _ v2)) v2
  refine z_dup hb dX1_bestCost_3 rfl ?_
  refine z_aload_n hb dX1_bestCost_4 rfl ?_
  refine z_get (k := 0) (C := RX1) (T := TX1) (N := 7) hb ho zc0 in_X1 (zf_RX1_41 _) dX1_bestCost_5 k_3 (by decide) rfl ?_
  refine z_callQ0 (b' := 6) (f' := 35) (rest := [.ref n]) (av := [.ref n, .ref a]) (z_siteI hb ho q2050 q2051 q2052 rfl zy_X20_init zl_X20_init dX1_bestCost_8 : z_Site M _ _ _ _ _ ([.ref a].reverse ++ .ref n :: [.ref n]) [.ref n] _) zk_X20_init q143 hrm (m_X20_init (hL.ex (z_exN z_ex_r hD_1 eh_2)) (z_nxs eh_2) (by omega) (by omega)) (by omega) (by decide) (Nat.le_of_ble_eq_true rfl) (by omega) (by omega) (fun h_12 n_13 hq_11 hn_13 => ?_)
  obtain ⟨ec13, hct13, hce13, hle13, hfr13⟩ := hq_11
  have k_15 : h_12 t = some (.inr (0, [.ref a, x1, x2, x3, x4, x5, x6])) := hfr13 _ _ k_3 (Nat.ne_of_lt (hD_1 _ _ hX))
  have k_16 : h_12 a = some (.inr (1, [.ref lr, .ref ls, .ref lv, .int (nI D), .int (w 2), .int (w 4), .int (w 5), .int (w 6)])) := hfr13 _ _ k_4 (Nat.ne_of_lt (hD_1 _ _ h1))
  have k_17 : h_12 lr = some (.inr (20, [.int m0, .ref e0, .int (nI R)])) := hfr13 _ _ k_5 (Nat.ne_of_lt (hD_1 _ _ r1))
  have k_18 : h_12 e0 = some (.inl ((zm_G M).2.1 5, N0, .inr (.inr (.inr (.inr f0))))) := hfr13 _ _ k_6 (Nat.ne_of_lt (hD_1 _ _ r2))
  have k_19 : h_12 ls = some (.inr (20, [.int m9, .ref e, .int (nI S)])) := hfr13 _ _ k_7 (Nat.ne_of_lt (hD_1 _ _ h3))
  have k_20 : h_12 e = some (.inl ((zm_G M).2.1 5, N, .inr (.inr (.inr (.inr f))))) := hfr13 _ _ k_8 (Nat.ne_of_lt (hD_1 _ _ h4))
  have k_21 : h_12 lv = some (.inr (20, [.int mv, .ref ev, .int (nI S)])) := hfr13 _ _ k_9 (Nat.ne_of_lt (hD_1 _ _ v1))
  have k_22 : h_12 ev = some (.inl ((zm_G M).2.1 5, Nv, .inr (.inr (.inr (.inr fv))))) := hfr13 _ _ k_10 (Nat.ne_of_lt (hD_1 _ _ v2))
  refine z_aload_n hb dX1_bestCost_11 rfl ?_
  refine z_iload_n hb dX1_bestCost_12 rfl ?_
  refine z_callN1 (b' := 2) (f' := 12) (rest := [.ref n]) (av := [.ref t, .int x]) (z_siteV hb ho zc0 k_15 q2169 q2109 q2110 ⟨_, _, _, _, zk_X1_bestPlan⟩ zy_X1_bestPlan zl_X1_bestPlan dX1_bestCost_13 : z_Site M _ _ _ _ _ ([.int x].reverse ++ .ref t :: [.ref n]) [.ref n] _) zk_X1_bestPlan q94 hrm (m_X1_bestPlan_ok k_15 (hL.ex (z_exT hD0 (by omega) (z_exN z_ex_r hD_1 eh_2) hfr13)) hS8 hR4 hx hW) (by omega) (by decide) (Nat.le_of_ble_eq_true rfl) (by omega) (by omega) (fun n_23 hn_23 => ?_)
  refine z_callQ1 (b' := 2) (f' := 12) (rest := []) (av := [.ref n, .int (nI (z_bp W x (2 ^ S - 1)).1)]) (z_siteV hb ho zc16 hct13 q2067 q2068 q2069 ⟨_, _, _, _, zk_X20_findAll⟩ zy_X20_findAll zl_X20_findAll dX1_bestCost_16 : z_Site M _ _ _ _ _ ([.int (nI (z_bp W x (2 ^ S - 1)).1)].reverse ++ .ref n :: []) [] _) zk_X20_findAll q143 hrm (m_X20_findAll (x := (nI (z_bp W x (2 ^ S - 1)).1)) (hL.ex (z_exT hD0 (by omega) (z_exN z_ex_r hD_1 eh_2) hfr13)) hS8 hR4 hct13 hce13 (by omega)) (by omega) (by decide) (Nat.le_of_ble_eq_true rfl) (by omega) (by omega) (fun rhq_24 h_25 n_26 hq_24 hn_26 => ?_)
  obtain ⟨rfl, hq_24⟩ := hq_24
  have k_27 : h_25 t = some (.inr (0, [.ref a, x1, x2, x3, x4, x5, x6])) := z_nx hq_24 (z_neA k_15 hce13) k_15
  have k_28 : h_25 a = some (.inr (1, [.ref lr, .ref ls, .ref lv, .int (nI D), .int (w 2), .int (w 4), .int (w 5), .int (w 6)])) := z_nx hq_24 (z_neA k_16 hce13) k_16
  have k_29 : h_25 lr = some (.inr (20, [.int m0, .ref e0, .int (nI R)])) := z_nx hq_24 (z_neA k_17 hce13) k_17
  have k_30 : h_25 e0 = some (.inl ((zm_G M).2.1 5, N0, .inr (.inr (.inr (.inr f0))))) := z_nx hq_24 (z_neXol k_18 hce13) k_18
  have k_31 : h_25 ls = some (.inr (20, [.int m9, .ref e, .int (nI S)])) := z_nx hq_24 (z_neA k_19 hce13) k_19
  have k_32 : h_25 e = some (.inl ((zm_G M).2.1 5, N, .inr (.inr (.inr (.inr f))))) := z_nx hq_24 (z_neXol k_20 hce13) k_20
  have k_33 : h_25 lv = some (.inr (20, [.int mv, .ref ev, .int (nI S)])) := z_nx hq_24 (z_neA k_21 hce13) k_21
  have k_34 : h_25 ev = some (.inl ((zm_G M).2.1 5, Nv, .inr (.inr (.inr (.inr fv))))) := z_nx hq_24 (z_neXol k_22 hce13) k_22
  have k_35 : h_25 n = some (.inr (16, [.ref ls, .int (nI R), .ref ec13])) := z_nx hq_24 (z_neA hct13 hce13) hct13
  refine z_toL (y := W (z_bp W x (2 ^ S - 1)).1) (hW _ _) ?_
  refine z_less (z_exW hD0 (by omega) hq_24 (z_exT hD0 (by omega) (z_exN z_ex_r hD_1 eh_2) hfr13)) ?_
  refine z_lret hb hr dX1_bestCost_19 ?_
  rw [hQ]
  exact ⟨rfl, rfl⟩

set_option maxHeartbeats 1000000 in
theorem m_X1_bestCost_no {l : Launch} {G : zG} {h : zH} {n : Nat} {t : Nat} {x1 x2 x3 x4 x5 x6 : Value} {w : Nat → Int32} {v : Nat → Int64} {R S D a lr ls lv : Nat} {ra sa va : Nat → Nat} {x : Int32} (hX : h t = some (.inr (0, [.ref a, x1, x2, x3, x4, x5, x6]))) (hL : z_Ln G h w v R S D a lr ls lv ra sa va) (hS8 : S ≤ 8) (hx : decide (nI 0 ≤ x ∧ x ≤ nI 8) = false) : z_C l G yX1_bestCost 10 8 46 [.ref t, .int x] h n (z_tf 27 [] h n) := by
  refine z_start zk_X1_bestCost zpl_RX1 (Nat.le_of_ble_eq_true rfl) ?_
  intro hn0 M hl hG ho hb hN hr hm hH hrm hQ
  subst hl hG
  have ho : zm_o M = RX1 := ho
  obtain ⟨h1, ⟨e0, N0, m0, f0, r1, r2, r3, ⟨r4, r4n⟩, r5⟩, ⟨e, N, m9, f, h3, h4, h5, ⟨h6, h6n⟩, h7⟩, ⟨ev, Nv, mv, fv, v1, v2, v3, ⟨v4, v4n⟩, v5⟩, h9, hs, hv, hi, hrI⟩ := id hL
  show z_V M h n 8 46 0 [(0, .ref t), (1, .int x)] []
  refine z_dom (fun hD0 => ?_)
  refine z_dom (fun hD_1 => ?_)
  refine z_new (N0 := 3) (b' := 7) (f' := 43) (fs := [.null, .int (nI 0), .null]) (C := RX20) (T := TX20) (N := 3) hb ho zc16 in_X20 tyX20_ok q2048 q2049 q143 dX1_bestCost_0 (zdf_X20) (by omega) (by omega) ?_
  refine z_hn (fun h_2 eh_2 => ?_)
  have eh_2 : h_2 = z_up h n (.inr (16, [.null, .int (nI 0), .null])) := eh_2
  have k_3 : h_2 t = some (.inr (0, [.ref a, x1, x2, x3, x4, x5, x6])) := z_nx eh_2 (Nat.ne_of_lt (hD_1 _ _ hX)) hX
  have k_4 : h_2 a = some (.inr (1, [.ref lr, .ref ls, .ref lv, .int (nI D), .int (w 2), .int (w 4), .int (w 5), .int (w 6)])) := z_nx eh_2 (Nat.ne_of_lt (hD_1 _ _ h1)) h1
  have k_5 : h_2 lr = some (.inr (20, [.int m0, .ref e0, .int (nI R)])) := z_nx eh_2 (Nat.ne_of_lt (hD_1 _ _ r1)) r1
  have k_6 : h_2 e0 = some (.inl ((zm_G M).2.1 5, N0, .inr (.inr (.inr (.inr f0))))) := z_nx eh_2 (Nat.ne_of_lt (hD_1 _ _ r2)) r2
  have k_7 : h_2 ls = some (.inr (20, [.int m9, .ref e, .int (nI S)])) := z_nx eh_2 (Nat.ne_of_lt (hD_1 _ _ h3)) h3
  have k_8 : h_2 e = some (.inl ((zm_G M).2.1 5, N, .inr (.inr (.inr (.inr f))))) := z_nx eh_2 (Nat.ne_of_lt (hD_1 _ _ h4)) h4
  have k_9 : h_2 lv = some (.inr (20, [.int mv, .ref ev, .int (nI S)])) := z_nx eh_2 (Nat.ne_of_lt (hD_1 _ _ v1)) v1
  have k_10 : h_2 ev = some (.inl ((zm_G M).2.1 5, Nv, .inr (.inr (.inr (.inr fv))))) := z_nx eh_2 (Nat.ne_of_lt (hD_1 _ _ v2)) v2
  refine z_dup hb dX1_bestCost_3 rfl ?_
  refine z_aload_n hb dX1_bestCost_4 rfl ?_
  refine z_get (k := 0) (C := RX1) (T := TX1) (N := 7) hb ho zc0 in_X1 (zf_RX1_41 _) dX1_bestCost_5 k_3 (by decide) rfl ?_
  refine z_callQ0 (b' := 6) (f' := 35) (rest := [.ref n]) (av := [.ref n, .ref a]) (z_siteI hb ho q2050 q2051 q2052 rfl zy_X20_init zl_X20_init dX1_bestCost_8 : z_Site M _ _ _ _ _ ([.ref a].reverse ++ .ref n :: [.ref n]) [.ref n] _) zk_X20_init q143 hrm (m_X20_init (hL.ex (z_exN z_ex_r hD_1 eh_2)) (z_nxs eh_2) (by omega) (by omega)) (by omega) (by decide) (Nat.le_of_ble_eq_true rfl) (by omega) (by omega) (fun h_12 n_13 hq_11 hn_13 => ?_)
  obtain ⟨ec13, hct13, hce13, hle13, hfr13⟩ := hq_11
  have k_15 : h_12 t = some (.inr (0, [.ref a, x1, x2, x3, x4, x5, x6])) := hfr13 _ _ k_3 (Nat.ne_of_lt (hD_1 _ _ hX))
  have k_16 : h_12 a = some (.inr (1, [.ref lr, .ref ls, .ref lv, .int (nI D), .int (w 2), .int (w 4), .int (w 5), .int (w 6)])) := hfr13 _ _ k_4 (Nat.ne_of_lt (hD_1 _ _ h1))
  have k_17 : h_12 lr = some (.inr (20, [.int m0, .ref e0, .int (nI R)])) := hfr13 _ _ k_5 (Nat.ne_of_lt (hD_1 _ _ r1))
  have k_18 : h_12 e0 = some (.inl ((zm_G M).2.1 5, N0, .inr (.inr (.inr (.inr f0))))) := hfr13 _ _ k_6 (Nat.ne_of_lt (hD_1 _ _ r2))
  have k_19 : h_12 ls = some (.inr (20, [.int m9, .ref e, .int (nI S)])) := hfr13 _ _ k_7 (Nat.ne_of_lt (hD_1 _ _ h3))
  have k_20 : h_12 e = some (.inl ((zm_G M).2.1 5, N, .inr (.inr (.inr (.inr f))))) := hfr13 _ _ k_8 (Nat.ne_of_lt (hD_1 _ _ h4))
  have k_21 : h_12 lv = some (.inr (20, [.int mv, .ref ev, .int (nI S)])) := hfr13 _ _ k_9 (Nat.ne_of_lt (hD_1 _ _ v1))
  have k_22 : h_12 ev = some (.inl ((zm_G M).2.1 5, Nv, .inr (.inr (.inr (.inr fv))))) := hfr13 _ _ k_10 (Nat.ne_of_lt (hD_1 _ _ v2))
  refine z_aload_n hb dX1_bestCost_11 rfl ?_
  refine z_iload_n hb dX1_bestCost_12 rfl ?_
  refine z_callTf (b' := 2) (f' := 12) (rest := [.ref n]) (av := [.ref t, .int x]) (z_siteV hb ho zc0 k_15 q2169 q2109 q2110 ⟨_, _, _, _, zk_X1_bestPlan⟩ zy_X1_bestPlan zl_X1_bestPlan dX1_bestCost_13 : z_Site M _ _ _ _ _ ([.int x].reverse ++ .ref t :: [.ref n]) [.ref n] _) zk_X1_bestPlan q94 hrm (m_X1_bestPlan_no k_15 (hL.ex (z_exT hD0 (by omega) (z_exN z_ex_r hD_1 eh_2) hfr13)) hS8 hx) (by omega) (by decide) (Nat.le_of_ble_eq_true rfl) (by omega) (by omega) (fun q_23 n_24 hq_23 hn_24 => ?_)
  refine z_lessX (z_ex_up (z_exT hD0 (by omega) (z_exN z_ex_r hD_1 eh_2) hfr13)) ?_
  exact z_out ho hH zc27 z_up_s (by omega) (fun _ h => nomatch h) (by rw [hQ]; exact ⟨_, rfl, by omega, by omega, rfl⟩)

