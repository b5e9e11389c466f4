theorem z_lN0 {a : Nat} (h : a < 2 ^ 63) : ¬ lN a < (0 : Int64) := fun q => absurd ((pk_lLT h (b := 0) (by decide)).mp q) (Nat.not_lt_zero _)
theorem z_ngL0 {a : Nat} (h : a < 2 ^ 63) (h1 : 1 ≤ a) : ngL a < (0 : Int64) := by
  have := (ngL_lt h (b := 0) (by decide)).mpr h1
  rw [show ngL 0 = (0 : Int64) from by decide +kernel] at this
  exact this
theorem z_ng10 {i : Nat} : (10 : Int64) * ngL (10 ^ i) = ngL (10 ^ (i + 1)) := by
  unfold ngL
  rw [Int64.mul_neg, show (10 : Int64) = lN 10 from rfl, show lN 10 * lN (10 ^ i) = lN (10 * 10 ^ i) from (Int64.ofNat_mul _ _).symm, Nat.pow_succ, Nat.mul_comm]
theorem z_sl {a i : Nat} (ha : a < 2 ^ 63) (hi : i ≤ 18) (c : ngL a ≤ ngL (10 ^ i)) : 10 ^ i ≤ a := by
  have e10 : 10 ^ i ≤ 10 ^ 18 := z_p10 hi
  exact (ngL_le ha (by omega)).mp c
theorem z_sl2 {a i : Nat} (ha : a < 2 ^ 63) (hi : i ≤ 18) (c : ¬ ngL a ≤ ngL (10 ^ i)) : a < 10 ^ i := by
  have e10 : 10 ^ i ≤ 10 ^ 18 := z_p10 hi
  rcases Nat.lt_or_ge a (10 ^ i) with q | q
  · exact q
  · exact absurd ((ngL_le ha (by omega)).mpr q) c

set_option maxHeartbeats 1000000 in
theorem m_J27_stringSize_p {l : Launch} {G : zG} {h : zH} {n : Nat} {a nd : Nat} (ha : a < 10 ^ 13) (hnd : z_isd a nd) : z_C l G yJ27_stringSize 1 0 0 [.long (lN a)] h n (z_rv (.int (nI (nd + 0))) h n) := by
  refine z_start zk_J27_stringSize zpl_RJ27 (Nat.le_of_ble_eq_true rfl) ?_
  intro hn0 M hl hG ho hb hN hr hm hH hrm hQ
  subst hl hG
  have ho : zm_o M = RJ27 := ho
  have ha9 : a < 10 ^ 13 := ha
  have hn13 := z_isd_lt hnd ha9 (by decide)
  show z_V M h n 0 0 0 [(0, .long (lN a))] []
  refine z_iconst (x := nI 1) hb dJ27_stringSize_0 (by decide) ?_
  refine z_istore_n (lv' := [(2, .int (nI 1)), (0, .long (lN a))]) hb dJ27_stringSize_1 (by rw [hN]; decide) rfl ?_
  refine z_lload_n hb dJ27_stringSize_2 rfl ?_
  refine z_lconst (x := 0) hb dJ27_stringSize_3 rfl ?_
  refine z_lif_lt (tgt := 13) hb dJ27_stringSize_4 dJ27_stringSize_5 (by decide) (fun c_5 => ?_) (fun c_5 => ?_)
  · exact absurd c_5 (z_lN0 (by omega))
  · refine z_iconst (x := nI 0) hb dJ27_stringSize_8 (by decide) ?_
    refine z_istore_n (lv' := [(2, .int (nI 0)), (0, .long (lN a))]) hb dJ27_stringSize_9 (by rw [hN]; decide) rfl ?_
    refine z_lload_n hb dJ27_stringSize_10 rfl ?_
    refine z_lneg hb dJ27_stringSize_11 ?_
    refine z_toL (y := ngL a) rfl ?_
    refine z_lstore_n (lv' := [(0, .long (ngL a)), (2, .int (nI 0))]) hb dJ27_stringSize_12 (by rw [hN]; decide) rfl ?_
    refine z_ldc2 hb ho q2574 dJ27_stringSize_13 ?_
    refine z_toL (y := ngL (10 ^ 1)) (by decide +kernel) ?_
    refine z_lstore_n (lv' := [(3, .long (ngL (10 ^ 1))), (0, .long (ngL a)), (2, .int (nI 0))]) hb dJ27_stringSize_16 (by rw [hN]; decide) rfl ?_
    refine z_iconst (x := nI 1) hb dJ27_stringSize_17 (by decide) ?_
    refine z_istore (lv' := [(5, .int (nI 1)), (3, .long (ngL (10 ^ 1))), (0, .long (ngL a)), (2, .int (nI 0))]) hb dJ27_stringSize_18 (by rw [hN]; decide) rfl ?_
    have lp_20 : ∀ (k9_20 : Nat) (i : Nat), 20 - i < k9_20 → (1 ≤ i ∧ i ≤ nd) → z_V M h n 0 0 20 [(0, .long (ngL a)), (2, .int (nI 0)), (3, .long (ngL (10 ^ i))), (5, .int (nI i))] [] := by
      intro k9_20
      induction k9_20 with
      | zero => intro i hk9_20; exact absurd hk9_20 (Nat.not_lt_zero _)
      | succ k9_20 ih_20 =>
        intro i hk9_20 hi
        refine z_iload hb dJ27_stringSize_20 rfl ?_
        refine z_bipush (x := nI 19) hb dJ27_stringSize_22 (by decide) ?_
        refine z_icmp_geN (tgt := 50) hb dJ27_stringSize_24 (by decide) (by omega) (by omega) (fun c_24 => ?_) (fun c_24 => ?_)
        · exact absurd c_24 (by omega)
        · refine z_lload_n hb dJ27_stringSize_27 rfl ?_
          refine z_lload_n hb dJ27_stringSize_28 rfl ?_
          refine z_lif_le (tgt := 38) hb dJ27_stringSize_29 dJ27_stringSize_30 (by decide) (fun c_30 => ?_) (fun c_30 => ?_)
          · refine z_ldc2 hb ho q2575 dJ27_stringSize_38 ?_
            refine z_lload_n hb dJ27_stringSize_41 rfl ?_
            refine z_lmul hb dJ27_stringSize_42 ?_
            refine z_toL (y := ngL (10 ^ (i + 1))) z_ng10 ?_
            refine z_lstore_n (lv' := [(3, .long (ngL (10 ^ (i + 1)))), (0, .long (ngL a)), (2, .int (nI 0)), (5, .int (nI i))]) hb dJ27_stringSize_43 (by rw [hN]; decide) rfl ?_
            refine z_iinc (k0 := 3) (lv' := [(5, .int (nI (i + 1))), (3, .long (ngL (10 ^ (i + 1)))), (0, .long (ngL a)), (2, .int (nI 0))]) hb dJ27_stringSize_44 rfl (nI_1 i) (by rw [hN]; decide) rfl ?_
            refine z_goto (tgt := 20) hb dJ27_stringSize_47 (by decide) ?_
            refine z_lv [2, 3, 1, 0] (lv' := [(0, .long (ngL a)), (2, .int (nI 0)), (3, .long (ngL (10 ^ (i + 1)))), (5, .int (nI (i + 1)))]) rfl ?_
            exact ih_20 (i + 1) (by omega) ⟨by omega, z_isd_ge hnd (z_sl (by omega) (by omega) c_30)⟩
          · refine z_iload hb dJ27_stringSize_33 rfl ?_
            refine z_iload_n hb dJ27_stringSize_35 rfl ?_
            refine z_iadd hb dJ27_stringSize_36 ?_
            refine z_toI (y := nI i) (nI_add i 0) ?_
            refine z_iret hb hr dJ27_stringSize_37 ?_
            rw [hQ]
            obtain rfl : nd = i := Nat.le_antisymm (z_isd_lt hnd (z_sl2 (by omega) (by omega) c_30) (by omega)) (by omega)
            exact ⟨rfl, rfl, rfl⟩
    refine z_lv [2, 3, 1, 0] (lv' := [(0, .long (ngL a)), (2, .int (nI 0)), (3, .long (ngL (10 ^ 1))), (5, .int (nI 1))]) rfl ?_
    exact lp_20 _ 1 (Nat.lt_succ_self _) ⟨Nat.le_refl _, hnd.1⟩

set_option maxHeartbeats 1000000 in
theorem m_J27_stringSize_n {l : Launch} {G : zG} {h : zH} {n : Nat} {a nd : Nat} (ha : a < 10 ^ 13 ∧ 1 ≤ a) (hnd : z_isd a nd) : z_C l G yJ27_stringSize 1 0 0 [.long (ngL a)] h n (z_rv (.int (nI (nd + 1))) h n) := by
  refine z_start zk_J27_stringSize zpl_RJ27 (Nat.le_of_ble_eq_true rfl) ?_
  intro hn0 M hl hG ho hb hN hr hm hH hrm hQ
  subst hl hG
  have ho : zm_o M = RJ27 := ho
  have ha9 : a < 10 ^ 13 := ha.1
  have hn13 := z_isd_lt hnd ha9 (by decide)
  show z_V M h n 0 0 0 [(0, .long (ngL a))] []
  refine z_iconst (x := nI 1) hb dJ27_stringSize_0 (by decide) ?_
  refine z_istore_n (lv' := [(2, .int (nI 1)), (0, .long (ngL a))]) hb dJ27_stringSize_1 (by rw [hN]; decide) rfl ?_
  refine z_lload_n hb dJ27_stringSize_2 rfl ?_
  refine z_lconst (x := 0) hb dJ27_stringSize_3 rfl ?_
  refine z_lif_lt (tgt := 13) hb dJ27_stringSize_4 dJ27_stringSize_5 (by decide) (fun c_5 => ?_) (fun c_5 => ?_)
  · refine z_ldc2 hb ho q2574 dJ27_stringSize_13 ?_
    refine z_toL (y := ngL (10 ^ 1)) (by decide +kernel) ?_
    refine z_lstore_n (lv' := [(3, .long (ngL (10 ^ 1))), (2, .int (nI 1)), (0, .long (ngL a))]) hb dJ27_stringSize_16 (by rw [hN]; decide) rfl ?_
    refine z_iconst (x := nI 1) hb dJ27_stringSize_17 (by decide) ?_
    refine z_istore (lv' := [(5, .int (nI 1)), (3, .long (ngL (10 ^ 1))), (2, .int (nI 1)), (0, .long (ngL a))]) hb dJ27_stringSize_18 (by rw [hN]; decide) rfl ?_
    have lp_20 : ∀ (k9_20 : Nat) (i : Nat), 20 - i < k9_20 → (1 ≤ i ∧ i ≤ nd) → z_V M h n 0 0 20 [(0, .long (ngL a)), (2, .int (nI 1)), (3, .long (ngL (10 ^ i))), (5, .int (nI i))] [] := by
      intro k9_20
      induction k9_20 with
      | zero => intro i hk9_20; exact absurd hk9_20 (Nat.not_lt_zero _)
      | succ k9_20 ih_20 =>
        intro i hk9_20 hi
        refine z_iload hb dJ27_stringSize_20 rfl ?_
        refine z_bipush (x := nI 19) hb dJ27_stringSize_22 (by decide) ?_
        refine z_icmp_geN (tgt := 50) hb dJ27_stringSize_24 (by decide) (by omega) (by omega) (fun c_24 => ?_) (fun c_24 => ?_)
        · exact absurd c_24 (by omega)
        · refine z_lload_n hb dJ27_stringSize_27 rfl ?_
          refine z_lload_n hb dJ27_stringSize_28 rfl ?_
          refine z_lif_le (tgt := 38) hb dJ27_stringSize_29 dJ27_stringSize_30 (by decide) (fun c_30 => ?_) (fun c_30 => ?_)
          · refine z_ldc2 hb ho q2575 dJ27_stringSize_38 ?_
            refine z_lload_n hb dJ27_stringSize_41 rfl ?_
            refine z_lmul hb dJ27_stringSize_42 ?_
            refine z_toL (y := ngL (10 ^ (i + 1))) z_ng10 ?_
            refine z_lstore_n (lv' := [(3, .long (ngL (10 ^ (i + 1)))), (0, .long (ngL a)), (2, .int (nI 1)), (5, .int (nI i))]) hb dJ27_stringSize_43 (by rw [hN]; decide) rfl ?_
            refine z_iinc (k0 := 3) (lv' := [(5, .int (nI (i + 1))), (3, .long (ngL (10 ^ (i + 1)))), (0, .long (ngL a)), (2, .int (nI 1))]) hb dJ27_stringSize_44 rfl (nI_1 i) (by rw [hN]; decide) rfl ?_
            refine z_goto (tgt := 20) hb dJ27_stringSize_47 (by decide) ?_
            refine z_lv [2, 3, 1, 0] (lv' := [(0, .long (ngL a)), (2, .int (nI 1)), (3, .long (ngL (10 ^ (i + 1)))), (5, .int (nI (i + 1)))]) rfl ?_
            exact ih_20 (i + 1) (by omega) ⟨by omega, z_isd_ge hnd (z_sl (by omega) (by omega) c_30)⟩
          · refine z_iload hb dJ27_stringSize_33 rfl ?_
            refine z_iload_n hb dJ27_stringSize_35 rfl ?_
            refine z_iadd hb dJ27_stringSize_36 ?_
            refine z_toI (y := nI (i + 1)) (nI_add i 1) ?_
            refine z_iret hb hr dJ27_stringSize_37 ?_
            rw [hQ]
            obtain rfl : nd = i := Nat.le_antisymm (z_isd_lt hnd (z_sl2 (by omega) (by omega) c_30) (by omega)) (by omega)
            exact ⟨rfl, rfl, rfl⟩
    refine z_lv [3, 2, 1, 0] (lv' := [(0, .long (ngL a)), (2, .int (nI 1)), (3, .long (ngL (10 ^ 1))), (5, .int (nI 1))]) rfl ?_
    exact lp_20 _ 1 (Nat.lt_succ_self _) ⟨Nat.le_refl _, hnd.1⟩
  · exact absurd (z_ngL0 (by omega) ha.2) c_5

set_option maxHeartbeats 1000000 in
theorem m_J27_getChars_p {l : Launch} {G : zG} {h : zH} {n : Nat} {a nd idx N e : Nat} {f0 : Nat → Int32} (hA : h e = some (z_ab G N f0)) (hd1 : h (G.2.2.1 1000) = some (z_ab G 100 z_on)) (hd2 : h (G.2.2.1 1001) = some (z_ab G 100 z_tn)) (he0 : z_n0 G ≤ e) (hn1 : G.2.2.1 1000 < z_n0 G ∧ G.2.2.1 1001 < z_n0 G) (hN9 : N < 1000) (hnd : z_isd a nd) (ha : a < 10 ^ 13) (hix : nd + 0 ≤ idx ∧ idx ≤ N) : z_C l G yJ27_getChars 1 0 0 [.long (lN a), .int (nI idx), .ref e] h n (z_rv (.int (nI (idx - nd - 0))) (z_up h e (z_ab G N (z_sgw f0 idx a nd false))) n) := by
  refine z_start zk_J27_getChars zpl_RJ27 (Nat.le_of_ble_eq_true rfl) ?_
  intro hn0 M hl hG ho hb hN hr hm hH hrm hQ
  subst hl hG
  have ho : zm_o M = RJ27 := ho
  have hne1 : (zm_G M).2.2.1 1000 ≠ e := by omega
  have hne2 : (zm_G M).2.2.1 1001 ≠ e := by omega
  have ha9 : a < 10 ^ 13 := ha
  show z_V M h n 0 0 0 [(0, .long (lN a)), (2, .int (nI idx)), (3, .ref e)] []
  refine z_iload_n hb dJ27_getChars_0 rfl ?_
  refine z_istore (lv' := [(7, .int (nI idx)), (0, .long (lN a)), (2, .int (nI idx)), (3, .ref e)]) hb dJ27_getChars_1 (by rw [hN]; decide) rfl ?_
  refine z_lload_n hb dJ27_getChars_3 rfl ?_
  refine z_lconst (x := 0) hb dJ27_getChars_4 rfl ?_
  refine z_lif_ge (tgt := 13) hb dJ27_getChars_5 dJ27_getChars_6 (by decide) (fun c_6 => ?_) (fun c_6 => ?_)
  · refine z_iconst (x := nI 0) hb dJ27_getChars_13 (by decide) ?_
    refine z_istore (lv' := [(8, .int (nI 0)), (7, .int (nI idx)), (0, .long (lN a)), (2, .int (nI idx)), (3, .ref e)]) hb dJ27_getChars_14 (by rw [hN]; decide) rfl ?_
    refine z_iload hb dJ27_getChars_16 rfl ?_
    refine z_if_neN (tgt := 24) hb dJ27_getChars_18 (by decide) (by omega) (fun c_18 => ?_) (fun c_18 => ?_)
    · exact absurd c_18 (by omega)
    · refine z_lload_n hb dJ27_getChars_21 rfl ?_
      refine z_lneg hb dJ27_getChars_22 ?_
      refine z_toL (y := ngL a) rfl ?_
      refine z_lstore_n (lv' := [(0, .long (ngL a)), (8, .int (nI 0)), (7, .int (nI idx)), (2, .int (nI idx)), (3, .ref e)]) hb dJ27_getChars_23 (by rw [hN]; decide) rfl ?_
      have lp_24 : ∀ (k9_24 : Nat) (m : Nat), idx - m < k9_24 → (m + 1 ≤ nd) → z_V M (z_up h e (z_ab (zm_G M) N (z_wdg f0 idx a m))) n 0 0 24 [(7, .int (nI (idx - m))), (8, .int (nI 0)), (0, .long (ngL (a / 10 ^ m))), (3, .ref e)] [] := by
        intro k9_24
        induction k9_24 with
        | zero => intro m hk9_24; exact absurd hk9_24 (Nat.not_lt_zero _)
        | succ k9_24 ih_24 =>
          intro m hk9_24 hm
          refine z_lload_n hb dJ27_getChars_24 rfl ?_
          refine z_ldc2 hb ho q2579 dJ27_getChars_25 ?_
          refine z_lif_gt (tgt := 82) hb dJ27_getChars_28 dJ27_getChars_29 (by decide) (fun c_29 => ?_) (fun c_29 => ?_)
          · have hl31 : a / 10 ^ m < 2 ^ 31 := (z_ngML (Nat.lt_of_le_of_lt (Nat.div_le_self _ _) (by omega))).mp c_29
            refine z_lload_n hb dJ27_getChars_82 rfl ?_
            refine z_l2i (v := (ngL (a / 10 ^ m)).toInt32) hb dJ27_getChars_83 rfl ?_
            refine z_toI (y := ngI (a / 10 ^ m)) ngL_i ?_
            refine z_istore (lv' := [(10, .int (ngI (a / 10 ^ m))), (7, .int (nI (idx - m))), (8, .int (nI 0)), (0, .long (ngL (a / 10 ^ m))), (3, .ref e)]) hb dJ27_getChars_84 (by rw [hN]; decide) rfl ?_
            have lp_86 : ∀ (k9_86 : Nat) (m : Nat), idx - m < k9_86 → (m + 1 ≤ nd) → (a / 10 ^ m < 2 ^ 31) → z_V M (z_up h e (z_ab (zm_G M) N (z_wdg f0 idx a m))) n 0 0 86 [(7, .int (nI (idx - m))), (8, .int (nI 0)), (10, .int (ngI (a / 10 ^ m))), (3, .ref e)] [] := by
              intro k9_86
              induction k9_86 with
              | zero => intro m hk9_86; exact absurd hk9_86 (Nat.not_lt_zero _)
              | succ k9_86 ih_86 =>
                intro m hk9_86 hm hl31
                refine z_iload hb dJ27_getChars_86 rfl ?_
                refine z_bipush (x := (-100)) hb dJ27_getChars_88 (by decide) ?_
                refine z_icmp_gt (tgt := 143) hb dJ27_getChars_90 (by decide) (fun c_90 => ?_) (fun c_90 => ?_)
                · have ham : a / 10 ^ m ≤ a := Nat.div_le_self _ _
                  have hl9 : a / 10 ^ m < 100 := (z_ng100 (by omega)).mp c_90
                  have hm2 := z_isd_dlt hnd (k := 2) (show a / 10 ^ m < 10 ^ 2 by omega) (by omega)
                  refine z_aload_n hb dJ27_getChars_143 rfl ?_
                  refine z_iinc (k0 := 0) (lv' := [(7, .int (nI ((idx - m) - 1))), (8, .int (nI 0)), (10, .int (ngI (a / 10 ^ m))), (3, .ref e)]) hb dJ27_getChars_144 rfl (z_dN (k := 1) (by omega)) (by rw [hN]; decide) rfl ?_
                  refine z_iload hb dJ27_getChars_147 rfl ?_
                  refine z_gets (i := 4) hb ho rfl (zf_RJ27_133 _) dJ27_getChars_149 ?_
                  refine z_iload hb dJ27_getChars_152 rfl ?_
                  refine z_ineg hb dJ27_getChars_154 ?_
                  refine z_toI (y := nI (a / 10 ^ m)) (ngI_ng _) ?_
                  refine z_bald (j := a / 10 ^ m) hb dJ27_getChars_155 (z_nx rfl hne1 hd1) rfl (by omega) (by omega) ?_
                  refine z_bast (j := (idx - m) - 1) (v := (z_on (a / 10 ^ m))) hb dJ27_getChars_156 z_up_s he0 rfl (by omega) (by omega) (z_on_nar _) ?_
                  refine z_hn (fun h_1 eh_1 => ?_)
                  have eh_1 : h_1 = z_up (z_up h e (z_ab (zm_G M) N (z_wdg f0 idx a m))) e (.inl ((zm_G M).2.1 3, N, .inl (va_up (z_wdg f0 idx a m) ((idx - m) - 1) (z_on (a / 10 ^ m))))) := eh_1
                  have k_2 : h_1 ((zm_G M).2.2.1 1000) = some (.inl ((zm_G M).2.1 3, 100, .inl z_on)) := z_nx eh_1 hne1 (z_nx rfl hne1 hd1)
                  have k_3 : h_1 ((zm_G M).2.2.1 1001) = some (.inl ((zm_G M).2.1 3, 100, .inl z_tn)) := z_nx eh_1 hne2 (z_nx rfl hne2 hd2)
                  refine z_iload hb dJ27_getChars_157 rfl ?_
                  refine z_bipush (x := (-9)) hb dJ27_getChars_159 (by decide) ?_
                  refine z_icmp_ge (tgt := 178) hb dJ27_getChars_161 (by decide) (fun c_161 => ?_) (fun c_161 => ?_)
                  · refine z_iload hb dJ27_getChars_178 rfl ?_
                    refine z_if_eqN (tgt := 192) hb dJ27_getChars_180 (by decide) (by omega) (fun c_180 => ?_) (fun c_180 => ?_)
                    · refine z_iload hb dJ27_getChars_192 rfl ?_
                      refine z_iret hb hr dJ27_getChars_194 ?_
                      rw [hQ]
                      have hx9 : a / 10 ^ m ≤ 9 := (z_ng9 (by omega)).mp c_161
                      obtain rfl : nd = m + 1 := by have := z_isd_dlt hnd (k := 1) (show a / 10 ^ m < 10 ^ 1 by omega) (by omega); omega
                      refine ⟨congrArg (fun q => Outcome.returned (some q)) (congrArg (fun q => Value.int (nI q)) (by omega)), ?_, rfl⟩
                      show _ = z_up h e (z_ab _ N (z_wdg f0 idx a (m + 1)))
                      rw [eh_1, z_up_up, z_wdg_o' (by omega) hl9]
                    · exact absurd c_180 (by omega)
                  · have hx8 : ¬ a / 10 ^ m ≤ 9 := fun q => c_161 ((z_ng9 (by omega)).mpr q)
                    have hm4 := z_isd_dge hnd (k := 1) (show 10 ^ 1 ≤ a / 10 ^ m by omega)
                    refine z_aload_n hb dJ27_getChars_164 rfl ?_
                    refine z_iinc (k0 := 0) (lv' := [(7, .int (nI (((idx - m) - 1) - 1))), (8, .int (nI 0)), (10, .int (ngI (a / 10 ^ m))), (3, .ref e)]) hb dJ27_getChars_165 rfl (z_dN (k := 1) (by omega)) (by rw [hN]; decide) rfl ?_
                    refine z_iload hb dJ27_getChars_168 rfl ?_
                    refine z_gets (i := 5) hb ho rfl (zf_RJ27_137 _) dJ27_getChars_170 ?_
                    refine z_iload hb dJ27_getChars_173 rfl ?_
                    refine z_ineg hb dJ27_getChars_175 ?_
                    refine z_toI (y := nI (a / 10 ^ m)) (ngI_ng _) ?_
                    refine z_bald (j := a / 10 ^ m) hb dJ27_getChars_176 k_3 rfl (by omega) (by omega) ?_
                    refine z_bast (j := ((idx - m) - 1) - 1) (v := (z_tn (a / 10 ^ m))) hb dJ27_getChars_177 (z_nxs eh_1) he0 rfl (by omega) (by omega) (z_tn_nar (by omega)) ?_
                    refine z_hn (fun h_4 eh_4 => ?_)
                    have eh_4 : h_4 = z_up h_1 e (.inl ((zm_G M).2.1 3, N, .inl (va_up (va_up (z_wdg f0 idx a m) ((idx - m) - 1) (z_on (a / 10 ^ m))) (((idx - m) - 1) - 1) (z_tn (a / 10 ^ m))))) := eh_4
                    have k_5 : h_4 ((zm_G M).2.2.1 1000) = some (.inl ((zm_G M).2.1 3, 100, .inl z_on)) := z_nx eh_4 hne1 k_2
                    have k_6 : h_4 ((zm_G M).2.2.1 1001) = some (.inl ((zm_G M).2.1 3, 100, .inl z_tn)) := z_nx eh_4 hne2 k_3
                    refine z_iload hb dJ27_getChars_178 rfl ?_
                    refine z_if_eqN (tgt := 192) hb dJ27_getChars_180 (by decide) (by omega) (fun c_180 => ?_) (fun c_180 => ?_)
                    · refine z_iload hb dJ27_getChars_192 rfl ?_
                      refine z_iret hb hr dJ27_getChars_194 ?_
                      rw [hQ]
                      have hx9 : ¬ a / 10 ^ m ≤ 9 := fun q => c_161 ((z_ng9 (by omega)).mpr q)
                      obtain rfl : nd = m + 2 := by have := z_isd_dge hnd (k := 1) (show 10 ^ 1 ≤ a / 10 ^ m by omega); omega
                      refine ⟨congrArg (fun q => Outcome.returned (some q)) (congrArg (fun q => Value.int (nI q)) (by omega)), ?_, rfl⟩
                      show _ = z_up h e (z_ab _ N (z_wdg f0 idx a (m + 2)))
                      rw [eh_4, eh_1, z_up_up, z_up_up, z_wdg_o' (by omega) hl9, z_wdg_t' (by omega) hl9]
                    · exact absurd c_180 (by omega)
                · have ham : a / 10 ^ m ≤ a := Nat.div_le_self _ _
                  have hg9 : 100 ≤ a / 10 ^ m := by
                    rcases Nat.lt_or_ge (a / 10 ^ m) 100 with q | q
                    · exact absurd ((z_ng100 (by omega)).mpr q) c_90
                    · exact q
                  have hm3 := z_isd_dge hnd (k := 2) (show 10 ^ 2 ≤ a / 10 ^ m by omega)
                  refine z_iload hb dJ27_getChars_93 rfl ?_
                  refine z_bipush (x := nI 100) hb dJ27_getChars_95 (by decide) ?_
                  refine z_idiv hb dJ27_getChars_97 (nI_ne0 (by omega) (by omega)) ?_
                  refine z_toI (y := ngI (a / 10 ^ m / 100)) (ngI_div (by omega)) ?_
                  refine z_istore (lv' := [(9, .int (ngI (a / 10 ^ m / 100))), (7, .int (nI (idx - m))), (8, .int (nI 0)), (10, .int (ngI (a / 10 ^ m))), (3, .ref e)]) hb dJ27_getChars_98 (by rw [hN]; decide) rfl ?_
                  refine z_iload hb dJ27_getChars_100 rfl ?_
                  refine z_bipush (x := nI 100) hb dJ27_getChars_102 (by decide) ?_
                  refine z_imul hb dJ27_getChars_104 ?_
                  refine z_iload hb dJ27_getChars_105 rfl ?_
                  refine z_isub hb dJ27_getChars_107 ?_
                  refine z_toI (y := nI (a / 10 ^ m % 100)) ngI_rem ?_
                  refine z_istore (lv' := [(6, .int (nI (a / 10 ^ m % 100))), (9, .int (ngI (a / 10 ^ m / 100))), (7, .int (nI (idx - m))), (8, .int (nI 0)), (10, .int (ngI (a / 10 ^ m))), (3, .ref e)]) hb dJ27_getChars_108 (by rw [hN]; decide) rfl ?_
                  refine z_iload hb dJ27_getChars_110 rfl ?_
                  refine z_istore (lv' := [(10, .int (ngI (a / 10 ^ m / 100))), (6, .int (nI (a / 10 ^ m % 100))), (9, .int (ngI (a / 10 ^ m / 100))), (7, .int (nI (idx - m))), (8, .int (nI 0)), (3, .ref e)]) hb dJ27_getChars_112 (by rw [hN]; decide) rfl ?_
                  refine z_aload_n hb dJ27_getChars_114 rfl ?_
                  refine z_iinc (k0 := 3) (lv' := [(7, .int (nI ((idx - m) - 1))), (10, .int (ngI (a / 10 ^ m / 100))), (6, .int (nI (a / 10 ^ m % 100))), (9, .int (ngI (a / 10 ^ m / 100))), (8, .int (nI 0)), (3, .ref e)]) hb dJ27_getChars_115 rfl (z_dN (k := 1) (by omega)) (by rw [hN]; decide) rfl ?_
                  refine z_iload hb dJ27_getChars_118 rfl ?_
                  refine z_gets (i := 4) hb ho rfl (zf_RJ27_133 _) dJ27_getChars_120 ?_
                  refine z_iload hb dJ27_getChars_123 rfl ?_
                  refine z_bald (j := a / 10 ^ m % 100) hb dJ27_getChars_125 (z_nx rfl hne1 hd1) rfl (by omega) (by omega) ?_
                  refine z_bast (j := (idx - m) - 1) (v := (z_on (a / 10 ^ m % 100))) hb dJ27_getChars_126 z_up_s he0 rfl (by omega) (by omega) (z_on_nar _) ?_
                  refine z_hn (fun h_7 eh_7 => ?_)
                  have eh_7 : h_7 = z_up (z_up h e (z_ab (zm_G M) N (z_wdg f0 idx a m))) e (.inl ((zm_G M).2.1 3, N, .inl (va_up (z_wdg f0 idx a m) ((idx - m) - 1) (z_on (a / 10 ^ m % 100))))) := eh_7
                  have k_8 : h_7 ((zm_G M).2.2.1 1000) = some (.inl ((zm_G M).2.1 3, 100, .inl z_on)) := z_nx eh_7 hne1 (z_nx rfl hne1 hd1)
                  have k_9 : h_7 ((zm_G M).2.2.1 1001) = some (.inl ((zm_G M).2.1 3, 100, .inl z_tn)) := z_nx eh_7 hne2 (z_nx rfl hne2 hd2)
                  refine z_aload_n hb dJ27_getChars_127 rfl ?_
                  refine z_iinc (k0 := 0) (lv' := [(7, .int (nI (((idx - m) - 1) - 1))), (10, .int (ngI (a / 10 ^ m / 100))), (6, .int (nI (a / 10 ^ m % 100))), (9, .int (ngI (a / 10 ^ m / 100))), (8, .int (nI 0)), (3, .ref e)]) hb dJ27_getChars_128 rfl (z_dN (k := 1) (by omega)) (by rw [hN]; decide) rfl ?_
                  refine z_iload hb dJ27_getChars_131 rfl ?_
                  refine z_gets (i := 5) hb ho rfl (zf_RJ27_137 _) dJ27_getChars_133 ?_
                  refine z_iload hb dJ27_getChars_136 rfl ?_
                  refine z_bald (j := a / 10 ^ m % 100) hb dJ27_getChars_138 k_9 rfl (by omega) (by omega) ?_
                  refine z_bast (j := ((idx - m) - 1) - 1) (v := (z_tn (a / 10 ^ m % 100))) hb dJ27_getChars_139 (z_nxs eh_7) he0 rfl (by omega) (by omega) (z_tn_nar (by omega)) ?_
                  refine z_hn (fun h_10 eh_10 => ?_)
                  have eh_10 : h_10 = z_up h_7 e (.inl ((zm_G M).2.1 3, N, .inl (va_up (va_up (z_wdg f0 idx a m) ((idx - m) - 1) (z_on (a / 10 ^ m % 100))) (((idx - m) - 1) - 1) (z_tn (a / 10 ^ m % 100))))) := eh_10
                  have k_11 : h_10 ((zm_G M).2.2.1 1000) = some (.inl ((zm_G M).2.1 3, 100, .inl z_on)) := z_nx eh_10 hne1 k_8
                  have k_12 : h_10 ((zm_G M).2.2.1 1001) = some (.inl ((zm_G M).2.1 3, 100, .inl z_tn)) := z_nx eh_10 hne2 k_9
                  refine z_goto (tgt := 86) hb dJ27_getChars_140 (by decide) ?_
                  refine z_hh (h2 := z_up h e (z_ab (zm_G M) N (z_wdg f0 idx a (m + 2)))) (by rw [eh_10, eh_7, z_up_up, z_up_up, z_wdg_o (by omega), z_wdg_t (by omega)]) ?_
                  refine z_lv [0, 4, 1, 5] (lv' := [(7, .int (nI (((idx - m) - 1) - 1))), (8, .int (nI 0)), (10, .int (ngI (a / 10 ^ m / 100))), (3, .ref e)]) rfl ?_
                  refine z_lvE (lv2 := [(7, .int (nI (idx - (m + 2)))), (8, .int (nI 0)), (10, .int (ngI (a / 10 ^ (m + 2)))), (3, .ref e)]) (by rw [show idx - m - 1 - 1 = idx - (m + 2) by omega, show a / 10 ^ m / 100 = a / 10 ^ (m + 2) from (z_dvs 2).symm]) ?_
                  exact ih_86 (m + 2) (by omega) (by omega) (Nat.lt_of_le_of_lt (Nat.div_le_div_left (z_p10 (show m ≤ m + 2 by omega)) (Nat.pow_pos (by decide))) hl31)
            refine z_lv [1, 2, 0, 4] (lv' := [(7, .int (nI (idx - m))), (8, .int (nI 0)), (10, .int (ngI (a / 10 ^ m))), (3, .ref e)]) rfl ?_
            exact lp_86 _ m (Nat.lt_succ_self _) hm hl31
          · have ham : a / 10 ^ m ≤ a := Nat.div_le_self _ _
            have hg9 : 2 ^ 31 ≤ a / 10 ^ m := by
              rcases Nat.lt_or_ge (a / 10 ^ m) (2 ^ 31) with q | q
              · exact absurd ((z_ngML (by omega)).mpr q) c_29
              · exact q
            have hm3 := z_isd_dge hnd (k := 2) (show 10 ^ 2 ≤ a / 10 ^ m by omega)
            refine z_lload_n hb dJ27_getChars_32 rfl ?_
            refine z_ldc2 hb ho q2580 dJ27_getChars_33 ?_
            refine z_ldiv hb dJ27_getChars_36 (by decide) ?_
            refine z_toL (y := ngL (a / 10 ^ m / 100)) (ngL_div (by omega)) ?_
            refine z_lstore (lv' := [(4, .long (ngL (a / 10 ^ m / 100))), (7, .int (nI (idx - m))), (8, .int (nI 0)), (0, .long (ngL (a / 10 ^ m))), (3, .ref e)]) hb dJ27_getChars_37 (by rw [hN]; decide) rfl ?_
            refine z_lload hb dJ27_getChars_39 rfl ?_
            refine z_ldc2 hb ho q2580 dJ27_getChars_41 ?_
            refine z_lmul hb dJ27_getChars_44 ?_
            refine z_lload_n hb dJ27_getChars_45 rfl ?_
            refine z_lsub hb dJ27_getChars_46 ?_
            refine z_l2i (v := (((ngL (a / 10 ^ m / 100)) * (100 : Int64)) - (ngL (a / 10 ^ m))).toInt32) hb dJ27_getChars_47 rfl ?_
            refine z_toI (y := nI (a / 10 ^ m % 100)) ngL_rem ?_
            refine z_istore (lv' := [(6, .int (nI (a / 10 ^ m % 100))), (4, .long (ngL (a / 10 ^ m / 100))), (7, .int (nI (idx - m))), (8, .int (nI 0)), (0, .long (ngL (a / 10 ^ m))), (3, .ref e)]) hb dJ27_getChars_48 (by rw [hN]; decide) rfl ?_
            refine z_lload hb dJ27_getChars_50 rfl ?_
            refine z_lstore_n (lv' := [(0, .long (ngL (a / 10 ^ m / 100))), (6, .int (nI (a / 10 ^ m % 100))), (4, .long (ngL (a / 10 ^ m / 100))), (7, .int (nI (idx - m))), (8, .int (nI 0)), (3, .ref e)]) hb dJ27_getChars_52 (by rw [hN]; decide) rfl ?_
            refine z_aload_n hb dJ27_getChars_53 rfl ?_
            refine z_iinc (k0 := 3) (lv' := [(7, .int (nI ((idx - m) - 1))), (0, .long (ngL (a / 10 ^ m / 100))), (6, .int (nI (a / 10 ^ m % 100))), (4, .long (ngL (a / 10 ^ m / 100))), (8, .int (nI 0)), (3, .ref e)]) hb dJ27_getChars_54 rfl (z_dN (k := 1) (by omega)) (by rw [hN]; decide) rfl ?_
            refine z_iload hb dJ27_getChars_57 rfl ?_
            refine z_gets (i := 4) hb ho rfl (zf_RJ27_133 _) dJ27_getChars_59 ?_
            refine z_iload hb dJ27_getChars_62 rfl ?_
            refine z_bald (j := a / 10 ^ m % 100) hb dJ27_getChars_64 (z_nx rfl hne1 hd1) rfl (by omega) (by omega) ?_
            refine z_bast (j := (idx - m) - 1) (v := (z_on (a / 10 ^ m % 100))) hb dJ27_getChars_65 z_up_s he0 rfl (by omega) (by omega) (z_on_nar _) ?_
            refine z_hn (fun h_13 eh_13 => ?_)
            have eh_13 : h_13 = z_up (z_up h e (z_ab (zm_G M) N (z_wdg f0 idx a m))) e (.inl ((zm_G M).2.1 3, N, .inl (va_up (z_wdg f0 idx a m) ((idx - m) - 1) (z_on (a / 10 ^ m % 100))))) := eh_13
            have k_14 : h_13 ((zm_G M).2.2.1 1000) = some (.inl ((zm_G M).2.1 3, 100, .inl z_on)) := z_nx eh_13 hne1 (z_nx rfl hne1 hd1)
            have k_15 : h_13 ((zm_G M).2.2.1 1001) = some (.inl ((zm_G M).2.1 3, 100, .inl z_tn)) := z_nx eh_13 hne2 (z_nx rfl hne2 hd2)
            refine z_aload_n hb dJ27_getChars_66 rfl ?_
            refine z_iinc (k0 := 0) (lv' := [(7, .int (nI (((idx - m) - 1) - 1))), (0, .long (ngL (a / 10 ^ m / 100))), (6, .int (nI (a / 10 ^ m % 100))), (4, .long (ngL (a / 10 ^ m / 100))), (8, .int (nI 0)), (3, .ref e)]) hb dJ27_getChars_67 rfl (z_dN (k := 1) (by omega)) (by rw [hN]; decide) rfl ?_
            refine z_iload hb dJ27_getChars_70 rfl ?_
            refine z_gets (i := 5) hb ho rfl (zf_RJ27_137 _) dJ27_getChars_72 ?_
            refine z_iload hb dJ27_getChars_75 rfl ?_
            refine z_bald (j := a / 10 ^ m % 100) hb dJ27_getChars_77 k_15 rfl (by omega) (by omega) ?_
            refine z_bast (j := ((idx - m) - 1) - 1) (v := (z_tn (a / 10 ^ m % 100))) hb dJ27_getChars_78 (z_nxs eh_13) he0 rfl (by omega) (by omega) (z_tn_nar (by omega)) ?_
            refine z_hn (fun h_16 eh_16 => ?_)
            have eh_16 : h_16 = z_up h_13 e (.inl ((zm_G M).2.1 3, N, .inl (va_up (va_up (z_wdg f0 idx a m) ((idx - m) - 1) (z_on (a / 10 ^ m % 100))) (((idx - m) - 1) - 1) (z_tn (a / 10 ^ m % 100))))) := eh_16
            have k_17 : h_16 ((zm_G M).2.2.1 1000) = some (.inl ((zm_G M).2.1 3, 100, .inl z_on)) := z_nx eh_16 hne1 k_14
            have k_18 : h_16 ((zm_G M).2.2.1 1001) = some (.inl ((zm_G M).2.1 3, 100, .inl z_tn)) := z_nx eh_16 hne2 k_15
            refine z_goto (tgt := 24) hb dJ27_getChars_79 (by decide) ?_
            refine z_hh (h2 := z_up h e (z_ab (zm_G M) N (z_wdg f0 idx a (m + 2)))) (by rw [eh_16, eh_13, z_up_up, z_up_up, z_wdg_o (by omega), z_wdg_t (by omega)]) ?_
            refine z_lv [0, 4, 1, 5] (lv' := [(7, .int (nI (((idx - m) - 1) - 1))), (8, .int (nI 0)), (0, .long (ngL (a / 10 ^ m / 100))), (3, .ref e)]) rfl ?_
            refine z_lvE (lv2 := [(7, .int (nI (idx - (m + 2)))), (8, .int (nI 0)), (0, .long (ngL (a / 10 ^ (m + 2)))), (3, .ref e)]) (by rw [show idx - m - 1 - 1 = idx - (m + 2) by omega, show a / 10 ^ m / 100 = a / 10 ^ (m + 2) from (z_dvs 2).symm]) ?_
            exact ih_24 (m + 2) (by omega) (by omega)
      refine z_lv [2, 1, 0, 4] (lv' := [(7, .int (nI idx)), (8, .int (nI 0)), (0, .long (ngL a)), (3, .ref e)]) rfl ?_
      refine z_hh (h2 := z_up h e (z_ab (zm_G M) N (z_wdg f0 idx a 0))) (by rw [z_wdg_0, z_up_self hA]) ?_
      refine z_lvE (lv2 := [(7, .int (nI (idx - 0))), (8, .int (nI 0)), (0, .long (ngL (a / 10 ^ 0))), (3, .ref e)]) (by rw [z_dv0, Nat.sub_zero]) ?_
      exact lp_24 _ 0 (Nat.lt_succ_self _) hnd.1
  · exact absurd (Int64.not_lt.mp (z_lN0 (by omega))) c_6

set_option maxHeartbeats 1000000 in
theorem m_J27_getChars_n {l : Launch} {G : zG} {h : zH} {n : Nat} {a nd idx N e : Nat} {f0 : Nat → Int32} (hA : h e = some (z_ab G N f0)) (hd1 : h (G.2.2.1 1000) = some (z_ab G 100 z_on)) (hd2 : h (G.2.2.1 1001) = some (z_ab G 100 z_tn)) (he0 : z_n0 G ≤ e) (hn1 : G.2.2.1 1000 < z_n0 G ∧ G.2.2.1 1001 < z_n0 G) (hN9 : N < 1000) (hnd : z_isd a nd) (ha : a < 10 ^ 13 ∧ 1 ≤ a) (hix : nd + 1 ≤ idx ∧ idx ≤ N) : z_C l G yJ27_getChars 1 0 0 [.long (ngL a), .int (nI idx), .ref e] h n (z_rv (.int (nI (idx - nd - 1))) (z_up h e (z_ab G N (z_sgw f0 idx a nd true))) n) := by
  refine z_start zk_J27_getChars zpl_RJ27 (Nat.le_of_ble_eq_true rfl) ?_
  intro hn0 M hl hG ho hb hN hr hm hH hrm hQ
  subst hl hG
  have ho : zm_o M = RJ27 := ho
  have hne1 : (zm_G M).2.2.1 1000 ≠ e := by omega
  have hne2 : (zm_G M).2.2.1 1001 ≠ e := by omega
  have ha9 : a < 10 ^ 13 := ha.1
  show z_V M h n 0 0 0 [(0, .long (ngL a)), (2, .int (nI idx)), (3, .ref e)] []
  refine z_iload_n hb dJ27_getChars_0 rfl ?_
  refine z_istore (lv' := [(7, .int (nI idx)), (0, .long (ngL a)), (2, .int (nI idx)), (3, .ref e)]) hb dJ27_getChars_1 (by rw [hN]; decide) rfl ?_
  refine z_lload_n hb dJ27_getChars_3 rfl ?_
  refine z_lconst (x := 0) hb dJ27_getChars_4 rfl ?_
  refine z_lif_ge (tgt := 13) hb dJ27_getChars_5 dJ27_getChars_6 (by decide) (fun c_6 => ?_) (fun c_6 => ?_)
  · exact absurd (z_ngL0 (by omega) ha.2) (Int64.not_lt.mpr c_6)
  · refine z_iconst (x := nI 1) hb dJ27_getChars_9 (by decide) ?_
    refine z_goto (tgt := 14) hb dJ27_getChars_10 (by decide) ?_
    refine z_istore (lv' := [(8, .int (nI 1)), (7, .int (nI idx)), (0, .long (ngL a)), (2, .int (nI idx)), (3, .ref e)]) hb dJ27_getChars_14 (by rw [hN]; decide) rfl ?_
    refine z_iload hb dJ27_getChars_16 rfl ?_
    refine z_if_neN (tgt := 24) hb dJ27_getChars_18 (by decide) (by omega) (fun c_18 => ?_) (fun c_18 => ?_)
    · have lp_24 : ∀ (k9_24 : Nat) (m : Nat), idx - m < k9_24 → (m + 1 ≤ nd) → z_V M (z_up h e (z_ab (zm_G M) N (z_wdg f0 idx a m))) n 0 0 24 [(7, .int (nI (idx - m))), (8, .int (nI 1)), (0, .long (ngL (a / 10 ^ m))), (3, .ref e)] [] := by
        intro k9_24
        induction k9_24 with
        | zero => intro m hk9_24; exact absurd hk9_24 (Nat.not_lt_zero _)
        | succ k9_24 ih_24 =>
          intro m hk9_24 hm
          refine z_lload_n hb dJ27_getChars_24 rfl ?_
          refine z_ldc2 hb ho q2579 dJ27_getChars_25 ?_
          refine z_lif_gt (tgt := 82) hb dJ27_getChars_28 dJ27_getChars_29 (by decide) (fun c_29 => ?_) (fun c_29 => ?_)
          · have hl31 : a / 10 ^ m < 2 ^ 31 := (z_ngML (Nat.lt_of_le_of_lt (Nat.div_le_self _ _) (by omega))).mp c_29
            refine z_lload_n hb dJ27_getChars_82 rfl ?_
            refine z_l2i (v := (ngL (a / 10 ^ m)).toInt32) hb dJ27_getChars_83 rfl ?_
            refine z_toI (y := ngI (a / 10 ^ m)) ngL_i ?_
            refine z_istore (lv' := [(10, .int (ngI (a / 10 ^ m))), (7, .int (nI (idx - m))), (8, .int (nI 1)), (0, .long (ngL (a / 10 ^ m))), (3, .ref e)]) hb dJ27_getChars_84 (by rw [hN]; decide) rfl ?_
            have lp_86 : ∀ (k9_86 : Nat) (m : Nat), idx - m < k9_86 → (m + 1 ≤ nd) → (a / 10 ^ m < 2 ^ 31) → z_V M (z_up h e (z_ab (zm_G M) N (z_wdg f0 idx a m))) n 0 0 86 [(7, .int (nI (idx - m))), (8, .int (nI 1)), (10, .int (ngI (a / 10 ^ m))), (3, .ref e)] [] := by
              intro k9_86
              induction k9_86 with
              | zero => intro m hk9_86; exact absurd hk9_86 (Nat.not_lt_zero _)
              | succ k9_86 ih_86 =>
                intro m hk9_86 hm hl31
                refine z_iload hb dJ27_getChars_86 rfl ?_
                refine z_bipush (x := (-100)) hb dJ27_getChars_88 (by decide) ?_
                refine z_icmp_gt (tgt := 143) hb dJ27_getChars_90 (by decide) (fun c_90 => ?_) (fun c_90 => ?_)
                · have ham : a / 10 ^ m ≤ a := Nat.div_le_self _ _
                  have hl9 : a / 10 ^ m < 100 := (z_ng100 (by omega)).mp c_90
                  have hm2 := z_isd_dlt hnd (k := 2) (show a / 10 ^ m < 10 ^ 2 by omega) (by omega)
                  refine z_aload_n hb dJ27_getChars_143 rfl ?_
                  refine z_iinc (k0 := 0) (lv' := [(7, .int (nI ((idx - m) - 1))), (8, .int (nI 1)), (10, .int (ngI (a / 10 ^ m))), (3, .ref e)]) hb dJ27_getChars_144 rfl (z_dN (k := 1) (by omega)) (by rw [hN]; decide) rfl ?_
                  refine z_iload hb dJ27_getChars_147 rfl ?_
                  refine z_gets (i := 4) hb ho rfl (zf_RJ27_133 _) dJ27_getChars_149 ?_
                  refine z_iload hb dJ27_getChars_152 rfl ?_
                  refine z_ineg hb dJ27_getChars_154 ?_
                  refine z_toI (y := nI (a / 10 ^ m)) (ngI_ng _) ?_
                  refine z_bald (j := a / 10 ^ m) hb dJ27_getChars_155 (z_nx rfl hne1 hd1) rfl (by omega) (by omega) ?_
                  refine z_bast (j := (idx - m) - 1) (v := (z_on (a / 10 ^ m))) hb dJ27_getChars_156 z_up_s he0 rfl (by omega) (by omega) (z_on_nar _) ?_
                  refine z_hn (fun h_1 eh_1 => ?_)
                  have eh_1 : h_1 = z_up (z_up h e (z_ab (zm_G M) N (z_wdg f0 idx a m))) e (.inl ((zm_G M).2.1 3, N, .inl (va_up (z_wdg f0 idx a m) ((idx - m) - 1) (z_on (a / 10 ^ m))))) := eh_1
                  have k_2 : h_1 ((zm_G M).2.2.1 1000) = some (.inl ((zm_G M).2.1 3, 100, .inl z_on)) := z_nx eh_1 hne1 (z_nx rfl hne1 hd1)
                  have k_3 : h_1 ((zm_G M).2.2.1 1001) = some (.inl ((zm_G M).2.1 3, 100, .inl z_tn)) := z_nx eh_1 hne2 (z_nx rfl hne2 hd2)
                  refine z_iload hb dJ27_getChars_157 rfl ?_
                  refine z_bipush (x := (-9)) hb dJ27_getChars_159 (by decide) ?_
                  refine z_icmp_ge (tgt := 178) hb dJ27_getChars_161 (by decide) (fun c_161 => ?_) (fun c_161 => ?_)
                  · refine z_iload hb dJ27_getChars_178 rfl ?_
                    refine z_if_eqN (tgt := 192) hb dJ27_getChars_180 (by decide) (by omega) (fun c_180 => ?_) (fun c_180 => ?_)
                    · exact absurd c_180 (by omega)
                    · refine z_aload_n hb dJ27_getChars_183 rfl ?_
                      refine z_iinc (k0 := 0) (lv' := [(7, .int (nI (((idx - m) - 1) - 1))), (8, .int (nI 1)), (10, .int (ngI (a / 10 ^ m))), (3, .ref e)]) hb dJ27_getChars_184 rfl (z_dN (k := 1) (by omega)) (by rw [hN]; decide) rfl ?_
                      refine z_iload hb dJ27_getChars_187 rfl ?_
                      refine z_bipush (x := nI 45) hb dJ27_getChars_189 (by decide) ?_
                      refine z_bast (j := ((idx - m) - 1) - 1) (v := (nI 45)) hb dJ27_getChars_191 (z_nxs eh_1) he0 rfl (by omega) (by omega) rfl ?_
                      refine z_hn (fun h_4 eh_4 => ?_)
                      have eh_4 : h_4 = z_up h_1 e (.inl ((zm_G M).2.1 3, N, .inl (va_up (va_up (z_wdg f0 idx a m) ((idx - m) - 1) (z_on (a / 10 ^ m))) (((idx - m) - 1) - 1) (nI 45)))) := eh_4
                      have k_5 : h_4 ((zm_G M).2.2.1 1000) = some (.inl ((zm_G M).2.1 3, 100, .inl z_on)) := z_nx eh_4 hne1 k_2
                      have k_6 : h_4 ((zm_G M).2.2.1 1001) = some (.inl ((zm_G M).2.1 3, 100, .inl z_tn)) := z_nx eh_4 hne2 k_3
                      refine z_iload hb dJ27_getChars_192 rfl ?_
                      refine z_iret hb hr dJ27_getChars_194 ?_
                      rw [hQ]
                      have hx9 : a / 10 ^ m ≤ 9 := (z_ng9 (by omega)).mp c_161
                      obtain rfl : nd = m + 1 := by have := z_isd_dlt hnd (k := 1) (show a / 10 ^ m < 10 ^ 1 by omega) (by omega); omega
                      refine ⟨congrArg (fun q => Outcome.returned (some q)) (congrArg (fun q => Value.int (nI q)) (by omega)), ?_, rfl⟩
                      show _ = z_up h e (z_ab _ N (va_up (z_wdg f0 idx a (m + 1)) (idx - (m + 1) - 1) (nI 45)))
                      rw [show idx - (m + 1) - 1 = idx - m - 1 - 1 by omega, eh_4, eh_1, z_up_up, z_up_up, z_wdg_o' (by omega) hl9]
                  · have hx8 : ¬ a / 10 ^ m ≤ 9 := fun q => c_161 ((z_ng9 (by omega)).mpr q)
                    have hm4 := z_isd_dge hnd (k := 1) (show 10 ^ 1 ≤ a / 10 ^ m by omega)
                    refine z_aload_n hb dJ27_getChars_164 rfl ?_
                    refine z_iinc (k0 := 0) (lv' := [(7, .int (nI (((idx - m) - 1) - 1))), (8, .int (nI 1)), (10, .int (ngI (a / 10 ^ m))), (3, .ref e)]) hb dJ27_getChars_165 rfl (z_dN (k := 1) (by omega)) (by rw [hN]; decide) rfl ?_
                    refine z_iload hb dJ27_getChars_168 rfl ?_
                    refine z_gets (i := 5) hb ho rfl (zf_RJ27_137 _) dJ27_getChars_170 ?_
                    refine z_iload hb dJ27_getChars_173 rfl ?_
                    refine z_ineg hb dJ27_getChars_175 ?_
                    refine z_toI (y := nI (a / 10 ^ m)) (ngI_ng _) ?_
                    refine z_bald (j := a / 10 ^ m) hb dJ27_getChars_176 k_3 rfl (by omega) (by omega) ?_
                    refine z_bast (j := ((idx - m) - 1) - 1) (v := (z_tn (a / 10 ^ m))) hb dJ27_getChars_177 (z_nxs eh_1) he0 rfl (by omega) (by omega) (z_tn_nar (by omega)) ?_
                    refine z_hn (fun h_7 eh_7 => ?_)
                    have eh_7 : h_7 = z_up h_1 e (.inl ((zm_G M).2.1 3, N, .inl (va_up (va_up (z_wdg f0 idx a m) ((idx - m) - 1) (z_on (a / 10 ^ m))) (((idx - m) - 1) - 1) (z_tn (a / 10 ^ m))))) := eh_7
                    have k_8 : h_7 ((zm_G M).2.2.1 1000) = some (.inl ((zm_G M).2.1 3, 100, .inl z_on)) := z_nx eh_7 hne1 k_2
                    have k_9 : h_7 ((zm_G M).2.2.1 1001) = some (.inl ((zm_G M).2.1 3, 100, .inl z_tn)) := z_nx eh_7 hne2 k_3
                    refine z_iload hb dJ27_getChars_178 rfl ?_
                    refine z_if_eqN (tgt := 192) hb dJ27_getChars_180 (by decide) (by omega) (fun c_180 => ?_) (fun c_180 => ?_)
                    · exact absurd c_180 (by omega)
                    · refine z_aload_n hb dJ27_getChars_183 rfl ?_
                      refine z_iinc (k0 := 0) (lv' := [(7, .int (nI ((((idx - m) - 1) - 1) - 1))), (8, .int (nI 1)), (10, .int (ngI (a / 10 ^ m))), (3, .ref e)]) hb dJ27_getChars_184 rfl (z_dN (k := 1) (by omega)) (by rw [hN]; decide) rfl ?_
                      refine z_iload hb dJ27_getChars_187 rfl ?_
                      refine z_bipush (x := nI 45) hb dJ27_getChars_189 (by decide) ?_
                      refine z_bast (j := (((idx - m) - 1) - 1) - 1) (v := (nI 45)) hb dJ27_getChars_191 (z_nxs eh_7) he0 rfl (by omega) (by omega) rfl ?_
                      refine z_hn (fun h_10 eh_10 => ?_)
                      have eh_10 : h_10 = z_up h_7 e (.inl ((zm_G M).2.1 3, N, .inl (va_up (va_up (va_up (z_wdg f0 idx a m) ((idx - m) - 1) (z_on (a / 10 ^ m))) (((idx - m) - 1) - 1) (z_tn (a / 10 ^ m))) ((((idx - m) - 1) - 1) - 1) (nI 45)))) := eh_10
                      have k_11 : h_10 ((zm_G M).2.2.1 1000) = some (.inl ((zm_G M).2.1 3, 100, .inl z_on)) := z_nx eh_10 hne1 k_8
                      have k_12 : h_10 ((zm_G M).2.2.1 1001) = some (.inl ((zm_G M).2.1 3, 100, .inl z_tn)) := z_nx eh_10 hne2 k_9
                      refine z_iload hb dJ27_getChars_192 rfl ?_
                      refine z_iret hb hr dJ27_getChars_194 ?_
                      rw [hQ]
                      have hx9 : ¬ a / 10 ^ m ≤ 9 := fun q => c_161 ((z_ng9 (by omega)).mpr q)
                      obtain rfl : nd = m + 2 := by have := z_isd_dge hnd (k := 1) (show 10 ^ 1 ≤ a / 10 ^ m by omega); omega
                      refine ⟨congrArg (fun q => Outcome.returned (some q)) (congrArg (fun q => Value.int (nI q)) (by omega)), ?_, rfl⟩
                      show _ = z_up h e (z_ab _ N (va_up (z_wdg f0 idx a (m + 2)) (idx - (m + 2) - 1) (nI 45)))
                      rw [show idx - (m + 2) - 1 = idx - m - 1 - 1 - 1 by omega, eh_10, eh_7, eh_1, z_up_up, z_up_up, z_up_up, z_wdg_o' (by omega) hl9, z_wdg_t' (by omega) hl9]
                · have ham : a / 10 ^ m ≤ a := Nat.div_le_self _ _
                  have hg9 : 100 ≤ a / 10 ^ m := by
                    rcases Nat.lt_or_ge (a / 10 ^ m) 100 with q | q
                    · exact absurd ((z_ng100 (by omega)).mpr q) c_90
                    · exact q
                  have hm3 := z_isd_dge hnd (k := 2) (show 10 ^ 2 ≤ a / 10 ^ m by omega)
                  refine z_iload hb dJ27_getChars_93 rfl ?_
                  refine z_bipush (x := nI 100) hb dJ27_getChars_95 (by decide) ?_
                  refine z_idiv hb dJ27_getChars_97 (nI_ne0 (by omega) (by omega)) ?_
                  refine z_toI (y := ngI (a / 10 ^ m / 100)) (ngI_div (by omega)) ?_
                  refine z_istore (lv' := [(9, .int (ngI (a / 10 ^ m / 100))), (7, .int (nI (idx - m))), (8, .int (nI 1)), (10, .int (ngI (a / 10 ^ m))), (3, .ref e)]) hb dJ27_getChars_98 (by rw [hN]; decide) rfl ?_
                  refine z_iload hb dJ27_getChars_100 rfl ?_
                  refine z_bipush (x := nI 100) hb dJ27_getChars_102 (by decide) ?_
                  refine z_imul hb dJ27_getChars_104 ?_
                  refine z_iload hb dJ27_getChars_105 rfl ?_
                  refine z_isub hb dJ27_getChars_107 ?_
                  refine z_toI (y := nI (a / 10 ^ m % 100)) ngI_rem ?_
                  refine z_istore (lv' := [(6, .int (nI (a / 10 ^ m % 100))), (9, .int (ngI (a / 10 ^ m / 100))), (7, .int (nI (idx - m))), (8, .int (nI 1)), (10, .int (ngI (a / 10 ^ m))), (3, .ref e)]) hb dJ27_getChars_108 (by rw [hN]; decide) rfl ?_
                  refine z_iload hb dJ27_getChars_110 rfl ?_
                  refine z_istore (lv' := [(10, .int (ngI (a / 10 ^ m / 100))), (6, .int (nI (a / 10 ^ m % 100))), (9, .int (ngI (a / 10 ^ m / 100))), (7, .int (nI (idx - m))), (8, .int (nI 1)), (3, .ref e)]) hb dJ27_getChars_112 (by rw [hN]; decide) rfl ?_
                  refine z_aload_n hb dJ27_getChars_114 rfl ?_
                  refine z_iinc (k0 := 3) (lv' := [(7, .int (nI ((idx - m) - 1))), (10, .int (ngI (a / 10 ^ m / 100))), (6, .int (nI (a / 10 ^ m % 100))), (9, .int (ngI (a / 10 ^ m / 100))), (8, .int (nI 1)), (3, .ref e)]) hb dJ27_getChars_115 rfl (z_dN (k := 1) (by omega)) (by rw [hN]; decide) rfl ?_
                  refine z_iload hb dJ27_getChars_118 rfl ?_
                  refine z_gets (i := 4) hb ho rfl (zf_RJ27_133 _) dJ27_getChars_120 ?_
                  refine z_iload hb dJ27_getChars_123 rfl ?_
                  refine z_bald (j := a / 10 ^ m % 100) hb dJ27_getChars_125 (z_nx rfl hne1 hd1) rfl (by omega) (by omega) ?_
                  refine z_bast (j := (idx - m) - 1) (v := (z_on (a / 10 ^ m % 100))) hb dJ27_getChars_126 z_up_s he0 rfl (by omega) (by omega) (z_on_nar _) ?_
                  refine z_hn (fun h_13 eh_13 => ?_)
                  have eh_13 : h_13 = z_up (z_up h e (z_ab (zm_G M) N (z_wdg f0 idx a m))) e (.inl ((zm_G M).2.1 3, N, .inl (va_up (z_wdg f0 idx a m) ((idx - m) - 1) (z_on (a / 10 ^ m % 100))))) := eh_13
                  have k_14 : h_13 ((zm_G M).2.2.1 1000) = some (.inl ((zm_G M).2.1 3, 100, .inl z_on)) := z_nx eh_13 hne1 (z_nx rfl hne1 hd1)
                  have k_15 : h_13 ((zm_G M).2.2.1 1001) = some (.inl ((zm_G M).2.1 3, 100, .inl z_tn)) := z_nx eh_13 hne2 (z_nx rfl hne2 hd2)
                  refine z_aload_n hb dJ27_getChars_127 rfl ?_
                  refine z_iinc (k0 := 0) (lv' := [(7, .int (nI (((idx - m) - 1) - 1))), (10, .int (ngI (a / 10 ^ m / 100))), (6, .int (nI (a / 10 ^ m % 100))), (9, .int (ngI (a / 10 ^ m / 100))), (8, .int (nI 1)), (3, .ref e)]) hb dJ27_getChars_128 rfl (z_dN (k := 1) (by omega)) (by rw [hN]; decide) rfl ?_
                  refine z_iload hb dJ27_getChars_131 rfl ?_
                  refine z_gets (i := 5) hb ho rfl (zf_RJ27_137 _) dJ27_getChars_133 ?_
                  refine z_iload hb dJ27_getChars_136 rfl ?_
                  refine z_bald (j := a / 10 ^ m % 100) hb dJ27_getChars_138 k_15 rfl (by omega) (by omega) ?_
                  refine z_bast (j := ((idx - m) - 1) - 1) (v := (z_tn (a / 10 ^ m % 100))) hb dJ27_getChars_139 (z_nxs eh_13) he0 rfl (by omega) (by omega) (z_tn_nar (by omega)) ?_
                  refine z_hn (fun h_16 eh_16 => ?_)
                  have eh_16 : h_16 = z_up h_13 e (.inl ((zm_G M).2.1 3, N, .inl (va_up (va_up (z_wdg f0 idx a m) ((idx - m) - 1) (z_on (a / 10 ^ m % 100))) (((idx - m) - 1) - 1) (z_tn (a / 10 ^ m % 100))))) := eh_16
                  have k_17 : h_16 ((zm_G M).2.2.1 1000) = some (.inl ((zm_G M).2.1 3, 100, .inl z_on)) := z_nx eh_16 hne1 k_14
                  have k_18 : h_16 ((zm_G M).2.2.1 1001) = some (.inl ((zm_G M).2.1 3, 100, .inl z_tn)) := z_nx eh_16 hne2 k_15
                  refine z_goto (tgt := 86) hb dJ27_getChars_140 (by decide) ?_
                  refine z_hh (h2 := z_up h e (z_ab (zm_G M) N (z_wdg f0 idx a (m + 2)))) (by rw [eh_16, eh_13, z_up_up, z_up_up, z_wdg_o (by omega), z_wdg_t (by omega)]) ?_
                  refine z_lv [0, 4, 1, 5] (lv' := [(7, .int (nI (((idx - m) - 1) - 1))), (8, .int (nI 1)), (10, .int (ngI (a / 10 ^ m / 100))), (3, .ref e)]) rfl ?_
                  refine z_lvE (lv2 := [(7, .int (nI (idx - (m + 2)))), (8, .int (nI 1)), (10, .int (ngI (a / 10 ^ (m + 2)))), (3, .ref e)]) (by rw [show idx - m - 1 - 1 = idx - (m + 2) by omega, show a / 10 ^ m / 100 = a / 10 ^ (m + 2) from (z_dvs 2).symm]) ?_
                  exact ih_86 (m + 2) (by omega) (by omega) (Nat.lt_of_le_of_lt (Nat.div_le_div_left (z_p10 (show m ≤ m + 2 by omega)) (Nat.pow_pos (by decide))) hl31)
            refine z_lv [1, 2, 0, 4] (lv' := [(7, .int (nI (idx - m))), (8, .int (nI 1)), (10, .int (ngI (a / 10 ^ m))), (3, .ref e)]) rfl ?_
            exact lp_86 _ m (Nat.lt_succ_self _) hm hl31
          · have ham : a / 10 ^ m ≤ a := Nat.div_le_self _ _
            have hg9 : 2 ^ 31 ≤ a / 10 ^ m := by
              rcases Nat.lt_or_ge (a / 10 ^ m) (2 ^ 31) with q | q
              · exact absurd ((z_ngML (by omega)).mpr q) c_29
              · exact q
            have hm3 := z_isd_dge hnd (k := 2) (show 10 ^ 2 ≤ a / 10 ^ m by omega)
            refine z_lload_n hb dJ27_getChars_32 rfl ?_
            refine z_ldc2 hb ho q2580 dJ27_getChars_33 ?_
            refine z_ldiv hb dJ27_getChars_36 (by decide) ?_
            refine z_toL (y := ngL (a / 10 ^ m / 100)) (ngL_div (by omega)) ?_
            refine z_lstore (lv' := [(4, .long (ngL (a / 10 ^ m / 100))), (7, .int (nI (idx - m))), (8, .int (nI 1)), (0, .long (ngL (a / 10 ^ m))), (3, .ref e)]) hb dJ27_getChars_37 (by rw [hN]; decide) rfl ?_
            refine z_lload hb dJ27_getChars_39 rfl ?_
            refine z_ldc2 hb ho q2580 dJ27_getChars_41 ?_
            refine z_lmul hb dJ27_getChars_44 ?_
            refine z_lload_n hb dJ27_getChars_45 rfl ?_
            refine z_lsub hb dJ27_getChars_46 ?_
            refine z_l2i (v := (((ngL (a / 10 ^ m / 100)) * (100 : Int64)) - (ngL (a / 10 ^ m))).toInt32) hb dJ27_getChars_47 rfl ?_
            refine z_toI (y := nI (a / 10 ^ m % 100)) ngL_rem ?_
            refine z_istore (lv' := [(6, .int (nI (a / 10 ^ m % 100))), (4, .long (ngL (a / 10 ^ m / 100))), (7, .int (nI (idx - m))), (8, .int (nI 1)), (0, .long (ngL (a / 10 ^ m))), (3, .ref e)]) hb dJ27_getChars_48 (by rw [hN]; decide) rfl ?_
            refine z_lload hb dJ27_getChars_50 rfl ?_
            refine z_lstore_n (lv' := [(0, .long (ngL (a / 10 ^ m / 100))), (6, .int (nI (a / 10 ^ m % 100))), (4, .long (ngL (a / 10 ^ m / 100))), (7, .int (nI (idx - m))), (8, .int (nI 1)), (3, .ref e)]) hb dJ27_getChars_52 (by rw [hN]; decide) rfl ?_
            refine z_aload_n hb dJ27_getChars_53 rfl ?_
            refine z_iinc (k0 := 3) (lv' := [(7, .int (nI ((idx - m) - 1))), (0, .long (ngL (a / 10 ^ m / 100))), (6, .int (nI (a / 10 ^ m % 100))), (4, .long (ngL (a / 10 ^ m / 100))), (8, .int (nI 1)), (3, .ref e)]) hb dJ27_getChars_54 rfl (z_dN (k := 1) (by omega)) (by rw [hN]; decide) rfl ?_
            refine z_iload hb dJ27_getChars_57 rfl ?_
            refine z_gets (i := 4) hb ho rfl (zf_RJ27_133 _) dJ27_getChars_59 ?_
            refine z_iload hb dJ27_getChars_62 rfl ?_
            refine z_bald (j := a / 10 ^ m % 100) hb dJ27_getChars_64 (z_nx rfl hne1 hd1) rfl (by omega) (by omega) ?_
            refine z_bast (j := (idx - m) - 1) (v := (z_on (a / 10 ^ m % 100))) hb dJ27_getChars_65 z_up_s he0 rfl (by omega) (by omega) (z_on_nar _) ?_
            refine z_hn (fun h_19 eh_19 => ?_)
            have eh_19 : h_19 = z_up (z_up h e (z_ab (zm_G M) N (z_wdg f0 idx a m))) e (.inl ((zm_G M).2.1 3, N, .inl (va_up (z_wdg f0 idx a m) ((idx - m) - 1) (z_on (a / 10 ^ m % 100))))) := eh_19
            have k_20 : h_19 ((zm_G M).2.2.1 1000) = some (.inl ((zm_G M).2.1 3, 100, .inl z_on)) := z_nx eh_19 hne1 (z_nx rfl hne1 hd1)
            have k_21 : h_19 ((zm_G M).2.2.1 1001) = some (.inl ((zm_G M).2.1 3, 100, .inl z_tn)) := z_nx eh_19 hne2 (z_nx rfl hne2 hd2)
            refine z_aload_n hb dJ27_getChars_66 rfl ?_
            refine z_iinc (k0 := 0) (lv' := [(7, .int (nI (((idx - m) - 1) - 1))), (0, .long (ngL (a / 10 ^ m / 100))), (6, .int (nI (a / 10 ^ m % 100))), (4, .long (ngL (a / 10 ^ m / 100))), (8, .int (nI 1)), (3, .ref e)]) hb dJ27_getChars_67 rfl (z_dN (k := 1) (by omega)) (by rw [hN]; decide) rfl ?_
            refine z_iload hb dJ27_getChars_70 rfl ?_
            refine z_gets (i := 5) hb ho rfl (zf_RJ27_137 _) dJ27_getChars_72 ?_
            refine z_iload hb dJ27_getChars_75 rfl ?_
            refine z_bald (j := a / 10 ^ m % 100) hb dJ27_getChars_77 k_21 rfl (by omega) (by omega) ?_
            refine z_bast (j := ((idx - m) - 1) - 1) (v := (z_tn (a / 10 ^ m % 100))) hb dJ27_getChars_78 (z_nxs eh_19) he0 rfl (by omega) (by omega) (z_tn_nar (by omega)) ?_
            refine z_hn (fun h_22 eh_22 => ?_)
            have eh_22 : h_22 = z_up h_19 e (.inl ((zm_G M).2.1 3, N, .inl (va_up (va_up (z_wdg f0 idx a m) ((idx - m) - 1) (z_on (a / 10 ^ m % 100))) (((idx - m) - 1) - 1) (z_tn (a / 10 ^ m % 100))))) := eh_22
            have k_23 : h_22 ((zm_G M).2.2.1 1000) = some (.inl ((zm_G M).2.1 3, 100, .inl z_on)) := z_nx eh_22 hne1 k_20
            have k_24 : h_22 ((zm_G M).2.2.1 1001) = some (.inl ((zm_G M).2.1 3, 100, .inl z_tn)) := z_nx eh_22 hne2 k_21
            refine z_goto (tgt := 24) hb dJ27_getChars_79 (by decide) ?_
            refine z_hh (h2 := z_up h e (z_ab (zm_G M) N (z_wdg f0 idx a (m + 2)))) (by rw [eh_22, eh_19, z_up_up, z_up_up, z_wdg_o (by omega), z_wdg_t (by omega)]) ?_
            refine z_lv [0, 4, 1, 5] (lv' := [(7, .int (nI (((idx - m) - 1) - 1))), (8, .int (nI 1)), (0, .long (ngL (a / 10 ^ m / 100))), (3, .ref e)]) rfl ?_
            refine z_lvE (lv2 := [(7, .int (nI (idx - (m + 2)))), (8, .int (nI 1)), (0, .long (ngL (a / 10 ^ (m + 2)))), (3, .ref e)]) (by rw [show idx - m - 1 - 1 = idx - (m + 2) by omega, show a / 10 ^ m / 100 = a / 10 ^ (m + 2) from (z_dvs 2).symm]) ?_
            exact ih_24 (m + 2) (by omega) (by omega)
      refine z_lv [1, 0, 2, 4] (lv' := [(7, .int (nI idx)), (8, .int (nI 1)), (0, .long (ngL a)), (3, .ref e)]) rfl ?_
      refine z_hh (h2 := z_up h e (z_ab (zm_G M) N (z_wdg f0 idx a 0))) (by rw [z_wdg_0, z_up_self hA]) ?_
      refine z_lvE (lv2 := [(7, .int (nI (idx - 0))), (8, .int (nI 1)), (0, .long (ngL (a / 10 ^ 0))), (3, .ref e)]) (by rw [z_dv0, Nat.sub_zero]) ?_
      exact lp_24 _ 0 (Nat.lt_succ_self _) hnd.1
    · exact absurd c_18 (by omega)

