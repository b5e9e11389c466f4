theorem tw_chsN {k : Nat} (hk : k < 1000) : (nI k).toInt64.toInt.natAbs < 10 ^ 13 := by
  rw [nI_l (by omega), pk_lT (by omega)]; omega
theorem tw_chsN_len {k : Nat} (hk : k < 1000) : (tw_chs (nI k).toInt64).length ≤ 14 := tw_chs_len (tw_chsN hk)
/-- the signs of a partition's line, c numbers of it -/
def tw_ptc (f : Nat → Int64) (k d : Nat) : Nat → List Int32
  | 0 => []
  | g + 1 => tw_ptc f k d g ++ ((if g = 0 then [] else [nI 44]) ++ tw_chs (f (5 * (7 * k + d) + g)))
theorem tw_ptc_len {f : Nat → Int64} {k d : Nat} (hv : ∀ g, g < 5 → (f (5 * (7 * k + d) + g)).toInt.natAbs < 10 ^ 13) : ∀ g, g ≤ 5 → (tw_ptc f k d g).length ≤ 15 * g
  | 0, _ => Nat.le_refl _
  | g + 1, hg => by
    have h1 := tw_ptc_len hv g (by omega)
    have h2 := tw_chs_len (hv g (by omega))
    rw [tw_ptc, List.length_append, List.length_append]
    split <;> simp <;> omega

set_option maxHeartbeats 1000000 in
theorem m_X3_writeStep_no {l : Launch} {G : zG} {h : zH} {n : Nat} {t : Nat} {w0 : Nat → Int32} {w1 : Nat → Int32} {w2 : Nat → Int32} {w3 : Nat → Int32} {w4 : Nat → Int32} {w5 : Nat → Int64} {w6 : Nat → Int64} {w7 : Nat → Int64} {w8 : Nat → Int64} {w9 : Nat → Int64} {w10 : Nat → Int64} {w11 : Nat → Int64} {w12 : Int32} {w13 : Int32} {w14 : Int32} {w15 : Int32} {w16 : Int32} {w17 : Int32} {w18 : Bool} {w19 : Nat → Int32} {w20 : Int32} {w21 : Nat → Int32} {w22 : Nat → Int32} {w23 : Nat → Int32} {w24 : Int32} {w25 : Int32} {w26 : Int32} {w27 : Int32} {w28 : Bool} {R S D : Nat} {x : Int32}  (ht : z_n0 G ≤ t) (hw : z_ok w0 R S D) (hx : tw_isS S x = false) : z_C l G yX3_writeStep 3 0 0 [.ref t, .int x] (z_tw G t w0 w1 w2 w3 w4 w5 w6 w7 w8 w9 w10 w11 w12 w13 w14 w15 w16 w17 w18 w19 w20 w21 w22 w23 w24 w25 w26 w27 w28 h) n (z_rv (.int (nI 0)) (z_tw G t w0 w1 w2 w3 w4 w5 w6 w7 w8 w9 w10 w11 (nI 1) w13 w14 w15 w16 w17 w18 w19 w20 w21 w22 w23 w24 w25 w26 w27 w28 h) n) := by
  refine z_start zk_X3_writeStep zpl_RX3 (Nat.le_of_ble_eq_true rfl) ?_
  intro hn0 M hl hG ho hb hN hr hm hH hrm hQ
  subst hl hG
  have ho : zm_o M = RX3 := ho
  obtain ⟨hR, hR4, hS, hS8, hD, hD6, hF⟩ := id hw
  unfold tw_isS at hx
  show z_V M (z_tw (zm_G M) t w0 w1 w2 w3 w4 w5 w6 w7 w8 w9 w10 w11 w12 w13 w14 w15 w16 w17 w18 w19 w20 w21 w22 w23 w24 w25 w26 w27 w28 h) n 0 0 0 [(0, .ref t), (1, .int x)] []
  refine z_aload_n hb dX3_writeStep_0 rfl ?_
  refine z_aload_n hb dX3_writeStep_1 rfl ?_
  refine z_iload_n hb dX3_writeStep_2 rfl ?_
  refine z_call1 (b' := 0) (f' := 0) (rest := [.ref t]) (av := [.ref t, .int x]) (z_siteV hb ho zc2 z_tw_o q2927 q2929 qs56 ⟨_, _, _, _, zk_X3_isStep⟩ zy_X3_isStep zl_X3_isStep dX3_writeStep_3 : z_Site M _ _ _ _ _ ([.int x].reverse ++ .ref t :: [.ref t]) [.ref t] _) zk_X3_isStep q104 hrm (m_X3_isStep x ht hw) (by omega) (by decide) (Nat.le_of_ble_eq_true rfl) (by omega) (by omega) ?_
  refine z_call1 (b' := 0) (f' := 0) (rest := []) (av := [.ref t, .int (z_b (decide (nI 0 ≤ x ∧ x ≤ nI S - nI 1)))]) (z_siteV hb ho zc2 z_tw_o q2995 q2997 qs66 ⟨_, _, _, _, zk_X3_checked⟩ zy_X3_checked zl_X3_checked dX3_writeStep_6 : z_Site M _ _ _ _ _ ([.int (z_b (decide (nI 0 ≤ x ∧ x ≤ nI S - nI 1)))].reverse ++ .ref t :: []) [] _) zk_X3_checked q104 hrm (m_X3_checked (decide (nI 0 ≤ x ∧ x ≤ nI S - nI 1)) ht) (by omega) (by decide) (Nat.le_of_ble_eq_true rfl) (by omega) (by omega) ?_
  refine z_ifb_le (tgt := 14) hb dX3_writeStep_9 (by decide) (fun c_9 => ?_) (fun c_9 => ?_)
  · rw [hx] at c_9; exact absurd c_9 (by decide)
  · refine z_iconst (x := nI 0) hb dX3_writeStep_12 (by decide) ?_
    refine z_iret hb hr dX3_writeStep_13 ?_
    rw [hQ]
    rw [hx]; exact ⟨rfl, rfl, rfl⟩

set_option maxHeartbeats 1000000 in
theorem m_X3_writeStep_s {l : Launch} {G : zG} {h : zH} {n : Nat} {t : Nat} {w0 : Nat → Int32} {w1 : Nat → Int32} {w2 : Nat → Int32} {w3 : Nat → Int32} {w4 : Nat → Int32} {w5 : Nat → Int64} {w6 : Nat → Int64} {w7 : Nat → Int64} {w8 : Nat → Int64} {w9 : Nat → Int64} {w10 : Nat → Int64} {w11 : Nat → Int64} {w12 : Int32} {w13 : Int32} {w14 : Int32} {w15 : Int32} {w16 : Int32} {w17 : Int32} {w18 : Bool} {w19 : Nat → Int32} {w20 : Int32} {w21 : Nat → Int32} {w22 : Nat → Int32} {w23 : Nat → Int32} {w24 : Int32} {w25 : Int32} {w26 : Int32} {w27 : Int32} {w28 : Bool} {R S D : Nat} {k b : Nat}  (ht : z_n0 G ≤ t) (hw : z_ok w0 R S D) (hkS : k < S) (hc : w0 (176 + 4 * k) = nI 115) (hbd : w0 (176 + 4 * k + 1) = nI b) (hb99 : b ≤ 99) : z_C l G yX3_writeStep 3 0 0 [.ref t, .int (nI k)] (z_tw G t w0 w1 w2 w3 w4 w5 w6 w7 w8 w9 w10 w11 w12 w13 w14 w15 w16 w17 w18 w19 w20 w21 w22 w23 w24 w25 w26 w27 w28 h) n (z_rv (.int (nI (((tw_chs (nI k).toInt64) ++ (nI 58 :: (nI 115 :: tw_chs (nI b).toInt64))).length))) (z_tw G t w0 w1 w2 w3 w4 w5 w6 w7 w8 w9 w10 w11 (nI 0) w13 w14 w15 w16 w17 w18 (tw_wl w19 0 ((tw_chs (nI k).toInt64) ++ (nI 58 :: (nI 115 :: tw_chs (nI b).toInt64)))) (nI (((tw_chs (nI k).toInt64) ++ (nI 58 :: (nI 115 :: tw_chs (nI b).toInt64))).length)) w21 w22 w23 w24 w25 w26 w27 w28 h) n) := by
  refine z_start zk_X3_writeStep zpl_RX3 (Nat.le_of_ble_eq_true rfl) ?_
  intro hn0 M hl hG ho hb hN hr hm hH hrm hQ
  subst hl hG
  have ho : zm_o M = RX3 := ho
  obtain ⟨hR, hR4, hS, hS8, hD, hD6, hF⟩ := id hw
  have hx := z_inR hkS (by omega)
  obtain ⟨hF1, hF2, hF3, hF4⟩ := hF k hkS
  have l1 := tw_chsN_len (k := k) (by omega)
  have l2 := tw_chsN_len (k := tw_f w0 k) (by omega)
  have l3 := tw_chsN_len (k := tw_s w0 k) (by omega)
  have l4 := tw_chsN_len (k := b) (by omega)
  have hbs : tw_base w0 k = true := by simp only [tw_base, hc]; decide
  show z_V M (z_tw (zm_G M) t w0 w1 w2 w3 w4 w5 w6 w7 w8 w9 w10 w11 w12 w13 w14 w15 w16 w17 w18 w19 w20 w21 w22 w23 w24 w25 w26 w27 w28 h) n 0 0 0 [(0, .ref t), (1, .int (nI k))] []
  refine z_aload_n hb dX3_writeStep_0 rfl ?_
  refine z_aload_n hb dX3_writeStep_1 rfl ?_
  refine z_iload_n hb dX3_writeStep_2 rfl ?_
  refine z_call1 (b' := 0) (f' := 0) (rest := [.ref t]) (av := [.ref t, .int (nI k)]) (z_siteV hb ho zc2 z_tw_o q2927 q2929 qs56 ⟨_, _, _, _, zk_X3_isStep⟩ zy_X3_isStep zl_X3_isStep dX3_writeStep_3 : z_Site M _ _ _ _ _ ([.int (nI k)].reverse ++ .ref t :: [.ref t]) [.ref t] _) zk_X3_isStep q104 hrm (m_X3_isStep (nI k) ht hw) (by omega) (by decide) (Nat.le_of_ble_eq_true rfl) (by omega) (by omega) ?_
  refine z_call1 (b' := 0) (f' := 0) (rest := []) (av := [.ref t, .int (z_b (decide (nI 0 ≤ (nI k) ∧ (nI k) ≤ nI S - nI 1)))]) (z_siteV hb ho zc2 z_tw_o q2995 q2997 qs66 ⟨_, _, _, _, zk_X3_checked⟩ zy_X3_checked zl_X3_checked dX3_writeStep_6 : z_Site M _ _ _ _ _ ([.int (z_b (decide (nI 0 ≤ (nI k) ∧ (nI k) ≤ nI S - nI 1)))].reverse ++ .ref t :: []) [] _) zk_X3_checked q104 hrm (m_X3_checked (decide (nI 0 ≤ (nI k) ∧ (nI k) ≤ nI S - nI 1)) ht) (by omega) (by decide) (Nat.le_of_ble_eq_true rfl) (by omega) (by omega) ?_
  refine z_ifb_le (tgt := 14) hb dX3_writeStep_9 (by decide) (fun c_9 => ?_) (fun c_9 => ?_)
  · refine z_aload_n hb dX3_writeStep_14 rfl ?_
    refine z_iload_n hb dX3_writeStep_15 rfl ?_
    refine z_iconst (x := nI 0) hb dX3_writeStep_16 (by decide) ?_
    refine z_call1 (b' := 0) (f' := 0) (rest := []) (av := [.ref t, .int (nI k), .int (nI 0)]) (z_siteV hb ho zc2 z_tw_o q2847 q2849 qs40 ⟨_, _, _, _, zk_X3_s⟩ zy_X3_s zl_X3_s dX3_writeStep_17 : z_Site M _ _ _ _ _ ([.int (nI k), .int (nI 0)].reverse ++ .ref t :: []) [] _) zk_X3_s q104 hrm (m_X3_s k 0 ht (by omega)) (by omega) (by decide) (Nat.le_of_ble_eq_true rfl) (by omega) (by omega) ?_
    refine z_toI (y := w0 (176 + 4 * k)) rfl ?_
    refine z_toI (y := nI 115) hc ?_
    refine z_istore_n (lv' := [(2, .int (nI 115)), (0, .ref t), (1, .int (nI k))]) hb dX3_writeStep_20 (by rw [hN]; decide) rfl ?_
    refine z_aload_n hb dX3_writeStep_21 rfl ?_
    refine z_iconst (x := nI 0) hb dX3_writeStep_22 (by decide) ?_
    refine z_put (k := 20) (C := RX3) (T := TX3) (N := 29) hb ho zc2 in_X3 tyX3_ok nmX3 (zf_RX3_73 _) dX3_writeStep_23 z_tw_o ht (by decide) (Or.inl rfl) rfl rfl rfl (Nat.le_of_ble_eq_true rfl) ?_
    refine z_hh z_tw_u20 ?_
    refine z_aload_n hb dX3_writeStep_26 rfl ?_
    refine z_iload_n hb dX3_writeStep_27 rfl ?_
    refine z_i2l (v := (nI k).toInt64) hb dX3_writeStep_28 rfl ?_
    refine z_call0 (b' := 0) (f' := 0) (rest := []) (av := [.ref t, .long ((nI k).toInt64)]) (z_siteV hb ho zc2 z_tw_o q3167 q3169 qs78 ⟨_, _, _, _, zk_X3_writeNumber⟩ zy_X3_writeNumber zl_X3_writeNumber dX3_writeStep_29 : z_Site M _ _ _ _ _ ([.long ((nI k).toInt64)].reverse ++ .ref t :: []) [] _) zk_X3_writeNumber q104 hrm (m_X3_writeNumber (w20 := 0) (L := 0) ((nI k).toInt64) ht (tw_chsN (by omega)) (by omega)) (by omega) (by decide) (Nat.le_of_ble_eq_true rfl) (by omega) (by omega) ?_
    refine z_aload_n hb dX3_writeStep_32 rfl ?_
    refine z_bipush (x := nI 58) hb dX3_writeStep_33 (by decide) ?_
    refine z_call0 (b' := 0) (f' := 0) (rest := []) (av := [.ref t, .int (nI 58)]) (z_siteV hb ho zc2 z_tw_o q3171 q3173 qs79 ⟨_, _, _, _, zk_X3_write⟩ zy_X3_write zl_X3_write dX3_writeStep_35 : z_Site M _ _ _ _ _ ([.int (nI 58)].reverse ++ .ref t :: []) [] _) zk_X3_write q104 hrm (m_X3_write (w20 := 0) (L := 0 + (tw_chs ((nI k).toInt64)).length) (nI 58) ht (by omega)) (by omega) (by decide) (Nat.le_of_ble_eq_true rfl) (by omega) (by omega) ?_
    refine z_iload_n hb dX3_writeStep_38 rfl ?_
    refine z_bipush (x := nI 43) hb dX3_writeStep_39 (by decide) ?_
    refine z_icmp_eqN (tgt := 50) hb dX3_writeStep_41 (by decide) (by omega) (by omega) (fun c_41 => ?_) (fun c_41 => ?_)
    · exact absurd c_41 (by omega)
    · refine z_iload_n hb dX3_writeStep_44 rfl ?_
      refine z_bipush (x := nI 45) hb dX3_writeStep_45 (by decide) ?_
      refine z_icmp_neN (tgt := 61) hb dX3_writeStep_47 (by decide) (by omega) (by omega) (fun c_47 => ?_) (fun c_47 => ?_)
      · refine z_aload_n hb dX3_writeStep_61 rfl ?_
        refine z_iload_n hb dX3_writeStep_62 rfl ?_
        refine z_call0 (b' := 0) (f' := 0) (rest := []) (av := [.ref t, .int (nI 115)]) (z_siteV hb ho zc2 z_tw_o q3171 q3173 qs79 ⟨_, _, _, _, zk_X3_write⟩ zy_X3_write zl_X3_write dX3_writeStep_63 : z_Site M _ _ _ _ _ ([.int (nI 115)].reverse ++ .ref t :: []) [] _) zk_X3_write q104 hrm (m_X3_write (w20 := 0) (L := 0 + (tw_chs ((nI k).toInt64)).length + 1) (nI 115) ht (by omega)) (by omega) (by decide) (Nat.le_of_ble_eq_true rfl) (by omega) (by omega) ?_
        refine z_iload_n hb dX3_writeStep_66 rfl ?_
        refine z_bipush (x := nI 43) hb dX3_writeStep_67 (by decide) ?_
        refine z_icmp_eqN (tgt := 78) hb dX3_writeStep_69 (by decide) (by omega) (by omega) (fun c_69 => ?_) (fun c_69 => ?_)
        · exact absurd c_69 (by omega)
        · refine z_iload_n hb dX3_writeStep_72 rfl ?_
          refine z_bipush (x := nI 45) hb dX3_writeStep_73 (by decide) ?_
          refine z_icmp_neN (tgt := 89) hb dX3_writeStep_75 (by decide) (by omega) (by omega) (fun c_75 => ?_) (fun c_75 => ?_)
          · refine z_iload_n hb dX3_writeStep_89 rfl ?_
            refine z_bipush (x := nI 114) hb dX3_writeStep_90 (by decide) ?_
            refine z_icmp_eqN (tgt := 101) hb dX3_writeStep_92 (by decide) (by omega) (by omega) (fun c_92 => ?_) (fun c_92 => ?_)
            · exact absurd c_92 (by omega)
            · refine z_iload_n hb dX3_writeStep_95 rfl ?_
              refine z_bipush (x := nI 107) hb dX3_writeStep_96 (by decide) ?_
              refine z_icmp_neN (tgt := 112) hb dX3_writeStep_98 (by decide) (by omega) (by omega) (fun c_98 => ?_) (fun c_98 => ?_)
              · refine z_iload_n hb dX3_writeStep_112 rfl ?_
                refine z_bipush (x := nI 107) hb dX3_writeStep_113 (by decide) ?_
                refine z_icmp_neN (tgt := 124) hb dX3_writeStep_115 (by decide) (by omega) (by omega) (fun c_115 => ?_) (fun c_115 => ?_)
                · refine z_iload_n hb dX3_writeStep_124 rfl ?_
                  refine z_bipush (x := nI 107) hb dX3_writeStep_125 (by decide) ?_
                  refine z_icmp_eqN (tgt := 138) hb dX3_writeStep_127 (by decide) (by omega) (by omega) (fun c_127 => ?_) (fun c_127 => ?_)
                  · exact absurd c_127 (by omega)
                  · refine z_aload_n hb dX3_writeStep_130 rfl ?_
                    refine z_iload_n hb dX3_writeStep_131 rfl ?_
                    refine z_call1 (b' := 0) (f' := 0) (rest := []) (av := [.ref t, .int (nI k)]) (z_siteV hb ho zc2 z_tw_o q2843 q2845 qs39 ⟨_, _, _, _, zk_X3_isBase⟩ zy_X3_isBase zl_X3_isBase dX3_writeStep_132 : z_Site M _ _ _ _ _ ([.int (nI k)].reverse ++ .ref t :: []) [] _) zk_X3_isBase q104 hrm (m_X3_isBase k ht (by omega)) (by omega) (by decide) (Nat.le_of_ble_eq_true rfl) (by omega) (by omega) ?_
                    refine z_ifb_eq (tgt := 149) hb dX3_writeStep_135 (by decide) (fun c_135 => ?_) (fun c_135 => ?_)
                    · rw [hbs] at c_135; exact absurd c_135 (by decide)
                    · refine z_aload_n hb dX3_writeStep_138 rfl ?_
                      refine z_aload_n hb dX3_writeStep_139 rfl ?_
                      refine z_iload_n hb dX3_writeStep_140 rfl ?_
                      refine z_iconst (x := nI 1) hb dX3_writeStep_141 (by decide) ?_
                      refine z_call1 (b' := 0) (f' := 0) (rest := [.ref t]) (av := [.ref t, .int (nI k), .int (nI 1)]) (z_siteV hb ho zc2 z_tw_o q2847 q2849 qs40 ⟨_, _, _, _, zk_X3_s⟩ zy_X3_s zl_X3_s dX3_writeStep_142 : z_Site M _ _ _ _ _ ([.int (nI k), .int (nI 1)].reverse ++ .ref t :: [.ref t]) [.ref t] _) zk_X3_s q104 hrm (m_X3_s k 1 ht (by omega)) (by omega) (by decide) (Nat.le_of_ble_eq_true rfl) (by omega) (by omega) ?_
                      refine z_toI (y := nI b) hbd ?_
                      refine z_i2l (v := (nI b).toInt64) hb dX3_writeStep_145 rfl ?_
                      refine z_call0 (b' := 0) (f' := 0) (rest := []) (av := [.ref t, .long ((nI b).toInt64)]) (z_siteV hb ho zc2 z_tw_o q3167 q3169 qs78 ⟨_, _, _, _, zk_X3_writeNumber⟩ zy_X3_writeNumber zl_X3_writeNumber dX3_writeStep_146 : z_Site M _ _ _ _ _ ([.long ((nI b).toInt64)].reverse ++ .ref t :: []) [] _) zk_X3_writeNumber q104 hrm (m_X3_writeNumber (w20 := 0) (L := 0 + (tw_chs ((nI k).toInt64)).length + 2) ((nI b).toInt64) ht (tw_chsN (by omega)) (by omega)) (by omega) (by decide) (Nat.le_of_ble_eq_true rfl) (by omega) (by omega) ?_
                      refine z_aload_n hb dX3_writeStep_149 rfl ?_
                      refine z_get (k := 20) (C := RX3) (T := TX3) (N := 29) hb ho zc2 in_X3 (zf_RX3_73 _) dX3_writeStep_150 z_tw_o (by decide) rfl ?_
                      refine z_iret hb hr dX3_writeStep_153 ?_
                      rw [hQ]
                      simp only [hx, tw_wl_append, tw_wl, List.length_append, List.length_cons, Nat.zero_add, ← Nat.add_assoc, List.length_nil]
                      try simp only [Nat.add_right_comm _ _ 1, ← Nat.add_assoc]
                      exact ⟨rfl, rfl, rfl⟩
                · exact absurd c_115 (by omega)
              · exact absurd c_98 (by omega)
          · exact absurd c_75 (by omega)
      · exact absurd c_47 (by omega)
  · rw [hx] at c_9; exact absurd c_9 (by decide)

set_option maxHeartbeats 1000000 in
theorem m_X3_writeStep_n {l : Launch} {G : zG} {h : zH} {n : Nat} {t : Nat} {w0 : Nat → Int32} {w1 : Nat → Int32} {w2 : Nat → Int32} {w3 : Nat → Int32} {w4 : Nat → Int32} {w5 : Nat → Int64} {w6 : Nat → Int64} {w7 : Nat → Int64} {w8 : Nat → Int64} {w9 : Nat → Int64} {w10 : Nat → Int64} {w11 : Nat → Int64} {w12 : Int32} {w13 : Int32} {w14 : Int32} {w15 : Int32} {w16 : Int32} {w17 : Int32} {w18 : Bool} {w19 : Nat → Int32} {w20 : Int32} {w21 : Nat → Int32} {w22 : Nat → Int32} {w23 : Nat → Int32} {w24 : Int32} {w25 : Int32} {w26 : Int32} {w27 : Int32} {w28 : Bool} {R S D : Nat} {k b : Nat}  (ht : z_n0 G ≤ t) (hw : z_ok w0 R S D) (hkS : k < S) (hc : w0 (176 + 4 * k) = nI 110) (hbd : w0 (176 + 4 * k + 1) = nI b) (hb99 : b ≤ 99) : z_C l G yX3_writeStep 3 0 0 [.ref t, .int (nI k)] (z_tw G t w0 w1 w2 w3 w4 w5 w6 w7 w8 w9 w10 w11 w12 w13 w14 w15 w16 w17 w18 w19 w20 w21 w22 w23 w24 w25 w26 w27 w28 h) n (z_rv (.int (nI (((tw_chs (nI k).toInt64) ++ (nI 58 :: (nI 110 :: tw_chs (nI b).toInt64))).length))) (z_tw G t w0 w1 w2 w3 w4 w5 w6 w7 w8 w9 w10 w11 (nI 0) w13 w14 w15 w16 w17 w18 (tw_wl w19 0 ((tw_chs (nI k).toInt64) ++ (nI 58 :: (nI 110 :: tw_chs (nI b).toInt64)))) (nI (((tw_chs (nI k).toInt64) ++ (nI 58 :: (nI 110 :: tw_chs (nI b).toInt64))).length)) w21 w22 w23 w24 w25 w26 w27 w28 h) n) := by
  refine z_start zk_X3_writeStep zpl_RX3 (Nat.le_of_ble_eq_true rfl) ?_
  intro hn0 M hl hG ho hb hN hr hm hH hrm hQ
  subst hl hG
  have ho : zm_o M = RX3 := ho
  obtain ⟨hR, hR4, hS, hS8, hD, hD6, hF⟩ := id hw
  have hx := z_inR hkS (by omega)
  obtain ⟨hF1, hF2, hF3, hF4⟩ := hF k hkS
  have l1 := tw_chsN_len (k := k) (by omega)
  have l2 := tw_chsN_len (k := tw_f w0 k) (by omega)
  have l3 := tw_chsN_len (k := tw_s w0 k) (by omega)
  have l4 := tw_chsN_len (k := b) (by omega)
  have hbs : tw_base w0 k = true := by simp only [tw_base, hc]; decide
  show z_V M (z_tw (zm_G M) t w0 w1 w2 w3 w4 w5 w6 w7 w8 w9 w10 w11 w12 w13 w14 w15 w16 w17 w18 w19 w20 w21 w22 w23 w24 w25 w26 w27 w28 h) n 0 0 0 [(0, .ref t), (1, .int (nI k))] []
  refine z_aload_n hb dX3_writeStep_0 rfl ?_
  refine z_aload_n hb dX3_writeStep_1 rfl ?_
  refine z_iload_n hb dX3_writeStep_2 rfl ?_
  refine z_call1 (b' := 0) (f' := 0) (rest := [.ref t]) (av := [.ref t, .int (nI k)]) (z_siteV hb ho zc2 z_tw_o q2927 q2929 qs56 ⟨_, _, _, _, zk_X3_isStep⟩ zy_X3_isStep zl_X3_isStep dX3_writeStep_3 : z_Site M _ _ _ _ _ ([.int (nI k)].reverse ++ .ref t :: [.ref t]) [.ref t] _) zk_X3_isStep q104 hrm (m_X3_isStep (nI k) ht hw) (by omega) (by decide) (Nat.le_of_ble_eq_true rfl) (by omega) (by omega) ?_
  refine z_call1 (b' := 0) (f' := 0) (rest := []) (av := [.ref t, .int (z_b (decide (nI 0 ≤ (nI k) ∧ (nI k) ≤ nI S - nI 1)))]) (z_siteV hb ho zc2 z_tw_o q2995 q2997 qs66 ⟨_, _, _, _, zk_X3_checked⟩ zy_X3_checked zl_X3_checked dX3_writeStep_6 : z_Site M _ _ _ _ _ ([.int (z_b (decide (nI 0 ≤ (nI k) ∧ (nI k) ≤ nI S - nI 1)))].reverse ++ .ref t :: []) [] _) zk_X3_checked q104 hrm (m_X3_checked (decide (nI 0 ≤ (nI k) ∧ (nI k) ≤ nI S - nI 1)) ht) (by omega) (by decide) (Nat.le_of_ble_eq_true rfl) (by omega) (by omega) ?_
  refine z_ifb_le (tgt := 14) hb dX3_writeStep_9 (by decide) (fun c_9 => ?_) (fun c_9 => ?_)
  · refine z_aload_n hb dX3_writeStep_14 rfl ?_
    refine z_iload_n hb dX3_writeStep_15 rfl ?_
    refine z_iconst (x := nI 0) hb dX3_writeStep_16 (by decide) ?_
    refine z_call1 (b' := 0) (f' := 0) (rest := []) (av := [.ref t, .int (nI k), .int (nI 0)]) (z_siteV hb ho zc2 z_tw_o q2847 q2849 qs40 ⟨_, _, _, _, zk_X3_s⟩ zy_X3_s zl_X3_s dX3_writeStep_17 : z_Site M _ _ _ _ _ ([.int (nI k), .int (nI 0)].reverse ++ .ref t :: []) [] _) zk_X3_s q104 hrm (m_X3_s k 0 ht (by omega)) (by omega) (by decide) (Nat.le_of_ble_eq_true rfl) (by omega) (by omega) ?_
    refine z_toI (y := w0 (176 + 4 * k)) rfl ?_
    refine z_toI (y := nI 110) hc ?_
    refine z_istore_n (lv' := [(2, .int (nI 110)), (0, .ref t), (1, .int (nI k))]) hb dX3_writeStep_20 (by rw [hN]; decide) rfl ?_
    refine z_aload_n hb dX3_writeStep_21 rfl ?_
    refine z_iconst (x := nI 0) hb dX3_writeStep_22 (by decide) ?_
    refine z_put (k := 20) (C := RX3) (T := TX3) (N := 29) hb ho zc2 in_X3 tyX3_ok nmX3 (zf_RX3_73 _) dX3_writeStep_23 z_tw_o ht (by decide) (Or.inl rfl) rfl rfl rfl (Nat.le_of_ble_eq_true rfl) ?_
    refine z_hh z_tw_u20 ?_
    refine z_aload_n hb dX3_writeStep_26 rfl ?_
    refine z_iload_n hb dX3_writeStep_27 rfl ?_
    refine z_i2l (v := (nI k).toInt64) hb dX3_writeStep_28 rfl ?_
    refine z_call0 (b' := 0) (f' := 0) (rest := []) (av := [.ref t, .long ((nI k).toInt64)]) (z_siteV hb ho zc2 z_tw_o q3167 q3169 qs78 ⟨_, _, _, _, zk_X3_writeNumber⟩ zy_X3_writeNumber zl_X3_writeNumber dX3_writeStep_29 : z_Site M _ _ _ _ _ ([.long ((nI k).toInt64)].reverse ++ .ref t :: []) [] _) zk_X3_writeNumber q104 hrm (m_X3_writeNumber (w20 := 0) (L := 0) ((nI k).toInt64) ht (tw_chsN (by omega)) (by omega)) (by omega) (by decide) (Nat.le_of_ble_eq_true rfl) (by omega) (by omega) ?_
    refine z_aload_n hb dX3_writeStep_32 rfl ?_
    refine z_bipush (x := nI 58) hb dX3_writeStep_33 (by decide) ?_
    refine z_call0 (b' := 0) (f' := 0) (rest := []) (av := [.ref t, .int (nI 58)]) (z_siteV hb ho zc2 z_tw_o q3171 q3173 qs79 ⟨_, _, _, _, zk_X3_write⟩ zy_X3_write zl_X3_write dX3_writeStep_35 : z_Site M _ _ _ _ _ ([.int (nI 58)].reverse ++ .ref t :: []) [] _) zk_X3_write q104 hrm (m_X3_write (w20 := 0) (L := 0 + (tw_chs ((nI k).toInt64)).length) (nI 58) ht (by omega)) (by omega) (by decide) (Nat.le_of_ble_eq_true rfl) (by omega) (by omega) ?_
    refine z_iload_n hb dX3_writeStep_38 rfl ?_
    refine z_bipush (x := nI 43) hb dX3_writeStep_39 (by decide) ?_
    refine z_icmp_eqN (tgt := 50) hb dX3_writeStep_41 (by decide) (by omega) (by omega) (fun c_41 => ?_) (fun c_41 => ?_)
    · exact absurd c_41 (by omega)
    · refine z_iload_n hb dX3_writeStep_44 rfl ?_
      refine z_bipush (x := nI 45) hb dX3_writeStep_45 (by decide) ?_
      refine z_icmp_neN (tgt := 61) hb dX3_writeStep_47 (by decide) (by omega) (by omega) (fun c_47 => ?_) (fun c_47 => ?_)
      · refine z_aload_n hb dX3_writeStep_61 rfl ?_
        refine z_iload_n hb dX3_writeStep_62 rfl ?_
        refine z_call0 (b' := 0) (f' := 0) (rest := []) (av := [.ref t, .int (nI 110)]) (z_siteV hb ho zc2 z_tw_o q3171 q3173 qs79 ⟨_, _, _, _, zk_X3_write⟩ zy_X3_write zl_X3_write dX3_writeStep_63 : z_Site M _ _ _ _ _ ([.int (nI 110)].reverse ++ .ref t :: []) [] _) zk_X3_write q104 hrm (m_X3_write (w20 := 0) (L := 0 + (tw_chs ((nI k).toInt64)).length + 1) (nI 110) ht (by omega)) (by omega) (by decide) (Nat.le_of_ble_eq_true rfl) (by omega) (by omega) ?_
        refine z_iload_n hb dX3_writeStep_66 rfl ?_
        refine z_bipush (x := nI 43) hb dX3_writeStep_67 (by decide) ?_
        refine z_icmp_eqN (tgt := 78) hb dX3_writeStep_69 (by decide) (by omega) (by omega) (fun c_69 => ?_) (fun c_69 => ?_)
        · exact absurd c_69 (by omega)
        · refine z_iload_n hb dX3_writeStep_72 rfl ?_
          refine z_bipush (x := nI 45) hb dX3_writeStep_73 (by decide) ?_
          refine z_icmp_neN (tgt := 89) hb dX3_writeStep_75 (by decide) (by omega) (by omega) (fun c_75 => ?_) (fun c_75 => ?_)
          · refine z_iload_n hb dX3_writeStep_89 rfl ?_
            refine z_bipush (x := nI 114) hb dX3_writeStep_90 (by decide) ?_
            refine z_icmp_eqN (tgt := 101) hb dX3_writeStep_92 (by decide) (by omega) (by omega) (fun c_92 => ?_) (fun c_92 => ?_)
            · exact absurd c_92 (by omega)
            · refine z_iload_n hb dX3_writeStep_95 rfl ?_
              refine z_bipush (x := nI 107) hb dX3_writeStep_96 (by decide) ?_
              refine z_icmp_neN (tgt := 112) hb dX3_writeStep_98 (by decide) (by omega) (by omega) (fun c_98 => ?_) (fun c_98 => ?_)
              · refine z_iload_n hb dX3_writeStep_112 rfl ?_
                refine z_bipush (x := nI 107) hb dX3_writeStep_113 (by decide) ?_
                refine z_icmp_neN (tgt := 124) hb dX3_writeStep_115 (by decide) (by omega) (by omega) (fun c_115 => ?_) (fun c_115 => ?_)
                · refine z_iload_n hb dX3_writeStep_124 rfl ?_
                  refine z_bipush (x := nI 107) hb dX3_writeStep_125 (by decide) ?_
                  refine z_icmp_eqN (tgt := 138) hb dX3_writeStep_127 (by decide) (by omega) (by omega) (fun c_127 => ?_) (fun c_127 => ?_)
                  · exact absurd c_127 (by omega)
                  · refine z_aload_n hb dX3_writeStep_130 rfl ?_
                    refine z_iload_n hb dX3_writeStep_131 rfl ?_
                    refine z_call1 (b' := 0) (f' := 0) (rest := []) (av := [.ref t, .int (nI k)]) (z_siteV hb ho zc2 z_tw_o q2843 q2845 qs39 ⟨_, _, _, _, zk_X3_isBase⟩ zy_X3_isBase zl_X3_isBase dX3_writeStep_132 : z_Site M _ _ _ _ _ ([.int (nI k)].reverse ++ .ref t :: []) [] _) zk_X3_isBase q104 hrm (m_X3_isBase k ht (by omega)) (by omega) (by decide) (Nat.le_of_ble_eq_true rfl) (by omega) (by omega) ?_
                    refine z_ifb_eq (tgt := 149) hb dX3_writeStep_135 (by decide) (fun c_135 => ?_) (fun c_135 => ?_)
                    · rw [hbs] at c_135; exact absurd c_135 (by decide)
                    · refine z_aload_n hb dX3_writeStep_138 rfl ?_
                      refine z_aload_n hb dX3_writeStep_139 rfl ?_
                      refine z_iload_n hb dX3_writeStep_140 rfl ?_
                      refine z_iconst (x := nI 1) hb dX3_writeStep_141 (by decide) ?_
                      refine z_call1 (b' := 0) (f' := 0) (rest := [.ref t]) (av := [.ref t, .int (nI k), .int (nI 1)]) (z_siteV hb ho zc2 z_tw_o q2847 q2849 qs40 ⟨_, _, _, _, zk_X3_s⟩ zy_X3_s zl_X3_s dX3_writeStep_142 : z_Site M _ _ _ _ _ ([.int (nI k), .int (nI 1)].reverse ++ .ref t :: [.ref t]) [.ref t] _) zk_X3_s q104 hrm (m_X3_s k 1 ht (by omega)) (by omega) (by decide) (Nat.le_of_ble_eq_true rfl) (by omega) (by omega) ?_
                      refine z_toI (y := nI b) hbd ?_
                      refine z_i2l (v := (nI b).toInt64) hb dX3_writeStep_145 rfl ?_
                      refine z_call0 (b' := 0) (f' := 0) (rest := []) (av := [.ref t, .long ((nI b).toInt64)]) (z_siteV hb ho zc2 z_tw_o q3167 q3169 qs78 ⟨_, _, _, _, zk_X3_writeNumber⟩ zy_X3_writeNumber zl_X3_writeNumber dX3_writeStep_146 : z_Site M _ _ _ _ _ ([.long ((nI b).toInt64)].reverse ++ .ref t :: []) [] _) zk_X3_writeNumber q104 hrm (m_X3_writeNumber (w20 := 0) (L := 0 + (tw_chs ((nI k).toInt64)).length + 2) ((nI b).toInt64) ht (tw_chsN (by omega)) (by omega)) (by omega) (by decide) (Nat.le_of_ble_eq_true rfl) (by omega) (by omega) ?_
                      refine z_aload_n hb dX3_writeStep_149 rfl ?_
                      refine z_get (k := 20) (C := RX3) (T := TX3) (N := 29) hb ho zc2 in_X3 (zf_RX3_73 _) dX3_writeStep_150 z_tw_o (by decide) rfl ?_
                      refine z_iret hb hr dX3_writeStep_153 ?_
                      rw [hQ]
                      simp only [hx, tw_wl_append, tw_wl, List.length_append, List.length_cons, Nat.zero_add, ← Nat.add_assoc, List.length_nil]
                      try simp only [Nat.add_right_comm _ _ 1, ← Nat.add_assoc]
                      exact ⟨rfl, rfl, rfl⟩
                · exact absurd c_115 (by omega)
              · exact absurd c_98 (by omega)
          · exact absurd c_75 (by omega)
      · exact absurd c_47 (by omega)
  · rw [hx] at c_9; exact absurd c_9 (by decide)

set_option maxHeartbeats 1000000 in
theorem m_X3_writeStep_x {l : Launch} {G : zG} {h : zH} {n : Nat} {t : Nat} {w0 : Nat → Int32} {w1 : Nat → Int32} {w2 : Nat → Int32} {w3 : Nat → Int32} {w4 : Nat → Int32} {w5 : Nat → Int64} {w6 : Nat → Int64} {w7 : Nat → Int64} {w8 : Nat → Int64} {w9 : Nat → Int64} {w10 : Nat → Int64} {w11 : Nat → Int64} {w12 : Int32} {w13 : Int32} {w14 : Int32} {w15 : Int32} {w16 : Int32} {w17 : Int32} {w18 : Bool} {w19 : Nat → Int32} {w20 : Int32} {w21 : Nat → Int32} {w22 : Nat → Int32} {w23 : Nat → Int32} {w24 : Int32} {w25 : Int32} {w26 : Int32} {w27 : Int32} {w28 : Bool} {R S D : Nat} {k b : Nat}  (ht : z_n0 G ≤ t) (hw : z_ok w0 R S D) (hkS : k < S) (hc : w0 (176 + 4 * k) = nI 120) (hbd : w0 (176 + 4 * k + 1) = nI b) (hb99 : b ≤ 99) : z_C l G yX3_writeStep 3 0 0 [.ref t, .int (nI k)] (z_tw G t w0 w1 w2 w3 w4 w5 w6 w7 w8 w9 w10 w11 w12 w13 w14 w15 w16 w17 w18 w19 w20 w21 w22 w23 w24 w25 w26 w27 w28 h) n (z_rv (.int (nI (((tw_chs (nI k).toInt64) ++ (nI 58 :: (nI 120 :: tw_chs (nI b).toInt64))).length))) (z_tw G t w0 w1 w2 w3 w4 w5 w6 w7 w8 w9 w10 w11 (nI 0) w13 w14 w15 w16 w17 w18 (tw_wl w19 0 ((tw_chs (nI k).toInt64) ++ (nI 58 :: (nI 120 :: tw_chs (nI b).toInt64)))) (nI (((tw_chs (nI k).toInt64) ++ (nI 58 :: (nI 120 :: tw_chs (nI b).toInt64))).length)) w21 w22 w23 w24 w25 w26 w27 w28 h) n) := by
  refine z_start zk_X3_writeStep zpl_RX3 (Nat.le_of_ble_eq_true rfl) ?_
  intro hn0 M hl hG ho hb hN hr hm hH hrm hQ
  subst hl hG
  have ho : zm_o M = RX3 := ho
  obtain ⟨hR, hR4, hS, hS8, hD, hD6, hF⟩ := id hw
  have hx := z_inR hkS (by omega)
  obtain ⟨hF1, hF2, hF3, hF4⟩ := hF k hkS
  have l1 := tw_chsN_len (k := k) (by omega)
  have l2 := tw_chsN_len (k := tw_f w0 k) (by omega)
  have l3 := tw_chsN_len (k := tw_s w0 k) (by omega)
  have l4 := tw_chsN_len (k := b) (by omega)
  have hbs : tw_base w0 k = true := by simp only [tw_base, hc]; decide
  show z_V M (z_tw (zm_G M) t w0 w1 w2 w3 w4 w5 w6 w7 w8 w9 w10 w11 w12 w13 w14 w15 w16 w17 w18 w19 w20 w21 w22 w23 w24 w25 w26 w27 w28 h) n 0 0 0 [(0, .ref t), (1, .int (nI k))] []
  refine z_aload_n hb dX3_writeStep_0 rfl ?_
  refine z_aload_n hb dX3_writeStep_1 rfl ?_
  refine z_iload_n hb dX3_writeStep_2 rfl ?_
  refine z_call1 (b' := 0) (f' := 0) (rest := [.ref t]) (av := [.ref t, .int (nI k)]) (z_siteV hb ho zc2 z_tw_o q2927 q2929 qs56 ⟨_, _, _, _, zk_X3_isStep⟩ zy_X3_isStep zl_X3_isStep dX3_writeStep_3 : z_Site M _ _ _ _ _ ([.int (nI k)].reverse ++ .ref t :: [.ref t]) [.ref t] _) zk_X3_isStep q104 hrm (m_X3_isStep (nI k) ht hw) (by omega) (by decide) (Nat.le_of_ble_eq_true rfl) (by omega) (by omega) ?_
  refine z_call1 (b' := 0) (f' := 0) (rest := []) (av := [.ref t, .int (z_b (decide (nI 0 ≤ (nI k) ∧ (nI k) ≤ nI S - nI 1)))]) (z_siteV hb ho zc2 z_tw_o q2995 q2997 qs66 ⟨_, _, _, _, zk_X3_checked⟩ zy_X3_checked zl_X3_checked dX3_writeStep_6 : z_Site M _ _ _ _ _ ([.int (z_b (decide (nI 0 ≤ (nI k) ∧ (nI k) ≤ nI S - nI 1)))].reverse ++ .ref t :: []) [] _) zk_X3_checked q104 hrm (m_X3_checked (decide (nI 0 ≤ (nI k) ∧ (nI k) ≤ nI S - nI 1)) ht) (by omega) (by decide) (Nat.le_of_ble_eq_true rfl) (by omega) (by omega) ?_
  refine z_ifb_le (tgt := 14) hb dX3_writeStep_9 (by decide) (fun c_9 => ?_) (fun c_9 => ?_)
  · refine z_aload_n hb dX3_writeStep_14 rfl ?_
    refine z_iload_n hb dX3_writeStep_15 rfl ?_
    refine z_iconst (x := nI 0) hb dX3_writeStep_16 (by decide) ?_
    refine z_call1 (b' := 0) (f' := 0) (rest := []) (av := [.ref t, .int (nI k), .int (nI 0)]) (z_siteV hb ho zc2 z_tw_o q2847 q2849 qs40 ⟨_, _, _, _, zk_X3_s⟩ zy_X3_s zl_X3_s dX3_writeStep_17 : z_Site M _ _ _ _ _ ([.int (nI k), .int (nI 0)].reverse ++ .ref t :: []) [] _) zk_X3_s q104 hrm (m_X3_s k 0 ht (by omega)) (by omega) (by decide) (Nat.le_of_ble_eq_true rfl) (by omega) (by omega) ?_
    refine z_toI (y := w0 (176 + 4 * k)) rfl ?_
    refine z_toI (y := nI 120) hc ?_
    refine z_istore_n (lv' := [(2, .int (nI 120)), (0, .ref t), (1, .int (nI k))]) hb dX3_writeStep_20 (by rw [hN]; decide) rfl ?_
    refine z_aload_n hb dX3_writeStep_21 rfl ?_
    refine z_iconst (x := nI 0) hb dX3_writeStep_22 (by decide) ?_
    refine z_put (k := 20) (C := RX3) (T := TX3) (N := 29) hb ho zc2 in_X3 tyX3_ok nmX3 (zf_RX3_73 _) dX3_writeStep_23 z_tw_o ht (by decide) (Or.inl rfl) rfl rfl rfl (Nat.le_of_ble_eq_true rfl) ?_
    refine z_hh z_tw_u20 ?_
    refine z_aload_n hb dX3_writeStep_26 rfl ?_
    refine z_iload_n hb dX3_writeStep_27 rfl ?_
    refine z_i2l (v := (nI k).toInt64) hb dX3_writeStep_28 rfl ?_
    refine z_call0 (b' := 0) (f' := 0) (rest := []) (av := [.ref t, .long ((nI k).toInt64)]) (z_siteV hb ho zc2 z_tw_o q3167 q3169 qs78 ⟨_, _, _, _, zk_X3_writeNumber⟩ zy_X3_writeNumber zl_X3_writeNumber dX3_writeStep_29 : z_Site M _ _ _ _ _ ([.long ((nI k).toInt64)].reverse ++ .ref t :: []) [] _) zk_X3_writeNumber q104 hrm (m_X3_writeNumber (w20 := 0) (L := 0) ((nI k).toInt64) ht (tw_chsN (by omega)) (by omega)) (by omega) (by decide) (Nat.le_of_ble_eq_true rfl) (by omega) (by omega) ?_
    refine z_aload_n hb dX3_writeStep_32 rfl ?_
    refine z_bipush (x := nI 58) hb dX3_writeStep_33 (by decide) ?_
    refine z_call0 (b' := 0) (f' := 0) (rest := []) (av := [.ref t, .int (nI 58)]) (z_siteV hb ho zc2 z_tw_o q3171 q3173 qs79 ⟨_, _, _, _, zk_X3_write⟩ zy_X3_write zl_X3_write dX3_writeStep_35 : z_Site M _ _ _ _ _ ([.int (nI 58)].reverse ++ .ref t :: []) [] _) zk_X3_write q104 hrm (m_X3_write (w20 := 0) (L := 0 + (tw_chs ((nI k).toInt64)).length) (nI 58) ht (by omega)) (by omega) (by decide) (Nat.le_of_ble_eq_true rfl) (by omega) (by omega) ?_
    refine z_iload_n hb dX3_writeStep_38 rfl ?_
    refine z_bipush (x := nI 43) hb dX3_writeStep_39 (by decide) ?_
    refine z_icmp_eqN (tgt := 50) hb dX3_writeStep_41 (by decide) (by omega) (by omega) (fun c_41 => ?_) (fun c_41 => ?_)
    · exact absurd c_41 (by omega)
    · refine z_iload_n hb dX3_writeStep_44 rfl ?_
      refine z_bipush (x := nI 45) hb dX3_writeStep_45 (by decide) ?_
      refine z_icmp_neN (tgt := 61) hb dX3_writeStep_47 (by decide) (by omega) (by omega) (fun c_47 => ?_) (fun c_47 => ?_)
      · refine z_aload_n hb dX3_writeStep_61 rfl ?_
        refine z_iload_n hb dX3_writeStep_62 rfl ?_
        refine z_call0 (b' := 0) (f' := 0) (rest := []) (av := [.ref t, .int (nI 120)]) (z_siteV hb ho zc2 z_tw_o q3171 q3173 qs79 ⟨_, _, _, _, zk_X3_write⟩ zy_X3_write zl_X3_write dX3_writeStep_63 : z_Site M _ _ _ _ _ ([.int (nI 120)].reverse ++ .ref t :: []) [] _) zk_X3_write q104 hrm (m_X3_write (w20 := 0) (L := 0 + (tw_chs ((nI k).toInt64)).length + 1) (nI 120) ht (by omega)) (by omega) (by decide) (Nat.le_of_ble_eq_true rfl) (by omega) (by omega) ?_
        refine z_iload_n hb dX3_writeStep_66 rfl ?_
        refine z_bipush (x := nI 43) hb dX3_writeStep_67 (by decide) ?_
        refine z_icmp_eqN (tgt := 78) hb dX3_writeStep_69 (by decide) (by omega) (by omega) (fun c_69 => ?_) (fun c_69 => ?_)
        · exact absurd c_69 (by omega)
        · refine z_iload_n hb dX3_writeStep_72 rfl ?_
          refine z_bipush (x := nI 45) hb dX3_writeStep_73 (by decide) ?_
          refine z_icmp_neN (tgt := 89) hb dX3_writeStep_75 (by decide) (by omega) (by omega) (fun c_75 => ?_) (fun c_75 => ?_)
          · refine z_iload_n hb dX3_writeStep_89 rfl ?_
            refine z_bipush (x := nI 114) hb dX3_writeStep_90 (by decide) ?_
            refine z_icmp_eqN (tgt := 101) hb dX3_writeStep_92 (by decide) (by omega) (by omega) (fun c_92 => ?_) (fun c_92 => ?_)
            · exact absurd c_92 (by omega)
            · refine z_iload_n hb dX3_writeStep_95 rfl ?_
              refine z_bipush (x := nI 107) hb dX3_writeStep_96 (by decide) ?_
              refine z_icmp_neN (tgt := 112) hb dX3_writeStep_98 (by decide) (by omega) (by omega) (fun c_98 => ?_) (fun c_98 => ?_)
              · refine z_iload_n hb dX3_writeStep_112 rfl ?_
                refine z_bipush (x := nI 107) hb dX3_writeStep_113 (by decide) ?_
                refine z_icmp_neN (tgt := 124) hb dX3_writeStep_115 (by decide) (by omega) (by omega) (fun c_115 => ?_) (fun c_115 => ?_)
                · refine z_iload_n hb dX3_writeStep_124 rfl ?_
                  refine z_bipush (x := nI 107) hb dX3_writeStep_125 (by decide) ?_
                  refine z_icmp_eqN (tgt := 138) hb dX3_writeStep_127 (by decide) (by omega) (by omega) (fun c_127 => ?_) (fun c_127 => ?_)
                  · exact absurd c_127 (by omega)
                  · refine z_aload_n hb dX3_writeStep_130 rfl ?_
                    refine z_iload_n hb dX3_writeStep_131 rfl ?_
                    refine z_call1 (b' := 0) (f' := 0) (rest := []) (av := [.ref t, .int (nI k)]) (z_siteV hb ho zc2 z_tw_o q2843 q2845 qs39 ⟨_, _, _, _, zk_X3_isBase⟩ zy_X3_isBase zl_X3_isBase dX3_writeStep_132 : z_Site M _ _ _ _ _ ([.int (nI k)].reverse ++ .ref t :: []) [] _) zk_X3_isBase q104 hrm (m_X3_isBase k ht (by omega)) (by omega) (by decide) (Nat.le_of_ble_eq_true rfl) (by omega) (by omega) ?_
                    refine z_ifb_eq (tgt := 149) hb dX3_writeStep_135 (by decide) (fun c_135 => ?_) (fun c_135 => ?_)
                    · rw [hbs] at c_135; exact absurd c_135 (by decide)
                    · refine z_aload_n hb dX3_writeStep_138 rfl ?_
                      refine z_aload_n hb dX3_writeStep_139 rfl ?_
                      refine z_iload_n hb dX3_writeStep_140 rfl ?_
                      refine z_iconst (x := nI 1) hb dX3_writeStep_141 (by decide) ?_
                      refine z_call1 (b' := 0) (f' := 0) (rest := [.ref t]) (av := [.ref t, .int (nI k), .int (nI 1)]) (z_siteV hb ho zc2 z_tw_o q2847 q2849 qs40 ⟨_, _, _, _, zk_X3_s⟩ zy_X3_s zl_X3_s dX3_writeStep_142 : z_Site M _ _ _ _ _ ([.int (nI k), .int (nI 1)].reverse ++ .ref t :: [.ref t]) [.ref t] _) zk_X3_s q104 hrm (m_X3_s k 1 ht (by omega)) (by omega) (by decide) (Nat.le_of_ble_eq_true rfl) (by omega) (by omega) ?_
                      refine z_toI (y := nI b) hbd ?_
                      refine z_i2l (v := (nI b).toInt64) hb dX3_writeStep_145 rfl ?_
                      refine z_call0 (b' := 0) (f' := 0) (rest := []) (av := [.ref t, .long ((nI b).toInt64)]) (z_siteV hb ho zc2 z_tw_o q3167 q3169 qs78 ⟨_, _, _, _, zk_X3_writeNumber⟩ zy_X3_writeNumber zl_X3_writeNumber dX3_writeStep_146 : z_Site M _ _ _ _ _ ([.long ((nI b).toInt64)].reverse ++ .ref t :: []) [] _) zk_X3_writeNumber q104 hrm (m_X3_writeNumber (w20 := 0) (L := 0 + (tw_chs ((nI k).toInt64)).length + 2) ((nI b).toInt64) ht (tw_chsN (by omega)) (by omega)) (by omega) (by decide) (Nat.le_of_ble_eq_true rfl) (by omega) (by omega) ?_
                      refine z_aload_n hb dX3_writeStep_149 rfl ?_
                      refine z_get (k := 20) (C := RX3) (T := TX3) (N := 29) hb ho zc2 in_X3 (zf_RX3_73 _) dX3_writeStep_150 z_tw_o (by decide) rfl ?_
                      refine z_iret hb hr dX3_writeStep_153 ?_
                      rw [hQ]
                      simp only [hx, tw_wl_append, tw_wl, List.length_append, List.length_cons, Nat.zero_add, ← Nat.add_assoc, List.length_nil]
                      try simp only [Nat.add_right_comm _ _ 1, ← Nat.add_assoc]
                      exact ⟨rfl, rfl, rfl⟩
                · exact absurd c_115 (by omega)
              · exact absurd c_98 (by omega)
          · exact absurd c_75 (by omega)
      · exact absurd c_47 (by omega)
  · rw [hx] at c_9; exact absurd c_9 (by decide)

set_option maxHeartbeats 1000000 in
theorem m_X3_writeStep_p {l : Launch} {G : zG} {h : zH} {n : Nat} {t : Nat} {w0 : Nat → Int32} {w1 : Nat → Int32} {w2 : Nat → Int32} {w3 : Nat → Int32} {w4 : Nat → Int32} {w5 : Nat → Int64} {w6 : Nat → Int64} {w7 : Nat → Int64} {w8 : Nat → Int64} {w9 : Nat → Int64} {w10 : Nat → Int64} {w11 : Nat → Int64} {w12 : Int32} {w13 : Int32} {w14 : Int32} {w15 : Int32} {w16 : Int32} {w17 : Int32} {w18 : Bool} {w19 : Nat → Int32} {w20 : Int32} {w21 : Nat → Int32} {w22 : Nat → Int32} {w23 : Nat → Int32} {w24 : Int32} {w25 : Int32} {w26 : Int32} {w27 : Int32} {w28 : Bool} {R S D : Nat} {k b : Nat}  (ht : z_n0 G ≤ t) (hw : z_ok w0 R S D) (hkS : k < S) (hc : w0 (176 + 4 * k) = nI 43) (hbd : w0 (176 + 4 * k + 1) = nI b) (hb99 : b ≤ 99) : z_C l G yX3_writeStep 3 0 0 [.ref t, .int (nI k)] (z_tw G t w0 w1 w2 w3 w4 w5 w6 w7 w8 w9 w10 w11 w12 w13 w14 w15 w16 w17 w18 w19 w20 w21 w22 w23 w24 w25 w26 w27 w28 h) n (z_rv (.int (nI (((tw_chs (nI k).toInt64) ++ (nI 58 :: ((tw_chs (nI (tw_f w0 k)).toInt64) ++ (nI 43 :: tw_chs (nI (tw_s w0 k)).toInt64)))).length))) (z_tw G t w0 w1 w2 w3 w4 w5 w6 w7 w8 w9 w10 w11 (nI 0) w13 w14 w15 w16 w17 w18 (tw_wl w19 0 ((tw_chs (nI k).toInt64) ++ (nI 58 :: ((tw_chs (nI (tw_f w0 k)).toInt64) ++ (nI 43 :: tw_chs (nI (tw_s w0 k)).toInt64))))) (nI (((tw_chs (nI k).toInt64) ++ (nI 58 :: ((tw_chs (nI (tw_f w0 k)).toInt64) ++ (nI 43 :: tw_chs (nI (tw_s w0 k)).toInt64)))).length)) w21 w22 w23 w24 w25 w26 w27 w28 h) n) := by
  refine z_start zk_X3_writeStep zpl_RX3 (Nat.le_of_ble_eq_true rfl) ?_
  intro hn0 M hl hG ho hb hN hr hm hH hrm hQ
  subst hl hG
  have ho : zm_o M = RX3 := ho
  obtain ⟨hR, hR4, hS, hS8, hD, hD6, hF⟩ := id hw
  have hx := z_inR hkS (by omega)
  obtain ⟨hF1, hF2, hF3, hF4⟩ := hF k hkS
  have l1 := tw_chsN_len (k := k) (by omega)
  have l2 := tw_chsN_len (k := tw_f w0 k) (by omega)
  have l3 := tw_chsN_len (k := tw_s w0 k) (by omega)
  have l4 := tw_chsN_len (k := b) (by omega)
  have hbs : tw_base w0 k = false := by simp only [tw_base, hc]; decide
  show z_V M (z_tw (zm_G M) t w0 w1 w2 w3 w4 w5 w6 w7 w8 w9 w10 w11 w12 w13 w14 w15 w16 w17 w18 w19 w20 w21 w22 w23 w24 w25 w26 w27 w28 h) n 0 0 0 [(0, .ref t), (1, .int (nI k))] []
  refine z_aload_n hb dX3_writeStep_0 rfl ?_
  refine z_aload_n hb dX3_writeStep_1 rfl ?_
  refine z_iload_n hb dX3_writeStep_2 rfl ?_
  refine z_call1 (b' := 0) (f' := 0) (rest := [.ref t]) (av := [.ref t, .int (nI k)]) (z_siteV hb ho zc2 z_tw_o q2927 q2929 qs56 ⟨_, _, _, _, zk_X3_isStep⟩ zy_X3_isStep zl_X3_isStep dX3_writeStep_3 : z_Site M _ _ _ _ _ ([.int (nI k)].reverse ++ .ref t :: [.ref t]) [.ref t] _) zk_X3_isStep q104 hrm (m_X3_isStep (nI k) ht hw) (by omega) (by decide) (Nat.le_of_ble_eq_true rfl) (by omega) (by omega) ?_
  refine z_call1 (b' := 0) (f' := 0) (rest := []) (av := [.ref t, .int (z_b (decide (nI 0 ≤ (nI k) ∧ (nI k) ≤ nI S - nI 1)))]) (z_siteV hb ho zc2 z_tw_o q2995 q2997 qs66 ⟨_, _, _, _, zk_X3_checked⟩ zy_X3_checked zl_X3_checked dX3_writeStep_6 : z_Site M _ _ _ _ _ ([.int (z_b (decide (nI 0 ≤ (nI k) ∧ (nI k) ≤ nI S - nI 1)))].reverse ++ .ref t :: []) [] _) zk_X3_checked q104 hrm (m_X3_checked (decide (nI 0 ≤ (nI k) ∧ (nI k) ≤ nI S - nI 1)) ht) (by omega) (by decide) (Nat.le_of_ble_eq_true rfl) (by omega) (by omega) ?_
  refine z_ifb_le (tgt := 14) hb dX3_writeStep_9 (by decide) (fun c_9 => ?_) (fun c_9 => ?_)
  · refine z_aload_n hb dX3_writeStep_14 rfl ?_
    refine z_iload_n hb dX3_writeStep_15 rfl ?_
    refine z_iconst (x := nI 0) hb dX3_writeStep_16 (by decide) ?_
    refine z_call1 (b' := 0) (f' := 0) (rest := []) (av := [.ref t, .int (nI k), .int (nI 0)]) (z_siteV hb ho zc2 z_tw_o q2847 q2849 qs40 ⟨_, _, _, _, zk_X3_s⟩ zy_X3_s zl_X3_s dX3_writeStep_17 : z_Site M _ _ _ _ _ ([.int (nI k), .int (nI 0)].reverse ++ .ref t :: []) [] _) zk_X3_s q104 hrm (m_X3_s k 0 ht (by omega)) (by omega) (by decide) (Nat.le_of_ble_eq_true rfl) (by omega) (by omega) ?_
    refine z_toI (y := w0 (176 + 4 * k)) rfl ?_
    refine z_toI (y := nI 43) hc ?_
    refine z_istore_n (lv' := [(2, .int (nI 43)), (0, .ref t), (1, .int (nI k))]) hb dX3_writeStep_20 (by rw [hN]; decide) rfl ?_
    refine z_aload_n hb dX3_writeStep_21 rfl ?_
    refine z_iconst (x := nI 0) hb dX3_writeStep_22 (by decide) ?_
    refine z_put (k := 20) (C := RX3) (T := TX3) (N := 29) hb ho zc2 in_X3 tyX3_ok nmX3 (zf_RX3_73 _) dX3_writeStep_23 z_tw_o ht (by decide) (Or.inl rfl) rfl rfl rfl (Nat.le_of_ble_eq_true rfl) ?_
    refine z_hh z_tw_u20 ?_
    refine z_aload_n hb dX3_writeStep_26 rfl ?_
    refine z_iload_n hb dX3_writeStep_27 rfl ?_
    refine z_i2l (v := (nI k).toInt64) hb dX3_writeStep_28 rfl ?_
    refine z_call0 (b' := 0) (f' := 0) (rest := []) (av := [.ref t, .long ((nI k).toInt64)]) (z_siteV hb ho zc2 z_tw_o q3167 q3169 qs78 ⟨_, _, _, _, zk_X3_writeNumber⟩ zy_X3_writeNumber zl_X3_writeNumber dX3_writeStep_29 : z_Site M _ _ _ _ _ ([.long ((nI k).toInt64)].reverse ++ .ref t :: []) [] _) zk_X3_writeNumber q104 hrm (m_X3_writeNumber (w20 := 0) (L := 0) ((nI k).toInt64) ht (tw_chsN (by omega)) (by omega)) (by omega) (by decide) (Nat.le_of_ble_eq_true rfl) (by omega) (by omega) ?_
    refine z_aload_n hb dX3_writeStep_32 rfl ?_
    refine z_bipush (x := nI 58) hb dX3_writeStep_33 (by decide) ?_
    refine z_call0 (b' := 0) (f' := 0) (rest := []) (av := [.ref t, .int (nI 58)]) (z_siteV hb ho zc2 z_tw_o q3171 q3173 qs79 ⟨_, _, _, _, zk_X3_write⟩ zy_X3_write zl_X3_write dX3_writeStep_35 : z_Site M _ _ _ _ _ ([.int (nI 58)].reverse ++ .ref t :: []) [] _) zk_X3_write q104 hrm (m_X3_write (w20 := 0) (L := 0 + (tw_chs ((nI k).toInt64)).length) (nI 58) ht (by omega)) (by omega) (by decide) (Nat.le_of_ble_eq_true rfl) (by omega) (by omega) ?_
    refine z_iload_n hb dX3_writeStep_38 rfl ?_
    refine z_bipush (x := nI 43) hb dX3_writeStep_39 (by decide) ?_
    refine z_icmp_eqN (tgt := 50) hb dX3_writeStep_41 (by decide) (by omega) (by omega) (fun c_41 => ?_) (fun c_41 => ?_)
    · refine z_aload_n hb dX3_writeStep_50 rfl ?_
      refine z_aload_n hb dX3_writeStep_51 rfl ?_
      refine z_iload_n hb dX3_writeStep_52 rfl ?_
      refine z_iconst (x := nI 2) hb dX3_writeStep_53 (by decide) ?_
      refine z_call1 (b' := 0) (f' := 0) (rest := [.ref t]) (av := [.ref t, .int (nI k), .int (nI 2)]) (z_siteV hb ho zc2 z_tw_o q2847 q2849 qs40 ⟨_, _, _, _, zk_X3_s⟩ zy_X3_s zl_X3_s dX3_writeStep_54 : z_Site M _ _ _ _ _ ([.int (nI k), .int (nI 2)].reverse ++ .ref t :: [.ref t]) [.ref t] _) zk_X3_s q104 hrm (m_X3_s k 2 ht (by omega)) (by omega) (by decide) (Nat.le_of_ble_eq_true rfl) (by omega) (by omega) ?_
      refine z_toI (y := nI (tw_f w0 k)) (hF k (by omega)).1 ?_
      refine z_i2l (v := (nI (tw_f w0 k)).toInt64) hb dX3_writeStep_57 rfl ?_
      refine z_call0 (b' := 0) (f' := 0) (rest := []) (av := [.ref t, .long ((nI (tw_f w0 k)).toInt64)]) (z_siteV hb ho zc2 z_tw_o q3167 q3169 qs78 ⟨_, _, _, _, zk_X3_writeNumber⟩ zy_X3_writeNumber zl_X3_writeNumber dX3_writeStep_58 : z_Site M _ _ _ _ _ ([.long ((nI (tw_f w0 k)).toInt64)].reverse ++ .ref t :: []) [] _) zk_X3_writeNumber q104 hrm (m_X3_writeNumber (w20 := 0) (L := 0 + (tw_chs ((nI k).toInt64)).length + 1) ((nI (tw_f w0 k)).toInt64) ht (tw_chsN (by omega)) (by omega)) (by omega) (by decide) (Nat.le_of_ble_eq_true rfl) (by omega) (by omega) ?_
      refine z_aload_n hb dX3_writeStep_61 rfl ?_
      refine z_iload_n hb dX3_writeStep_62 rfl ?_
      refine z_call0 (b' := 0) (f' := 0) (rest := []) (av := [.ref t, .int (nI 43)]) (z_siteV hb ho zc2 z_tw_o q3171 q3173 qs79 ⟨_, _, _, _, zk_X3_write⟩ zy_X3_write zl_X3_write dX3_writeStep_63 : z_Site M _ _ _ _ _ ([.int (nI 43)].reverse ++ .ref t :: []) [] _) zk_X3_write q104 hrm (m_X3_write (w20 := 0) (L := 0 + (tw_chs ((nI k).toInt64)).length + 1 + (tw_chs ((nI (tw_f w0 k)).toInt64)).length) (nI 43) ht (by omega)) (by omega) (by decide) (Nat.le_of_ble_eq_true rfl) (by omega) (by omega) ?_
      refine z_iload_n hb dX3_writeStep_66 rfl ?_
      refine z_bipush (x := nI 43) hb dX3_writeStep_67 (by decide) ?_
      refine z_icmp_eqN (tgt := 78) hb dX3_writeStep_69 (by decide) (by omega) (by omega) (fun c_69 => ?_) (fun c_69 => ?_)
      · refine z_aload_n hb dX3_writeStep_78 rfl ?_
        refine z_aload_n hb dX3_writeStep_79 rfl ?_
        refine z_iload_n hb dX3_writeStep_80 rfl ?_
        refine z_iconst (x := nI 3) hb dX3_writeStep_81 (by decide) ?_
        refine z_call1 (b' := 0) (f' := 0) (rest := [.ref t]) (av := [.ref t, .int (nI k), .int (nI 3)]) (z_siteV hb ho zc2 z_tw_o q2847 q2849 qs40 ⟨_, _, _, _, zk_X3_s⟩ zy_X3_s zl_X3_s dX3_writeStep_82 : z_Site M _ _ _ _ _ ([.int (nI k), .int (nI 3)].reverse ++ .ref t :: [.ref t]) [.ref t] _) zk_X3_s q104 hrm (m_X3_s k 3 ht (by omega)) (by omega) (by decide) (Nat.le_of_ble_eq_true rfl) (by omega) (by omega) ?_
        refine z_toI (y := nI (tw_s w0 k)) (hF k (by omega)).2.2.1 ?_
        refine z_i2l (v := (nI (tw_s w0 k)).toInt64) hb dX3_writeStep_85 rfl ?_
        refine z_call0 (b' := 0) (f' := 0) (rest := []) (av := [.ref t, .long ((nI (tw_s w0 k)).toInt64)]) (z_siteV hb ho zc2 z_tw_o q3167 q3169 qs78 ⟨_, _, _, _, zk_X3_writeNumber⟩ zy_X3_writeNumber zl_X3_writeNumber dX3_writeStep_86 : z_Site M _ _ _ _ _ ([.long ((nI (tw_s w0 k)).toInt64)].reverse ++ .ref t :: []) [] _) zk_X3_writeNumber q104 hrm (m_X3_writeNumber (w20 := 0) (L := 0 + (tw_chs ((nI k).toInt64)).length + 1 + (tw_chs ((nI (tw_f w0 k)).toInt64)).length + 1) ((nI (tw_s w0 k)).toInt64) ht (tw_chsN (by omega)) (by omega)) (by omega) (by decide) (Nat.le_of_ble_eq_true rfl) (by omega) (by omega) ?_
        refine z_iload_n hb dX3_writeStep_89 rfl ?_
        refine z_bipush (x := nI 114) hb dX3_writeStep_90 (by decide) ?_
        refine z_icmp_eqN (tgt := 101) hb dX3_writeStep_92 (by decide) (by omega) (by omega) (fun c_92 => ?_) (fun c_92 => ?_)
        · exact absurd c_92 (by omega)
        · refine z_iload_n hb dX3_writeStep_95 rfl ?_
          refine z_bipush (x := nI 107) hb dX3_writeStep_96 (by decide) ?_
          refine z_icmp_neN (tgt := 112) hb dX3_writeStep_98 (by decide) (by omega) (by omega) (fun c_98 => ?_) (fun c_98 => ?_)
          · refine z_iload_n hb dX3_writeStep_112 rfl ?_
            refine z_bipush (x := nI 107) hb dX3_writeStep_113 (by decide) ?_
            refine z_icmp_neN (tgt := 124) hb dX3_writeStep_115 (by decide) (by omega) (by omega) (fun c_115 => ?_) (fun c_115 => ?_)
            · refine z_iload_n hb dX3_writeStep_124 rfl ?_
              refine z_bipush (x := nI 107) hb dX3_writeStep_125 (by decide) ?_
              refine z_icmp_eqN (tgt := 138) hb dX3_writeStep_127 (by decide) (by omega) (by omega) (fun c_127 => ?_) (fun c_127 => ?_)
              · exact absurd c_127 (by omega)
              · refine z_aload_n hb dX3_writeStep_130 rfl ?_
                refine z_iload_n hb dX3_writeStep_131 rfl ?_
                refine z_call1 (b' := 0) (f' := 0) (rest := []) (av := [.ref t, .int (nI k)]) (z_siteV hb ho zc2 z_tw_o q2843 q2845 qs39 ⟨_, _, _, _, zk_X3_isBase⟩ zy_X3_isBase zl_X3_isBase dX3_writeStep_132 : z_Site M _ _ _ _ _ ([.int (nI k)].reverse ++ .ref t :: []) [] _) zk_X3_isBase q104 hrm (m_X3_isBase k ht (by omega)) (by omega) (by decide) (Nat.le_of_ble_eq_true rfl) (by omega) (by omega) ?_
                refine z_ifb_eq (tgt := 149) hb dX3_writeStep_135 (by decide) (fun c_135 => ?_) (fun c_135 => ?_)
                · refine z_aload_n hb dX3_writeStep_149 rfl ?_
                  refine z_get (k := 20) (C := RX3) (T := TX3) (N := 29) hb ho zc2 in_X3 (zf_RX3_73 _) dX3_writeStep_150 z_tw_o (by decide) rfl ?_
                  refine z_iret hb hr dX3_writeStep_153 ?_
                  rw [hQ]
                  simp only [hx, tw_wl_append, tw_wl, List.length_append, List.length_cons, Nat.zero_add, ← Nat.add_assoc, List.length_nil]
                  try simp only [Nat.add_right_comm _ _ 1, ← Nat.add_assoc]
                  exact ⟨rfl, rfl, rfl⟩
                · rw [hbs] at c_135; exact absurd c_135 (by decide)
            · exact absurd c_115 (by omega)
          · exact absurd c_98 (by omega)
      · exact absurd c_69 (by omega)
    · exact absurd c_41 (by omega)
  · rw [hx] at c_9; exact absurd c_9 (by decide)

set_option maxHeartbeats 1000000 in
theorem m_X3_writeStep_m {l : Launch} {G : zG} {h : zH} {n : Nat} {t : Nat} {w0 : Nat → Int32} {w1 : Nat → Int32} {w2 : Nat → Int32} {w3 : Nat → Int32} {w4 : Nat → Int32} {w5 : Nat → Int64} {w6 : Nat → Int64} {w7 : Nat → Int64} {w8 : Nat → Int64} {w9 : Nat → Int64} {w10 : Nat → Int64} {w11 : Nat → Int64} {w12 : Int32} {w13 : Int32} {w14 : Int32} {w15 : Int32} {w16 : Int32} {w17 : Int32} {w18 : Bool} {w19 : Nat → Int32} {w20 : Int32} {w21 : Nat → Int32} {w22 : Nat → Int32} {w23 : Nat → Int32} {w24 : Int32} {w25 : Int32} {w26 : Int32} {w27 : Int32} {w28 : Bool} {R S D : Nat} {k b : Nat}  (ht : z_n0 G ≤ t) (hw : z_ok w0 R S D) (hkS : k < S) (hc : w0 (176 + 4 * k) = nI 45) (hbd : w0 (176 + 4 * k + 1) = nI b) (hb99 : b ≤ 99) : z_C l G yX3_writeStep 3 0 0 [.ref t, .int (nI k)] (z_tw G t w0 w1 w2 w3 w4 w5 w6 w7 w8 w9 w10 w11 w12 w13 w14 w15 w16 w17 w18 w19 w20 w21 w22 w23 w24 w25 w26 w27 w28 h) n (z_rv (.int (nI (((tw_chs (nI k).toInt64) ++ (nI 58 :: ((tw_chs (nI (tw_f w0 k)).toInt64) ++ (nI 45 :: tw_chs (nI (tw_s w0 k)).toInt64)))).length))) (z_tw G t w0 w1 w2 w3 w4 w5 w6 w7 w8 w9 w10 w11 (nI 0) w13 w14 w15 w16 w17 w18 (tw_wl w19 0 ((tw_chs (nI k).toInt64) ++ (nI 58 :: ((tw_chs (nI (tw_f w0 k)).toInt64) ++ (nI 45 :: tw_chs (nI (tw_s w0 k)).toInt64))))) (nI (((tw_chs (nI k).toInt64) ++ (nI 58 :: ((tw_chs (nI (tw_f w0 k)).toInt64) ++ (nI 45 :: tw_chs (nI (tw_s w0 k)).toInt64)))).length)) w21 w22 w23 w24 w25 w26 w27 w28 h) n) := by
  refine z_start zk_X3_writeStep zpl_RX3 (Nat.le_of_ble_eq_true rfl) ?_
  intro hn0 M hl hG ho hb hN hr hm hH hrm hQ
  subst hl hG
  have ho : zm_o M = RX3 := ho
  obtain ⟨hR, hR4, hS, hS8, hD, hD6, hF⟩ := id hw
  have hx := z_inR hkS (by omega)
  obtain ⟨hF1, hF2, hF3, hF4⟩ := hF k hkS
  have l1 := tw_chsN_len (k := k) (by omega)
  have l2 := tw_chsN_len (k := tw_f w0 k) (by omega)
  have l3 := tw_chsN_len (k := tw_s w0 k) (by omega)
  have l4 := tw_chsN_len (k := b) (by omega)
  have hbs : tw_base w0 k = false := by simp only [tw_base, hc]; decide
  show z_V M (z_tw (zm_G M) t w0 w1 w2 w3 w4 w5 w6 w7 w8 w9 w10 w11 w12 w13 w14 w15 w16 w17 w18 w19 w20 w21 w22 w23 w24 w25 w26 w27 w28 h) n 0 0 0 [(0, .ref t), (1, .int (nI k))] []
  refine z_aload_n hb dX3_writeStep_0 rfl ?_
  refine z_aload_n hb dX3_writeStep_1 rfl ?_
  refine z_iload_n hb dX3_writeStep_2 rfl ?_
  refine z_call1 (b' := 0) (f' := 0) (rest := [.ref t]) (av := [.ref t, .int (nI k)]) (z_siteV hb ho zc2 z_tw_o q2927 q2929 qs56 ⟨_, _, _, _, zk_X3_isStep⟩ zy_X3_isStep zl_X3_isStep dX3_writeStep_3 : z_Site M _ _ _ _ _ ([.int (nI k)].reverse ++ .ref t :: [.ref t]) [.ref t] _) zk_X3_isStep q104 hrm (m_X3_isStep (nI k) ht hw) (by omega) (by decide) (Nat.le_of_ble_eq_true rfl) (by omega) (by omega) ?_
  refine z_call1 (b' := 0) (f' := 0) (rest := []) (av := [.ref t, .int (z_b (decide (nI 0 ≤ (nI k) ∧ (nI k) ≤ nI S - nI 1)))]) (z_siteV hb ho zc2 z_tw_o q2995 q2997 qs66 ⟨_, _, _, _, zk_X3_checked⟩ zy_X3_checked zl_X3_checked dX3_writeStep_6 : z_Site M _ _ _ _ _ ([.int (z_b (decide (nI 0 ≤ (nI k) ∧ (nI k) ≤ nI S - nI 1)))].reverse ++ .ref t :: []) [] _) zk_X3_checked q104 hrm (m_X3_checked (decide (nI 0 ≤ (nI k) ∧ (nI k) ≤ nI S - nI 1)) ht) (by omega) (by decide) (Nat.le_of_ble_eq_true rfl) (by omega) (by omega) ?_
  refine z_ifb_le (tgt := 14) hb dX3_writeStep_9 (by decide) (fun c_9 => ?_) (fun c_9 => ?_)
  · refine z_aload_n hb dX3_writeStep_14 rfl ?_
    refine z_iload_n hb dX3_writeStep_15 rfl ?_
    refine z_iconst (x := nI 0) hb dX3_writeStep_16 (by decide) ?_
    refine z_call1 (b' := 0) (f' := 0) (rest := []) (av := [.ref t, .int (nI k), .int (nI 0)]) (z_siteV hb ho zc2 z_tw_o q2847 q2849 qs40 ⟨_, _, _, _, zk_X3_s⟩ zy_X3_s zl_X3_s dX3_writeStep_17 : z_Site M _ _ _ _ _ ([.int (nI k), .int (nI 0)].reverse ++ .ref t :: []) [] _) zk_X3_s q104 hrm (m_X3_s k 0 ht (by omega)) (by omega) (by decide) (Nat.le_of_ble_eq_true rfl) (by omega) (by omega) ?_
    refine z_toI (y := w0 (176 + 4 * k)) rfl ?_
    refine z_toI (y := nI 45) hc ?_
    refine z_istore_n (lv' := [(2, .int (nI 45)), (0, .ref t), (1, .int (nI k))]) hb dX3_writeStep_20 (by rw [hN]; decide) rfl ?_
    refine z_aload_n hb dX3_writeStep_21 rfl ?_
    refine z_iconst (x := nI 0) hb dX3_writeStep_22 (by decide) ?_
    refine z_put (k := 20) (C := RX3) (T := TX3) (N := 29) hb ho zc2 in_X3 tyX3_ok nmX3 (zf_RX3_73 _) dX3_writeStep_23 z_tw_o ht (by decide) (Or.inl rfl) rfl rfl rfl (Nat.le_of_ble_eq_true rfl) ?_
    refine z_hh z_tw_u20 ?_
    refine z_aload_n hb dX3_writeStep_26 rfl ?_
    refine z_iload_n hb dX3_writeStep_27 rfl ?_
    refine z_i2l (v := (nI k).toInt64) hb dX3_writeStep_28 rfl ?_
    refine z_call0 (b' := 0) (f' := 0) (rest := []) (av := [.ref t, .long ((nI k).toInt64)]) (z_siteV hb ho zc2 z_tw_o q3167 q3169 qs78 ⟨_, _, _, _, zk_X3_writeNumber⟩ zy_X3_writeNumber zl_X3_writeNumber dX3_writeStep_29 : z_Site M _ _ _ _ _ ([.long ((nI k).toInt64)].reverse ++ .ref t :: []) [] _) zk_X3_writeNumber q104 hrm (m_X3_writeNumber (w20 := 0) (L := 0) ((nI k).toInt64) ht (tw_chsN (by omega)) (by omega)) (by omega) (by decide) (Nat.le_of_ble_eq_true rfl) (by omega) (by omega) ?_
    refine z_aload_n hb dX3_writeStep_32 rfl ?_
    refine z_bipush (x := nI 58) hb dX3_writeStep_33 (by decide) ?_
    refine z_call0 (b' := 0) (f' := 0) (rest := []) (av := [.ref t, .int (nI 58)]) (z_siteV hb ho zc2 z_tw_o q3171 q3173 qs79 ⟨_, _, _, _, zk_X3_write⟩ zy_X3_write zl_X3_write dX3_writeStep_35 : z_Site M _ _ _ _ _ ([.int (nI 58)].reverse ++ .ref t :: []) [] _) zk_X3_write q104 hrm (m_X3_write (w20 := 0) (L := 0 + (tw_chs ((nI k).toInt64)).length) (nI 58) ht (by omega)) (by omega) (by decide) (Nat.le_of_ble_eq_true rfl) (by omega) (by omega) ?_
    refine z_iload_n hb dX3_writeStep_38 rfl ?_
    refine z_bipush (x := nI 43) hb dX3_writeStep_39 (by decide) ?_
    refine z_icmp_eqN (tgt := 50) hb dX3_writeStep_41 (by decide) (by omega) (by omega) (fun c_41 => ?_) (fun c_41 => ?_)
    · exact absurd c_41 (by omega)
    · refine z_iload_n hb dX3_writeStep_44 rfl ?_
      refine z_bipush (x := nI 45) hb dX3_writeStep_45 (by decide) ?_
      refine z_icmp_neN (tgt := 61) hb dX3_writeStep_47 (by decide) (by omega) (by omega) (fun c_47 => ?_) (fun c_47 => ?_)
      · exact absurd c_47 (by omega)
      · refine z_aload_n hb dX3_writeStep_50 rfl ?_
        refine z_aload_n hb dX3_writeStep_51 rfl ?_
        refine z_iload_n hb dX3_writeStep_52 rfl ?_
        refine z_iconst (x := nI 2) hb dX3_writeStep_53 (by decide) ?_
        refine z_call1 (b' := 0) (f' := 0) (rest := [.ref t]) (av := [.ref t, .int (nI k), .int (nI 2)]) (z_siteV hb ho zc2 z_tw_o q2847 q2849 qs40 ⟨_, _, _, _, zk_X3_s⟩ zy_X3_s zl_X3_s dX3_writeStep_54 : z_Site M _ _ _ _ _ ([.int (nI k), .int (nI 2)].reverse ++ .ref t :: [.ref t]) [.ref t] _) zk_X3_s q104 hrm (m_X3_s k 2 ht (by omega)) (by omega) (by decide) (Nat.le_of_ble_eq_true rfl) (by omega) (by omega) ?_
        refine z_toI (y := nI (tw_f w0 k)) (hF k (by omega)).1 ?_
        refine z_i2l (v := (nI (tw_f w0 k)).toInt64) hb dX3_writeStep_57 rfl ?_
        refine z_call0 (b' := 0) (f' := 0) (rest := []) (av := [.ref t, .long ((nI (tw_f w0 k)).toInt64)]) (z_siteV hb ho zc2 z_tw_o q3167 q3169 qs78 ⟨_, _, _, _, zk_X3_writeNumber⟩ zy_X3_writeNumber zl_X3_writeNumber dX3_writeStep_58 : z_Site M _ _ _ _ _ ([.long ((nI (tw_f w0 k)).toInt64)].reverse ++ .ref t :: []) [] _) zk_X3_writeNumber q104 hrm (m_X3_writeNumber (w20 := 0) (L := 0 + (tw_chs ((nI k).toInt64)).length + 1) ((nI (tw_f w0 k)).toInt64) ht (tw_chsN (by omega)) (by omega)) (by omega) (by decide) (Nat.le_of_ble_eq_true rfl) (by omega) (by omega) ?_
        refine z_aload_n hb dX3_writeStep_61 rfl ?_
        refine z_iload_n hb dX3_writeStep_62 rfl ?_
        refine z_call0 (b' := 0) (f' := 0) (rest := []) (av := [.ref t, .int (nI 45)]) (z_siteV hb ho zc2 z_tw_o q3171 q3173 qs79 ⟨_, _, _, _, zk_X3_write⟩ zy_X3_write zl_X3_write dX3_writeStep_63 : z_Site M _ _ _ _ _ ([.int (nI 45)].reverse ++ .ref t :: []) [] _) zk_X3_write q104 hrm (m_X3_write (w20 := 0) (L := 0 + (tw_chs ((nI k).toInt64)).length + 1 + (tw_chs ((nI (tw_f w0 k)).toInt64)).length) (nI 45) ht (by omega)) (by omega) (by decide) (Nat.le_of_ble_eq_true rfl) (by omega) (by omega) ?_
        refine z_iload_n hb dX3_writeStep_66 rfl ?_
        refine z_bipush (x := nI 43) hb dX3_writeStep_67 (by decide) ?_
        refine z_icmp_eqN (tgt := 78) hb dX3_writeStep_69 (by decide) (by omega) (by omega) (fun c_69 => ?_) (fun c_69 => ?_)
        · exact absurd c_69 (by omega)
        · refine z_iload_n hb dX3_writeStep_72 rfl ?_
          refine z_bipush (x := nI 45) hb dX3_writeStep_73 (by decide) ?_
          refine z_icmp_neN (tgt := 89) hb dX3_writeStep_75 (by decide) (by omega) (by omega) (fun c_75 => ?_) (fun c_75 => ?_)
          · exact absurd c_75 (by omega)
          · refine z_aload_n hb dX3_writeStep_78 rfl ?_
            refine z_aload_n hb dX3_writeStep_79 rfl ?_
            refine z_iload_n hb dX3_writeStep_80 rfl ?_
            refine z_iconst (x := nI 3) hb dX3_writeStep_81 (by decide) ?_
            refine z_call1 (b' := 0) (f' := 0) (rest := [.ref t]) (av := [.ref t, .int (nI k), .int (nI 3)]) (z_siteV hb ho zc2 z_tw_o q2847 q2849 qs40 ⟨_, _, _, _, zk_X3_s⟩ zy_X3_s zl_X3_s dX3_writeStep_82 : z_Site M _ _ _ _ _ ([.int (nI k), .int (nI 3)].reverse ++ .ref t :: [.ref t]) [.ref t] _) zk_X3_s q104 hrm (m_X3_s k 3 ht (by omega)) (by omega) (by decide) (Nat.le_of_ble_eq_true rfl) (by omega) (by omega) ?_
            refine z_toI (y := nI (tw_s w0 k)) (hF k (by omega)).2.2.1 ?_
            refine z_i2l (v := (nI (tw_s w0 k)).toInt64) hb dX3_writeStep_85 rfl ?_
            refine z_call0 (b' := 0) (f' := 0) (rest := []) (av := [.ref t, .long ((nI (tw_s w0 k)).toInt64)]) (z_siteV hb ho zc2 z_tw_o q3167 q3169 qs78 ⟨_, _, _, _, zk_X3_writeNumber⟩ zy_X3_writeNumber zl_X3_writeNumber dX3_writeStep_86 : z_Site M _ _ _ _ _ ([.long ((nI (tw_s w0 k)).toInt64)].reverse ++ .ref t :: []) [] _) zk_X3_writeNumber q104 hrm (m_X3_writeNumber (w20 := 0) (L := 0 + (tw_chs ((nI k).toInt64)).length + 1 + (tw_chs ((nI (tw_f w0 k)).toInt64)).length + 1) ((nI (tw_s w0 k)).toInt64) ht (tw_chsN (by omega)) (by omega)) (by omega) (by decide) (Nat.le_of_ble_eq_true rfl) (by omega) (by omega) ?_
            refine z_iload_n hb dX3_writeStep_89 rfl ?_
            refine z_bipush (x := nI 114) hb dX3_writeStep_90 (by decide) ?_
            refine z_icmp_eqN (tgt := 101) hb dX3_writeStep_92 (by decide) (by omega) (by omega) (fun c_92 => ?_) (fun c_92 => ?_)
            · exact absurd c_92 (by omega)
            · refine z_iload_n hb dX3_writeStep_95 rfl ?_
              refine z_bipush (x := nI 107) hb dX3_writeStep_96 (by decide) ?_
              refine z_icmp_neN (tgt := 112) hb dX3_writeStep_98 (by decide) (by omega) (by omega) (fun c_98 => ?_) (fun c_98 => ?_)
              · refine z_iload_n hb dX3_writeStep_112 rfl ?_
                refine z_bipush (x := nI 107) hb dX3_writeStep_113 (by decide) ?_
                refine z_icmp_neN (tgt := 124) hb dX3_writeStep_115 (by decide) (by omega) (by omega) (fun c_115 => ?_) (fun c_115 => ?_)
                · refine z_iload_n hb dX3_writeStep_124 rfl ?_
                  refine z_bipush (x := nI 107) hb dX3_writeStep_125 (by decide) ?_
                  refine z_icmp_eqN (tgt := 138) hb dX3_writeStep_127 (by decide) (by omega) (by omega) (fun c_127 => ?_) (fun c_127 => ?_)
                  · exact absurd c_127 (by omega)
                  · refine z_aload_n hb dX3_writeStep_130 rfl ?_
                    refine z_iload_n hb dX3_writeStep_131 rfl ?_
                    refine z_call1 (b' := 0) (f' := 0) (rest := []) (av := [.ref t, .int (nI k)]) (z_siteV hb ho zc2 z_tw_o q2843 q2845 qs39 ⟨_, _, _, _, zk_X3_isBase⟩ zy_X3_isBase zl_X3_isBase dX3_writeStep_132 : z_Site M _ _ _ _ _ ([.int (nI k)].reverse ++ .ref t :: []) [] _) zk_X3_isBase q104 hrm (m_X3_isBase k ht (by omega)) (by omega) (by decide) (Nat.le_of_ble_eq_true rfl) (by omega) (by omega) ?_
                    refine z_ifb_eq (tgt := 149) hb dX3_writeStep_135 (by decide) (fun c_135 => ?_) (fun c_135 => ?_)
                    · refine z_aload_n hb dX3_writeStep_149 rfl ?_
                      refine z_get (k := 20) (C := RX3) (T := TX3) (N := 29) hb ho zc2 in_X3 (zf_RX3_73 _) dX3_writeStep_150 z_tw_o (by decide) rfl ?_
                      refine z_iret hb hr dX3_writeStep_153 ?_
                      rw [hQ]
                      simp only [hx, tw_wl_append, tw_wl, List.length_append, List.length_cons, Nat.zero_add, ← Nat.add_assoc, List.length_nil]
                      try simp only [Nat.add_right_comm _ _ 1, ← Nat.add_assoc]
                      exact ⟨rfl, rfl, rfl⟩
                    · rw [hbs] at c_135; exact absurd c_135 (by decide)
                · exact absurd c_115 (by omega)
              · exact absurd c_98 (by omega)
  · rw [hx] at c_9; exact absurd c_9 (by decide)

set_option maxHeartbeats 1000000 in
theorem m_X3_writeStep_r {l : Launch} {G : zG} {h : zH} {n : Nat} {t : Nat} {w0 : Nat → Int32} {w1 : Nat → Int32} {w2 : Nat → Int32} {w3 : Nat → Int32} {w4 : Nat → Int32} {w5 : Nat → Int64} {w6 : Nat → Int64} {w7 : Nat → Int64} {w8 : Nat → Int64} {w9 : Nat → Int64} {w10 : Nat → Int64} {w11 : Nat → Int64} {w12 : Int32} {w13 : Int32} {w14 : Int32} {w15 : Int32} {w16 : Int32} {w17 : Int32} {w18 : Bool} {w19 : Nat → Int32} {w20 : Int32} {w21 : Nat → Int32} {w22 : Nat → Int32} {w23 : Nat → Int32} {w24 : Int32} {w25 : Int32} {w26 : Int32} {w27 : Int32} {w28 : Bool} {R S D : Nat} {k b : Nat}  (ht : z_n0 G ≤ t) (hw : z_ok w0 R S D) (hkS : k < S) (hc : w0 (176 + 4 * k) = nI 114) (hbd : w0 (176 + 4 * k + 1) = nI b) (hb99 : b ≤ 99) : z_C l G yX3_writeStep 3 0 0 [.ref t, .int (nI k)] (z_tw G t w0 w1 w2 w3 w4 w5 w6 w7 w8 w9 w10 w11 w12 w13 w14 w15 w16 w17 w18 w19 w20 w21 w22 w23 w24 w25 w26 w27 w28 h) n (z_rv (.int (nI (((tw_chs (nI k).toInt64) ++ (nI 58 :: (nI 114 :: tw_chs (nI (tw_f w0 k)).toInt64))).length))) (z_tw G t w0 w1 w2 w3 w4 w5 w6 w7 w8 w9 w10 w11 (nI 0) w13 w14 w15 w16 w17 w18 (tw_wl w19 0 ((tw_chs (nI k).toInt64) ++ (nI 58 :: (nI 114 :: tw_chs (nI (tw_f w0 k)).toInt64)))) (nI (((tw_chs (nI k).toInt64) ++ (nI 58 :: (nI 114 :: tw_chs (nI (tw_f w0 k)).toInt64))).length)) w21 w22 w23 w24 w25 w26 w27 w28 h) n) := by
  refine z_start zk_X3_writeStep zpl_RX3 (Nat.le_of_ble_eq_true rfl) ?_
  intro hn0 M hl hG ho hb hN hr hm hH hrm hQ
  subst hl hG
  have ho : zm_o M = RX3 := ho
  obtain ⟨hR, hR4, hS, hS8, hD, hD6, hF⟩ := id hw
  have hx := z_inR hkS (by omega)
  obtain ⟨hF1, hF2, hF3, hF4⟩ := hF k hkS
  have l1 := tw_chsN_len (k := k) (by omega)
  have l2 := tw_chsN_len (k := tw_f w0 k) (by omega)
  have l3 := tw_chsN_len (k := tw_s w0 k) (by omega)
  have l4 := tw_chsN_len (k := b) (by omega)
  have hbs : tw_base w0 k = false := by simp only [tw_base, hc]; decide
  show z_V M (z_tw (zm_G M) t w0 w1 w2 w3 w4 w5 w6 w7 w8 w9 w10 w11 w12 w13 w14 w15 w16 w17 w18 w19 w20 w21 w22 w23 w24 w25 w26 w27 w28 h) n 0 0 0 [(0, .ref t), (1, .int (nI k))] []
  refine z_aload_n hb dX3_writeStep_0 rfl ?_
  refine z_aload_n hb dX3_writeStep_1 rfl ?_
  refine z_iload_n hb dX3_writeStep_2 rfl ?_
  refine z_call1 (b' := 0) (f' := 0) (rest := [.ref t]) (av := [.ref t, .int (nI k)]) (z_siteV hb ho zc2 z_tw_o q2927 q2929 qs56 ⟨_, _, _, _, zk_X3_isStep⟩ zy_X3_isStep zl_X3_isStep dX3_writeStep_3 : z_Site M _ _ _ _ _ ([.int (nI k)].reverse ++ .ref t :: [.ref t]) [.ref t] _) zk_X3_isStep q104 hrm (m_X3_isStep (nI k) ht hw) (by omega) (by decide) (Nat.le_of_ble_eq_true rfl) (by omega) (by omega) ?_
  refine z_call1 (b' := 0) (f' := 0) (rest := []) (av := [.ref t, .int (z_b (decide (nI 0 ≤ (nI k) ∧ (nI k) ≤ nI S - nI 1)))]) (z_siteV hb ho zc2 z_tw_o q2995 q2997 qs66 ⟨_, _, _, _, zk_X3_checked⟩ zy_X3_checked zl_X3_checked dX3_writeStep_6 : z_Site M _ _ _ _ _ ([.int (z_b (decide (nI 0 ≤ (nI k) ∧ (nI k) ≤ nI S - nI 1)))].reverse ++ .ref t :: []) [] _) zk_X3_checked q104 hrm (m_X3_checked (decide (nI 0 ≤ (nI k) ∧ (nI k) ≤ nI S - nI 1)) ht) (by omega) (by decide) (Nat.le_of_ble_eq_true rfl) (by omega) (by omega) ?_
  refine z_ifb_le (tgt := 14) hb dX3_writeStep_9 (by decide) (fun c_9 => ?_) (fun c_9 => ?_)
  · refine z_aload_n hb dX3_writeStep_14 rfl ?_
    refine z_iload_n hb dX3_writeStep_15 rfl ?_
    refine z_iconst (x := nI 0) hb dX3_writeStep_16 (by decide) ?_
    refine z_call1 (b' := 0) (f' := 0) (rest := []) (av := [.ref t, .int (nI k), .int (nI 0)]) (z_siteV hb ho zc2 z_tw_o q2847 q2849 qs40 ⟨_, _, _, _, zk_X3_s⟩ zy_X3_s zl_X3_s dX3_writeStep_17 : z_Site M _ _ _ _ _ ([.int (nI k), .int (nI 0)].reverse ++ .ref t :: []) [] _) zk_X3_s q104 hrm (m_X3_s k 0 ht (by omega)) (by omega) (by decide) (Nat.le_of_ble_eq_true rfl) (by omega) (by omega) ?_
    refine z_toI (y := w0 (176 + 4 * k)) rfl ?_
    refine z_toI (y := nI 114) hc ?_
    refine z_istore_n (lv' := [(2, .int (nI 114)), (0, .ref t), (1, .int (nI k))]) hb dX3_writeStep_20 (by rw [hN]; decide) rfl ?_
    refine z_aload_n hb dX3_writeStep_21 rfl ?_
    refine z_iconst (x := nI 0) hb dX3_writeStep_22 (by decide) ?_
    refine z_put (k := 20) (C := RX3) (T := TX3) (N := 29) hb ho zc2 in_X3 tyX3_ok nmX3 (zf_RX3_73 _) dX3_writeStep_23 z_tw_o ht (by decide) (Or.inl rfl) rfl rfl rfl (Nat.le_of_ble_eq_true rfl) ?_
    refine z_hh z_tw_u20 ?_
    refine z_aload_n hb dX3_writeStep_26 rfl ?_
    refine z_iload_n hb dX3_writeStep_27 rfl ?_
    refine z_i2l (v := (nI k).toInt64) hb dX3_writeStep_28 rfl ?_
    refine z_call0 (b' := 0) (f' := 0) (rest := []) (av := [.ref t, .long ((nI k).toInt64)]) (z_siteV hb ho zc2 z_tw_o q3167 q3169 qs78 ⟨_, _, _, _, zk_X3_writeNumber⟩ zy_X3_writeNumber zl_X3_writeNumber dX3_writeStep_29 : z_Site M _ _ _ _ _ ([.long ((nI k).toInt64)].reverse ++ .ref t :: []) [] _) zk_X3_writeNumber q104 hrm (m_X3_writeNumber (w20 := 0) (L := 0) ((nI k).toInt64) ht (tw_chsN (by omega)) (by omega)) (by omega) (by decide) (Nat.le_of_ble_eq_true rfl) (by omega) (by omega) ?_
    refine z_aload_n hb dX3_writeStep_32 rfl ?_
    refine z_bipush (x := nI 58) hb dX3_writeStep_33 (by decide) ?_
    refine z_call0 (b' := 0) (f' := 0) (rest := []) (av := [.ref t, .int (nI 58)]) (z_siteV hb ho zc2 z_tw_o q3171 q3173 qs79 ⟨_, _, _, _, zk_X3_write⟩ zy_X3_write zl_X3_write dX3_writeStep_35 : z_Site M _ _ _ _ _ ([.int (nI 58)].reverse ++ .ref t :: []) [] _) zk_X3_write q104 hrm (m_X3_write (w20 := 0) (L := 0 + (tw_chs ((nI k).toInt64)).length) (nI 58) ht (by omega)) (by omega) (by decide) (Nat.le_of_ble_eq_true rfl) (by omega) (by omega) ?_
    refine z_iload_n hb dX3_writeStep_38 rfl ?_
    refine z_bipush (x := nI 43) hb dX3_writeStep_39 (by decide) ?_
    refine z_icmp_eqN (tgt := 50) hb dX3_writeStep_41 (by decide) (by omega) (by omega) (fun c_41 => ?_) (fun c_41 => ?_)
    · exact absurd c_41 (by omega)
    · refine z_iload_n hb dX3_writeStep_44 rfl ?_
      refine z_bipush (x := nI 45) hb dX3_writeStep_45 (by decide) ?_
      refine z_icmp_neN (tgt := 61) hb dX3_writeStep_47 (by decide) (by omega) (by omega) (fun c_47 => ?_) (fun c_47 => ?_)
      · refine z_aload_n hb dX3_writeStep_61 rfl ?_
        refine z_iload_n hb dX3_writeStep_62 rfl ?_
        refine z_call0 (b' := 0) (f' := 0) (rest := []) (av := [.ref t, .int (nI 114)]) (z_siteV hb ho zc2 z_tw_o q3171 q3173 qs79 ⟨_, _, _, _, zk_X3_write⟩ zy_X3_write zl_X3_write dX3_writeStep_63 : z_Site M _ _ _ _ _ ([.int (nI 114)].reverse ++ .ref t :: []) [] _) zk_X3_write q104 hrm (m_X3_write (w20 := 0) (L := 0 + (tw_chs ((nI k).toInt64)).length + 1) (nI 114) ht (by omega)) (by omega) (by decide) (Nat.le_of_ble_eq_true rfl) (by omega) (by omega) ?_
        refine z_iload_n hb dX3_writeStep_66 rfl ?_
        refine z_bipush (x := nI 43) hb dX3_writeStep_67 (by decide) ?_
        refine z_icmp_eqN (tgt := 78) hb dX3_writeStep_69 (by decide) (by omega) (by omega) (fun c_69 => ?_) (fun c_69 => ?_)
        · exact absurd c_69 (by omega)
        · refine z_iload_n hb dX3_writeStep_72 rfl ?_
          refine z_bipush (x := nI 45) hb dX3_writeStep_73 (by decide) ?_
          refine z_icmp_neN (tgt := 89) hb dX3_writeStep_75 (by decide) (by omega) (by omega) (fun c_75 => ?_) (fun c_75 => ?_)
          · refine z_iload_n hb dX3_writeStep_89 rfl ?_
            refine z_bipush (x := nI 114) hb dX3_writeStep_90 (by decide) ?_
            refine z_icmp_eqN (tgt := 101) hb dX3_writeStep_92 (by decide) (by omega) (by omega) (fun c_92 => ?_) (fun c_92 => ?_)
            · refine z_aload_n hb dX3_writeStep_101 rfl ?_
              refine z_aload_n hb dX3_writeStep_102 rfl ?_
              refine z_iload_n hb dX3_writeStep_103 rfl ?_
              refine z_iconst (x := nI 2) hb dX3_writeStep_104 (by decide) ?_
              refine z_call1 (b' := 0) (f' := 0) (rest := [.ref t]) (av := [.ref t, .int (nI k), .int (nI 2)]) (z_siteV hb ho zc2 z_tw_o q2847 q2849 qs40 ⟨_, _, _, _, zk_X3_s⟩ zy_X3_s zl_X3_s dX3_writeStep_105 : z_Site M _ _ _ _ _ ([.int (nI k), .int (nI 2)].reverse ++ .ref t :: [.ref t]) [.ref t] _) zk_X3_s q104 hrm (m_X3_s k 2 ht (by omega)) (by omega) (by decide) (Nat.le_of_ble_eq_true rfl) (by omega) (by omega) ?_
              refine z_toI (y := nI (tw_f w0 k)) (hF k (by omega)).1 ?_
              refine z_i2l (v := (nI (tw_f w0 k)).toInt64) hb dX3_writeStep_108 rfl ?_
              refine z_call0 (b' := 0) (f' := 0) (rest := []) (av := [.ref t, .long ((nI (tw_f w0 k)).toInt64)]) (z_siteV hb ho zc2 z_tw_o q3167 q3169 qs78 ⟨_, _, _, _, zk_X3_writeNumber⟩ zy_X3_writeNumber zl_X3_writeNumber dX3_writeStep_109 : z_Site M _ _ _ _ _ ([.long ((nI (tw_f w0 k)).toInt64)].reverse ++ .ref t :: []) [] _) zk_X3_writeNumber q104 hrm (m_X3_writeNumber (w20 := 0) (L := 0 + (tw_chs ((nI k).toInt64)).length + 2) ((nI (tw_f w0 k)).toInt64) ht (tw_chsN (by omega)) (by omega)) (by omega) (by decide) (Nat.le_of_ble_eq_true rfl) (by omega) (by omega) ?_
              refine z_iload_n hb dX3_writeStep_112 rfl ?_
              refine z_bipush (x := nI 107) hb dX3_writeStep_113 (by decide) ?_
              refine z_icmp_neN (tgt := 124) hb dX3_writeStep_115 (by decide) (by omega) (by omega) (fun c_115 => ?_) (fun c_115 => ?_)
              · refine z_iload_n hb dX3_writeStep_124 rfl ?_
                refine z_bipush (x := nI 107) hb dX3_writeStep_125 (by decide) ?_
                refine z_icmp_eqN (tgt := 138) hb dX3_writeStep_127 (by decide) (by omega) (by omega) (fun c_127 => ?_) (fun c_127 => ?_)
                · exact absurd c_127 (by omega)
                · refine z_aload_n hb dX3_writeStep_130 rfl ?_
                  refine z_iload_n hb dX3_writeStep_131 rfl ?_
                  refine z_call1 (b' := 0) (f' := 0) (rest := []) (av := [.ref t, .int (nI k)]) (z_siteV hb ho zc2 z_tw_o q2843 q2845 qs39 ⟨_, _, _, _, zk_X3_isBase⟩ zy_X3_isBase zl_X3_isBase dX3_writeStep_132 : z_Site M _ _ _ _ _ ([.int (nI k)].reverse ++ .ref t :: []) [] _) zk_X3_isBase q104 hrm (m_X3_isBase k ht (by omega)) (by omega) (by decide) (Nat.le_of_ble_eq_true rfl) (by omega) (by omega) ?_
                  refine z_ifb_eq (tgt := 149) hb dX3_writeStep_135 (by decide) (fun c_135 => ?_) (fun c_135 => ?_)
                  · refine z_aload_n hb dX3_writeStep_149 rfl ?_
                    refine z_get (k := 20) (C := RX3) (T := TX3) (N := 29) hb ho zc2 in_X3 (zf_RX3_73 _) dX3_writeStep_150 z_tw_o (by decide) rfl ?_
                    refine z_iret hb hr dX3_writeStep_153 ?_
                    rw [hQ]
                    simp only [hx, tw_wl_append, tw_wl, List.length_append, List.length_cons, Nat.zero_add, ← Nat.add_assoc, List.length_nil]
                    try simp only [Nat.add_right_comm _ _ 1, ← Nat.add_assoc]
                    exact ⟨rfl, rfl, rfl⟩
                  · rw [hbs] at c_135; exact absurd c_135 (by decide)
              · exact absurd c_115 (by omega)
            · exact absurd c_92 (by omega)
          · exact absurd c_75 (by omega)
      · exact absurd c_47 (by omega)
  · rw [hx] at c_9; exact absurd c_9 (by decide)

set_option maxHeartbeats 1000000 in
theorem m_X3_writeStep_k {l : Launch} {G : zG} {h : zH} {n : Nat} {t : Nat} {w0 : Nat → Int32} {w1 : Nat → Int32} {w2 : Nat → Int32} {w3 : Nat → Int32} {w4 : Nat → Int32} {w5 : Nat → Int64} {w6 : Nat → Int64} {w7 : Nat → Int64} {w8 : Nat → Int64} {w9 : Nat → Int64} {w10 : Nat → Int64} {w11 : Nat → Int64} {w12 : Int32} {w13 : Int32} {w14 : Int32} {w15 : Int32} {w16 : Int32} {w17 : Int32} {w18 : Bool} {w19 : Nat → Int32} {w20 : Int32} {w21 : Nat → Int32} {w22 : Nat → Int32} {w23 : Nat → Int32} {w24 : Int32} {w25 : Int32} {w26 : Int32} {w27 : Int32} {w28 : Bool} {R S D : Nat} {k b : Nat}  (ht : z_n0 G ≤ t) (hw : z_ok w0 R S D) (hkS : k < S) (hc : w0 (176 + 4 * k) = nI 107) (hbd : w0 (176 + 4 * k + 1) = nI b) (hb99 : b ≤ 99) : z_C l G yX3_writeStep 3 0 0 [.ref t, .int (nI k)] (z_tw G t w0 w1 w2 w3 w4 w5 w6 w7 w8 w9 w10 w11 w12 w13 w14 w15 w16 w17 w18 w19 w20 w21 w22 w23 w24 w25 w26 w27 w28 h) n (z_rv (.int (nI (((tw_chs (nI k).toInt64) ++ (nI 58 :: (nI 107 :: ((tw_chs (nI (tw_f w0 k)).toInt64) ++ (nI 62 :: tw_chs (nI b).toInt64))))).length))) (z_tw G t w0 w1 w2 w3 w4 w5 w6 w7 w8 w9 w10 w11 (nI 0) w13 w14 w15 w16 w17 w18 (tw_wl w19 0 ((tw_chs (nI k).toInt64) ++ (nI 58 :: (nI 107 :: ((tw_chs (nI (tw_f w0 k)).toInt64) ++ (nI 62 :: tw_chs (nI b).toInt64)))))) (nI (((tw_chs (nI k).toInt64) ++ (nI 58 :: (nI 107 :: ((tw_chs (nI (tw_f w0 k)).toInt64) ++ (nI 62 :: tw_chs (nI b).toInt64))))).length)) w21 w22 w23 w24 w25 w26 w27 w28 h) n) := by
  refine z_start zk_X3_writeStep zpl_RX3 (Nat.le_of_ble_eq_true rfl) ?_
  intro hn0 M hl hG ho hb hN hr hm hH hrm hQ
  subst hl hG
  have ho : zm_o M = RX3 := ho
  obtain ⟨hR, hR4, hS, hS8, hD, hD6, hF⟩ := id hw
  have hx := z_inR hkS (by omega)
  obtain ⟨hF1, hF2, hF3, hF4⟩ := hF k hkS
  have l1 := tw_chsN_len (k := k) (by omega)
  have l2 := tw_chsN_len (k := tw_f w0 k) (by omega)
  have l3 := tw_chsN_len (k := tw_s w0 k) (by omega)
  have l4 := tw_chsN_len (k := b) (by omega)
  have hbs : tw_base w0 k = false := by simp only [tw_base, hc]; decide
  show z_V M (z_tw (zm_G M) t w0 w1 w2 w3 w4 w5 w6 w7 w8 w9 w10 w11 w12 w13 w14 w15 w16 w17 w18 w19 w20 w21 w22 w23 w24 w25 w26 w27 w28 h) n 0 0 0 [(0, .ref t), (1, .int (nI k))] []
  refine z_aload_n hb dX3_writeStep_0 rfl ?_
  refine z_aload_n hb dX3_writeStep_1 rfl ?_
  refine z_iload_n hb dX3_writeStep_2 rfl ?_
  refine z_call1 (b' := 0) (f' := 0) (rest := [.ref t]) (av := [.ref t, .int (nI k)]) (z_siteV hb ho zc2 z_tw_o q2927 q2929 qs56 ⟨_, _, _, _, zk_X3_isStep⟩ zy_X3_isStep zl_X3_isStep dX3_writeStep_3 : z_Site M _ _ _ _ _ ([.int (nI k)].reverse ++ .ref t :: [.ref t]) [.ref t] _) zk_X3_isStep q104 hrm (m_X3_isStep (nI k) ht hw) (by omega) (by decide) (Nat.le_of_ble_eq_true rfl) (by omega) (by omega) ?_
  refine z_call1 (b' := 0) (f' := 0) (rest := []) (av := [.ref t, .int (z_b (decide (nI 0 ≤ (nI k) ∧ (nI k) ≤ nI S - nI 1)))]) (z_siteV hb ho zc2 z_tw_o q2995 q2997 qs66 ⟨_, _, _, _, zk_X3_checked⟩ zy_X3_checked zl_X3_checked dX3_writeStep_6 : z_Site M _ _ _ _ _ ([.int (z_b (decide (nI 0 ≤ (nI k) ∧ (nI k) ≤ nI S - nI 1)))].reverse ++ .ref t :: []) [] _) zk_X3_checked q104 hrm (m_X3_checked (decide (nI 0 ≤ (nI k) ∧ (nI k) ≤ nI S - nI 1)) ht) (by omega) (by decide) (Nat.le_of_ble_eq_true rfl) (by omega) (by omega) ?_
  refine z_ifb_le (tgt := 14) hb dX3_writeStep_9 (by decide) (fun c_9 => ?_) (fun c_9 => ?_)
  · refine z_aload_n hb dX3_writeStep_14 rfl ?_
    refine z_iload_n hb dX3_writeStep_15 rfl ?_
    refine z_iconst (x := nI 0) hb dX3_writeStep_16 (by decide) ?_
    refine z_call1 (b' := 0) (f' := 0) (rest := []) (av := [.ref t, .int (nI k), .int (nI 0)]) (z_siteV hb ho zc2 z_tw_o q2847 q2849 qs40 ⟨_, _, _, _, zk_X3_s⟩ zy_X3_s zl_X3_s dX3_writeStep_17 : z_Site M _ _ _ _ _ ([.int (nI k), .int (nI 0)].reverse ++ .ref t :: []) [] _) zk_X3_s q104 hrm (m_X3_s k 0 ht (by omega)) (by omega) (by decide) (Nat.le_of_ble_eq_true rfl) (by omega) (by omega) ?_
    refine z_toI (y := w0 (176 + 4 * k)) rfl ?_
    refine z_toI (y := nI 107) hc ?_
    refine z_istore_n (lv' := [(2, .int (nI 107)), (0, .ref t), (1, .int (nI k))]) hb dX3_writeStep_20 (by rw [hN]; decide) rfl ?_
    refine z_aload_n hb dX3_writeStep_21 rfl ?_
    refine z_iconst (x := nI 0) hb dX3_writeStep_22 (by decide) ?_
    refine z_put (k := 20) (C := RX3) (T := TX3) (N := 29) hb ho zc2 in_X3 tyX3_ok nmX3 (zf_RX3_73 _) dX3_writeStep_23 z_tw_o ht (by decide) (Or.inl rfl) rfl rfl rfl (Nat.le_of_ble_eq_true rfl) ?_
    refine z_hh z_tw_u20 ?_
    refine z_aload_n hb dX3_writeStep_26 rfl ?_
    refine z_iload_n hb dX3_writeStep_27 rfl ?_
    refine z_i2l (v := (nI k).toInt64) hb dX3_writeStep_28 rfl ?_
    refine z_call0 (b' := 0) (f' := 0) (rest := []) (av := [.ref t, .long ((nI k).toInt64)]) (z_siteV hb ho zc2 z_tw_o q3167 q3169 qs78 ⟨_, _, _, _, zk_X3_writeNumber⟩ zy_X3_writeNumber zl_X3_writeNumber dX3_writeStep_29 : z_Site M _ _ _ _ _ ([.long ((nI k).toInt64)].reverse ++ .ref t :: []) [] _) zk_X3_writeNumber q104 hrm (m_X3_writeNumber (w20 := 0) (L := 0) ((nI k).toInt64) ht (tw_chsN (by omega)) (by omega)) (by omega) (by decide) (Nat.le_of_ble_eq_true rfl) (by omega) (by omega) ?_
    refine z_aload_n hb dX3_writeStep_32 rfl ?_
    refine z_bipush (x := nI 58) hb dX3_writeStep_33 (by decide) ?_
    refine z_call0 (b' := 0) (f' := 0) (rest := []) (av := [.ref t, .int (nI 58)]) (z_siteV hb ho zc2 z_tw_o q3171 q3173 qs79 ⟨_, _, _, _, zk_X3_write⟩ zy_X3_write zl_X3_write dX3_writeStep_35 : z_Site M _ _ _ _ _ ([.int (nI 58)].reverse ++ .ref t :: []) [] _) zk_X3_write q104 hrm (m_X3_write (w20 := 0) (L := 0 + (tw_chs ((nI k).toInt64)).length) (nI 58) ht (by omega)) (by omega) (by decide) (Nat.le_of_ble_eq_true rfl) (by omega) (by omega) ?_
    refine z_iload_n hb dX3_writeStep_38 rfl ?_
    refine z_bipush (x := nI 43) hb dX3_writeStep_39 (by decide) ?_
    refine z_icmp_eqN (tgt := 50) hb dX3_writeStep_41 (by decide) (by omega) (by omega) (fun c_41 => ?_) (fun c_41 => ?_)
    · exact absurd c_41 (by omega)
    · refine z_iload_n hb dX3_writeStep_44 rfl ?_
      refine z_bipush (x := nI 45) hb dX3_writeStep_45 (by decide) ?_
      refine z_icmp_neN (tgt := 61) hb dX3_writeStep_47 (by decide) (by omega) (by omega) (fun c_47 => ?_) (fun c_47 => ?_)
      · refine z_aload_n hb dX3_writeStep_61 rfl ?_
        refine z_iload_n hb dX3_writeStep_62 rfl ?_
        refine z_call0 (b' := 0) (f' := 0) (rest := []) (av := [.ref t, .int (nI 107)]) (z_siteV hb ho zc2 z_tw_o q3171 q3173 qs79 ⟨_, _, _, _, zk_X3_write⟩ zy_X3_write zl_X3_write dX3_writeStep_63 : z_Site M _ _ _ _ _ ([.int (nI 107)].reverse ++ .ref t :: []) [] _) zk_X3_write q104 hrm (m_X3_write (w20 := 0) (L := 0 + (tw_chs ((nI k).toInt64)).length + 1) (nI 107) ht (by omega)) (by omega) (by decide) (Nat.le_of_ble_eq_true rfl) (by omega) (by omega) ?_
        refine z_iload_n hb dX3_writeStep_66 rfl ?_
        refine z_bipush (x := nI 43) hb dX3_writeStep_67 (by decide) ?_
        refine z_icmp_eqN (tgt := 78) hb dX3_writeStep_69 (by decide) (by omega) (by omega) (fun c_69 => ?_) (fun c_69 => ?_)
        · exact absurd c_69 (by omega)
        · refine z_iload_n hb dX3_writeStep_72 rfl ?_
          refine z_bipush (x := nI 45) hb dX3_writeStep_73 (by decide) ?_
          refine z_icmp_neN (tgt := 89) hb dX3_writeStep_75 (by decide) (by omega) (by omega) (fun c_75 => ?_) (fun c_75 => ?_)
          · refine z_iload_n hb dX3_writeStep_89 rfl ?_
            refine z_bipush (x := nI 114) hb dX3_writeStep_90 (by decide) ?_
            refine z_icmp_eqN (tgt := 101) hb dX3_writeStep_92 (by decide) (by omega) (by omega) (fun c_92 => ?_) (fun c_92 => ?_)
            · exact absurd c_92 (by omega)
            · refine z_iload_n hb dX3_writeStep_95 rfl ?_
              refine z_bipush (x := nI 107) hb dX3_writeStep_96 (by decide) ?_
              refine z_icmp_neN (tgt := 112) hb dX3_writeStep_98 (by decide) (by omega) (by omega) (fun c_98 => ?_) (fun c_98 => ?_)
              · exact absurd c_98 (by omega)
              · refine z_aload_n hb dX3_writeStep_101 rfl ?_
                refine z_aload_n hb dX3_writeStep_102 rfl ?_
                refine z_iload_n hb dX3_writeStep_103 rfl ?_
                refine z_iconst (x := nI 2) hb dX3_writeStep_104 (by decide) ?_
                refine z_call1 (b' := 0) (f' := 0) (rest := [.ref t]) (av := [.ref t, .int (nI k), .int (nI 2)]) (z_siteV hb ho zc2 z_tw_o q2847 q2849 qs40 ⟨_, _, _, _, zk_X3_s⟩ zy_X3_s zl_X3_s dX3_writeStep_105 : z_Site M _ _ _ _ _ ([.int (nI k), .int (nI 2)].reverse ++ .ref t :: [.ref t]) [.ref t] _) zk_X3_s q104 hrm (m_X3_s k 2 ht (by omega)) (by omega) (by decide) (Nat.le_of_ble_eq_true rfl) (by omega) (by omega) ?_
                refine z_toI (y := nI (tw_f w0 k)) (hF k (by omega)).1 ?_
                refine z_i2l (v := (nI (tw_f w0 k)).toInt64) hb dX3_writeStep_108 rfl ?_
                refine z_call0 (b' := 0) (f' := 0) (rest := []) (av := [.ref t, .long ((nI (tw_f w0 k)).toInt64)]) (z_siteV hb ho zc2 z_tw_o q3167 q3169 qs78 ⟨_, _, _, _, zk_X3_writeNumber⟩ zy_X3_writeNumber zl_X3_writeNumber dX3_writeStep_109 : z_Site M _ _ _ _ _ ([.long ((nI (tw_f w0 k)).toInt64)].reverse ++ .ref t :: []) [] _) zk_X3_writeNumber q104 hrm (m_X3_writeNumber (w20 := 0) (L := 0 + (tw_chs ((nI k).toInt64)).length + 2) ((nI (tw_f w0 k)).toInt64) ht (tw_chsN (by omega)) (by omega)) (by omega) (by decide) (Nat.le_of_ble_eq_true rfl) (by omega) (by omega) ?_
                refine z_iload_n hb dX3_writeStep_112 rfl ?_
                refine z_bipush (x := nI 107) hb dX3_writeStep_113 (by decide) ?_
                refine z_icmp_neN (tgt := 124) hb dX3_writeStep_115 (by decide) (by omega) (by omega) (fun c_115 => ?_) (fun c_115 => ?_)
                · exact absurd c_115 (by omega)
                · refine z_aload_n hb dX3_writeStep_118 rfl ?_
                  refine z_bipush (x := nI 62) hb dX3_writeStep_119 (by decide) ?_
                  refine z_call0 (b' := 0) (f' := 0) (rest := []) (av := [.ref t, .int (nI 62)]) (z_siteV hb ho zc2 z_tw_o q3171 q3173 qs79 ⟨_, _, _, _, zk_X3_write⟩ zy_X3_write zl_X3_write dX3_writeStep_121 : z_Site M _ _ _ _ _ ([.int (nI 62)].reverse ++ .ref t :: []) [] _) zk_X3_write q104 hrm (m_X3_write (w20 := 0) (L := 0 + (tw_chs ((nI k).toInt64)).length + 2 + (tw_chs ((nI (tw_f w0 k)).toInt64)).length) (nI 62) ht (by omega)) (by omega) (by decide) (Nat.le_of_ble_eq_true rfl) (by omega) (by omega) ?_
                  refine z_iload_n hb dX3_writeStep_124 rfl ?_
                  refine z_bipush (x := nI 107) hb dX3_writeStep_125 (by decide) ?_
                  refine z_icmp_eqN (tgt := 138) hb dX3_writeStep_127 (by decide) (by omega) (by omega) (fun c_127 => ?_) (fun c_127 => ?_)
                  · refine z_aload_n hb dX3_writeStep_138 rfl ?_
                    refine z_aload_n hb dX3_writeStep_139 rfl ?_
                    refine z_iload_n hb dX3_writeStep_140 rfl ?_
                    refine z_iconst (x := nI 1) hb dX3_writeStep_141 (by decide) ?_
                    refine z_call1 (b' := 0) (f' := 0) (rest := [.ref t]) (av := [.ref t, .int (nI k), .int (nI 1)]) (z_siteV hb ho zc2 z_tw_o q2847 q2849 qs40 ⟨_, _, _, _, zk_X3_s⟩ zy_X3_s zl_X3_s dX3_writeStep_142 : z_Site M _ _ _ _ _ ([.int (nI k), .int (nI 1)].reverse ++ .ref t :: [.ref t]) [.ref t] _) zk_X3_s q104 hrm (m_X3_s k 1 ht (by omega)) (by omega) (by decide) (Nat.le_of_ble_eq_true rfl) (by omega) (by omega) ?_
                    refine z_toI (y := nI b) hbd ?_
                    refine z_i2l (v := (nI b).toInt64) hb dX3_writeStep_145 rfl ?_
                    refine z_call0 (b' := 0) (f' := 0) (rest := []) (av := [.ref t, .long ((nI b).toInt64)]) (z_siteV hb ho zc2 z_tw_o q3167 q3169 qs78 ⟨_, _, _, _, zk_X3_writeNumber⟩ zy_X3_writeNumber zl_X3_writeNumber dX3_writeStep_146 : z_Site M _ _ _ _ _ ([.long ((nI b).toInt64)].reverse ++ .ref t :: []) [] _) zk_X3_writeNumber q104 hrm (m_X3_writeNumber (w20 := 0) (L := 0 + (tw_chs ((nI k).toInt64)).length + 2 + (tw_chs ((nI (tw_f w0 k)).toInt64)).length + 1) ((nI b).toInt64) ht (tw_chsN (by omega)) (by omega)) (by omega) (by decide) (Nat.le_of_ble_eq_true rfl) (by omega) (by omega) ?_
                    refine z_aload_n hb dX3_writeStep_149 rfl ?_
                    refine z_get (k := 20) (C := RX3) (T := TX3) (N := 29) hb ho zc2 in_X3 (zf_RX3_73 _) dX3_writeStep_150 z_tw_o (by decide) rfl ?_
                    refine z_iret hb hr dX3_writeStep_153 ?_
                    rw [hQ]
                    simp only [hx, tw_wl_append, tw_wl, List.length_append, List.length_cons, Nat.zero_add, ← Nat.add_assoc, List.length_nil]
                    try simp only [Nat.add_right_comm _ _ 1, ← Nat.add_assoc]
                    exact ⟨rfl, rfl, rfl⟩
                  · exact absurd c_127 (by omega)
          · exact absurd c_75 (by omega)
      · exact absurd c_47 (by omega)
  · rw [hx] at c_9; exact absurd c_9 (by decide)

set_option maxHeartbeats 1000000 in
theorem m_X3_writePartition_no {l : Launch} {G : zG} {h : zH} {n : Nat} {t : Nat} {w0 : Nat → Int32} {w1 : Nat → Int32} {w2 : Nat → Int32} {w3 : Nat → Int32} {w4 : Nat → Int32} {w5 : Nat → Int64} {w6 : Nat → Int64} {w7 : Nat → Int64} {w8 : Nat → Int64} {w9 : Nat → Int64} {w10 : Nat → Int64} {w11 : Nat → Int64} {w12 : Int32} {w13 : Int32} {w14 : Int32} {w15 : Int32} {w16 : Int32} {w17 : Int32} {w18 : Bool} {w19 : Nat → Int32} {w20 : Int32} {w21 : Nat → Int32} {w22 : Nat → Int32} {w23 : Nat → Int32} {w24 : Int32} {w25 : Int32} {w26 : Int32} {w27 : Int32} {w28 : Bool} {R S D : Nat} {x d : Int32}  (ht : z_n0 G ≤ t) (hw : z_ok w0 R S D) (hx : ¬tw_ask S D x d (nI 97) = 0) : z_C l G yX3_writePartition 4 0 0 [.ref t, .int x, .int d] (z_tw G t w0 w1 w2 w3 w4 w5 w6 w7 w8 w9 w10 w11 w12 w13 w14 w15 w16 w17 w18 w19 w20 w21 w22 w23 w24 w25 w26 w27 w28 h) n (z_rv (.int (nI 0)) (z_tw G t w0 w1 w2 w3 w4 w5 w6 w7 w8 w9 w10 w11 (nI (tw_ask S D x d (nI 97))) w13 w14 w15 w16 w17 w18 w19 w20 w21 w22 w23 w24 w25 w26 w27 w28 h) n) := by
  refine z_start zk_X3_writePartition zpl_RX3 (Nat.le_of_ble_eq_true rfl) ?_
  intro hn0 M hl hG ho hb hN hr hm hH hrm hQ
  subst hl hG
  have ho : zm_o M = RX3 := ho
  obtain ⟨hR, hR4, hS, hS8, hD, hD6, hF⟩ := id hw
  have hle := tw_ask_le S D x d (nI 97)
  show z_V M (z_tw (zm_G M) t w0 w1 w2 w3 w4 w5 w6 w7 w8 w9 w10 w11 w12 w13 w14 w15 w16 w17 w18 w19 w20 w21 w22 w23 w24 w25 w26 w27 w28 h) n 0 0 0 [(0, .ref t), (1, .int x), (2, .int d)] []
  refine z_aload_n hb dX3_writePartition_0 rfl ?_
  refine z_aload_n hb dX3_writePartition_1 rfl ?_
  refine z_iload_n hb dX3_writePartition_2 rfl ?_
  refine z_iload_n hb dX3_writePartition_3 rfl ?_
  refine z_bipush (x := nI 97) hb dX3_writePartition_4 (by decide) ?_
  refine z_call1 (b' := 0) (f' := 0) (rest := [.ref t]) (av := [.ref t, .int x, .int d, .int (nI 97)]) (z_siteV hb ho zc2 z_tw_o q3035 q3037 qs68 ⟨_, _, _, _, zk_X3_cannotAsk⟩ zy_X3_cannotAsk zl_X3_cannotAsk dX3_writePartition_6 : z_Site M _ _ _ _ _ ([.int x, .int d, .int (nI 97)].reverse ++ .ref t :: [.ref t]) [.ref t] _) zk_X3_cannotAsk q104 hrm (m_X3_cannotAsk x d (nI 97) ht hw) (by omega) (by decide) (Nat.le_of_ble_eq_true rfl) (by omega) (by omega) ?_
  refine z_put (k := 12) (C := RX3) (T := TX3) (N := 29) hb ho zc2 in_X3 tyX3_ok nmX3 (zf_RX3_47 _) dX3_writePartition_9 z_tw_o ht (by decide) (Or.inl rfl) rfl rfl rfl (Nat.le_of_ble_eq_true rfl) ?_
  refine z_hh z_tw_u12 ?_
  refine z_aload_n hb dX3_writePartition_12 rfl ?_
  refine z_get (k := 12) (C := RX3) (T := TX3) (N := 29) hb ho zc2 in_X3 (zf_RX3_47 _) dX3_writePartition_13 z_tw_o (by decide) rfl ?_
  refine z_if_leN (tgt := 21) hb dX3_writePartition_16 (by decide) (by omega) (fun c_16 => ?_) (fun c_16 => ?_)
  · exact absurd c_16 (by omega)
  · refine z_iconst (x := nI 0) hb dX3_writePartition_19 (by decide) ?_
    refine z_iret hb hr dX3_writePartition_20 ?_
    rw [hQ]
    exact ⟨rfl, rfl, rfl⟩

set_option maxHeartbeats 1000000 in
theorem m_X3_writePartition_ok {l : Launch} {G : zG} {h : zH} {n : Nat} {t : Nat} {w0 : Nat → Int32} {w1 : Nat → Int32} {w2 : Nat → Int32} {w3 : Nat → Int32} {w4 : Nat → Int32} {w5 : Nat → Int64} {w6 : Nat → Int64} {w7 : Nat → Int64} {w8 : Nat → Int64} {w9 : Nat → Int64} {w10 : Nat → Int64} {w11 : Nat → Int64} {w12 : Int32} {w13 : Int32} {w14 : Int32} {w15 : Int32} {w16 : Int32} {w17 : Int32} {w18 : Bool} {w19 : Nat → Int32} {w20 : Int32} {w21 : Nat → Int32} {w22 : Nat → Int32} {w23 : Nat → Int32} {w24 : Int32} {w25 : Int32} {w26 : Int32} {w27 : Int32} {w28 : Bool} {R S D : Nat} {k d : Nat}  (ht : z_n0 G ≤ t) (hw : z_ok w0 R S D) (hkS : k < S) (hd : d ≤ D) (hv : ∀ g, g < 5 → (w5 (5 * (7 * k + d) + g)).toInt.natAbs < 10 ^ 13) : z_C l G yX3_writePartition 4 0 0 [.ref t, .int (nI k), .int (nI d)] (z_tw G t w0 w1 w2 w3 w4 w5 w6 w7 w8 w9 w10 w11 w12 w13 w14 w15 w16 w17 w18 w19 w20 w21 w22 w23 w24 w25 w26 w27 w28 h) n (z_rv (.int (nI ((tw_ptc w5 k d 5 ++ (if tw_st w0 k d then [nI 33] else [])).length))) (z_tw G t w0 w1 w2 w3 w4 w5 w6 w7 w8 w9 w10 w11 (nI 0) w13 w14 w15 w16 w17 w18 (tw_wl w19 0 (tw_ptc w5 k d 5 ++ (if tw_st w0 k d then [nI 33] else []))) (nI ((tw_ptc w5 k d 5 ++ (if tw_st w0 k d then [nI 33] else [])).length)) w21 w22 w23 w24 w25 w26 w27 w28 h) n) := by
  refine z_start zk_X3_writePartition zpl_RX3 (Nat.le_of_ble_eq_true rfl) ?_
  intro hn0 M hl hG ho hb hN hr hm hH hrm hQ
  subst hl hG
  have ho : zm_o M = RX3 := ho
  obtain ⟨hR, hR4, hS, hS8, hD, hD6, hF⟩ := id hw
  show z_V M (z_tw (zm_G M) t w0 w1 w2 w3 w4 w5 w6 w7 w8 w9 w10 w11 w12 w13 w14 w15 w16 w17 w18 w19 w20 w21 w22 w23 w24 w25 w26 w27 w28 h) n 0 0 0 [(0, .ref t), (1, .int (nI k)), (2, .int (nI d))] []
  refine z_aload_n hb dX3_writePartition_0 rfl ?_
  refine z_aload_n hb dX3_writePartition_1 rfl ?_
  refine z_iload_n hb dX3_writePartition_2 rfl ?_
  refine z_iload_n hb dX3_writePartition_3 rfl ?_
  refine z_bipush (x := nI 97) hb dX3_writePartition_4 (by decide) ?_
  refine z_call1 (b' := 0) (f' := 0) (rest := [.ref t]) (av := [.ref t, .int (nI k), .int (nI d), .int (nI 97)]) (z_siteV hb ho zc2 z_tw_o q3035 q3037 qs68 ⟨_, _, _, _, zk_X3_cannotAsk⟩ zy_X3_cannotAsk zl_X3_cannotAsk dX3_writePartition_6 : z_Site M _ _ _ _ _ ([.int (nI k), .int (nI d), .int (nI 97)].reverse ++ .ref t :: [.ref t]) [.ref t] _) zk_X3_cannotAsk q104 hrm (m_X3_cannotAsk_ok ht hw hkS hd (by omega)) (by omega) (by decide) (Nat.le_of_ble_eq_true rfl) (by omega) (by omega) ?_
  refine z_put (k := 12) (C := RX3) (T := TX3) (N := 29) hb ho zc2 in_X3 tyX3_ok nmX3 (zf_RX3_47 _) dX3_writePartition_9 z_tw_o ht (by decide) (Or.inl rfl) rfl rfl rfl (Nat.le_of_ble_eq_true rfl) ?_
  refine z_hh z_tw_u12 ?_
  refine z_aload_n hb dX3_writePartition_12 rfl ?_
  refine z_get (k := 12) (C := RX3) (T := TX3) (N := 29) hb ho zc2 in_X3 (zf_RX3_47 _) dX3_writePartition_13 z_tw_o (by decide) rfl ?_
  refine z_if_leN (tgt := 21) hb dX3_writePartition_16 (by decide) (by omega) (fun c_16 => ?_) (fun c_16 => ?_)
  · refine z_aload_n hb dX3_writePartition_21 rfl ?_
    refine z_iconst (x := nI 0) hb dX3_writePartition_22 (by decide) ?_
    refine z_put (k := 20) (C := RX3) (T := TX3) (N := 29) hb ho zc2 in_X3 tyX3_ok nmX3 (zf_RX3_73 _) dX3_writePartition_23 z_tw_o ht (by decide) (Or.inl rfl) rfl rfl rfl (Nat.le_of_ble_eq_true rfl) ?_
    refine z_hh z_tw_u20 ?_
    refine z_iconst (x := nI 0) hb dX3_writePartition_26 (by decide) ?_
    refine z_istore_n (lv' := [(3, .int (nI 0)), (0, .ref t), (1, .int (nI k)), (2, .int (nI d))]) hb dX3_writePartition_27 (by rw [hN]; decide) rfl ?_
    have lp_28 : ∀ (k9_28 : Nat) (g : Nat) (w : Nat → Int32) (L : Nat), 5 - g < k9_28 → (g ≤ 5) → (w = tw_wl w19 0 (tw_ptc w5 k d g)) → (L = (tw_ptc w5 k d g).length) → z_V M (z_tw (zm_G M) t w0 w1 w2 w3 w4 w5 w6 w7 w8 w9 w10 w11 (nI 0) w13 w14 w15 w16 w17 w18 w (nI L) w21 w22 w23 w24 w25 w26 w27 w28 h) n 0 0 28 [(3, .int (nI g)), (0, .ref t), (1, .int (nI k)), (2, .int (nI d))] [] := by
      intro k9_28
      induction k9_28 with
      | zero => intro g w L hk9_28; exact absurd hk9_28 (Nat.not_lt_zero _)
      | succ k9_28 ih_28 =>
        intro g w L hk9_28 hg hw2 hL
        have hl1 := tw_ptc_len hv g hg
        have hl2 : g < 5 → (tw_chs (w5 (5 * (7 * k + d) + g))).length ≤ 14 := fun q => tw_chs_len (hv g q)
        refine z_iload_n hb dX3_writePartition_28 rfl ?_
        refine z_iconst (x := nI 5) hb dX3_writePartition_29 (by decide) ?_
        refine z_icmp_geN (tgt := 64) hb dX3_writePartition_30 (by decide) (by omega) (by omega) (fun c_30 => ?_) (fun c_30 => ?_)
        · refine z_aload_n hb dX3_writePartition_64 rfl ?_
          refine z_iload_n hb dX3_writePartition_65 rfl ?_
          refine z_iload_n hb dX3_writePartition_66 rfl ?_
          refine z_call1 (b' := 0) (f' := 0) (rest := []) (av := [.ref t, .int (nI k), .int (nI d)]) (z_siteV hb ho zc2 z_tw_o q2828 q2830 qs36 ⟨_, _, _, _, zk_X3_isStaleNow⟩ zy_X3_isStaleNow zl_X3_isStaleNow dX3_writePartition_67 : z_Site M _ _ _ _ _ ([.int (nI k), .int (nI d)].reverse ++ .ref t :: []) [] _) zk_X3_isStaleNow q104 hrm (m_X3_isStaleNow k d ht (by omega) (by omega)) (by omega) (by decide) (Nat.le_of_ble_eq_true rfl) (by omega) (by omega) ?_
          refine z_ifb_eq (tgt := 79) hb dX3_writePartition_70 (by decide) (fun c_70 => ?_) (fun c_70 => ?_)
          · refine z_aload_n hb dX3_writePartition_79 rfl ?_
            refine z_get (k := 20) (C := RX3) (T := TX3) (N := 29) hb ho zc2 in_X3 (zf_RX3_73 _) dX3_writePartition_80 z_tw_o (by decide) rfl ?_
            refine z_iret hb hr dX3_writePartition_83 ?_
            rw [hQ]
            obtain rfl : g = 5 := by omega
            rw [hw2, hL, c_70]
            simp only [tw_wl_append, tw_wl, List.length_append, List.length_cons, List.length_nil, Nat.zero_add, if_true, Bool.false_eq_true, if_false, Nat.add_zero]
            exact ⟨rfl, rfl, rfl⟩
          · refine z_aload_n hb dX3_writePartition_73 rfl ?_
            refine z_bipush (x := nI 33) hb dX3_writePartition_74 (by decide) ?_
            refine z_call0 (b' := 0) (f' := 0) (rest := []) (av := [.ref t, .int (nI 33)]) (z_siteV hb ho zc2 z_tw_o q3171 q3173 qs79 ⟨_, _, _, _, zk_X3_write⟩ zy_X3_write zl_X3_write dX3_writePartition_76 : z_Site M _ _ _ _ _ ([.int (nI 33)].reverse ++ .ref t :: []) [] _) zk_X3_write q104 hrm (m_X3_write (w20 := 0) (L := L) (nI 33) ht (by omega)) (by omega) (by decide) (Nat.le_of_ble_eq_true rfl) (by omega) (by omega) ?_
            refine z_aload_n hb dX3_writePartition_79 rfl ?_
            refine z_get (k := 20) (C := RX3) (T := TX3) (N := 29) hb ho zc2 in_X3 (zf_RX3_73 _) dX3_writePartition_80 z_tw_o (by decide) rfl ?_
            refine z_iret hb hr dX3_writePartition_83 ?_
            rw [hQ]
            obtain rfl : g = 5 := by omega
            rw [hw2, hL, c_70]
            simp only [tw_wl_append, tw_wl, List.length_append, List.length_cons, List.length_nil, Nat.zero_add, if_true, Bool.false_eq_true, if_false, Nat.add_zero]
            exact ⟨rfl, rfl, rfl⟩
        · refine z_iload_n hb dX3_writePartition_33 rfl ?_
          refine z_if_leN (tgt := 43) hb dX3_writePartition_34 (by decide) (by omega) (fun c_34 => ?_) (fun c_34 => ?_)
          · refine z_aload_n hb dX3_writePartition_43 rfl ?_
            refine z_aload_n hb dX3_writePartition_44 rfl ?_
            refine z_get (k := 5) (C := RX3) (T := TX3) (N := 29) hb ho zc2 in_X3 (zf_RX3_25 _) dX3_writePartition_45 z_tw_o (by decide) rfl ?_
            refine z_iload_n hb dX3_writePartition_48 rfl ?_
            refine z_iload_n hb dX3_writePartition_49 rfl ?_
            refine z_iload_n hb dX3_writePartition_50 rfl ?_
            refine z_call1 (b' := 0) (f' := 0) (rest := [.ref (t + 6), .ref t]) (av := [.int (nI k), .int (nI d), .int (nI g)]) (z_siteS hb ho q2836 q2837 q104 ⟨_, _, _, _, zk_X3_at⟩ zy_X3_at zl_X3_at dX3_writePartition_51 : z_Site M _ _ _ _ _ ([.int (nI k), .int (nI d), .int (nI g)].reverse ++ [.ref (t + 6), .ref t]) [.ref (t + 6), .ref t] _) zk_X3_at q104 hrm (m_X3_at k d g ht) (by omega) (by decide) (Nat.le_of_ble_eq_true rfl) (by omega) (by omega) ?_
            refine z_lald (j := 5 * (7 * k + d) + g) hb dX3_writePartition_54 z_tw_r5 rfl (by omega) (by omega) ?_
            refine z_call0 (b' := 0) (f' := 0) (rest := []) (av := [.ref t, .long (w5 (5 * (7 * k + d) + g))]) (z_siteV hb ho zc2 z_tw_o q3167 q3169 qs78 ⟨_, _, _, _, zk_X3_writeNumber⟩ zy_X3_writeNumber zl_X3_writeNumber dX3_writePartition_55 : z_Site M _ _ _ _ _ ([.long (w5 (5 * (7 * k + d) + g))].reverse ++ .ref t :: []) [] _) zk_X3_writeNumber q104 hrm (m_X3_writeNumber (w20 := 0) (L := L) (w5 (5 * (7 * k + d) + g)) ht (hv g (by omega)) (by omega)) (by omega) (by decide) (Nat.le_of_ble_eq_true rfl) (by omega) (by omega) ?_
            refine z_iinc (k0 := 0) (lv' := [(3, .int (nI (g + 1))), (0, .ref t), (1, .int (nI k)), (2, .int (nI d))]) hb dX3_writePartition_58 rfl (nI_1 g) (by rw [hN]; decide) rfl ?_
            refine z_goto (tgt := 28) hb dX3_writePartition_61 (by decide) ?_
            refine z_lv [0, 1, 2, 3] (lv' := [(3, .int (nI (g + 1))), (0, .ref t), (1, .int (nI k)), (2, .int (nI d))]) rfl ?_
            exact ih_28 (g + 1) _ _ (by omega) (by omega) (by rw [hw2, hL, tw_ptc, if_pos c_34]; simp only [tw_wl_append, tw_wl, Nat.zero_add, List.nil_append, List.length_nil, Nat.add_zero]) (by rw [hL, tw_ptc, if_pos c_34]; simp only [List.length_append, List.length_nil, Nat.zero_add])
          · refine z_aload_n hb dX3_writePartition_37 rfl ?_
            refine z_bipush (x := nI 44) hb dX3_writePartition_38 (by decide) ?_
            refine z_call0 (b' := 0) (f' := 0) (rest := []) (av := [.ref t, .int (nI 44)]) (z_siteV hb ho zc2 z_tw_o q3171 q3173 qs79 ⟨_, _, _, _, zk_X3_write⟩ zy_X3_write zl_X3_write dX3_writePartition_40 : z_Site M _ _ _ _ _ ([.int (nI 44)].reverse ++ .ref t :: []) [] _) zk_X3_write q104 hrm (m_X3_write (w20 := 0) (L := L) (nI 44) ht (by omega)) (by omega) (by decide) (Nat.le_of_ble_eq_true rfl) (by omega) (by omega) ?_
            refine z_aload_n hb dX3_writePartition_43 rfl ?_
            refine z_aload_n hb dX3_writePartition_44 rfl ?_
            refine z_get (k := 5) (C := RX3) (T := TX3) (N := 29) hb ho zc2 in_X3 (zf_RX3_25 _) dX3_writePartition_45 z_tw_o (by decide) rfl ?_
            refine z_iload_n hb dX3_writePartition_48 rfl ?_
            refine z_iload_n hb dX3_writePartition_49 rfl ?_
            refine z_iload_n hb dX3_writePartition_50 rfl ?_
            refine z_call1 (b' := 0) (f' := 0) (rest := [.ref (t + 6), .ref t]) (av := [.int (nI k), .int (nI d), .int (nI g)]) (z_siteS hb ho q2836 q2837 q104 ⟨_, _, _, _, zk_X3_at⟩ zy_X3_at zl_X3_at dX3_writePartition_51 : z_Site M _ _ _ _ _ ([.int (nI k), .int (nI d), .int (nI g)].reverse ++ [.ref (t + 6), .ref t]) [.ref (t + 6), .ref t] _) zk_X3_at q104 hrm (m_X3_at k d g ht) (by omega) (by decide) (Nat.le_of_ble_eq_true rfl) (by omega) (by omega) ?_
            refine z_lald (j := 5 * (7 * k + d) + g) hb dX3_writePartition_54 z_tw_r5 rfl (by omega) (by omega) ?_
            refine z_call0 (b' := 0) (f' := 0) (rest := []) (av := [.ref t, .long (w5 (5 * (7 * k + d) + g))]) (z_siteV hb ho zc2 z_tw_o q3167 q3169 qs78 ⟨_, _, _, _, zk_X3_writeNumber⟩ zy_X3_writeNumber zl_X3_writeNumber dX3_writePartition_55 : z_Site M _ _ _ _ _ ([.long (w5 (5 * (7 * k + d) + g))].reverse ++ .ref t :: []) [] _) zk_X3_writeNumber q104 hrm (m_X3_writeNumber (w20 := 0) (L := L + 1) (w5 (5 * (7 * k + d) + g)) ht (hv g (by omega)) (by omega)) (by omega) (by decide) (Nat.le_of_ble_eq_true rfl) (by omega) (by omega) ?_
            refine z_iinc (k0 := 0) (lv' := [(3, .int (nI (g + 1))), (0, .ref t), (1, .int (nI k)), (2, .int (nI d))]) hb dX3_writePartition_58 rfl (nI_1 g) (by rw [hN]; decide) rfl ?_
            refine z_goto (tgt := 28) hb dX3_writePartition_61 (by decide) ?_
            refine z_lv [0, 1, 2, 3] (lv' := [(3, .int (nI (g + 1))), (0, .ref t), (1, .int (nI k)), (2, .int (nI d))]) rfl ?_
            exact ih_28 (g + 1) _ _ (by omega) (by omega) (by rw [hw2, hL, tw_ptc, if_neg (by omega)]; simp only [tw_wl_append, tw_wl, Nat.zero_add, List.length_cons, List.length_nil]) (by rw [hL, tw_ptc, if_neg (by omega)]; simp only [List.length_append, List.length_cons, List.length_nil, Nat.zero_add]; omega)
    refine z_lv [0, 1, 2, 3] (lv' := [(3, .int (nI 0)), (0, .ref t), (1, .int (nI k)), (2, .int (nI d))]) rfl ?_
    exact lp_28 _ 0 _ _ (Nat.lt_succ_self _) (Nat.zero_le _) rfl rfl
  · exact absurd c_16 (by omega)

set_option maxHeartbeats 1000000 in
theorem m_X3_lineCharacter_no {l : Launch} {G : zG} {h : zH} {n : Nat} {t : Nat} {w0 : Nat → Int32} {w1 : Nat → Int32} {w2 : Nat → Int32} {w3 : Nat → Int32} {w4 : Nat → Int32} {w5 : Nat → Int64} {w6 : Nat → Int64} {w7 : Nat → Int64} {w8 : Nat → Int64} {w9 : Nat → Int64} {w10 : Nat → Int64} {w11 : Nat → Int64} {w12 : Int32} {w13 : Int32} {w14 : Int32} {w15 : Int32} {w16 : Int32} {w17 : Int32} {w18 : Bool} {w19 : Nat → Int32} {w20 : Int32} {w21 : Nat → Int32} {w22 : Nat → Int32} {w23 : Nat → Int32} {w24 : Int32} {w25 : Int32} {w26 : Int32} {w27 : Int32} {w28 : Bool} {x : Int32}  (ht : z_n0 G ≤ t) (hx : decide (nI 0 ≤ x ∧ x ≤ w20 - nI 1) = false) : z_C l G yX3_lineCharacter 2 0 0 [.ref t, .int x] (z_tw G t w0 w1 w2 w3 w4 w5 w6 w7 w8 w9 w10 w11 w12 w13 w14 w15 w16 w17 w18 w19 w20 w21 w22 w23 w24 w25 w26 w27 w28 h) n (z_rv (.int (nI 32)) (z_tw G t w0 w1 w2 w3 w4 w5 w6 w7 w8 w9 w10 w11 (nI 1) w13 w14 w15 w16 w17 w18 w19 w20 w21 w22 w23 w24 w25 w26 w27 w28 h) n) := by
  refine z_start zk_X3_lineCharacter zpl_RX3 (Nat.le_of_ble_eq_true rfl) ?_
  intro hn0 M hl hG ho hb hN hr hm hH hrm hQ
  subst hl hG
  have ho : zm_o M = RX3 := ho
  show z_V M (z_tw (zm_G M) t w0 w1 w2 w3 w4 w5 w6 w7 w8 w9 w10 w11 w12 w13 w14 w15 w16 w17 w18 w19 w20 w21 w22 w23 w24 w25 w26 w27 w28 h) n 0 0 0 [(0, .ref t), (1, .int x)] []
  refine z_aload_n hb dX3_lineCharacter_0 rfl ?_
  refine z_iload_n hb dX3_lineCharacter_1 rfl ?_
  refine z_iconst (x := nI 0) hb dX3_lineCharacter_2 (by decide) ?_
  refine z_aload_n hb dX3_lineCharacter_3 rfl ?_
  refine z_get (k := 20) (C := RX3) (T := TX3) (N := 29) hb ho zc2 in_X3 (zf_RX3_73 _) dX3_lineCharacter_4 z_tw_o (by decide) rfl ?_
  refine z_iconst (x := nI 1) hb dX3_lineCharacter_7 (by decide) ?_
  refine z_isub hb dX3_lineCharacter_8 ?_
  refine z_call1 (b' := 0) (f' := 0) (rest := [.ref t]) (av := [.int x, .int (nI 0), .int (w20 - (nI 1))]) (z_siteS hb ho q2809 q2810 q104 ⟨_, _, _, _, zk_X3_in⟩ zy_X3_in zl_X3_in dX3_lineCharacter_9 : z_Site M _ _ _ _ _ ([.int x, .int (nI 0), .int (w20 - (nI 1))].reverse ++ [.ref t]) [.ref t] _) zk_X3_in q104 hrm (m_X3_in x (nI 0) (w20 - (nI 1)) ht) (by omega) (by decide) (Nat.le_of_ble_eq_true rfl) (by omega) (by omega) ?_
  refine z_call1 (b' := 0) (f' := 0) (rest := []) (av := [.ref t, .int (z_b (decide ((nI 0) ≤ x ∧ x ≤ (w20 - (nI 1)))))]) (z_siteV hb ho zc2 z_tw_o q2995 q2997 qs66 ⟨_, _, _, _, zk_X3_checked⟩ zy_X3_checked zl_X3_checked dX3_lineCharacter_12 : z_Site M _ _ _ _ _ ([.int (z_b (decide ((nI 0) ≤ x ∧ x ≤ (w20 - (nI 1)))))].reverse ++ .ref t :: []) [] _) zk_X3_checked q104 hrm (m_X3_checked (decide ((nI 0) ≤ x ∧ x ≤ (w20 - (nI 1)))) ht) (by omega) (by decide) (Nat.le_of_ble_eq_true rfl) (by omega) (by omega) ?_
  refine z_ifb_le (tgt := 23) hb dX3_lineCharacter_15 (by decide) (fun c_15 => ?_) (fun c_15 => ?_)
  · rw [hx] at c_15; exact absurd c_15 (by decide)
  · refine z_bipush (x := nI 32) hb dX3_lineCharacter_18 (by decide) ?_
    refine z_goto (tgt := 30) hb dX3_lineCharacter_20 (by decide) ?_
    refine z_zret hb hr rfl dX3_lineCharacter_30 ?_
    rw [hQ]
    rw [hx]; exact ⟨rfl, rfl, rfl⟩

set_option maxHeartbeats 1000000 in
theorem m_X3_lineCharacter_ok {l : Launch} {G : zG} {h : zH} {n : Nat} {t : Nat} {w0 : Nat → Int32} {w1 : Nat → Int32} {w2 : Nat → Int32} {w3 : Nat → Int32} {w4 : Nat → Int32} {w5 : Nat → Int64} {w6 : Nat → Int64} {w7 : Nat → Int64} {w8 : Nat → Int64} {w9 : Nat → Int64} {w10 : Nat → Int64} {w11 : Nat → Int64} {w12 : Int32} {w13 : Int32} {w14 : Int32} {w15 : Int32} {w16 : Int32} {w17 : Int32} {w18 : Bool} {w19 : Nat → Int32} {w20 : Int32} {w21 : Nat → Int32} {w22 : Nat → Int32} {w23 : Nat → Int32} {w24 : Int32} {w25 : Int32} {w26 : Int32} {w27 : Int32} {w28 : Bool} {p L : Nat}  (ht : z_n0 G ≤ t) (hL : L ≤ 120) (hp : p < L) : z_C l G yX3_lineCharacter 2 0 0 [.ref t, .int (nI p)] (z_tw G t w0 w1 w2 w3 w4 w5 w6 w7 w8 w9 w10 w11 w12 w13 w14 w15 w16 w17 w18 w19 (nI L) w21 w22 w23 w24 w25 w26 w27 w28 h) n (z_rv (.int (((w19 p).toUInt32 % 65536).toInt32)) (z_tw G t w0 w1 w2 w3 w4 w5 w6 w7 w8 w9 w10 w11 (nI 0) w13 w14 w15 w16 w17 w18 w19 (nI L) w21 w22 w23 w24 w25 w26 w27 w28 h) n) := by
  refine z_start zk_X3_lineCharacter zpl_RX3 (Nat.le_of_ble_eq_true rfl) ?_
  intro hn0 M hl hG ho hb hN hr hm hH hrm hQ
  subst hl hG
  have ho : zm_o M = RX3 := ho
  have hx := z_inR hp (by omega)
  show z_V M (z_tw (zm_G M) t w0 w1 w2 w3 w4 w5 w6 w7 w8 w9 w10 w11 w12 w13 w14 w15 w16 w17 w18 w19 (nI L) w21 w22 w23 w24 w25 w26 w27 w28 h) n 0 0 0 [(0, .ref t), (1, .int (nI p))] []
  refine z_aload_n hb dX3_lineCharacter_0 rfl ?_
  refine z_iload_n hb dX3_lineCharacter_1 rfl ?_
  refine z_iconst (x := nI 0) hb dX3_lineCharacter_2 (by decide) ?_
  refine z_aload_n hb dX3_lineCharacter_3 rfl ?_
  refine z_get (k := 20) (C := RX3) (T := TX3) (N := 29) hb ho zc2 in_X3 (zf_RX3_73 _) dX3_lineCharacter_4 z_tw_o (by decide) rfl ?_
  refine z_iconst (x := nI 1) hb dX3_lineCharacter_7 (by decide) ?_
  refine z_isub hb dX3_lineCharacter_8 ?_
  refine z_call1 (b' := 0) (f' := 0) (rest := [.ref t]) (av := [.int (nI p), .int (nI 0), .int ((nI L) - (nI 1))]) (z_siteS hb ho q2809 q2810 q104 ⟨_, _, _, _, zk_X3_in⟩ zy_X3_in zl_X3_in dX3_lineCharacter_9 : z_Site M _ _ _ _ _ ([.int (nI p), .int (nI 0), .int ((nI L) - (nI 1))].reverse ++ [.ref t]) [.ref t] _) zk_X3_in q104 hrm (m_X3_in (nI p) (nI 0) ((nI L) - (nI 1)) ht) (by omega) (by decide) (Nat.le_of_ble_eq_true rfl) (by omega) (by omega) ?_
  refine z_call1 (b' := 0) (f' := 0) (rest := []) (av := [.ref t, .int (z_b (decide ((nI 0) ≤ (nI p) ∧ (nI p) ≤ ((nI L) - (nI 1)))))]) (z_siteV hb ho zc2 z_tw_o q2995 q2997 qs66 ⟨_, _, _, _, zk_X3_checked⟩ zy_X3_checked zl_X3_checked dX3_lineCharacter_12 : z_Site M _ _ _ _ _ ([.int (z_b (decide ((nI 0) ≤ (nI p) ∧ (nI p) ≤ ((nI L) - (nI 1)))))].reverse ++ .ref t :: []) [] _) zk_X3_checked q104 hrm (m_X3_checked (decide ((nI 0) ≤ (nI p) ∧ (nI p) ≤ ((nI L) - (nI 1)))) ht) (by omega) (by decide) (Nat.le_of_ble_eq_true rfl) (by omega) (by omega) ?_
  refine z_ifb_le (tgt := 23) hb dX3_lineCharacter_15 (by decide) (fun c_15 => ?_) (fun c_15 => ?_)
  · refine z_aload_n hb dX3_lineCharacter_23 rfl ?_
    refine z_get (k := 19) (C := RX3) (T := TX3) (N := 29) hb ho zc2 in_X3 (zf_RX3_70 _) dX3_lineCharacter_24 z_tw_o (by decide) rfl ?_
    refine z_iload_n hb dX3_lineCharacter_27 rfl ?_
    refine z_iald (j := p) hb dX3_lineCharacter_28 z_tw_r19 rfl (by omega) (by omega) ?_
    refine z_i2c hb dX3_lineCharacter_29 rfl ?_
    refine z_zret hb hr (pk_nc _) dX3_lineCharacter_30 ?_
    rw [hQ]
    rw [hx]; exact ⟨rfl, rfl, rfl⟩
  · rw [hx] at c_15; exact absurd c_15 (by decide)

set_option maxHeartbeats 1000000 in
theorem m_X3_feed_no {l : Launch} {G : zG} {h : zH} {n : Nat} {t : Nat} {w0 : Nat → Int32} {w1 : Nat → Int32} {w2 : Nat → Int32} {w3 : Nat → Int32} {w4 : Nat → Int32} {w5 : Nat → Int64} {w6 : Nat → Int64} {w7 : Nat → Int64} {w8 : Nat → Int64} {w9 : Nat → Int64} {w10 : Nat → Int64} {w11 : Nat → Int64} {w12 : Int32} {w13 : Int32} {w14 : Int32} {w15 : Int32} {w16 : Int32} {w17 : Int32} {w18 : Bool} {w19 : Nat → Int32} {w20 : Int32} {w21 : Nat → Int32} {w22 : Nat → Int32} {w23 : Nat → Int32} {w24 : Int32} {w25 : Int32} {w26 : Int32} {w27 : Int32} {w28 : Bool} {c : Int32}  (ht : z_n0 G ≤ t) : z_C l G yX3_feed 2 0 0 [.ref t, .int c] (z_tw G t w0 w1 w2 w3 w4 w5 w6 w7 w8 w9 w10 w11 w12 w13 w14 w15 w16 w17 w18 w19 w20 w21 w22 w23 (nI 60) w25 w26 w27 w28 h) n (z_rv (.int (nI 0)) (z_tw G t w0 w1 w2 w3 w4 w5 w6 w7 w8 w9 w10 w11 (nI 1) w13 w14 w15 w16 w17 w18 w19 w20 w21 w22 w23 (nI 60) w25 w26 w27 w28 h) n) := by
  refine z_start zk_X3_feed zpl_RX3 (Nat.le_of_ble_eq_true rfl) ?_
  intro hn0 M hl hG ho hb hN hr hm hH hrm hQ
  subst hl hG
  have ho : zm_o M = RX3 := ho
  show z_V M (z_tw (zm_G M) t w0 w1 w2 w3 w4 w5 w6 w7 w8 w9 w10 w11 w12 w13 w14 w15 w16 w17 w18 w19 w20 w21 w22 w23 (nI 60) w25 w26 w27 w28 h) n 0 0 0 [(0, .ref t), (1, .int c)] []
  refine z_aload_n hb dX3_feed_0 rfl ?_
  refine z_aload_n hb dX3_feed_1 rfl ?_
  refine z_get (k := 24) (C := RX3) (T := TX3) (N := 29) hb ho zc2 in_X3 (zf_RX3_85 _) dX3_feed_2 z_tw_o (by decide) rfl ?_
  refine z_bipush (x := nI 60) hb dX3_feed_5 (by decide) ?_
  refine z_icmp_geN (tgt := 14) hb dX3_feed_7 (by decide) (by omega) (by omega) (fun c_7 => ?_) (fun c_7 => ?_)
  · refine z_iconst (x := nI 0) hb dX3_feed_14 (by decide) ?_
    refine z_call1 (b' := 0) (f' := 0) (rest := []) (av := [.ref t, .int (nI 0)]) (z_siteV hb ho zc2 z_tw_o q2995 q2997 qs66 ⟨_, _, _, _, zk_X3_checked⟩ zy_X3_checked zl_X3_checked dX3_feed_15 : z_Site M _ _ _ _ _ ([.int (nI 0)].reverse ++ .ref t :: []) [] _) zk_X3_checked q104 hrm (m_X3_checked false ht) (by omega) (by decide) (Nat.le_of_ble_eq_true rfl) (by omega) (by omega) ?_
    refine z_ifb_le (tgt := 23) hb dX3_feed_18 (by decide) (fun c_18 => ?_) (fun c_18 => ?_)
    · exact absurd c_18 (by decide)
    · refine z_iconst (x := nI 0) hb dX3_feed_21 (by decide) ?_
      refine z_iret hb hr dX3_feed_22 ?_
      rw [hQ]
      exact ⟨rfl, rfl, rfl⟩
  · exact absurd c_7 (by omega)

set_option maxHeartbeats 1000000 in
theorem m_X3_feed_ok {l : Launch} {G : zG} {h : zH} {n : Nat} {t : Nat} {w0 : Nat → Int32} {w1 : Nat → Int32} {w2 : Nat → Int32} {w3 : Nat → Int32} {w4 : Nat → Int32} {w5 : Nat → Int64} {w6 : Nat → Int64} {w7 : Nat → Int64} {w8 : Nat → Int64} {w9 : Nat → Int64} {w10 : Nat → Int64} {w11 : Nat → Int64} {w12 : Int32} {w13 : Int32} {w14 : Int32} {w15 : Int32} {w16 : Int32} {w17 : Int32} {w18 : Bool} {w19 : Nat → Int32} {w20 : Int32} {w21 : Nat → Int32} {w22 : Nat → Int32} {w23 : Nat → Int32} {w24 : Int32} {w25 : Int32} {w26 : Int32} {w27 : Int32} {w28 : Bool} {c : Int32} {L : Nat}  (ht : z_n0 G ≤ t) (hL : L < 60) : z_C l G yX3_feed 2 0 0 [.ref t, .int c] (z_tw G t w0 w1 w2 w3 w4 w5 w6 w7 w8 w9 w10 w11 w12 w13 w14 w15 w16 w17 w18 w19 w20 w21 w22 w23 (nI L) w25 w26 w27 w28 h) n (z_rv (.int (nI (L + 1))) (z_tw G t w0 w1 w2 w3 w4 w5 w6 w7 w8 w9 w10 w11 (nI 0) w13 w14 w15 w16 w17 w18 w19 w20 (va_up w21 L c) w22 w23 (nI (L + 1)) w25 w26 w27 w28 h) n) := by
  refine z_start zk_X3_feed zpl_RX3 (Nat.le_of_ble_eq_true rfl) ?_
  intro hn0 M hl hG ho hb hN hr hm hH hrm hQ
  subst hl hG
  have ho : zm_o M = RX3 := ho
  show z_V M (z_tw (zm_G M) t w0 w1 w2 w3 w4 w5 w6 w7 w8 w9 w10 w11 w12 w13 w14 w15 w16 w17 w18 w19 w20 w21 w22 w23 (nI L) w25 w26 w27 w28 h) n 0 0 0 [(0, .ref t), (1, .int c)] []
  refine z_aload_n hb dX3_feed_0 rfl ?_
  refine z_aload_n hb dX3_feed_1 rfl ?_
  refine z_get (k := 24) (C := RX3) (T := TX3) (N := 29) hb ho zc2 in_X3 (zf_RX3_85 _) dX3_feed_2 z_tw_o (by decide) rfl ?_
  refine z_bipush (x := nI 60) hb dX3_feed_5 (by decide) ?_
  refine z_icmp_geN (tgt := 14) hb dX3_feed_7 (by decide) (by omega) (by omega) (fun c_7 => ?_) (fun c_7 => ?_)
  · exact absurd c_7 (by omega)
  · refine z_iconst (x := nI 1) hb dX3_feed_10 (by decide) ?_
    refine z_goto (tgt := 15) hb dX3_feed_11 (by decide) ?_
    refine z_call1 (b' := 0) (f' := 0) (rest := []) (av := [.ref t, .int (nI 1)]) (z_siteV hb ho zc2 z_tw_o q2995 q2997 qs66 ⟨_, _, _, _, zk_X3_checked⟩ zy_X3_checked zl_X3_checked dX3_feed_15 : z_Site M _ _ _ _ _ ([.int (nI 1)].reverse ++ .ref t :: []) [] _) zk_X3_checked q104 hrm (m_X3_checked true ht) (by omega) (by decide) (Nat.le_of_ble_eq_true rfl) (by omega) (by omega) ?_
    refine z_ifb_le (tgt := 23) hb dX3_feed_18 (by decide) (fun c_18 => ?_) (fun c_18 => ?_)
    · refine z_aload_n hb dX3_feed_23 rfl ?_
      refine z_get (k := 21) (C := RX3) (T := TX3) (N := 29) hb ho zc2 in_X3 (zf_RX3_76 _) dX3_feed_24 z_tw_o (by decide) rfl ?_
      refine z_aload_n hb dX3_feed_27 rfl ?_
      refine z_get (k := 24) (C := RX3) (T := TX3) (N := 29) hb ho zc2 in_X3 (zf_RX3_85 _) dX3_feed_28 z_tw_o (by decide) rfl ?_
      refine z_iload_n hb dX3_feed_31 rfl ?_
      refine z_iast (j := L) hb dX3_feed_32 z_tw_r21 (by omega) rfl (by omega) (by omega) ?_
      refine z_hh z_tw_u21 ?_
      refine z_aload_n hb dX3_feed_33 rfl ?_
      refine z_dup hb dX3_feed_34 rfl ?_
      refine z_get (k := 24) (C := RX3) (T := TX3) (N := 29) hb ho zc2 in_X3 (zf_RX3_85 _) dX3_feed_35 z_tw_o (by decide) rfl ?_
      refine z_iconst (x := nI 1) hb dX3_feed_38 (by decide) ?_
      refine z_iadd hb dX3_feed_39 ?_
      refine z_toI (y := nI (L + 1)) (nI_add L 1) ?_
      refine z_put (k := 24) (C := RX3) (T := TX3) (N := 29) hb ho zc2 in_X3 tyX3_ok nmX3 (zf_RX3_85 _) dX3_feed_40 z_tw_o ht (by decide) (Or.inl rfl) rfl rfl rfl (Nat.le_of_ble_eq_true rfl) ?_
      refine z_hh z_tw_u24 ?_
      refine z_aload_n hb dX3_feed_43 rfl ?_
      refine z_get (k := 24) (C := RX3) (T := TX3) (N := 29) hb ho zc2 in_X3 (zf_RX3_85 _) dX3_feed_44 z_tw_o (by decide) rfl ?_
      refine z_iret hb hr dX3_feed_47 ?_
      rw [hQ]
      exact ⟨rfl, rfl, rfl⟩
    · exact absurd c_18 (by decide)

set_option maxHeartbeats 1000000 in
theorem m_X3_faultPosition_no {l : Launch} {G : zG} {h : zH} {n : Nat} {t : Nat} {w0 : Nat → Int32} {w1 : Nat → Int32} {w2 : Nat → Int32} {w3 : Nat → Int32} {w4 : Nat → Int32} {w5 : Nat → Int64} {w6 : Nat → Int64} {w7 : Nat → Int64} {w8 : Nat → Int64} {w9 : Nat → Int64} {w10 : Nat → Int64} {w11 : Nat → Int64} {w12 : Int32} {w13 : Int32} {w14 : Int32} {w15 : Int32} {w16 : Int32} {w17 : Int32} {w18 : Bool} {w19 : Nat → Int32} {w20 : Int32} {w21 : Nat → Int32} {w22 : Nat → Int32} {w23 : Nat → Int32} {w24 : Int32} {w25 : Int32} {w26 : Int32} {w27 : Int32} {w28 : Bool}   (ht : z_n0 G ≤ t) (h0 : w14 < 0) : z_C l G yX3_faultPosition 2 0 0 [.ref t] (z_tw G t w0 w1 w2 w3 w4 w5 w6 w7 w8 w9 w10 w11 w12 w13 w14 w15 w16 w17 w18 w19 w20 w21 w22 w23 w24 w25 w26 w27 w28 h) n (z_rv (.int (nI 0)) (z_tw G t w0 w1 w2 w3 w4 w5 w6 w7 w8 w9 w10 w11 (nI 1) w13 w14 w15 w16 w17 w18 w19 w20 w21 w22 w23 w24 w25 w26 w27 w28 h) n) := by
  refine z_start zk_X3_faultPosition zpl_RX3 (Nat.le_of_ble_eq_true rfl) ?_
  intro hn0 M hl hG ho hb hN hr hm hH hrm hQ
  subst hl hG
  have ho : zm_o M = RX3 := ho
  show z_V M (z_tw (zm_G M) t w0 w1 w2 w3 w4 w5 w6 w7 w8 w9 w10 w11 w12 w13 w14 w15 w16 w17 w18 w19 w20 w21 w22 w23 w24 w25 w26 w27 w28 h) n 0 0 0 [(0, .ref t)] []
  refine z_aload_n hb dX3_faultPosition_0 rfl ?_
  refine z_aload_n hb dX3_faultPosition_1 rfl ?_
  refine z_get (k := 14) (C := RX3) (T := TX3) (N := 29) hb ho zc2 in_X3 (zf_RX3_54 _) dX3_faultPosition_2 z_tw_o (by decide) rfl ?_
  refine z_if_lt (tgt := 12) hb dX3_faultPosition_5 (by decide) (fun c_5 => ?_) (fun c_5 => ?_)
  · refine z_iconst (x := nI 0) hb dX3_faultPosition_12 (by decide) ?_
    refine z_call1 (b' := 0) (f' := 0) (rest := []) (av := [.ref t, .int (nI 0)]) (z_siteV hb ho zc2 z_tw_o q2995 q2997 qs66 ⟨_, _, _, _, zk_X3_checked⟩ zy_X3_checked zl_X3_checked dX3_faultPosition_13 : z_Site M _ _ _ _ _ ([.int (nI 0)].reverse ++ .ref t :: []) [] _) zk_X3_checked q104 hrm (m_X3_checked false ht) (by omega) (by decide) (Nat.le_of_ble_eq_true rfl) (by omega) (by omega) ?_
    refine z_ifb_le (tgt := 23) hb dX3_faultPosition_16 (by decide) (fun c_16 => ?_) (fun c_16 => ?_)
    · exact absurd c_16 (by decide)
    · refine z_iconst (x := nI 0) hb dX3_faultPosition_19 (by decide) ?_
      refine z_goto (tgt := 27) hb dX3_faultPosition_20 (by decide) ?_
      refine z_iret hb hr dX3_faultPosition_27 ?_
      rw [hQ]
      exact ⟨rfl, rfl, rfl⟩
  · exact absurd h0 c_5

set_option maxHeartbeats 1000000 in
theorem m_X3_faultPosition_ok {l : Launch} {G : zG} {h : zH} {n : Nat} {t : Nat} {w0 : Nat → Int32} {w1 : Nat → Int32} {w2 : Nat → Int32} {w3 : Nat → Int32} {w4 : Nat → Int32} {w5 : Nat → Int64} {w6 : Nat → Int64} {w7 : Nat → Int64} {w8 : Nat → Int64} {w9 : Nat → Int64} {w10 : Nat → Int64} {w11 : Nat → Int64} {w12 : Int32} {w13 : Int32} {w14 : Int32} {w15 : Int32} {w16 : Int32} {w17 : Int32} {w18 : Bool} {w19 : Nat → Int32} {w20 : Int32} {w21 : Nat → Int32} {w22 : Nat → Int32} {w23 : Nat → Int32} {w24 : Int32} {w25 : Int32} {w26 : Int32} {w27 : Int32} {w28 : Bool}   (ht : z_n0 G ≤ t) (h0 : ¬w14 < 0) : z_C l G yX3_faultPosition 2 0 0 [.ref t] (z_tw G t w0 w1 w2 w3 w4 w5 w6 w7 w8 w9 w10 w11 w12 w13 w14 w15 w16 w17 w18 w19 w20 w21 w22 w23 w24 w25 w26 w27 w28 h) n (z_rv (.int w14) (z_tw G t w0 w1 w2 w3 w4 w5 w6 w7 w8 w9 w10 w11 (nI 0) w13 w14 w15 w16 w17 w18 w19 w20 w21 w22 w23 w24 w25 w26 w27 w28 h) n) := by
  refine z_start zk_X3_faultPosition zpl_RX3 (Nat.le_of_ble_eq_true rfl) ?_
  intro hn0 M hl hG ho hb hN hr hm hH hrm hQ
  subst hl hG
  have ho : zm_o M = RX3 := ho
  show z_V M (z_tw (zm_G M) t w0 w1 w2 w3 w4 w5 w6 w7 w8 w9 w10 w11 w12 w13 w14 w15 w16 w17 w18 w19 w20 w21 w22 w23 w24 w25 w26 w27 w28 h) n 0 0 0 [(0, .ref t)] []
  refine z_aload_n hb dX3_faultPosition_0 rfl ?_
  refine z_aload_n hb dX3_faultPosition_1 rfl ?_
  refine z_get (k := 14) (C := RX3) (T := TX3) (N := 29) hb ho zc2 in_X3 (zf_RX3_54 _) dX3_faultPosition_2 z_tw_o (by decide) rfl ?_
  refine z_if_lt (tgt := 12) hb dX3_faultPosition_5 (by decide) (fun c_5 => ?_) (fun c_5 => ?_)
  · exact absurd c_5 h0
  · refine z_iconst (x := nI 1) hb dX3_faultPosition_8 (by decide) ?_
    refine z_goto (tgt := 13) hb dX3_faultPosition_9 (by decide) ?_
    refine z_call1 (b' := 0) (f' := 0) (rest := []) (av := [.ref t, .int (nI 1)]) (z_siteV hb ho zc2 z_tw_o q2995 q2997 qs66 ⟨_, _, _, _, zk_X3_checked⟩ zy_X3_checked zl_X3_checked dX3_faultPosition_13 : z_Site M _ _ _ _ _ ([.int (nI 1)].reverse ++ .ref t :: []) [] _) zk_X3_checked q104 hrm (m_X3_checked true ht) (by omega) (by decide) (Nat.le_of_ble_eq_true rfl) (by omega) (by omega) ?_
    refine z_ifb_le (tgt := 23) hb dX3_faultPosition_16 (by decide) (fun c_16 => ?_) (fun c_16 => ?_)
    · refine z_aload_n hb dX3_faultPosition_23 rfl ?_
      refine z_get (k := 14) (C := RX3) (T := TX3) (N := 29) hb ho zc2 in_X3 (zf_RX3_54 _) dX3_faultPosition_24 z_tw_o (by decide) rfl ?_
      refine z_iret hb hr dX3_faultPosition_27 ?_
      rw [hQ]
      exact ⟨rfl, rfl, rfl⟩
    · exact absurd c_16 (by decide)

set_option maxHeartbeats 1000000 in
theorem m_X3_undo_no {l : Launch} {G : zG} {h : zH} {n : Nat} {t : Nat} {w0 : Nat → Int32} {w1 : Nat → Int32} {w2 : Nat → Int32} {w3 : Nat → Int32} {w4 : Nat → Int32} {w5 : Nat → Int64} {w6 : Nat → Int64} {w7 : Nat → Int64} {w8 : Nat → Int64} {w9 : Nat → Int64} {w10 : Nat → Int64} {w11 : Nat → Int64} {w12 : Int32} {w13 : Int32} {w14 : Int32} {w15 : Int32} {w16 : Int32} {w17 : Int32} {w18 : Bool} {w19 : Nat → Int32} {w20 : Int32} {w21 : Nat → Int32} {w22 : Nat → Int32} {w23 : Nat → Int32} {w24 : Int32} {w25 : Int32} {w26 : Int32} {w27 : Int32} {w28 : Bool}   (ht : z_n0 G ≤ t) : z_C l G yX3_undo 2 0 0 [.ref t] (z_tw G t w0 w1 w2 w3 w4 w5 w6 w7 w8 w9 w10 w11 w12 (nI 0) w14 w15 w16 w17 w18 w19 w20 w21 w22 w23 w24 w25 w26 w27 w28 h) n (z_rv (.int (nI 0)) (z_tw G t w0 w1 w2 w3 w4 w5 w6 w7 w8 w9 w10 w11 (nI 1) (nI 0) w14 w15 w16 w17 w18 w19 w20 w21 w22 w23 w24 w25 w26 w27 w28 h) n) := by
  refine z_start zk_X3_undo zpl_RX3 (Nat.le_of_ble_eq_true rfl) ?_
  intro hn0 M hl hG ho hb hN hr hm hH hrm hQ
  subst hl hG
  have ho : zm_o M = RX3 := ho
  show z_V M (z_tw (zm_G M) t w0 w1 w2 w3 w4 w5 w6 w7 w8 w9 w10 w11 w12 (nI 0) w14 w15 w16 w17 w18 w19 w20 w21 w22 w23 w24 w25 w26 w27 w28 h) n 0 0 0 [(0, .ref t)] []
  refine z_aload_n hb dX3_undo_0 rfl ?_
  refine z_aload_n hb dX3_undo_1 rfl ?_
  refine z_get (k := 13) (C := RX3) (T := TX3) (N := 29) hb ho zc2 in_X3 (zf_RX3_51 _) dX3_undo_2 z_tw_o (by decide) rfl ?_
  refine z_if_leN (tgt := 12) hb dX3_undo_5 (by decide) (by omega) (fun c_5 => ?_) (fun c_5 => ?_)
  · refine z_iconst (x := nI 0) hb dX3_undo_12 (by decide) ?_
    refine z_call1 (b' := 0) (f' := 0) (rest := []) (av := [.ref t, .int (nI 0)]) (z_siteV hb ho zc2 z_tw_o q2995 q2997 qs66 ⟨_, _, _, _, zk_X3_checked⟩ zy_X3_checked zl_X3_checked dX3_undo_13 : z_Site M _ _ _ _ _ ([.int (nI 0)].reverse ++ .ref t :: []) [] _) zk_X3_checked q104 hrm (m_X3_checked false ht) (by omega) (by decide) (Nat.le_of_ble_eq_true rfl) (by omega) (by omega) ?_
    refine z_ifb_le (tgt := 21) hb dX3_undo_16 (by decide) (fun c_16 => ?_) (fun c_16 => ?_)
    · exact absurd c_16 (by decide)
    · refine z_iconst (x := nI 0) hb dX3_undo_19 (by decide) ?_
      refine z_iret hb hr dX3_undo_20 ?_
      rw [hQ]
      exact ⟨rfl, rfl, rfl⟩
  · exact absurd c_5 (by omega)

set_option maxHeartbeats 1000000 in
theorem m_X3_undo_ok {l : Launch} {G : zG} {h : zH} {n : Nat} {t : Nat} {w0 : Nat → Int32} {w1 : Nat → Int32} {w2 : Nat → Int32} {w3 : Nat → Int32} {w4 : Nat → Int32} {w5 : Nat → Int64} {w6 : Nat → Int64} {w7 : Nat → Int64} {w8 : Nat → Int64} {w9 : Nat → Int64} {w10 : Nat → Int64} {w11 : Nat → Int64} {w12 : Int32} {w13 : Int32} {w14 : Int32} {w15 : Int32} {w16 : Int32} {w17 : Int32} {w18 : Bool} {w19 : Nat → Int32} {w20 : Int32} {w21 : Nat → Int32} {w22 : Nat → Int32} {w23 : Nat → Int32} {w24 : Int32} {w25 : Int32} {w26 : Int32} {w27 : Int32} {w28 : Bool} {j : Nat}  (ht : z_n0 G ≤ t) (hj : j < 8) : z_C l G yX3_undo 2 0 0 [.ref t] (z_tw G t w0 w1 w2 w3 w4 w5 w6 w7 w8 w9 w10 w11 w12 (nI (j + 1)) w14 w15 w16 w17 w18 w19 w20 w21 w22 w23 w24 w25 w26 w27 w28 h) n (z_rv (.int (nI j)) (z_tw G t (va_cpy w3 w0 (272 * j) 0 272) w1 w2 w3 w4 (va_cpy w8 w5 (280 * j) 0 280) w6 w7 w8 w9 w10 w11 (nI 0) (nI j) w14 w15 w16 w17 w18 w19 w20 w21 w22 w23 w24 w25 w26 w27 w28 h) n) := by
  refine z_start zk_X3_undo zpl_RX3 (Nat.le_of_ble_eq_true rfl) ?_
  intro hn0 M hl hG ho hb hN hr hm hH hrm hQ
  subst hl hG
  have ho : zm_o M = RX3 := ho
  show z_V M (z_tw (zm_G M) t w0 w1 w2 w3 w4 w5 w6 w7 w8 w9 w10 w11 w12 (nI (j + 1)) w14 w15 w16 w17 w18 w19 w20 w21 w22 w23 w24 w25 w26 w27 w28 h) n 0 0 0 [(0, .ref t)] []
  refine z_aload_n hb dX3_undo_0 rfl ?_
  refine z_aload_n hb dX3_undo_1 rfl ?_
  refine z_get (k := 13) (C := RX3) (T := TX3) (N := 29) hb ho zc2 in_X3 (zf_RX3_51 _) dX3_undo_2 z_tw_o (by decide) rfl ?_
  refine z_if_leN (tgt := 12) hb dX3_undo_5 (by decide) (by omega) (fun c_5 => ?_) (fun c_5 => ?_)
  · exact absurd c_5 (by omega)
  · refine z_iconst (x := nI 1) hb dX3_undo_8 (by decide) ?_
    refine z_goto (tgt := 13) hb dX3_undo_9 (by decide) ?_
    refine z_call1 (b' := 0) (f' := 0) (rest := []) (av := [.ref t, .int (nI 1)]) (z_siteV hb ho zc2 z_tw_o q2995 q2997 qs66 ⟨_, _, _, _, zk_X3_checked⟩ zy_X3_checked zl_X3_checked dX3_undo_13 : z_Site M _ _ _ _ _ ([.int (nI 1)].reverse ++ .ref t :: []) [] _) zk_X3_checked q104 hrm (m_X3_checked true ht) (by omega) (by decide) (Nat.le_of_ble_eq_true rfl) (by omega) (by omega) ?_
    refine z_ifb_le (tgt := 21) hb dX3_undo_16 (by decide) (fun c_16 => ?_) (fun c_16 => ?_)
    · refine z_aload_n hb dX3_undo_21 rfl ?_
      refine z_dup hb dX3_undo_22 rfl ?_
      refine z_get (k := 13) (C := RX3) (T := TX3) (N := 29) hb ho zc2 in_X3 (zf_RX3_51 _) dX3_undo_23 z_tw_o (by decide) rfl ?_
      refine z_iconst (x := nI 1) hb dX3_undo_26 (by decide) ?_
      refine z_isub hb dX3_undo_27 ?_
      refine z_toI (y := nI ((j + 1) - 1)) (pk_sub (by omega)) ?_
      refine z_put (k := 13) (C := RX3) (T := TX3) (N := 29) hb ho zc2 in_X3 tyX3_ok nmX3 (zf_RX3_51 _) dX3_undo_28 z_tw_o ht (by decide) (Or.inl rfl) rfl rfl rfl (Nat.le_of_ble_eq_true rfl) ?_
      refine z_hh z_tw_u13 ?_
      refine z_aload_n hb dX3_undo_31 rfl ?_
      refine z_get (k := 3) (C := RX3) (T := TX3) (N := 29) hb ho zc2 in_X3 (zf_RX3_19 _) dX3_undo_32 z_tw_o (by decide) rfl ?_
      refine z_sipush (x := nI 272) hb dX3_undo_35 (by decide) ?_
      refine z_aload_n hb dX3_undo_38 rfl ?_
      refine z_get (k := 13) (C := RX3) (T := TX3) (N := 29) hb ho zc2 in_X3 (zf_RX3_51 _) dX3_undo_39 z_tw_o (by decide) rfl ?_
      refine z_imul hb dX3_undo_42 ?_
      refine z_toI (y := nI (272 * ((j + 1) - 1))) (pk_mul 272 ((j + 1) - 1)) ?_
      refine z_aload_n hb dX3_undo_43 rfl ?_
      refine z_get (k := 0) (C := RX3) (T := TX3) (N := 29) hb ho zc2 in_X3 (zf_RX3_7 _) dX3_undo_44 z_tw_o (by decide) rfl ?_
      refine z_iconst (x := nI 0) hb dX3_undo_47 (by decide) ?_
      refine z_call0 (b' := 0) (f' := 0) (rest := []) (av := [.ref (t + 4), .int (nI (272 * ((j + 1) - 1))), .ref (t + 1), .int (nI 0)]) (z_siteS hb ho q2796 q2797 q104 ⟨_, _, _, _, zk_X3_copy⟩ zy_X3_copy zl_X3_copy dX3_undo_48 : z_Site M _ _ _ _ _ ([.ref (t + 4), .int (nI (272 * ((j + 1) - 1))), .ref (t + 1), .int (nI 0)].reverse ++ []) [] _) zk_X3_copy q104 hrm (m_X3_copy (t + 4) (t + 1) 2176 272 (272 * ((j + 1) - 1)) 0 w3 w0 z_tw_r3 z_tw_r0 (by omega) (by omega) (by omega) (by omega) (by omega) (by omega)) (by omega) (by decide) (Nat.le_of_ble_eq_true rfl) (by omega) (by omega) ?_
      refine z_hh z_tw_u0 ?_
      refine z_aload_n hb dX3_undo_51 rfl ?_
      refine z_get (k := 8) (C := RX3) (T := TX3) (N := 29) hb ho zc2 in_X3 (zf_RX3_35 _) dX3_undo_52 z_tw_o (by decide) rfl ?_
      refine z_sipush (x := nI 280) hb dX3_undo_55 (by decide) ?_
      refine z_aload_n hb dX3_undo_58 rfl ?_
      refine z_get (k := 13) (C := RX3) (T := TX3) (N := 29) hb ho zc2 in_X3 (zf_RX3_51 _) dX3_undo_59 z_tw_o (by decide) rfl ?_
      refine z_imul hb dX3_undo_62 ?_
      refine z_toI (y := nI (280 * ((j + 1) - 1))) (pk_mul 280 ((j + 1) - 1)) ?_
      refine z_aload_n hb dX3_undo_63 rfl ?_
      refine z_get (k := 5) (C := RX3) (T := TX3) (N := 29) hb ho zc2 in_X3 (zf_RX3_25 _) dX3_undo_64 z_tw_o (by decide) rfl ?_
      refine z_iconst (x := nI 0) hb dX3_undo_67 (by decide) ?_
      refine z_call0 (b' := 0) (f' := 0) (rest := []) (av := [.ref (t + 9), .int (nI (280 * ((j + 1) - 1))), .ref (t + 6), .int (nI 0)]) (z_siteS hb ho q2799 q2800 q104 ⟨_, _, _, _, zk_X3_copyKept⟩ zy_X3_copyKept zl_X3_copyKept dX3_undo_68 : z_Site M _ _ _ _ _ ([.ref (t + 9), .int (nI (280 * ((j + 1) - 1))), .ref (t + 6), .int (nI 0)].reverse ++ []) [] _) zk_X3_copyKept q104 hrm (m_X3_copyKept (t + 9) (t + 6) 2240 280 (280 * ((j + 1) - 1)) 0 w8 w5 z_tw_r8 z_tw_r5 (by omega) (by omega) (by omega) (by omega) (by omega) (by omega)) (by omega) (by decide) (Nat.le_of_ble_eq_true rfl) (by omega) (by omega) ?_
      refine z_hh z_tw_u5 ?_
      refine z_aload_n hb dX3_undo_71 rfl ?_
      refine z_get (k := 13) (C := RX3) (T := TX3) (N := 29) hb ho zc2 in_X3 (zf_RX3_51 _) dX3_undo_72 z_tw_o (by decide) rfl ?_
      refine z_iret hb hr dX3_undo_75 ?_
      rw [hQ]
      exact ⟨rfl, rfl, rfl⟩
    · exact absurd c_16 (by decide)

set_option maxHeartbeats 1000000 in
theorem m_X3_saveSnapshot {l : Launch} {G : zG} {h : zH} {n : Nat} {t : Nat} {w0 : Nat → Int32} {w1 : Nat → Int32} {w2 : Nat → Int32} {w3 : Nat → Int32} {w4 : Nat → Int32} {w5 : Nat → Int64} {w6 : Nat → Int64} {w7 : Nat → Int64} {w8 : Nat → Int64} {w9 : Nat → Int64} {w10 : Nat → Int64} {w11 : Nat → Int64} {w12 : Int32} {w13 : Int32} {w14 : Int32} {w15 : Int32} {w16 : Int32} {w17 : Int32} {w18 : Bool} {w19 : Nat → Int32} {w20 : Int32} {w21 : Nat → Int32} {w22 : Nat → Int32} {w23 : Nat → Int32} {w24 : Int32} {w25 : Int32} {w26 : Int32} {w27 : Int32} {w28 : Bool} {R S D : Nat}   (ht : z_n0 G ≤ t) (hw : z_ok w0 R S D) : z_C l G yX3_saveSnapshot 2 0 0 [.ref t] (z_tw G t w0 w1 w2 w3 w4 w5 w6 w7 w8 w9 w10 w11 w12 w13 w14 w15 w16 w17 w18 w19 w20 w21 w22 w23 w24 w25 w26 w27 w28 h) n (z_rv (.int (nI R)) (z_tw G t w0 w1 (va_cpy w0 w2 0 0 272) w3 w4 w5 w6 (va_cpy w5 w7 0 0 280) w8 w9 w10 w11 (nI 0) w13 w14 w15 w16 w17 true w19 w20 w21 w22 w23 w24 w25 w26 w27 w28 h) n) := by
  refine z_start zk_X3_saveSnapshot zpl_RX3 (Nat.le_of_ble_eq_true rfl) ?_
  intro hn0 M hl hG ho hb hN hr hm hH hrm hQ
  subst hl hG
  have ho : zm_o M = RX3 := ho
  obtain ⟨hR, hR4, hS, hS8, hD, hD6, hF⟩ := id hw
  show z_V M (z_tw (zm_G M) t w0 w1 w2 w3 w4 w5 w6 w7 w8 w9 w10 w11 w12 w13 w14 w15 w16 w17 w18 w19 w20 w21 w22 w23 w24 w25 w26 w27 w28 h) n 0 0 0 [(0, .ref t)] []
  refine z_aload_n hb dX3_saveSnapshot_0 rfl ?_
  refine z_iconst (x := nI 0) hb dX3_saveSnapshot_1 (by decide) ?_
  refine z_put (k := 12) (C := RX3) (T := TX3) (N := 29) hb ho zc2 in_X3 tyX3_ok nmX3 (zf_RX3_47 _) dX3_saveSnapshot_2 z_tw_o ht (by decide) (Or.inl rfl) rfl rfl rfl (Nat.le_of_ble_eq_true rfl) ?_
  refine z_hh z_tw_u12 ?_
  refine z_aload_n hb dX3_saveSnapshot_5 rfl ?_
  refine z_get (k := 0) (C := RX3) (T := TX3) (N := 29) hb ho zc2 in_X3 (zf_RX3_7 _) dX3_saveSnapshot_6 z_tw_o (by decide) rfl ?_
  refine z_iconst (x := nI 0) hb dX3_saveSnapshot_9 (by decide) ?_
  refine z_aload_n hb dX3_saveSnapshot_10 rfl ?_
  refine z_get (k := 2) (C := RX3) (T := TX3) (N := 29) hb ho zc2 in_X3 (zf_RX3_16 _) dX3_saveSnapshot_11 z_tw_o (by decide) rfl ?_
  refine z_iconst (x := nI 0) hb dX3_saveSnapshot_14 (by decide) ?_
  refine z_call0 (b' := 0) (f' := 0) (rest := []) (av := [.ref (t + 1), .int (nI 0), .ref (t + 3), .int (nI 0)]) (z_siteS hb ho q2796 q2797 q104 ⟨_, _, _, _, zk_X3_copy⟩ zy_X3_copy zl_X3_copy dX3_saveSnapshot_15 : z_Site M _ _ _ _ _ ([.ref (t + 1), .int (nI 0), .ref (t + 3), .int (nI 0)].reverse ++ []) [] _) zk_X3_copy q104 hrm (m_X3_copy (t + 1) (t + 3) 272 272 0 0 w0 w2 z_tw_r0 z_tw_r2 (by omega) (by omega) (by omega) (by omega) (by omega) (by omega)) (by omega) (by decide) (Nat.le_of_ble_eq_true rfl) (by omega) (by omega) ?_
  refine z_hh z_tw_u2 ?_
  refine z_aload_n hb dX3_saveSnapshot_18 rfl ?_
  refine z_get (k := 5) (C := RX3) (T := TX3) (N := 29) hb ho zc2 in_X3 (zf_RX3_25 _) dX3_saveSnapshot_19 z_tw_o (by decide) rfl ?_
  refine z_iconst (x := nI 0) hb dX3_saveSnapshot_22 (by decide) ?_
  refine z_aload_n hb dX3_saveSnapshot_23 rfl ?_
  refine z_get (k := 7) (C := RX3) (T := TX3) (N := 29) hb ho zc2 in_X3 (zf_RX3_32 _) dX3_saveSnapshot_24 z_tw_o (by decide) rfl ?_
  refine z_iconst (x := nI 0) hb dX3_saveSnapshot_27 (by decide) ?_
  refine z_call0 (b' := 0) (f' := 0) (rest := []) (av := [.ref (t + 6), .int (nI 0), .ref (t + 8), .int (nI 0)]) (z_siteS hb ho q2799 q2800 q104 ⟨_, _, _, _, zk_X3_copyKept⟩ zy_X3_copyKept zl_X3_copyKept dX3_saveSnapshot_28 : z_Site M _ _ _ _ _ ([.ref (t + 6), .int (nI 0), .ref (t + 8), .int (nI 0)].reverse ++ []) [] _) zk_X3_copyKept q104 hrm (m_X3_copyKept (t + 6) (t + 8) 280 280 0 0 w5 w7 z_tw_r5 z_tw_r7 (by omega) (by omega) (by omega) (by omega) (by omega) (by omega)) (by omega) (by decide) (Nat.le_of_ble_eq_true rfl) (by omega) (by omega) ?_
  refine z_hh z_tw_u7 ?_
  refine z_aload_n hb dX3_saveSnapshot_31 rfl ?_
  refine z_iconst (x := nI 1) hb dX3_saveSnapshot_32 (by decide) ?_
  refine z_toI (y := z_b true) rfl ?_
  refine z_put (k := 18) (C := RX3) (T := TX3) (N := 29) hb ho zc2 in_X3 tyX3_ok nmX3 (zf_RX3_66 _) dX3_saveSnapshot_33 z_tw_o ht (by decide) (Or.inl rfl) rfl (z_bnar _) rfl (Nat.le_of_ble_eq_true rfl) ?_
  refine z_hh z_tw_u18 ?_
  refine z_aload_n hb dX3_saveSnapshot_36 rfl ?_
  refine z_get (k := 0) (C := RX3) (T := TX3) (N := 29) hb ho zc2 in_X3 (zf_RX3_7 _) dX3_saveSnapshot_37 z_tw_o (by decide) rfl ?_
  refine z_iconst (x := nI 1) hb dX3_saveSnapshot_40 (by decide) ?_
  refine z_iald (j := 1) hb dX3_saveSnapshot_41 z_tw_r0 rfl (by omega) (by omega) ?_
  refine z_toI (y := nI R) hR ?_
  refine z_iret hb hr dX3_saveSnapshot_42 ?_
  rw [hQ]
  exact ⟨rfl, rfl, rfl⟩

set_option maxHeartbeats 1000000 in
theorem m_X3_restoreSnapshot_no {l : Launch} {G : zG} {h : zH} {n : Nat} {t : Nat} {w0 : Nat → Int32} {w1 : Nat → Int32} {w2 : Nat → Int32} {w3 : Nat → Int32} {w4 : Nat → Int32} {w5 : Nat → Int64} {w6 : Nat → Int64} {w7 : Nat → Int64} {w8 : Nat → Int64} {w9 : Nat → Int64} {w10 : Nat → Int64} {w11 : Nat → Int64} {w12 : Int32} {w13 : Int32} {w14 : Int32} {w15 : Int32} {w16 : Int32} {w17 : Int32} {w18 : Bool} {w19 : Nat → Int32} {w20 : Int32} {w21 : Nat → Int32} {w22 : Nat → Int32} {w23 : Nat → Int32} {w24 : Int32} {w25 : Int32} {w26 : Int32} {w27 : Int32} {w28 : Bool}   (ht : z_n0 G ≤ t) : z_C l G yX3_restoreSnapshot 2 0 0 [.ref t] (z_tw G t w0 w1 w2 w3 w4 w5 w6 w7 w8 w9 w10 w11 w12 w13 w14 w15 w16 w17 false w19 w20 w21 w22 w23 w24 w25 w26 w27 w28 h) n (z_rv (.int (nI 0)) (z_tw G t w0 w1 w2 w3 w4 w5 w6 w7 w8 w9 w10 w11 (nI 1) w13 w14 w15 w16 w17 false w19 w20 w21 w22 w23 w24 w25 w26 w27 w28 h) n) := by
  refine z_start zk_X3_restoreSnapshot zpl_RX3 (Nat.le_of_ble_eq_true rfl) ?_
  intro hn0 M hl hG ho hb hN hr hm hH hrm hQ
  subst hl hG
  have ho : zm_o M = RX3 := ho
  show z_V M (z_tw (zm_G M) t w0 w1 w2 w3 w4 w5 w6 w7 w8 w9 w10 w11 w12 w13 w14 w15 w16 w17 false w19 w20 w21 w22 w23 w24 w25 w26 w27 w28 h) n 0 0 0 [(0, .ref t)] []
  refine z_aload_n hb dX3_restoreSnapshot_0 rfl ?_
  refine z_aload_n hb dX3_restoreSnapshot_1 rfl ?_
  refine z_get (k := 18) (C := RX3) (T := TX3) (N := 29) hb ho zc2 in_X3 (zf_RX3_66 _) dX3_restoreSnapshot_2 z_tw_o (by decide) rfl ?_
  refine z_call1 (b' := 0) (f' := 0) (rest := []) (av := [.ref t, .int (z_b false)]) (z_siteV hb ho zc2 z_tw_o q2995 q2997 qs66 ⟨_, _, _, _, zk_X3_checked⟩ zy_X3_checked zl_X3_checked dX3_restoreSnapshot_5 : z_Site M _ _ _ _ _ ([.int (z_b false)].reverse ++ .ref t :: []) [] _) zk_X3_checked q104 hrm (m_X3_checked false ht) (by omega) (by decide) (Nat.le_of_ble_eq_true rfl) (by omega) (by omega) ?_
  refine z_ifb_le (tgt := 13) hb dX3_restoreSnapshot_8 (by decide) (fun c_8 => ?_) (fun c_8 => ?_)
  · exact absurd c_8 (by decide)
  · refine z_iconst (x := nI 0) hb dX3_restoreSnapshot_11 (by decide) ?_
    refine z_iret hb hr dX3_restoreSnapshot_12 ?_
    rw [hQ]
    exact ⟨rfl, rfl, rfl⟩

set_option maxHeartbeats 1000000 in
theorem m_X3_restoreSnapshot_ok {l : Launch} {G : zG} {h : zH} {n : Nat} {t : Nat} {w0 : Nat → Int32} {w1 : Nat → Int32} {w2 : Nat → Int32} {w3 : Nat → Int32} {w4 : Nat → Int32} {w5 : Nat → Int64} {w6 : Nat → Int64} {w7 : Nat → Int64} {w8 : Nat → Int64} {w9 : Nat → Int64} {w10 : Nat → Int64} {w11 : Nat → Int64} {w12 : Int32} {w13 : Int32} {w14 : Int32} {w15 : Int32} {w16 : Int32} {w17 : Int32} {w18 : Bool} {w19 : Nat → Int32} {w20 : Int32} {w21 : Nat → Int32} {w22 : Nat → Int32} {w23 : Nat → Int32} {w24 : Int32} {w25 : Int32} {w26 : Int32} {w27 : Int32} {w28 : Bool}   (ht : z_n0 G ≤ t) : z_C l G yX3_restoreSnapshot 2 0 0 [.ref t] (z_tw G t w0 w1 w2 w3 w4 w5 w6 w7 w8 w9 w10 w11 w12 w13 w14 w15 w16 w17 true w19 w20 w21 w22 w23 w24 w25 w26 w27 w28 h) n (z_rv (.int (va_cpy w2 w0 0 0 272 1)) (z_tw G t (va_cpy w2 w0 0 0 272) w1 w2 w3 w4 (va_cpy w7 w5 0 0 280) w6 w7 w8 w9 w10 w11 (nI 0) (nI 0) w14 w15 w16 w17 true w19 w20 w21 w22 w23 w24 w25 w26 w27 w28 h) n) := by
  refine z_start zk_X3_restoreSnapshot zpl_RX3 (Nat.le_of_ble_eq_true rfl) ?_
  intro hn0 M hl hG ho hb hN hr hm hH hrm hQ
  subst hl hG
  have ho : zm_o M = RX3 := ho
  show z_V M (z_tw (zm_G M) t w0 w1 w2 w3 w4 w5 w6 w7 w8 w9 w10 w11 w12 w13 w14 w15 w16 w17 true w19 w20 w21 w22 w23 w24 w25 w26 w27 w28 h) n 0 0 0 [(0, .ref t)] []
  refine z_aload_n hb dX3_restoreSnapshot_0 rfl ?_
  refine z_aload_n hb dX3_restoreSnapshot_1 rfl ?_
  refine z_get (k := 18) (C := RX3) (T := TX3) (N := 29) hb ho zc2 in_X3 (zf_RX3_66 _) dX3_restoreSnapshot_2 z_tw_o (by decide) rfl ?_
  refine z_call1 (b' := 0) (f' := 0) (rest := []) (av := [.ref t, .int (z_b true)]) (z_siteV hb ho zc2 z_tw_o q2995 q2997 qs66 ⟨_, _, _, _, zk_X3_checked⟩ zy_X3_checked zl_X3_checked dX3_restoreSnapshot_5 : z_Site M _ _ _ _ _ ([.int (z_b true)].reverse ++ .ref t :: []) [] _) zk_X3_checked q104 hrm (m_X3_checked true ht) (by omega) (by decide) (Nat.le_of_ble_eq_true rfl) (by omega) (by omega) ?_
  refine z_ifb_le (tgt := 13) hb dX3_restoreSnapshot_8 (by decide) (fun c_8 => ?_) (fun c_8 => ?_)
  · refine z_aload_n hb dX3_restoreSnapshot_13 rfl ?_
    refine z_get (k := 2) (C := RX3) (T := TX3) (N := 29) hb ho zc2 in_X3 (zf_RX3_16 _) dX3_restoreSnapshot_14 z_tw_o (by decide) rfl ?_
    refine z_iconst (x := nI 0) hb dX3_restoreSnapshot_17 (by decide) ?_
    refine z_aload_n hb dX3_restoreSnapshot_18 rfl ?_
    refine z_get (k := 0) (C := RX3) (T := TX3) (N := 29) hb ho zc2 in_X3 (zf_RX3_7 _) dX3_restoreSnapshot_19 z_tw_o (by decide) rfl ?_
    refine z_iconst (x := nI 0) hb dX3_restoreSnapshot_22 (by decide) ?_
    refine z_call0 (b' := 0) (f' := 0) (rest := []) (av := [.ref (t + 3), .int (nI 0), .ref (t + 1), .int (nI 0)]) (z_siteS hb ho q2796 q2797 q104 ⟨_, _, _, _, zk_X3_copy⟩ zy_X3_copy zl_X3_copy dX3_restoreSnapshot_23 : z_Site M _ _ _ _ _ ([.ref (t + 3), .int (nI 0), .ref (t + 1), .int (nI 0)].reverse ++ []) [] _) zk_X3_copy q104 hrm (m_X3_copy (t + 3) (t + 1) 272 272 0 0 w2 w0 z_tw_r2 z_tw_r0 (by omega) (by omega) (by omega) (by omega) (by omega) (by omega)) (by omega) (by decide) (Nat.le_of_ble_eq_true rfl) (by omega) (by omega) ?_
    refine z_hh z_tw_u0 ?_
    refine z_aload_n hb dX3_restoreSnapshot_26 rfl ?_
    refine z_get (k := 7) (C := RX3) (T := TX3) (N := 29) hb ho zc2 in_X3 (zf_RX3_32 _) dX3_restoreSnapshot_27 z_tw_o (by decide) rfl ?_
    refine z_iconst (x := nI 0) hb dX3_restoreSnapshot_30 (by decide) ?_
    refine z_aload_n hb dX3_restoreSnapshot_31 rfl ?_
    refine z_get (k := 5) (C := RX3) (T := TX3) (N := 29) hb ho zc2 in_X3 (zf_RX3_25 _) dX3_restoreSnapshot_32 z_tw_o (by decide) rfl ?_
    refine z_iconst (x := nI 0) hb dX3_restoreSnapshot_35 (by decide) ?_
    refine z_call0 (b' := 0) (f' := 0) (rest := []) (av := [.ref (t + 8), .int (nI 0), .ref (t + 6), .int (nI 0)]) (z_siteS hb ho q2799 q2800 q104 ⟨_, _, _, _, zk_X3_copyKept⟩ zy_X3_copyKept zl_X3_copyKept dX3_restoreSnapshot_36 : z_Site M _ _ _ _ _ ([.ref (t + 8), .int (nI 0), .ref (t + 6), .int (nI 0)].reverse ++ []) [] _) zk_X3_copyKept q104 hrm (m_X3_copyKept (t + 8) (t + 6) 280 280 0 0 w7 w5 z_tw_r7 z_tw_r5 (by omega) (by omega) (by omega) (by omega) (by omega) (by omega)) (by omega) (by decide) (Nat.le_of_ble_eq_true rfl) (by omega) (by omega) ?_
    refine z_hh z_tw_u5 ?_
    refine z_aload_n hb dX3_restoreSnapshot_39 rfl ?_
    refine z_iconst (x := nI 0) hb dX3_restoreSnapshot_40 (by decide) ?_
    refine z_put (k := 13) (C := RX3) (T := TX3) (N := 29) hb ho zc2 in_X3 tyX3_ok nmX3 (zf_RX3_51 _) dX3_restoreSnapshot_41 z_tw_o ht (by decide) (Or.inl rfl) rfl rfl rfl (Nat.le_of_ble_eq_true rfl) ?_
    refine z_hh z_tw_u13 ?_
    refine z_aload_n hb dX3_restoreSnapshot_44 rfl ?_
    refine z_get (k := 0) (C := RX3) (T := TX3) (N := 29) hb ho zc2 in_X3 (zf_RX3_7 _) dX3_restoreSnapshot_45 z_tw_o (by decide) rfl ?_
    refine z_iconst (x := nI 1) hb dX3_restoreSnapshot_48 (by decide) ?_
    refine z_iald (j := 1) hb dX3_restoreSnapshot_49 z_tw_r0 rfl (by omega) (by omega) ?_
    refine z_iret hb hr dX3_restoreSnapshot_50 ?_
    rw [hQ]
    exact ⟨rfl, rfl, rfl⟩
  · exact absurd c_8 (by decide)

