abbrev tQ := (Nat × Bool) × Nat × (Nat → Int32) × (Nat → Int32)
def tw_rr (u : Nat → Int32) (T kd c : Nat) (q : Nat × Bool) (nm : Nat → Int32) : (Nat × Bool) × (Nat → Int32) := match kd with
  | 0 => ((tw_bb2 u T (tw_dg1 u T (tw_gr u T (tw_sg u T (nI 32) q))).1).1, va_up (va_up (va_up nm (4 * c + 0) (tw_mk u T (tw_sg u T (nI 32) q))) (4 * c + 1) (tw_dg1 u T (tw_gr u T (tw_sg u T (nI 32) q))).2) (4 * c + 2) (tw_bb2 u T (tw_dg1 u T (tw_gr u T (tw_sg u T (nI 32) q))).1).2)
  | 1 => ((tw_bb2 u T q).1, va_up nm (4 * c + 0) (tw_bb2 u T q).2)
  | 2 => (q, nm)
  | 3 => ((tw_dg2 u T (tw_oo u T (nI 115) (nI 110) (nI 120) (tw_sg u T (nI 32) q))).1, va_up (va_up nm (4 * c + 0) (tw_mk u T (tw_sg u T (nI 32) q))) (4 * c + 1) (tw_dg2 u T (tw_oo u T (nI 115) (nI 110) (nI 120) (tw_sg u T (nI 32) q))).2)
  | 4 => ((tw_dg1 u T (tw_oo u T (nI 43) (nI 45) (nI 43) (tw_bb1 u T q).1)).1, va_up (va_up (va_up nm (4 * c + 1) (tw_bb1 u T q).2) (4 * c + 0) (tw_mk u T (tw_bb1 u T q).1)) (4 * c + 2) (tw_dg1 u T (tw_oo u T (nI 43) (nI 45) (nI 43) (tw_bb1 u T q).1)).2)
  | 6 => ((tw_bb2 u T (tw_bb1 u T q).1).1, va_up (va_up nm (4 * c + 0) (tw_bb1 u T q).2) (4 * c + 1) (tw_bb2 u T (tw_bb1 u T q).1).2)
  | _ => ((tw_bb1 u T q).1, va_up nm (4 * c + 0) (tw_bb1 u T q).2)
theorem tw_ml_le {u : Nat → Int32} {T p kd : Nat} (hkd : kd < 9) : ∀ {f k : Nat}, k ≤ 6 → p + k ≤ T → k ≤ tw_ml u T p kd f k ∧ tw_ml u T p kd f k ≤ 6 ∧ p + tw_ml u T p kd f k ≤ T
  | 0, k, h, h2 => ⟨Nat.le_refl _, h, h2⟩
  | f + 1, k, h, h2 => by
    rw [tw_ml]
    by_cases q : 0 < tw_sp_ kd k ∧ p + k < T ∧ u (p + k) = nI (tw_sp_ kd k)
    · rw [if_pos q]
      have h6 : k < 6 := by
        rcases Nat.lt_or_ge k 6 with z | z
        · exact z
        · rw [tw_sp_0 hkd z] at q; omega
      have := tw_ml_le (u := u) (T := T) (p := p) hkd (f := f) (k := k + 1) h6 (by omega)
      omega
    · rw [if_neg q]; exact ⟨Nat.le_refl _, h, h2⟩
theorem tw_ml_3 {u : Nat → Int32} {T p kd : Nat} (hkd : kd < 9) (h0 : tw_sp_ kd (tw_ml u T p kd 7 0) = 0) : 3 ≤ tw_ml u T p kd 7 0 := by
  have h3 : ∀ kd : Nat, kd < 9 → 0 < tw_sp_ kd 0 ∧ 0 < tw_sp_ kd 1 ∧ 0 < tw_sp_ kd 2 := by decide
  have ⟨a, b, c⟩ := h3 kd hkd
  generalize hm : tw_ml u T p kd 7 0 = m at h0 ⊢
  match m, h0 with
  | 0, h0 => omega
  | 1, h0 => omega
  | 2, h0 => omega
  | m + 3, _ => omega
theorem tw_wd_ok {u : Nat → Int32} {T p : Nat} : ∀ {f kd l : Nat}, kd + f = 9 → p + l ≤ T → (tw_wd u T p f kd l).1.1 ≤ T ∧ (tw_wd u T p f kd l).2 < 9 ∧ ((tw_wd u T p f kd l).1.2 = false → p + 3 ≤ (tw_wd u T p f kd l).1.1)
  | 0, kd, l, _, h2 => ⟨h2, by show 0 < 9; omega, fun h => by cases h⟩
  | f + 1, kd, l, h, h2 => by
    have hm := tw_ml_le (u := u) (T := T) (p := p) (kd := kd) (by omega) (f := 7) (k := 0) (by omega) (by omega)
    rw [tw_wd]
    by_cases q : tw_sp_ kd (tw_ml u T p kd 7 0) = 0
    · rw [if_pos q]
      have := tw_ml_3 (by omega) q
      exact ⟨by simp only []; omega, by simp only []; omega, fun _ => by simp only []; omega⟩
    · rw [if_neg q]
      apply tw_wd_ok
      · omega
      · split <;> omega

set_option maxHeartbeats 1000000 in
theorem m_X3_word {l : Launch} {G : zG} {h : zH} {n : Nat} {t : Nat} {w0 : Nat → Int32} {w1 : Nat → Int32} {w2 : Nat → Int32} {w3 : Nat → Int32} {w4 : Nat → Int32} {w5 : Nat → Int64} {w6 : Nat → Int64} {w7 : Nat → Int64} {w8 : Nat → Int64} {w9 : Nat → Int64} {w10 : Nat → Int64} {w11 : Nat → Int64} {w12 : Int32} {w13 : Int32} {w14 : Int32} {w15 : Int32} {w16 : Int32} {w17 : Int32} {w18 : Bool} {w19 : Nat → Int32} {w20 : Int32} {w21 : Nat → Int32} {w22 : Nat → Int32} {w23 : Nat → Int32} {w24 : Int32} {w25 : Int32} {w26 : Int32} {w27 : Int32} {w28 : Bool} {T p : Nat}  (ht : z_n0 G ≤ t) (hT : T ≤ 60) (hq : p ≤ T) : z_C l G yX3_word 3 0 0 [.ref t] (z_tw G t w0 w1 w2 w3 w4 w5 w6 w7 w8 w9 w10 w11 w12 w13 w14 w15 w16 w17 w18 w19 w20 w21 w22 w23 w24 (nI T) (nI p) w27 false h) n (z_rv (.int (nI ((tw_wd w21 T p 9 0 0).2))) (z_tw G t w0 w1 w2 w3 w4 w5 w6 w7 w8 w9 w10 w11 w12 w13 w14 w15 w16 w17 w18 w19 w20 w21 w22 w23 w24 (nI T) (nI (tw_wd w21 T p 9 0 0).1.1) w27 ((tw_wd w21 T p 9 0 0).1.2) h) n) := by
  refine z_start zk_X3_word zpl_RX3 (Nat.le_of_ble_eq_true rfl) ?_
  intro hn0 M hl hG ho hb hN hr hm hH hrm hQ
  subst hl hG
  have ho : zm_o M = RX3 := ho
  show z_V M (z_tw (zm_G M) t w0 w1 w2 w3 w4 w5 w6 w7 w8 w9 w10 w11 w12 w13 w14 w15 w16 w17 w18 w19 w20 w21 w22 w23 w24 (nI T) (nI p) w27 false h) n 0 0 0 [(0, .ref t)] []
  refine z_iconst (x := nI 0) hb dX3_word_0 (by decide) ?_
  refine z_istore_n (lv' := [(1, .int (nI 0)), (0, .ref t)]) hb dX3_word_1 (by rw [hN]; decide) rfl ?_
  refine z_iconst (x := nI 0) hb dX3_word_2 (by decide) ?_
  refine z_istore_n (lv' := [(2, .int (nI 0)), (1, .int (nI 0)), (0, .ref t)]) hb dX3_word_3 (by rw [hN]; decide) rfl ?_
  have lp_4 : ∀ (k9_4 : Nat) (kd : Nat) (l : Nat), 9 - kd < k9_4 → (kd ≤ 9) → (p + l ≤ T) → (tw_wd w21 T p (9 - kd) kd l = tw_wd w21 T p 9 0 0) → z_V M (z_tw (zm_G M) t w0 w1 w2 w3 w4 w5 w6 w7 w8 w9 w10 w11 w12 w13 w14 w15 w16 w17 w18 w19 w20 w21 w22 w23 w24 (nI T) (nI p) w27 false h) n 0 0 4 [(2, .int (nI kd)), (1, .int (nI l)), (0, .ref t)] [] := by
    intro k9_4
    induction k9_4 with
    | zero => intro kd l hk9_4; exact absurd hk9_4 (Nat.not_lt_zero _)
    | succ k9_4 ih_4 =>
      intro kd l hk9_4 hkd hlT hwd
      refine z_iload_n hb dX3_word_4 rfl ?_
      refine z_bipush (x := nI 9) hb dX3_word_5 (by decide) ?_
      refine z_icmp_geN (tgt := 95) hb dX3_word_7 (by decide) (by omega) (by omega) (fun c_7 => ?_) (fun c_7 => ?_)
      · refine z_aload_n hb dX3_word_95 rfl ?_
        refine z_dup hb dX3_word_96 rfl ?_
        refine z_get (k := 26) (C := RX3) (T := TX3) (N := 29) hb ho zc2 in_X3 (zf_RX3_91 _) dX3_word_97 z_tw_o (by decide) rfl ?_
        refine z_iload_n hb dX3_word_100 rfl ?_
        refine z_iadd hb dX3_word_101 ?_
        refine z_toI (y := nI (p + l)) (nI_add p l) ?_
        refine z_put (k := 26) (C := RX3) (T := TX3) (N := 29) hb ho zc2 in_X3 tyX3_ok nmX3 (zf_RX3_91 _) dX3_word_102 z_tw_o ht (by decide) (Or.inl rfl) rfl rfl rfl (Nat.le_of_ble_eq_true rfl) ?_
        refine z_hh z_tw_u26 ?_
        refine z_aload_n hb dX3_word_105 rfl ?_
        refine z_iconst (x := nI 1) hb dX3_word_106 (by decide) ?_
        refine z_toI (y := z_b true) rfl ?_
        refine z_put (k := 28) (C := RX3) (T := TX3) (N := 29) hb ho zc2 in_X3 tyX3_ok nmX3 (zf_RX3_97 _) dX3_word_107 z_tw_o ht (by decide) (Or.inl rfl) rfl (z_bnar _) rfl (Nat.le_of_ble_eq_true rfl) ?_
        refine z_hh z_tw_u28 ?_
        refine z_iconst (x := nI 0) hb dX3_word_110 (by decide) ?_
        refine z_iret hb hr dX3_word_111 ?_
        rw [hQ]
        rw [show tw_wd w21 T p 9 0 0 = ((p + l, true), 0) by rw [← hwd, show 9 - kd = 0 by omega]; rfl]; exact ⟨rfl, rfl, rfl⟩
      · refine z_iconst (x := nI 0) hb dX3_word_10 (by decide) ?_
        refine z_istore_n (lv' := [(3, .int (nI 0)), (2, .int (nI kd)), (1, .int (nI l)), (0, .ref t)]) hb dX3_word_11 (by rw [hN]; decide) rfl ?_
        have J_58 : ∀ (m : Nat), (m = tw_ml w21 T p kd 7 0) → (p + m ≤ T) → (m ≤ 6) → z_V M (z_tw (zm_G M) t w0 w1 w2 w3 w4 w5 w6 w7 w8 w9 w10 w11 w12 w13 w14 w15 w16 w17 w18 w19 w20 w21 w22 w23 w24 (nI T) (nI p) w27 false h) n 0 0 58 [(3, .int (nI m)), (2, .int (nI kd)), (1, .int (nI l)), (0, .ref t)] [] := by
          intro m hm hmT hm6
          refine z_iload_n hb dX3_word_58 rfl ?_
          refine z_iload_n hb dX3_word_59 rfl ?_
          have hsp := tw_sp_le (k := m) (show kd < 9 by omega)
          refine z_call1 (b' := 0) (f' := 0) (rest := []) (av := [.int (nI kd), .int (nI m)]) (z_siteS hb ho q3205 q3206 q104 ⟨_, _, _, _, zk_X3_spelled⟩ zy_X3_spelled zl_X3_spelled dX3_word_60 : z_Site M _ _ _ _ _ ([.int (nI kd), .int (nI m)].reverse ++ []) [] _) zk_X3_spelled q104 hrm (m_X3_spelled kd m (by omega) (by omega)) (by omega) (by decide) (Nat.le_of_ble_eq_true rfl) (by omega) (by omega) ?_
          refine z_if_neN (tgt := 78) hb dX3_word_63 (by decide) (by omega) (fun c_63 => ?_) (fun c_63 => ?_)
          · refine z_iload_n hb dX3_word_78 rfl ?_
            refine z_iload_n hb dX3_word_79 rfl ?_
            refine z_icmp_leN (tgt := 87) hb dX3_word_80 (by decide) (by omega) (by omega) (fun c_80 => ?_) (fun c_80 => ?_)
            · refine z_iload_n hb dX3_word_87 rfl ?_
              refine z_istore_n (lv' := [(1, .int (nI l)), (3, .int (nI m)), (2, .int (nI kd)), (0, .ref t)]) hb dX3_word_88 (by rw [hN]; decide) rfl ?_
              refine z_iinc (k0 := 2) (lv' := [(2, .int (nI (kd + 1))), (1, .int (nI l)), (3, .int (nI m)), (0, .ref t)]) hb dX3_word_89 rfl (nI_1 kd) (by rw [hN]; decide) rfl ?_
              refine z_goto (tgt := 4) hb dX3_word_92 (by decide) ?_
              refine z_lv [0, 1, 3] (lv' := [(2, .int (nI (kd + 1))), (1, .int (nI l)), (0, .ref t)]) rfl ?_
              exact ih_4 (kd + 1) _ (by omega) (by omega) hlT (by rw [← hwd, show 9 - kd = (9 - (kd + 1)) + 1 by omega, tw_wd, ← hm, if_neg (show ¬tw_sp_ kd m = 0 by omega), if_neg (by omega)])
            · refine z_iload_n hb dX3_word_83 rfl ?_
              refine z_goto (tgt := 88) hb dX3_word_84 (by decide) ?_
              refine z_istore_n (lv' := [(1, .int (nI m)), (3, .int (nI m)), (2, .int (nI kd)), (0, .ref t)]) hb dX3_word_88 (by rw [hN]; decide) rfl ?_
              refine z_iinc (k0 := 2) (lv' := [(2, .int (nI (kd + 1))), (1, .int (nI m)), (3, .int (nI m)), (0, .ref t)]) hb dX3_word_89 rfl (nI_1 kd) (by rw [hN]; decide) rfl ?_
              refine z_goto (tgt := 4) hb dX3_word_92 (by decide) ?_
              refine z_lv [0, 1, 3] (lv' := [(2, .int (nI (kd + 1))), (1, .int (nI m)), (0, .ref t)]) rfl ?_
              exact ih_4 (kd + 1) _ (by omega) (by omega) hmT (by rw [← hwd, show 9 - kd = (9 - (kd + 1)) + 1 by omega, tw_wd, ← hm, if_neg (show ¬tw_sp_ kd m = 0 by omega), if_pos c_80])
          · refine z_aload_n hb dX3_word_66 rfl ?_
            refine z_dup hb dX3_word_67 rfl ?_
            refine z_get (k := 26) (C := RX3) (T := TX3) (N := 29) hb ho zc2 in_X3 (zf_RX3_91 _) dX3_word_68 z_tw_o (by decide) rfl ?_
            refine z_iload_n hb dX3_word_71 rfl ?_
            refine z_iadd hb dX3_word_72 ?_
            refine z_toI (y := nI (p + m)) (nI_add p m) ?_
            refine z_put (k := 26) (C := RX3) (T := TX3) (N := 29) hb ho zc2 in_X3 tyX3_ok nmX3 (zf_RX3_91 _) dX3_word_73 z_tw_o ht (by decide) (Or.inl rfl) rfl rfl rfl (Nat.le_of_ble_eq_true rfl) ?_
            refine z_hh z_tw_u26 ?_
            refine z_iload_n hb dX3_word_76 rfl ?_
            refine z_iret hb hr dX3_word_77 ?_
            rw [hQ]
            rw [show tw_wd w21 T p 9 0 0 = ((p + m, false), kd) by rw [← hwd, show 9 - kd = (9 - (kd + 1)) + 1 by omega, tw_wd, ← hm, if_pos c_63]]; exact ⟨rfl, rfl, rfl⟩
        have lp_12 : ∀ (k9_12 : Nat) (k : Nat), 7 - k < k9_12 → (k ≤ 6) → (p + k ≤ T) → (tw_ml w21 T p kd (7 - k) k = tw_ml w21 T p kd 7 0) → z_V M (z_tw (zm_G M) t w0 w1 w2 w3 w4 w5 w6 w7 w8 w9 w10 w11 w12 w13 w14 w15 w16 w17 w18 w19 w20 w21 w22 w23 w24 (nI T) (nI p) w27 false h) n 0 0 12 [(3, .int (nI k)), (2, .int (nI kd)), (1, .int (nI l)), (0, .ref t)] [] := by
          intro k9_12
          induction k9_12 with
          | zero => intro k hk9_12; exact absurd hk9_12 (Nat.not_lt_zero _)
          | succ k9_12 ih_12 =>
            intro k hk9_12 hk6 hkT hml
            have hs6 : 6 ≤ k → tw_sp_ kd k = 0 := tw_sp_0 (by omega)
            refine z_iload_n hb dX3_word_12 rfl ?_
            refine z_iload_n hb dX3_word_13 rfl ?_
            have hsp := tw_sp_le (k := k) (show kd < 9 by omega)
            refine z_call1 (b' := 0) (f' := 0) (rest := []) (av := [.int (nI kd), .int (nI k)]) (z_siteS hb ho q3205 q3206 q104 ⟨_, _, _, _, zk_X3_spelled⟩ zy_X3_spelled zl_X3_spelled dX3_word_14 : z_Site M _ _ _ _ _ ([.int (nI kd), .int (nI k)].reverse ++ []) [] _) zk_X3_spelled q104 hrm (m_X3_spelled kd k (by omega) (by omega)) (by omega) (by decide) (Nat.le_of_ble_eq_true rfl) (by omega) (by omega) ?_
            refine z_if_leN (tgt := 58) hb dX3_word_17 (by decide) (by omega) (fun c_17 => ?_) (fun c_17 => ?_)
            · refine z_lv [0, 1, 2, 3] (lv' := [(3, .int (nI k)), (2, .int (nI kd)), (1, .int (nI l)), (0, .ref t)]) rfl ?_
              exact J_58 _ (by rw [← hml, show 7 - k = (6 - k) + 1 by omega, tw_ml, if_neg (fun q9 => by first | exact absurd q9.1 (by omega) | exact absurd q9.2.1 (by omega) | exact c_49 q9.2.2)]) hkT hk6
            · refine z_aload_n hb dX3_word_20 rfl ?_
              refine z_get (k := 26) (C := RX3) (T := TX3) (N := 29) hb ho zc2 in_X3 (zf_RX3_91 _) dX3_word_21 z_tw_o (by decide) rfl ?_
              refine z_iload_n hb dX3_word_24 rfl ?_
              refine z_iadd hb dX3_word_25 ?_
              refine z_toI (y := nI (p + k)) (nI_add p k) ?_
              refine z_aload_n hb dX3_word_26 rfl ?_
              refine z_get (k := 25) (C := RX3) (T := TX3) (N := 29) hb ho zc2 in_X3 (zf_RX3_88 _) dX3_word_27 z_tw_o (by decide) rfl ?_
              refine z_icmp_geN (tgt := 58) hb dX3_word_30 (by decide) (by omega) (by omega) (fun c_30 => ?_) (fun c_30 => ?_)
              · refine z_lv [0, 1, 2, 3] (lv' := [(3, .int (nI k)), (2, .int (nI kd)), (1, .int (nI l)), (0, .ref t)]) rfl ?_
                exact J_58 _ (by rw [← hml, show 7 - k = (6 - k) + 1 by omega, tw_ml, if_neg (fun q9 => by first | exact absurd q9.1 (by omega) | exact absurd q9.2.1 (by omega) | exact c_49 q9.2.2)]) hkT hk6
              · refine z_aload_n hb dX3_word_33 rfl ?_
                refine z_get (k := 21) (C := RX3) (T := TX3) (N := 29) hb ho zc2 in_X3 (zf_RX3_76 _) dX3_word_34 z_tw_o (by decide) rfl ?_
                refine z_aload_n hb dX3_word_37 rfl ?_
                refine z_get (k := 26) (C := RX3) (T := TX3) (N := 29) hb ho zc2 in_X3 (zf_RX3_91 _) dX3_word_38 z_tw_o (by decide) rfl ?_
                refine z_iload_n hb dX3_word_41 rfl ?_
                refine z_iadd hb dX3_word_42 ?_
                refine z_toI (y := nI (p + k)) (nI_add p k) ?_
                refine z_iald (j := p + k) hb dX3_word_43 z_tw_r21 rfl (by omega) (by omega) ?_
                refine z_iload_n hb dX3_word_44 rfl ?_
                refine z_iload_n hb dX3_word_45 rfl ?_
                refine z_call1 (b' := 0) (f' := 0) (rest := [.int (w21 (p + k))]) (av := [.int (nI kd), .int (nI k)]) (z_siteS hb ho q3205 q3206 q104 ⟨_, _, _, _, zk_X3_spelled⟩ zy_X3_spelled zl_X3_spelled dX3_word_46 : z_Site M _ _ _ _ _ ([.int (nI kd), .int (nI k)].reverse ++ [.int (w21 (p + k))]) [.int (w21 (p + k))] _) zk_X3_spelled q104 hrm (m_X3_spelled kd k (by omega) (by omega)) (by omega) (by decide) (Nat.le_of_ble_eq_true rfl) (by omega) (by omega) ?_
                refine z_icmp_ne (tgt := 58) hb dX3_word_49 (by decide) (fun c_49 => ?_) (fun c_49 => ?_)
                · refine z_lv [0, 1, 2, 3] (lv' := [(3, .int (nI k)), (2, .int (nI kd)), (1, .int (nI l)), (0, .ref t)]) rfl ?_
                  exact J_58 _ (by rw [← hml, show 7 - k = (6 - k) + 1 by omega, tw_ml, if_neg (fun q9 => by first | exact absurd q9.1 (by omega) | exact absurd q9.2.1 (by omega) | exact c_49 q9.2.2)]) hkT hk6
                · refine z_iinc (k0 := 0) (lv' := [(3, .int (nI (k + 1))), (2, .int (nI kd)), (1, .int (nI l)), (0, .ref t)]) hb dX3_word_52 rfl (nI_1 k) (by rw [hN]; decide) rfl ?_
                  refine z_goto (tgt := 12) hb dX3_word_55 (by decide) ?_
                  refine z_lv [0, 1, 2, 3] (lv' := [(3, .int (nI (k + 1))), (2, .int (nI kd)), (1, .int (nI l)), (0, .ref t)]) rfl ?_
                  exact ih_12 (k + 1) (by omega) (by exact (Nat.lt_or_ge k 6).elim id (fun z => by have := hs6 z; omega)) (by omega) (by rw [← hml, show 7 - k = (7 - (k + 1)) + 1 by omega, tw_ml, if_pos ⟨by omega, by omega, c_49⟩])
        refine z_lv [0, 1, 2, 3] (lv' := [(3, .int (nI 0)), (2, .int (nI kd)), (1, .int (nI l)), (0, .ref t)]) rfl ?_
        exact lp_12 _ 0 (Nat.lt_succ_self _) (Nat.zero_le _) hq rfl
  refine z_lv [0, 1, 2] (lv' := [(2, .int (nI 0)), (1, .int (nI 0)), (0, .ref t)]) rfl ?_
  exact lp_4 _ 0 0 (Nat.lt_succ_self _) (Nat.zero_le _) hq rfl

set_option maxHeartbeats 1000000 in
theorem m_X3_readsRest_0 {l : Launch} {G : zG} {h : zH} {n : Nat} {t : Nat} {w0 : Nat → Int32} {w1 : Nat → Int32} {w2 : Nat → Int32} {w3 : Nat → Int32} {w4 : Nat → Int32} {w5 : Nat → Int64} {w6 : Nat → Int64} {w7 : Nat → Int64} {w8 : Nat → Int64} {w9 : Nat → Int64} {w10 : Nat → Int64} {w11 : Nat → Int64} {w12 : Int32} {w13 : Int32} {w14 : Int32} {w15 : Int32} {w16 : Int32} {w17 : Int32} {w18 : Bool} {w19 : Nat → Int32} {w20 : Int32} {w21 : Nat → Int32} {w22 : Nat → Int32} {w23 : Nat → Int32} {w24 : Int32} {w25 : Int32} {w26 : Int32} {w27 : Int32} {w28 : Bool} {T c : Nat} {q : Nat × Bool}  (ht : z_n0 G ≤ t) (hT : T ≤ 60) (hq : q.1 ≤ T) (hc32 : c < 32) : z_C l G yX3_readsRest 4 0 0 [.ref t, .int (nI 0)] (z_tw G t w0 w1 w2 w3 w4 w5 w6 w7 w8 w9 w10 w11 w12 w13 w14 w15 w16 w17 w18 w19 w20 w21 w22 w23 w24 (nI T) (nI q.1) (nI c) q.2 h) n (z_r0 (z_tw G t w0 w1 w2 w3 w4 w5 w6 w7 w8 w9 w10 w11 w12 w13 w14 w15 w16 w17 w18 w19 w20 w21 w22 ((tw_rr w21 T 0 c q w23).2) w24 (nI T) (nI (tw_rr w21 T 0 c q w23).1.1) (nI c) ((tw_rr w21 T 0 c q w23).1.2) h) n) := by
  refine z_start zk_X3_readsRest zpl_RX3 (Nat.le_of_ble_eq_true rfl) ?_
  intro hn0 M hl hG ho hb hN hr hm hH hrm hQ
  subst hl hG
  have ho : zm_o M = RX3 := ho
  show z_V M (z_tw (zm_G M) t w0 w1 w2 w3 w4 w5 w6 w7 w8 w9 w10 w11 w12 w13 w14 w15 w16 w17 w18 w19 w20 w21 w22 w23 w24 (nI T) (nI q.1) (nI c) q.2 h) n 0 0 0 [(0, .ref t), (1, .int (nI 0))] []
  refine z_iload_n hb dX3_readsRest_0 rfl ?_
  refine z_tableIn (off := 43) (tgt := 44) hb dX3_readsRest_1 (by decide) (by decide) rfl (by decide) ?_
  refine z_aload_n hb dX3_readsRest_44 rfl ?_
  refine z_bipush (x := nI 32) hb dX3_readsRest_45 (by decide) ?_
  refine z_call0 (b' := 0) (f' := 0) (rest := []) (av := [.ref t, .int (nI 32)]) (z_siteV hb ho zc2 z_tw_o q3215 q3217 qs84 ⟨_, _, _, _, zk_X3_sign⟩ zy_X3_sign zl_X3_sign dX3_readsRest_47 : z_Site M _ _ _ _ _ ([.int (nI 32)].reverse ++ .ref t :: []) [] _) zk_X3_sign q104 hrm (m_X3_sign (w25 := 0) (w26 := 0) (w28 := false) (T := T) (q := q) (nI 32) ht hT hq (by decide)) (by omega) (by decide) (Nat.le_of_ble_eq_true rfl) (by omega) (by omega) ?_
  refine z_aload_n hb dX3_readsRest_50 rfl ?_
  refine z_iconst (x := nI 0) hb dX3_readsRest_51 (by decide) ?_
  refine z_aload_n hb dX3_readsRest_52 rfl ?_
  refine z_call1 (b' := 0) (f' := 0) (rest := [.int (nI 0), .ref t]) (av := [.ref t]) (z_siteV hb ho zc2 z_tw_o q3223 q3225 qs86 ⟨_, _, _, _, zk_X3_group⟩ zy_X3_group zl_X3_group dX3_readsRest_53 : z_Site M _ _ _ _ _ ([].reverse ++ .ref t :: [.int (nI 0), .ref t]) [.int (nI 0), .ref t] _) zk_X3_group q104 hrm (m_X3_group (w25 := 0) (w26 := 0) (w28 := false) (T := T) (q := (tw_sg w21 T (nI 32) q))  ht hT (tw_sg_le (by decide) hq) ) (by omega) (by decide) (Nat.le_of_ble_eq_true rfl) (by omega) (by omega) ?_
  refine z_call0 (b' := 0) (f' := 0) (rest := []) (av := [.ref t, .int (nI 0), .int (tw_mk w21 T (tw_sg w21 T (nI 32) q))]) (z_siteV hb ho zc2 z_tw_o q3227 q3229 qs87 ⟨_, _, _, _, zk_X3_put⟩ zy_X3_put zl_X3_put dX3_readsRest_56 : z_Site M _ _ _ _ _ ([.int (nI 0), .int (tw_mk w21 T (tw_sg w21 T (nI 32) q))].reverse ++ .ref t :: []) [] _) zk_X3_put q104 hrm (m_X3_put (w27 := 0) (c := c) 0 (tw_mk w21 T (tw_sg w21 T (nI 32) q)) ht hc32 (by decide)) (by omega) (by decide) (Nat.le_of_ble_eq_true rfl) (by omega) (by omega) ?_
  refine z_aload_n hb dX3_readsRest_59 rfl ?_
  refine z_iconst (x := nI 1) hb dX3_readsRest_60 (by decide) ?_
  refine z_aload_n hb dX3_readsRest_61 rfl ?_
  refine z_iconst (x := nI 1) hb dX3_readsRest_62 (by decide) ?_
  refine z_call1 (b' := 0) (f' := 0) (rest := [.int (nI 1), .ref t]) (av := [.ref t, .int (nI 1)]) (z_siteV hb ho zc2 z_tw_o q3231 q3233 qs88 ⟨_, _, _, _, zk_X3_digits⟩ zy_X3_digits zl_X3_digits dX3_readsRest_63 : z_Site M _ _ _ _ _ ([.int (nI 1)].reverse ++ .ref t :: [.int (nI 1), .ref t]) [.int (nI 1), .ref t] _) zk_X3_digits q104 hrm (m_X3_digits_1 (w25 := 0) (w26 := 0) (w28 := false) (T := T) (p := (tw_gr w21 T (tw_sg w21 T (nI 32) q)).1) (wr := (tw_gr w21 T (tw_sg w21 T (nI 32) q)).2)  ht hT (tw_gr_le (tw_sg_le (by decide) hq)) ) (by omega) (by decide) (Nat.le_of_ble_eq_true rfl) (by omega) (by omega) ?_
  refine z_call0 (b' := 0) (f' := 0) (rest := []) (av := [.ref t, .int (nI 1), .int ((tw_dg1 w21 T (tw_gr w21 T (tw_sg w21 T (nI 32) q))).2)]) (z_siteV hb ho zc2 z_tw_o q3227 q3229 qs87 ⟨_, _, _, _, zk_X3_put⟩ zy_X3_put zl_X3_put dX3_readsRest_66 : z_Site M _ _ _ _ _ ([.int (nI 1), .int ((tw_dg1 w21 T (tw_gr w21 T (tw_sg w21 T (nI 32) q))).2)].reverse ++ .ref t :: []) [] _) zk_X3_put q104 hrm (m_X3_put (w27 := 0) (c := c) 1 ((tw_dg1 w21 T (tw_gr w21 T (tw_sg w21 T (nI 32) q))).2) ht hc32 (by decide)) (by omega) (by decide) (Nat.le_of_ble_eq_true rfl) (by omega) (by omega) ?_
  refine z_aload_n hb dX3_readsRest_69 rfl ?_
  refine z_iconst (x := nI 2) hb dX3_readsRest_70 (by decide) ?_
  refine z_aload_n hb dX3_readsRest_71 rfl ?_
  refine z_iconst (x := nI 2) hb dX3_readsRest_72 (by decide) ?_
  refine z_call1 (b' := 0) (f' := 0) (rest := [.int (nI 2), .ref t]) (av := [.ref t, .int (nI 2)]) (z_siteV hb ho zc2 z_tw_o q3235 q3237 qs89 ⟨_, _, _, _, zk_X3_behindBlank⟩ zy_X3_behindBlank zl_X3_behindBlank dX3_readsRest_73 : z_Site M _ _ _ _ _ ([.int (nI 2)].reverse ++ .ref t :: [.int (nI 2), .ref t]) [.int (nI 2), .ref t] _) zk_X3_behindBlank q104 hrm (m_X3_behindBlank_2 (w25 := 0) (w26 := 0) (w28 := false) (T := T) (q := ((tw_dg1 w21 T (tw_gr w21 T (tw_sg w21 T (nI 32) q))).1))  ht hT (tw_dg1_le (tw_gr_le (tw_sg_le (by decide) hq))) ) (by omega) (by decide) (Nat.le_of_ble_eq_true rfl) (by omega) (by omega) ?_
  refine z_call0 (b' := 0) (f' := 0) (rest := []) (av := [.ref t, .int (nI 2), .int ((tw_bb2 w21 T ((tw_dg1 w21 T (tw_gr w21 T (tw_sg w21 T (nI 32) q))).1)).2)]) (z_siteV hb ho zc2 z_tw_o q3227 q3229 qs87 ⟨_, _, _, _, zk_X3_put⟩ zy_X3_put zl_X3_put dX3_readsRest_76 : z_Site M _ _ _ _ _ ([.int (nI 2), .int ((tw_bb2 w21 T ((tw_dg1 w21 T (tw_gr w21 T (tw_sg w21 T (nI 32) q))).1)).2)].reverse ++ .ref t :: []) [] _) zk_X3_put q104 hrm (m_X3_put (w27 := 0) (c := c) 2 ((tw_bb2 w21 T ((tw_dg1 w21 T (tw_gr w21 T (tw_sg w21 T (nI 32) q))).1)).2) ht hc32 (by decide)) (by omega) (by decide) (Nat.le_of_ble_eq_true rfl) (by omega) (by omega) ?_
  refine z_goto (tgt := 203) hb dX3_readsRest_79 (by decide) ?_
  refine z_vret hb hr dX3_readsRest_203 ?_
  rw [hQ]
  simp only [tw_rr]
  exact ⟨rfl, rfl, rfl⟩

set_option maxHeartbeats 1000000 in
theorem m_X3_readsRest_1 {l : Launch} {G : zG} {h : zH} {n : Nat} {t : Nat} {w0 : Nat → Int32} {w1 : Nat → Int32} {w2 : Nat → Int32} {w3 : Nat → Int32} {w4 : Nat → Int32} {w5 : Nat → Int64} {w6 : Nat → Int64} {w7 : Nat → Int64} {w8 : Nat → Int64} {w9 : Nat → Int64} {w10 : Nat → Int64} {w11 : Nat → Int64} {w12 : Int32} {w13 : Int32} {w14 : Int32} {w15 : Int32} {w16 : Int32} {w17 : Int32} {w18 : Bool} {w19 : Nat → Int32} {w20 : Int32} {w21 : Nat → Int32} {w22 : Nat → Int32} {w23 : Nat → Int32} {w24 : Int32} {w25 : Int32} {w26 : Int32} {w27 : Int32} {w28 : Bool} {T c : Nat} {q : Nat × Bool}  (ht : z_n0 G ≤ t) (hT : T ≤ 60) (hq : q.1 ≤ T) (hc32 : c < 32) : z_C l G yX3_readsRest 4 0 0 [.ref t, .int (nI 1)] (z_tw G t w0 w1 w2 w3 w4 w5 w6 w7 w8 w9 w10 w11 w12 w13 w14 w15 w16 w17 w18 w19 w20 w21 w22 w23 w24 (nI T) (nI q.1) (nI c) q.2 h) n (z_r0 (z_tw G t w0 w1 w2 w3 w4 w5 w6 w7 w8 w9 w10 w11 w12 w13 w14 w15 w16 w17 w18 w19 w20 w21 w22 ((tw_rr w21 T 1 c q w23).2) w24 (nI T) (nI (tw_rr w21 T 1 c q w23).1.1) (nI c) ((tw_rr w21 T 1 c q w23).1.2) h) n) := by
  refine z_start zk_X3_readsRest zpl_RX3 (Nat.le_of_ble_eq_true rfl) ?_
  intro hn0 M hl hG ho hb hN hr hm hH hrm hQ
  subst hl hG
  have ho : zm_o M = RX3 := ho
  show z_V M (z_tw (zm_G M) t w0 w1 w2 w3 w4 w5 w6 w7 w8 w9 w10 w11 w12 w13 w14 w15 w16 w17 w18 w19 w20 w21 w22 w23 w24 (nI T) (nI q.1) (nI c) q.2 h) n 0 0 0 [(0, .ref t), (1, .int (nI 1))] []
  refine z_iload_n hb dX3_readsRest_0 rfl ?_
  refine z_tableIn (off := 81) (tgt := 82) hb dX3_readsRest_1 (by decide) (by decide) rfl (by decide) ?_
  refine z_aload_n hb dX3_readsRest_82 rfl ?_
  refine z_iconst (x := nI 0) hb dX3_readsRest_83 (by decide) ?_
  refine z_aload_n hb dX3_readsRest_84 rfl ?_
  refine z_iconst (x := nI 2) hb dX3_readsRest_85 (by decide) ?_
  refine z_call1 (b' := 0) (f' := 0) (rest := [.int (nI 0), .ref t]) (av := [.ref t, .int (nI 2)]) (z_siteV hb ho zc2 z_tw_o q3235 q3237 qs89 ⟨_, _, _, _, zk_X3_behindBlank⟩ zy_X3_behindBlank zl_X3_behindBlank dX3_readsRest_86 : z_Site M _ _ _ _ _ ([.int (nI 2)].reverse ++ .ref t :: [.int (nI 0), .ref t]) [.int (nI 0), .ref t] _) zk_X3_behindBlank q104 hrm (m_X3_behindBlank_2 (w25 := 0) (w26 := 0) (w28 := false) (T := T) (q := q)  ht hT hq ) (by omega) (by decide) (Nat.le_of_ble_eq_true rfl) (by omega) (by omega) ?_
  refine z_call0 (b' := 0) (f' := 0) (rest := []) (av := [.ref t, .int (nI 0), .int ((tw_bb2 w21 T q).2)]) (z_siteV hb ho zc2 z_tw_o q3227 q3229 qs87 ⟨_, _, _, _, zk_X3_put⟩ zy_X3_put zl_X3_put dX3_readsRest_89 : z_Site M _ _ _ _ _ ([.int (nI 0), .int ((tw_bb2 w21 T q).2)].reverse ++ .ref t :: []) [] _) zk_X3_put q104 hrm (m_X3_put (w27 := 0) (c := c) 0 ((tw_bb2 w21 T q).2) ht hc32 (by decide)) (by omega) (by decide) (Nat.le_of_ble_eq_true rfl) (by omega) (by omega) ?_
  refine z_goto (tgt := 203) hb dX3_readsRest_92 (by decide) ?_
  refine z_vret hb hr dX3_readsRest_203 ?_
  rw [hQ]
  simp only [tw_rr]
  exact ⟨rfl, rfl, rfl⟩

set_option maxHeartbeats 1000000 in
theorem m_X3_readsRest_2 {l : Launch} {G : zG} {h : zH} {n : Nat} {t : Nat} {w0 : Nat → Int32} {w1 : Nat → Int32} {w2 : Nat → Int32} {w3 : Nat → Int32} {w4 : Nat → Int32} {w5 : Nat → Int64} {w6 : Nat → Int64} {w7 : Nat → Int64} {w8 : Nat → Int64} {w9 : Nat → Int64} {w10 : Nat → Int64} {w11 : Nat → Int64} {w12 : Int32} {w13 : Int32} {w14 : Int32} {w15 : Int32} {w16 : Int32} {w17 : Int32} {w18 : Bool} {w19 : Nat → Int32} {w20 : Int32} {w21 : Nat → Int32} {w22 : Nat → Int32} {w23 : Nat → Int32} {w24 : Int32} {w25 : Int32} {w26 : Int32} {w27 : Int32} {w28 : Bool} {T c : Nat} {q : Nat × Bool}  (ht : z_n0 G ≤ t) (hT : T ≤ 60) (hq : q.1 ≤ T) (hc32 : c < 32) : z_C l G yX3_readsRest 4 0 0 [.ref t, .int (nI 2)] (z_tw G t w0 w1 w2 w3 w4 w5 w6 w7 w8 w9 w10 w11 w12 w13 w14 w15 w16 w17 w18 w19 w20 w21 w22 w23 w24 (nI T) (nI q.1) (nI c) q.2 h) n (z_r0 (z_tw G t w0 w1 w2 w3 w4 w5 w6 w7 w8 w9 w10 w11 w12 w13 w14 w15 w16 w17 w18 w19 w20 w21 w22 ((tw_rr w21 T 2 c q w23).2) w24 (nI T) (nI (tw_rr w21 T 2 c q w23).1.1) (nI c) ((tw_rr w21 T 2 c q w23).1.2) h) n) := by
  refine z_start zk_X3_readsRest zpl_RX3 (Nat.le_of_ble_eq_true rfl) ?_
  intro hn0 M hl hG ho hb hN hr hm hH hrm hQ
  subst hl hG
  have ho : zm_o M = RX3 := ho
  show z_V M (z_tw (zm_G M) t w0 w1 w2 w3 w4 w5 w6 w7 w8 w9 w10 w11 w12 w13 w14 w15 w16 w17 w18 w19 w20 w21 w22 w23 w24 (nI T) (nI q.1) (nI c) q.2 h) n 0 0 0 [(0, .ref t), (1, .int (nI 2))] []
  refine z_iload_n hb dX3_readsRest_0 rfl ?_
  refine z_tableIn (off := 94) (tgt := 95) hb dX3_readsRest_1 (by decide) (by decide) rfl (by decide) ?_
  refine z_goto (tgt := 203) hb dX3_readsRest_95 (by decide) ?_
  refine z_vret hb hr dX3_readsRest_203 ?_
  rw [hQ]
  exact ⟨rfl, rfl, rfl⟩

set_option maxHeartbeats 1000000 in
theorem m_X3_readsRest_3 {l : Launch} {G : zG} {h : zH} {n : Nat} {t : Nat} {w0 : Nat → Int32} {w1 : Nat → Int32} {w2 : Nat → Int32} {w3 : Nat → Int32} {w4 : Nat → Int32} {w5 : Nat → Int64} {w6 : Nat → Int64} {w7 : Nat → Int64} {w8 : Nat → Int64} {w9 : Nat → Int64} {w10 : Nat → Int64} {w11 : Nat → Int64} {w12 : Int32} {w13 : Int32} {w14 : Int32} {w15 : Int32} {w16 : Int32} {w17 : Int32} {w18 : Bool} {w19 : Nat → Int32} {w20 : Int32} {w21 : Nat → Int32} {w22 : Nat → Int32} {w23 : Nat → Int32} {w24 : Int32} {w25 : Int32} {w26 : Int32} {w27 : Int32} {w28 : Bool} {T c : Nat} {q : Nat × Bool}  (ht : z_n0 G ≤ t) (hT : T ≤ 60) (hq : q.1 ≤ T) (hc32 : c < 32) : z_C l G yX3_readsRest 4 0 0 [.ref t, .int (nI 3)] (z_tw G t w0 w1 w2 w3 w4 w5 w6 w7 w8 w9 w10 w11 w12 w13 w14 w15 w16 w17 w18 w19 w20 w21 w22 w23 w24 (nI T) (nI q.1) (nI c) q.2 h) n (z_r0 (z_tw G t w0 w1 w2 w3 w4 w5 w6 w7 w8 w9 w10 w11 w12 w13 w14 w15 w16 w17 w18 w19 w20 w21 w22 ((tw_rr w21 T 3 c q w23).2) w24 (nI T) (nI (tw_rr w21 T 3 c q w23).1.1) (nI c) ((tw_rr w21 T 3 c q w23).1.2) h) n) := by
  refine z_start zk_X3_readsRest zpl_RX3 (Nat.le_of_ble_eq_true rfl) ?_
  intro hn0 M hl hG ho hb hN hr hm hH hrm hQ
  subst hl hG
  have ho : zm_o M = RX3 := ho
  show z_V M (z_tw (zm_G M) t w0 w1 w2 w3 w4 w5 w6 w7 w8 w9 w10 w11 w12 w13 w14 w15 w16 w17 w18 w19 w20 w21 w22 w23 w24 (nI T) (nI q.1) (nI c) q.2 h) n 0 0 0 [(0, .ref t), (1, .int (nI 3))] []
  refine z_iload_n hb dX3_readsRest_0 rfl ?_
  refine z_tableIn (off := 97) (tgt := 98) hb dX3_readsRest_1 (by decide) (by decide) rfl (by decide) ?_
  refine z_aload_n hb dX3_readsRest_98 rfl ?_
  refine z_bipush (x := nI 32) hb dX3_readsRest_99 (by decide) ?_
  refine z_call0 (b' := 0) (f' := 0) (rest := []) (av := [.ref t, .int (nI 32)]) (z_siteV hb ho zc2 z_tw_o q3215 q3217 qs84 ⟨_, _, _, _, zk_X3_sign⟩ zy_X3_sign zl_X3_sign dX3_readsRest_101 : z_Site M _ _ _ _ _ ([.int (nI 32)].reverse ++ .ref t :: []) [] _) zk_X3_sign q104 hrm (m_X3_sign (w25 := 0) (w26 := 0) (w28 := false) (T := T) (q := q) (nI 32) ht hT hq (by decide)) (by omega) (by decide) (Nat.le_of_ble_eq_true rfl) (by omega) (by omega) ?_
  refine z_aload_n hb dX3_readsRest_104 rfl ?_
  refine z_iconst (x := nI 0) hb dX3_readsRest_105 (by decide) ?_
  refine z_aload_n hb dX3_readsRest_106 rfl ?_
  refine z_bipush (x := nI 115) hb dX3_readsRest_107 (by decide) ?_
  refine z_bipush (x := nI 110) hb dX3_readsRest_109 (by decide) ?_
  refine z_bipush (x := nI 120) hb dX3_readsRest_111 (by decide) ?_
  refine z_call1 (b' := 0) (f' := 0) (rest := [.int (nI 0), .ref t]) (av := [.ref t, .int (nI 115), .int (nI 110), .int (nI 120)]) (z_siteV hb ho zc2 z_tw_o q3239 q3241 qs90 ⟨_, _, _, _, zk_X3_oneOf⟩ zy_X3_oneOf zl_X3_oneOf dX3_readsRest_113 : z_Site M _ _ _ _ _ ([.int (nI 115), .int (nI 110), .int (nI 120)].reverse ++ .ref t :: [.int (nI 0), .ref t]) [.int (nI 0), .ref t] _) zk_X3_oneOf q104 hrm (m_X3_oneOf (w25 := 0) (w26 := 0) (w28 := false) (T := T) (q := (tw_sg w21 T (nI 32) q)) (nI 115) (nI 110) (nI 120) ht hT (tw_sg_le (by decide) hq) (by decide) (by decide) (by decide)) (by omega) (by decide) (Nat.le_of_ble_eq_true rfl) (by omega) (by omega) ?_
  refine z_call0 (b' := 0) (f' := 0) (rest := []) (av := [.ref t, .int (nI 0), .int (tw_mk w21 T (tw_sg w21 T (nI 32) q))]) (z_siteV hb ho zc2 z_tw_o q3227 q3229 qs87 ⟨_, _, _, _, zk_X3_put⟩ zy_X3_put zl_X3_put dX3_readsRest_116 : z_Site M _ _ _ _ _ ([.int (nI 0), .int (tw_mk w21 T (tw_sg w21 T (nI 32) q))].reverse ++ .ref t :: []) [] _) zk_X3_put q104 hrm (m_X3_put (w27 := 0) (c := c) 0 (tw_mk w21 T (tw_sg w21 T (nI 32) q)) ht hc32 (by decide)) (by omega) (by decide) (Nat.le_of_ble_eq_true rfl) (by omega) (by omega) ?_
  refine z_aload_n hb dX3_readsRest_119 rfl ?_
  refine z_iconst (x := nI 1) hb dX3_readsRest_120 (by decide) ?_
  refine z_aload_n hb dX3_readsRest_121 rfl ?_
  refine z_iconst (x := nI 2) hb dX3_readsRest_122 (by decide) ?_
  refine z_call1 (b' := 0) (f' := 0) (rest := [.int (nI 1), .ref t]) (av := [.ref t, .int (nI 2)]) (z_siteV hb ho zc2 z_tw_o q3231 q3233 qs88 ⟨_, _, _, _, zk_X3_digits⟩ zy_X3_digits zl_X3_digits dX3_readsRest_123 : z_Site M _ _ _ _ _ ([.int (nI 2)].reverse ++ .ref t :: [.int (nI 1), .ref t]) [.int (nI 1), .ref t] _) zk_X3_digits q104 hrm (m_X3_digits_2 (w25 := 0) (w26 := 0) (w28 := false) (T := T) (p := (tw_oo w21 T (nI 115) (nI 110) (nI 120) (tw_sg w21 T (nI 32) q)).1) (wr := (tw_oo w21 T (nI 115) (nI 110) (nI 120) (tw_sg w21 T (nI 32) q)).2)  ht hT (tw_oo_le (by decide) (by decide) (by decide) (tw_sg_le (by decide) hq)) ) (by omega) (by decide) (Nat.le_of_ble_eq_true rfl) (by omega) (by omega) ?_
  refine z_call0 (b' := 0) (f' := 0) (rest := []) (av := [.ref t, .int (nI 1), .int ((tw_dg2 w21 T (tw_oo w21 T (nI 115) (nI 110) (nI 120) (tw_sg w21 T (nI 32) q))).2)]) (z_siteV hb ho zc2 z_tw_o q3227 q3229 qs87 ⟨_, _, _, _, zk_X3_put⟩ zy_X3_put zl_X3_put dX3_readsRest_126 : z_Site M _ _ _ _ _ ([.int (nI 1), .int ((tw_dg2 w21 T (tw_oo w21 T (nI 115) (nI 110) (nI 120) (tw_sg w21 T (nI 32) q))).2)].reverse ++ .ref t :: []) [] _) zk_X3_put q104 hrm (m_X3_put (w27 := 0) (c := c) 1 ((tw_dg2 w21 T (tw_oo w21 T (nI 115) (nI 110) (nI 120) (tw_sg w21 T (nI 32) q))).2) ht hc32 (by decide)) (by omega) (by decide) (Nat.le_of_ble_eq_true rfl) (by omega) (by omega) ?_
  refine z_goto (tgt := 203) hb dX3_readsRest_129 (by decide) ?_
  refine z_vret hb hr dX3_readsRest_203 ?_
  rw [hQ]
  simp only [tw_rr]
  exact ⟨rfl, rfl, rfl⟩

set_option maxHeartbeats 1000000 in
theorem m_X3_readsRest_4 {l : Launch} {G : zG} {h : zH} {n : Nat} {t : Nat} {w0 : Nat → Int32} {w1 : Nat → Int32} {w2 : Nat → Int32} {w3 : Nat → Int32} {w4 : Nat → Int32} {w5 : Nat → Int64} {w6 : Nat → Int64} {w7 : Nat → Int64} {w8 : Nat → Int64} {w9 : Nat → Int64} {w10 : Nat → Int64} {w11 : Nat → Int64} {w12 : Int32} {w13 : Int32} {w14 : Int32} {w15 : Int32} {w16 : Int32} {w17 : Int32} {w18 : Bool} {w19 : Nat → Int32} {w20 : Int32} {w21 : Nat → Int32} {w22 : Nat → Int32} {w23 : Nat → Int32} {w24 : Int32} {w25 : Int32} {w26 : Int32} {w27 : Int32} {w28 : Bool} {T c : Nat} {q : Nat × Bool}  (ht : z_n0 G ≤ t) (hT : T ≤ 60) (hq : q.1 ≤ T) (hc32 : c < 32) : z_C l G yX3_readsRest 4 0 0 [.ref t, .int (nI 4)] (z_tw G t w0 w1 w2 w3 w4 w5 w6 w7 w8 w9 w10 w11 w12 w13 w14 w15 w16 w17 w18 w19 w20 w21 w22 w23 w24 (nI T) (nI q.1) (nI c) q.2 h) n (z_r0 (z_tw G t w0 w1 w2 w3 w4 w5 w6 w7 w8 w9 w10 w11 w12 w13 w14 w15 w16 w17 w18 w19 w20 w21 w22 ((tw_rr w21 T 4 c q w23).2) w24 (nI T) (nI (tw_rr w21 T 4 c q w23).1.1) (nI c) ((tw_rr w21 T 4 c q w23).1.2) h) n) := by
  refine z_start zk_X3_readsRest zpl_RX3 (Nat.le_of_ble_eq_true rfl) ?_
  intro hn0 M hl hG ho hb hN hr hm hH hrm hQ
  subst hl hG
  have ho : zm_o M = RX3 := ho
  show z_V M (z_tw (zm_G M) t w0 w1 w2 w3 w4 w5 w6 w7 w8 w9 w10 w11 w12 w13 w14 w15 w16 w17 w18 w19 w20 w21 w22 w23 w24 (nI T) (nI q.1) (nI c) q.2 h) n 0 0 0 [(0, .ref t), (1, .int (nI 4))] []
  refine z_iload_n hb dX3_readsRest_0 rfl ?_
  refine z_tableIn (off := 131) (tgt := 132) hb dX3_readsRest_1 (by decide) (by decide) rfl (by decide) ?_
  refine z_aload_n hb dX3_readsRest_132 rfl ?_
  refine z_iconst (x := nI 1) hb dX3_readsRest_133 (by decide) ?_
  refine z_aload_n hb dX3_readsRest_134 rfl ?_
  refine z_iconst (x := nI 1) hb dX3_readsRest_135 (by decide) ?_
  refine z_call1 (b' := 0) (f' := 0) (rest := [.int (nI 1), .ref t]) (av := [.ref t, .int (nI 1)]) (z_siteV hb ho zc2 z_tw_o q3235 q3237 qs89 ⟨_, _, _, _, zk_X3_behindBlank⟩ zy_X3_behindBlank zl_X3_behindBlank dX3_readsRest_136 : z_Site M _ _ _ _ _ ([.int (nI 1)].reverse ++ .ref t :: [.int (nI 1), .ref t]) [.int (nI 1), .ref t] _) zk_X3_behindBlank q104 hrm (m_X3_behindBlank_1 (w25 := 0) (w26 := 0) (w28 := false) (T := T) (q := q)  ht hT hq ) (by omega) (by decide) (Nat.le_of_ble_eq_true rfl) (by omega) (by omega) ?_
  refine z_call0 (b' := 0) (f' := 0) (rest := []) (av := [.ref t, .int (nI 1), .int ((tw_bb1 w21 T q).2)]) (z_siteV hb ho zc2 z_tw_o q3227 q3229 qs87 ⟨_, _, _, _, zk_X3_put⟩ zy_X3_put zl_X3_put dX3_readsRest_139 : z_Site M _ _ _ _ _ ([.int (nI 1), .int ((tw_bb1 w21 T q).2)].reverse ++ .ref t :: []) [] _) zk_X3_put q104 hrm (m_X3_put (w27 := 0) (c := c) 1 ((tw_bb1 w21 T q).2) ht hc32 (by decide)) (by omega) (by decide) (Nat.le_of_ble_eq_true rfl) (by omega) (by omega) ?_
  refine z_aload_n hb dX3_readsRest_142 rfl ?_
  refine z_iconst (x := nI 0) hb dX3_readsRest_143 (by decide) ?_
  refine z_aload_n hb dX3_readsRest_144 rfl ?_
  refine z_bipush (x := nI 43) hb dX3_readsRest_145 (by decide) ?_
  refine z_bipush (x := nI 45) hb dX3_readsRest_147 (by decide) ?_
  refine z_bipush (x := nI 43) hb dX3_readsRest_149 (by decide) ?_
  refine z_call1 (b' := 0) (f' := 0) (rest := [.int (nI 0), .ref t]) (av := [.ref t, .int (nI 43), .int (nI 45), .int (nI 43)]) (z_siteV hb ho zc2 z_tw_o q3239 q3241 qs90 ⟨_, _, _, _, zk_X3_oneOf⟩ zy_X3_oneOf zl_X3_oneOf dX3_readsRest_151 : z_Site M _ _ _ _ _ ([.int (nI 43), .int (nI 45), .int (nI 43)].reverse ++ .ref t :: [.int (nI 0), .ref t]) [.int (nI 0), .ref t] _) zk_X3_oneOf q104 hrm (m_X3_oneOf (w25 := 0) (w26 := 0) (w28 := false) (T := T) (q := ((tw_bb1 w21 T q).1)) (nI 43) (nI 45) (nI 43) ht hT (tw_bb1_le hq) (by decide) (by decide) (by decide)) (by omega) (by decide) (Nat.le_of_ble_eq_true rfl) (by omega) (by omega) ?_
  refine z_call0 (b' := 0) (f' := 0) (rest := []) (av := [.ref t, .int (nI 0), .int (tw_mk w21 T ((tw_bb1 w21 T q).1))]) (z_siteV hb ho zc2 z_tw_o q3227 q3229 qs87 ⟨_, _, _, _, zk_X3_put⟩ zy_X3_put zl_X3_put dX3_readsRest_154 : z_Site M _ _ _ _ _ ([.int (nI 0), .int (tw_mk w21 T ((tw_bb1 w21 T q).1))].reverse ++ .ref t :: []) [] _) zk_X3_put q104 hrm (m_X3_put (w27 := 0) (c := c) 0 (tw_mk w21 T ((tw_bb1 w21 T q).1)) ht hc32 (by decide)) (by omega) (by decide) (Nat.le_of_ble_eq_true rfl) (by omega) (by omega) ?_
  refine z_aload_n hb dX3_readsRest_157 rfl ?_
  refine z_iconst (x := nI 2) hb dX3_readsRest_158 (by decide) ?_
  refine z_aload_n hb dX3_readsRest_159 rfl ?_
  refine z_iconst (x := nI 1) hb dX3_readsRest_160 (by decide) ?_
  refine z_call1 (b' := 0) (f' := 0) (rest := [.int (nI 2), .ref t]) (av := [.ref t, .int (nI 1)]) (z_siteV hb ho zc2 z_tw_o q3231 q3233 qs88 ⟨_, _, _, _, zk_X3_digits⟩ zy_X3_digits zl_X3_digits dX3_readsRest_161 : z_Site M _ _ _ _ _ ([.int (nI 1)].reverse ++ .ref t :: [.int (nI 2), .ref t]) [.int (nI 2), .ref t] _) zk_X3_digits q104 hrm (m_X3_digits_1 (w25 := 0) (w26 := 0) (w28 := false) (T := T) (p := (tw_oo w21 T (nI 43) (nI 45) (nI 43) ((tw_bb1 w21 T q).1)).1) (wr := (tw_oo w21 T (nI 43) (nI 45) (nI 43) ((tw_bb1 w21 T q).1)).2)  ht hT (tw_oo_le (by decide) (by decide) (by decide) (tw_bb1_le hq)) ) (by omega) (by decide) (Nat.le_of_ble_eq_true rfl) (by omega) (by omega) ?_
  refine z_call0 (b' := 0) (f' := 0) (rest := []) (av := [.ref t, .int (nI 2), .int ((tw_dg1 w21 T (tw_oo w21 T (nI 43) (nI 45) (nI 43) ((tw_bb1 w21 T q).1))).2)]) (z_siteV hb ho zc2 z_tw_o q3227 q3229 qs87 ⟨_, _, _, _, zk_X3_put⟩ zy_X3_put zl_X3_put dX3_readsRest_164 : z_Site M _ _ _ _ _ ([.int (nI 2), .int ((tw_dg1 w21 T (tw_oo w21 T (nI 43) (nI 45) (nI 43) ((tw_bb1 w21 T q).1))).2)].reverse ++ .ref t :: []) [] _) zk_X3_put q104 hrm (m_X3_put (w27 := 0) (c := c) 2 ((tw_dg1 w21 T (tw_oo w21 T (nI 43) (nI 45) (nI 43) ((tw_bb1 w21 T q).1))).2) ht hc32 (by decide)) (by omega) (by decide) (Nat.le_of_ble_eq_true rfl) (by omega) (by omega) ?_
  refine z_goto (tgt := 203) hb dX3_readsRest_167 (by decide) ?_
  refine z_vret hb hr dX3_readsRest_203 ?_
  rw [hQ]
  simp only [tw_rr]
  exact ⟨rfl, rfl, rfl⟩

set_option maxHeartbeats 1000000 in
theorem m_X3_readsRest_5 {l : Launch} {G : zG} {h : zH} {n : Nat} {t : Nat} {w0 : Nat → Int32} {w1 : Nat → Int32} {w2 : Nat → Int32} {w3 : Nat → Int32} {w4 : Nat → Int32} {w5 : Nat → Int64} {w6 : Nat → Int64} {w7 : Nat → Int64} {w8 : Nat → Int64} {w9 : Nat → Int64} {w10 : Nat → Int64} {w11 : Nat → Int64} {w12 : Int32} {w13 : Int32} {w14 : Int32} {w15 : Int32} {w16 : Int32} {w17 : Int32} {w18 : Bool} {w19 : Nat → Int32} {w20 : Int32} {w21 : Nat → Int32} {w22 : Nat → Int32} {w23 : Nat → Int32} {w24 : Int32} {w25 : Int32} {w26 : Int32} {w27 : Int32} {w28 : Bool} {T c : Nat} {q : Nat × Bool}  (ht : z_n0 G ≤ t) (hT : T ≤ 60) (hq : q.1 ≤ T) (hc32 : c < 32) : z_C l G yX3_readsRest 4 0 0 [.ref t, .int (nI 5)] (z_tw G t w0 w1 w2 w3 w4 w5 w6 w7 w8 w9 w10 w11 w12 w13 w14 w15 w16 w17 w18 w19 w20 w21 w22 w23 w24 (nI T) (nI q.1) (nI c) q.2 h) n (z_r0 (z_tw G t w0 w1 w2 w3 w4 w5 w6 w7 w8 w9 w10 w11 w12 w13 w14 w15 w16 w17 w18 w19 w20 w21 w22 ((tw_rr w21 T 5 c q w23).2) w24 (nI T) (nI (tw_rr w21 T 5 c q w23).1.1) (nI c) ((tw_rr w21 T 5 c q w23).1.2) h) n) := by
  refine z_start zk_X3_readsRest zpl_RX3 (Nat.le_of_ble_eq_true rfl) ?_
  intro hn0 M hl hG ho hb hN hr hm hH hrm hQ
  subst hl hG
  have ho : zm_o M = RX3 := ho
  show z_V M (z_tw (zm_G M) t w0 w1 w2 w3 w4 w5 w6 w7 w8 w9 w10 w11 w12 w13 w14 w15 w16 w17 w18 w19 w20 w21 w22 w23 w24 (nI T) (nI q.1) (nI c) q.2 h) n 0 0 0 [(0, .ref t), (1, .int (nI 5))] []
  refine z_iload_n hb dX3_readsRest_0 rfl ?_
  refine z_tableIn (off := 192) (tgt := 193) hb dX3_readsRest_1 (by decide) (by decide) rfl (by decide) ?_
  refine z_aload_n hb dX3_readsRest_193 rfl ?_
  refine z_iconst (x := nI 0) hb dX3_readsRest_194 (by decide) ?_
  refine z_aload_n hb dX3_readsRest_195 rfl ?_
  refine z_iconst (x := nI 1) hb dX3_readsRest_196 (by decide) ?_
  refine z_call1 (b' := 0) (f' := 0) (rest := [.int (nI 0), .ref t]) (av := [.ref t, .int (nI 1)]) (z_siteV hb ho zc2 z_tw_o q3235 q3237 qs89 ⟨_, _, _, _, zk_X3_behindBlank⟩ zy_X3_behindBlank zl_X3_behindBlank dX3_readsRest_197 : z_Site M _ _ _ _ _ ([.int (nI 1)].reverse ++ .ref t :: [.int (nI 0), .ref t]) [.int (nI 0), .ref t] _) zk_X3_behindBlank q104 hrm (m_X3_behindBlank_1 (w25 := 0) (w26 := 0) (w28 := false) (T := T) (q := q)  ht hT hq ) (by omega) (by decide) (Nat.le_of_ble_eq_true rfl) (by omega) (by omega) ?_
  refine z_call0 (b' := 0) (f' := 0) (rest := []) (av := [.ref t, .int (nI 0), .int ((tw_bb1 w21 T q).2)]) (z_siteV hb ho zc2 z_tw_o q3227 q3229 qs87 ⟨_, _, _, _, zk_X3_put⟩ zy_X3_put zl_X3_put dX3_readsRest_200 : z_Site M _ _ _ _ _ ([.int (nI 0), .int ((tw_bb1 w21 T q).2)].reverse ++ .ref t :: []) [] _) zk_X3_put q104 hrm (m_X3_put (w27 := 0) (c := c) 0 ((tw_bb1 w21 T q).2) ht hc32 (by decide)) (by omega) (by decide) (Nat.le_of_ble_eq_true rfl) (by omega) (by omega) ?_
  refine z_vret hb hr dX3_readsRest_203 ?_
  rw [hQ]
  exact ⟨rfl, rfl, rfl⟩

set_option maxHeartbeats 1000000 in
theorem m_X3_readsRest_6 {l : Launch} {G : zG} {h : zH} {n : Nat} {t : Nat} {w0 : Nat → Int32} {w1 : Nat → Int32} {w2 : Nat → Int32} {w3 : Nat → Int32} {w4 : Nat → Int32} {w5 : Nat → Int64} {w6 : Nat → Int64} {w7 : Nat → Int64} {w8 : Nat → Int64} {w9 : Nat → Int64} {w10 : Nat → Int64} {w11 : Nat → Int64} {w12 : Int32} {w13 : Int32} {w14 : Int32} {w15 : Int32} {w16 : Int32} {w17 : Int32} {w18 : Bool} {w19 : Nat → Int32} {w20 : Int32} {w21 : Nat → Int32} {w22 : Nat → Int32} {w23 : Nat → Int32} {w24 : Int32} {w25 : Int32} {w26 : Int32} {w27 : Int32} {w28 : Bool} {T c : Nat} {q : Nat × Bool}  (ht : z_n0 G ≤ t) (hT : T ≤ 60) (hq : q.1 ≤ T) (hc32 : c < 32) : z_C l G yX3_readsRest 4 0 0 [.ref t, .int (nI 6)] (z_tw G t w0 w1 w2 w3 w4 w5 w6 w7 w8 w9 w10 w11 w12 w13 w14 w15 w16 w17 w18 w19 w20 w21 w22 w23 w24 (nI T) (nI q.1) (nI c) q.2 h) n (z_r0 (z_tw G t w0 w1 w2 w3 w4 w5 w6 w7 w8 w9 w10 w11 w12 w13 w14 w15 w16 w17 w18 w19 w20 w21 w22 ((tw_rr w21 T 6 c q w23).2) w24 (nI T) (nI (tw_rr w21 T 6 c q w23).1.1) (nI c) ((tw_rr w21 T 6 c q w23).1.2) h) n) := by
  refine z_start zk_X3_readsRest zpl_RX3 (Nat.le_of_ble_eq_true rfl) ?_
  intro hn0 M hl hG ho hb hN hr hm hH hrm hQ
  subst hl hG
  have ho : zm_o M = RX3 := ho
  show z_V M (z_tw (zm_G M) t w0 w1 w2 w3 w4 w5 w6 w7 w8 w9 w10 w11 w12 w13 w14 w15 w16 w17 w18 w19 w20 w21 w22 w23 w24 (nI T) (nI q.1) (nI c) q.2 h) n 0 0 0 [(0, .ref t), (1, .int (nI 6))] []
  refine z_iload_n hb dX3_readsRest_0 rfl ?_
  refine z_tableIn (off := 169) (tgt := 170) hb dX3_readsRest_1 (by decide) (by decide) rfl (by decide) ?_
  refine z_aload_n hb dX3_readsRest_170 rfl ?_
  refine z_iconst (x := nI 0) hb dX3_readsRest_171 (by decide) ?_
  refine z_aload_n hb dX3_readsRest_172 rfl ?_
  refine z_iconst (x := nI 1) hb dX3_readsRest_173 (by decide) ?_
  refine z_call1 (b' := 0) (f' := 0) (rest := [.int (nI 0), .ref t]) (av := [.ref t, .int (nI 1)]) (z_siteV hb ho zc2 z_tw_o q3235 q3237 qs89 ⟨_, _, _, _, zk_X3_behindBlank⟩ zy_X3_behindBlank zl_X3_behindBlank dX3_readsRest_174 : z_Site M _ _ _ _ _ ([.int (nI 1)].reverse ++ .ref t :: [.int (nI 0), .ref t]) [.int (nI 0), .ref t] _) zk_X3_behindBlank q104 hrm (m_X3_behindBlank_1 (w25 := 0) (w26 := 0) (w28 := false) (T := T) (q := q)  ht hT hq ) (by omega) (by decide) (Nat.le_of_ble_eq_true rfl) (by omega) (by omega) ?_
  refine z_call0 (b' := 0) (f' := 0) (rest := []) (av := [.ref t, .int (nI 0), .int ((tw_bb1 w21 T q).2)]) (z_siteV hb ho zc2 z_tw_o q3227 q3229 qs87 ⟨_, _, _, _, zk_X3_put⟩ zy_X3_put zl_X3_put dX3_readsRest_177 : z_Site M _ _ _ _ _ ([.int (nI 0), .int ((tw_bb1 w21 T q).2)].reverse ++ .ref t :: []) [] _) zk_X3_put q104 hrm (m_X3_put (w27 := 0) (c := c) 0 ((tw_bb1 w21 T q).2) ht hc32 (by decide)) (by omega) (by decide) (Nat.le_of_ble_eq_true rfl) (by omega) (by omega) ?_
  refine z_aload_n hb dX3_readsRest_180 rfl ?_
  refine z_iconst (x := nI 1) hb dX3_readsRest_181 (by decide) ?_
  refine z_aload_n hb dX3_readsRest_182 rfl ?_
  refine z_iconst (x := nI 2) hb dX3_readsRest_183 (by decide) ?_
  refine z_call1 (b' := 0) (f' := 0) (rest := [.int (nI 1), .ref t]) (av := [.ref t, .int (nI 2)]) (z_siteV hb ho zc2 z_tw_o q3235 q3237 qs89 ⟨_, _, _, _, zk_X3_behindBlank⟩ zy_X3_behindBlank zl_X3_behindBlank dX3_readsRest_184 : z_Site M _ _ _ _ _ ([.int (nI 2)].reverse ++ .ref t :: [.int (nI 1), .ref t]) [.int (nI 1), .ref t] _) zk_X3_behindBlank q104 hrm (m_X3_behindBlank_2 (w25 := 0) (w26 := 0) (w28 := false) (T := T) (q := ((tw_bb1 w21 T q).1))  ht hT (tw_bb1_le hq) ) (by omega) (by decide) (Nat.le_of_ble_eq_true rfl) (by omega) (by omega) ?_
  refine z_call0 (b' := 0) (f' := 0) (rest := []) (av := [.ref t, .int (nI 1), .int ((tw_bb2 w21 T ((tw_bb1 w21 T q).1)).2)]) (z_siteV hb ho zc2 z_tw_o q3227 q3229 qs87 ⟨_, _, _, _, zk_X3_put⟩ zy_X3_put zl_X3_put dX3_readsRest_187 : z_Site M _ _ _ _ _ ([.int (nI 1), .int ((tw_bb2 w21 T ((tw_bb1 w21 T q).1)).2)].reverse ++ .ref t :: []) [] _) zk_X3_put q104 hrm (m_X3_put (w27 := 0) (c := c) 1 ((tw_bb2 w21 T ((tw_bb1 w21 T q).1)).2) ht hc32 (by decide)) (by omega) (by decide) (Nat.le_of_ble_eq_true rfl) (by omega) (by omega) ?_
  refine z_goto (tgt := 203) hb dX3_readsRest_190 (by decide) ?_
  refine z_vret hb hr dX3_readsRest_203 ?_
  rw [hQ]
  simp only [tw_rr]
  exact ⟨rfl, rfl, rfl⟩

set_option maxHeartbeats 1000000 in
theorem m_X3_readsRest_7 {l : Launch} {G : zG} {h : zH} {n : Nat} {t : Nat} {w0 : Nat → Int32} {w1 : Nat → Int32} {w2 : Nat → Int32} {w3 : Nat → Int32} {w4 : Nat → Int32} {w5 : Nat → Int64} {w6 : Nat → Int64} {w7 : Nat → Int64} {w8 : Nat → Int64} {w9 : Nat → Int64} {w10 : Nat → Int64} {w11 : Nat → Int64} {w12 : Int32} {w13 : Int32} {w14 : Int32} {w15 : Int32} {w16 : Int32} {w17 : Int32} {w18 : Bool} {w19 : Nat → Int32} {w20 : Int32} {w21 : Nat → Int32} {w22 : Nat → Int32} {w23 : Nat → Int32} {w24 : Int32} {w25 : Int32} {w26 : Int32} {w27 : Int32} {w28 : Bool} {T c : Nat} {q : Nat × Bool}  (ht : z_n0 G ≤ t) (hT : T ≤ 60) (hq : q.1 ≤ T) (hc32 : c < 32) : z_C l G yX3_readsRest 4 0 0 [.ref t, .int (nI 7)] (z_tw G t w0 w1 w2 w3 w4 w5 w6 w7 w8 w9 w10 w11 w12 w13 w14 w15 w16 w17 w18 w19 w20 w21 w22 w23 w24 (nI T) (nI q.1) (nI c) q.2 h) n (z_r0 (z_tw G t w0 w1 w2 w3 w4 w5 w6 w7 w8 w9 w10 w11 w12 w13 w14 w15 w16 w17 w18 w19 w20 w21 w22 ((tw_rr w21 T 7 c q w23).2) w24 (nI T) (nI (tw_rr w21 T 7 c q w23).1.1) (nI c) ((tw_rr w21 T 7 c q w23).1.2) h) n) := by
  refine z_start zk_X3_readsRest zpl_RX3 (Nat.le_of_ble_eq_true rfl) ?_
  intro hn0 M hl hG ho hb hN hr hm hH hrm hQ
  subst hl hG
  have ho : zm_o M = RX3 := ho
  show z_V M (z_tw (zm_G M) t w0 w1 w2 w3 w4 w5 w6 w7 w8 w9 w10 w11 w12 w13 w14 w15 w16 w17 w18 w19 w20 w21 w22 w23 w24 (nI T) (nI q.1) (nI c) q.2 h) n 0 0 0 [(0, .ref t), (1, .int (nI 7))] []
  refine z_iload_n hb dX3_readsRest_0 rfl ?_
  refine z_tableOut (tgt := 193) hb dX3_readsRest_1 (by decide) (by decide) ?_
  refine z_aload_n hb dX3_readsRest_193 rfl ?_
  refine z_iconst (x := nI 0) hb dX3_readsRest_194 (by decide) ?_
  refine z_aload_n hb dX3_readsRest_195 rfl ?_
  refine z_iconst (x := nI 1) hb dX3_readsRest_196 (by decide) ?_
  refine z_call1 (b' := 0) (f' := 0) (rest := [.int (nI 0), .ref t]) (av := [.ref t, .int (nI 1)]) (z_siteV hb ho zc2 z_tw_o q3235 q3237 qs89 ⟨_, _, _, _, zk_X3_behindBlank⟩ zy_X3_behindBlank zl_X3_behindBlank dX3_readsRest_197 : z_Site M _ _ _ _ _ ([.int (nI 1)].reverse ++ .ref t :: [.int (nI 0), .ref t]) [.int (nI 0), .ref t] _) zk_X3_behindBlank q104 hrm (m_X3_behindBlank_1 (w25 := 0) (w26 := 0) (w28 := false) (T := T) (q := q)  ht hT hq ) (by omega) (by decide) (Nat.le_of_ble_eq_true rfl) (by omega) (by omega) ?_
  refine z_call0 (b' := 0) (f' := 0) (rest := []) (av := [.ref t, .int (nI 0), .int ((tw_bb1 w21 T q).2)]) (z_siteV hb ho zc2 z_tw_o q3227 q3229 qs87 ⟨_, _, _, _, zk_X3_put⟩ zy_X3_put zl_X3_put dX3_readsRest_200 : z_Site M _ _ _ _ _ ([.int (nI 0), .int ((tw_bb1 w21 T q).2)].reverse ++ .ref t :: []) [] _) zk_X3_put q104 hrm (m_X3_put (w27 := 0) (c := c) 0 ((tw_bb1 w21 T q).2) ht hc32 (by decide)) (by omega) (by decide) (Nat.le_of_ble_eq_true rfl) (by omega) (by omega) ?_
  refine z_vret hb hr dX3_readsRest_203 ?_
  rw [hQ]
  exact ⟨rfl, rfl, rfl⟩

set_option maxHeartbeats 1000000 in
theorem m_X3_readsRest_8 {l : Launch} {G : zG} {h : zH} {n : Nat} {t : Nat} {w0 : Nat → Int32} {w1 : Nat → Int32} {w2 : Nat → Int32} {w3 : Nat → Int32} {w4 : Nat → Int32} {w5 : Nat → Int64} {w6 : Nat → Int64} {w7 : Nat → Int64} {w8 : Nat → Int64} {w9 : Nat → Int64} {w10 : Nat → Int64} {w11 : Nat → Int64} {w12 : Int32} {w13 : Int32} {w14 : Int32} {w15 : Int32} {w16 : Int32} {w17 : Int32} {w18 : Bool} {w19 : Nat → Int32} {w20 : Int32} {w21 : Nat → Int32} {w22 : Nat → Int32} {w23 : Nat → Int32} {w24 : Int32} {w25 : Int32} {w26 : Int32} {w27 : Int32} {w28 : Bool} {T c : Nat} {q : Nat × Bool}  (ht : z_n0 G ≤ t) (hT : T ≤ 60) (hq : q.1 ≤ T) (hc32 : c < 32) : z_C l G yX3_readsRest 4 0 0 [.ref t, .int (nI 8)] (z_tw G t w0 w1 w2 w3 w4 w5 w6 w7 w8 w9 w10 w11 w12 w13 w14 w15 w16 w17 w18 w19 w20 w21 w22 w23 w24 (nI T) (nI q.1) (nI c) q.2 h) n (z_r0 (z_tw G t w0 w1 w2 w3 w4 w5 w6 w7 w8 w9 w10 w11 w12 w13 w14 w15 w16 w17 w18 w19 w20 w21 w22 ((tw_rr w21 T 8 c q w23).2) w24 (nI T) (nI (tw_rr w21 T 8 c q w23).1.1) (nI c) ((tw_rr w21 T 8 c q w23).1.2) h) n) := by
  refine z_start zk_X3_readsRest zpl_RX3 (Nat.le_of_ble_eq_true rfl) ?_
  intro hn0 M hl hG ho hb hN hr hm hH hrm hQ
  subst hl hG
  have ho : zm_o M = RX3 := ho
  show z_V M (z_tw (zm_G M) t w0 w1 w2 w3 w4 w5 w6 w7 w8 w9 w10 w11 w12 w13 w14 w15 w16 w17 w18 w19 w20 w21 w22 w23 w24 (nI T) (nI q.1) (nI c) q.2 h) n 0 0 0 [(0, .ref t), (1, .int (nI 8))] []
  refine z_iload_n hb dX3_readsRest_0 rfl ?_
  refine z_tableOut (tgt := 193) hb dX3_readsRest_1 (by decide) (by decide) ?_
  refine z_aload_n hb dX3_readsRest_193 rfl ?_
  refine z_iconst (x := nI 0) hb dX3_readsRest_194 (by decide) ?_
  refine z_aload_n hb dX3_readsRest_195 rfl ?_
  refine z_iconst (x := nI 1) hb dX3_readsRest_196 (by decide) ?_
  refine z_call1 (b' := 0) (f' := 0) (rest := [.int (nI 0), .ref t]) (av := [.ref t, .int (nI 1)]) (z_siteV hb ho zc2 z_tw_o q3235 q3237 qs89 ⟨_, _, _, _, zk_X3_behindBlank⟩ zy_X3_behindBlank zl_X3_behindBlank dX3_readsRest_197 : z_Site M _ _ _ _ _ ([.int (nI 1)].reverse ++ .ref t :: [.int (nI 0), .ref t]) [.int (nI 0), .ref t] _) zk_X3_behindBlank q104 hrm (m_X3_behindBlank_1 (w25 := 0) (w26 := 0) (w28 := false) (T := T) (q := q)  ht hT hq ) (by omega) (by decide) (Nat.le_of_ble_eq_true rfl) (by omega) (by omega) ?_
  refine z_call0 (b' := 0) (f' := 0) (rest := []) (av := [.ref t, .int (nI 0), .int ((tw_bb1 w21 T q).2)]) (z_siteV hb ho zc2 z_tw_o q3227 q3229 qs87 ⟨_, _, _, _, zk_X3_put⟩ zy_X3_put zl_X3_put dX3_readsRest_200 : z_Site M _ _ _ _ _ ([.int (nI 0), .int ((tw_bb1 w21 T q).2)].reverse ++ .ref t :: []) [] _) zk_X3_put q104 hrm (m_X3_put (w27 := 0) (c := c) 0 ((tw_bb1 w21 T q).2) ht hc32 (by decide)) (by omega) (by decide) (Nat.le_of_ble_eq_true rfl) (by omega) (by omega) ?_
  refine z_vret hb hr dX3_readsRest_203 ?_
  rw [hQ]
  exact ⟨rfl, rfl, rfl⟩

theorem m_X3_readsRest {l : Launch} {G : zG} {h : zH} {n : Nat} {t : Nat} {w0 : Nat → Int32} {w1 : Nat → Int32} {w2 : Nat → Int32} {w3 : Nat → Int32} {w4 : Nat → Int32} {w5 : Nat → Int64} {w6 : Nat → Int64} {w7 : Nat → Int64} {w8 : Nat → Int64} {w9 : Nat → Int64} {w10 : Nat → Int64} {w11 : Nat → Int64} {w12 : Int32} {w13 : Int32} {w14 : Int32} {w15 : Int32} {w16 : Int32} {w17 : Int32} {w18 : Bool} {w19 : Nat → Int32} {w20 : Int32} {w21 : Nat → Int32} {w22 : Nat → Int32} {w23 : Nat → Int32} {w24 : Int32} {w25 : Int32} {w26 : Int32} {w27 : Int32} {w28 : Bool} {T c : Nat} {q : Nat × Bool} (kd : Nat) (hkd : kd < 9) (ht : z_n0 G ≤ t) (hT : T ≤ 60) (hq : q.1 ≤ T) (hc32 : c < 32) : z_C l G yX3_readsRest 4 0 0 [.ref t, .int (nI kd)] (z_tw G t w0 w1 w2 w3 w4 w5 w6 w7 w8 w9 w10 w11 w12 w13 w14 w15 w16 w17 w18 w19 w20 w21 w22 w23 w24 (nI T) (nI q.1) (nI c) q.2 h) n (z_r0 (z_tw G t w0 w1 w2 w3 w4 w5 w6 w7 w8 w9 w10 w11 w12 w13 w14 w15 w16 w17 w18 w19 w20 w21 w22 ((tw_rr w21 T kd c q w23).2) w24 (nI T) (nI (tw_rr w21 T kd c q w23).1.1) (nI c) ((tw_rr w21 T kd c q w23).1.2) h) n) := by
  match kd, hkd with
  | 0, _ => exact m_X3_readsRest_0 (w25 := 0) (w26 := 0) (w27 := 0) (w28 := false) ht hT hq hc32
  | 1, _ => exact m_X3_readsRest_1 (w25 := 0) (w26 := 0) (w27 := 0) (w28 := false) ht hT hq hc32
  | 2, _ => exact m_X3_readsRest_2 (w25 := 0) (w26 := 0) (w27 := 0) (w28 := false) ht hT hq hc32
  | 3, _ => exact m_X3_readsRest_3 (w25 := 0) (w26 := 0) (w27 := 0) (w28 := false) ht hT hq hc32
  | 4, _ => exact m_X3_readsRest_4 (w25 := 0) (w26 := 0) (w27 := 0) (w28 := false) ht hT hq hc32
  | 5, _ => exact m_X3_readsRest_5 (w25 := 0) (w26 := 0) (w27 := 0) (w28 := false) ht hT hq hc32
  | 6, _ => exact m_X3_readsRest_6 (w25 := 0) (w26 := 0) (w27 := 0) (w28 := false) ht hT hq hc32
  | 7, _ => exact m_X3_readsRest_7 (w25 := 0) (w26 := 0) (w27 := 0) (w28 := false) ht hT hq hc32
  | 8, _ => exact m_X3_readsRest_8 (w25 := 0) (w26 := 0) (w27 := 0) (w28 := false) ht hT hq hc32

