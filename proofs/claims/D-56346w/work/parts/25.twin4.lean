set_option maxHeartbeats 1000000 in
theorem m_X3_touched_now {l : Launch} {G : zG} {h : zH} {n : Nat} {t : Nat} {w0 : Nat → Int32} {w1 : Nat → Int32} {w2 : Nat → Int32} {w3 : Nat → Int32} {w4 : Nat → Int32} {w5 : Nat → Int64} {w6 : Nat → Int64} {w7 : Nat → Int64} {w8 : Nat → Int64} {w9 : Nat → Int64} {w10 : Nat → Int64} {w11 : Nat → Int64} {w12 : Int32} {w13 : Int32} {w14 : Int32} {w15 : Int32} {w16 : Int32} {w17 : Int32} {w18 : Bool} {w19 : Nat → Int32} {w20 : Int32} {w21 : Nat → Int32} {w22 : Nat → Int32} {w23 : Nat → Int32} {w24 : Int32} {w25 : Int32} {w26 : Int32} {w27 : Int32} {w28 : Bool} {R S D : Nat}   (ht : z_n0 G ≤ t) (hw : z_ok w0 R S D) : z_C l G yX3_touched 6 0 0 [.ref t, .int (nI D)] (z_tw G t w0 w1 w2 w3 w4 w5 w6 w7 w8 w9 w10 w11 w12 w13 w14 w15 w16 w17 w18 w19 w20 w21 w22 w23 w24 w25 w26 w27 w28 h) n (z_r0 (z_tw G t w0 w1 w2 w3 w4 (tw_tt w0 R D w5 S) w6 w7 w8 w9 w10 w11 w12 w13 w14 w15 w16 w17 w18 w19 w20 w21 w22 w23 w24 w25 w26 w27 w28 h) n) := by
  refine z_start zk_X3_touched zpl_RX3 (Nat.le_of_ble_eq_true rfl) ?_
  intro hn0 M hl hG ho hb hN hr hm hH hrm hQ
  subst hl hG
  have ho : zm_o M = RX3 := ho
  obtain ⟨hR, hR4, hS, hS8, hD, hD6, hF⟩ := id hw
  show z_V M (z_tw (zm_G M) t w0 w1 w2 w3 w4 w5 w6 w7 w8 w9 w10 w11 w12 w13 w14 w15 w16 w17 w18 w19 w20 w21 w22 w23 w24 w25 w26 w27 w28 h) n 0 0 0 [(0, .ref t), (1, .int (nI D))] []
  refine z_iload_n hb dX3_touched_0 rfl ?_
  refine z_aload_n hb dX3_touched_1 rfl ?_
  refine z_get (k := 0) (C := RX3) (T := TX3) (N := 29) hb ho zc2 in_X3 (zf_RX3_7 _) dX3_touched_2 z_tw_o (by decide) rfl ?_
  refine z_iconst (x := nI 0) hb dX3_touched_5 (by decide) ?_
  refine z_iald (j := 0) hb dX3_touched_6 z_tw_r0 rfl (by omega) (by omega) ?_
  refine z_toI (y := nI D) hD ?_
  refine z_icmp_neN (tgt := 44) hb dX3_touched_7 (by decide) (by omega) (by omega) (fun c_7 => ?_) (fun c_7 => ?_)
  · exact absurd rfl c_7
  · refine z_iconst (x := nI 0) hb dX3_touched_10 (by decide) ?_
    refine z_istore_n (lv' := [(2, .int (nI 0)), (0, .ref t), (1, .int (nI D))]) hb dX3_touched_11 (by rw [hN]; decide) rfl ?_
    have lp_12 : ∀ (k9_12 : Nat) (k : Nat) (f : Nat → Int64), S - k < k9_12 → (k ≤ S) → (f = tw_tt w0 R D w5 k) → z_V M (z_tw (zm_G M) t w0 w1 w2 w3 w4 f w6 w7 w8 w9 w10 w11 w12 w13 w14 w15 w16 w17 w18 w19 w20 w21 w22 w23 w24 w25 w26 w27 w28 h) n 0 0 12 [(2, .int (nI k)), (0, .ref t), (1, .int (nI D))] [] := by
      intro k9_12
      induction k9_12 with
      | zero => intro k f hk9_12; exact absurd hk9_12 (Nat.not_lt_zero _)
      | succ k9_12 ih_12 =>
        intro k f hk9_12 hk hf
        refine z_iload_n hb dX3_touched_12 rfl ?_
        refine z_aload_n hb dX3_touched_13 rfl ?_
        refine z_get (k := 0) (C := RX3) (T := TX3) (N := 29) hb ho zc2 in_X3 (zf_RX3_7 _) dX3_touched_14 z_tw_o (by decide) rfl ?_
        refine z_iconst (x := nI 3) hb dX3_touched_17 (by decide) ?_
        refine z_iald (j := 3) hb dX3_touched_18 z_tw_r0 rfl (by omega) (by omega) ?_
        refine z_toI (y := nI S) hS ?_
        refine z_icmp_geN (tgt := 43) hb dX3_touched_19 (by decide) (by omega) (by omega) (fun c_19 => ?_) (fun c_19 => ?_)
        · refine z_vret hb hr dX3_touched_43 ?_
          rw [hQ]
          rw [hf, show k = S by omega]; exact ⟨rfl, rfl, rfl⟩
        · refine z_aload_n hb dX3_touched_22 rfl ?_
          refine z_iload_n hb dX3_touched_23 rfl ?_
          refine z_iload_n hb dX3_touched_24 rfl ?_
          refine z_call1 (b' := 0) (f' := 0) (rest := []) (av := [.ref t, .int (nI k), .int (nI D)]) (z_siteV hb ho zc2 z_tw_o q2828 q2830 qs36 ⟨_, _, _, _, zk_X3_isStaleNow⟩ zy_X3_isStaleNow zl_X3_isStaleNow dX3_touched_25 : z_Site M _ _ _ _ _ ([.int (nI k), .int (nI D)].reverse ++ .ref t :: []) [] _) zk_X3_isStaleNow q104 hrm (m_X3_isStaleNow k D ht (by omega) (by omega)) (by omega) (by decide) (Nat.le_of_ble_eq_true rfl) (by omega) (by omega) ?_
          refine z_ifb_ne (tgt := 37) hb dX3_touched_28 (by decide) (fun c_28 => ?_) (fun c_28 => ?_)
          · refine z_iinc (k0 := 0) (lv' := [(2, .int (nI (k + 1))), (0, .ref t), (1, .int (nI D))]) hb dX3_touched_37 rfl (nI_1 k) (by rw [hN]; decide) rfl ?_
            refine z_goto (tgt := 12) hb dX3_touched_40 (by decide) ?_
            refine z_lv [0, 1, 2] (lv' := [(2, .int (nI (k + 1))), (0, .ref t), (1, .int (nI D))]) rfl ?_
            exact ih_12 (k + 1) _ (by omega) (by omega) (by rw [hf] at *; rw [tw_tt, if_pos c_28])
          · refine z_aload_n hb dX3_touched_31 rfl ?_
            refine z_iload_n hb dX3_touched_32 rfl ?_
            refine z_iload_n hb dX3_touched_33 rfl ?_
            refine z_call0 (b' := 0) (f' := 0) (rest := []) (av := [.ref t, .int (nI k), .int (nI D)]) (z_siteV hb ho zc2 z_tw_o q2832 q2834 qs37 ⟨_, _, _, _, zk_X3_compute⟩ zy_X3_compute zl_X3_compute dX3_touched_34 : z_Site M _ _ _ _ _ ([.int (nI k), .int (nI D)].reverse ++ .ref t :: []) [] _) zk_X3_compute q104 hrm (m_X3_compute k D ht hw (by omega) (by omega)) (by omega) (by decide) (Nat.le_of_ble_eq_true rfl) (by omega) (by omega) ?_
            refine z_iinc (k0 := 0) (lv' := [(2, .int (nI (k + 1))), (0, .ref t), (1, .int (nI D))]) hb dX3_touched_37 rfl (nI_1 k) (by rw [hN]; decide) rfl ?_
            refine z_goto (tgt := 12) hb dX3_touched_40 (by decide) ?_
            refine z_lv [0, 1, 2] (lv' := [(2, .int (nI (k + 1))), (0, .ref t), (1, .int (nI D))]) rfl ?_
            exact ih_12 (k + 1) _ (by omega) (by omega) (by rw [hf] at *; rw [tw_tt, if_neg (by simp [c_28])])
    refine z_lv [0, 1, 2] (lv' := [(2, .int (nI 0)), (0, .ref t), (1, .int (nI D))]) rfl ?_
    exact lp_12 _ 0 w5 (Nat.lt_succ_self _) (Nat.zero_le _) rfl

theorem tw_sp0_ok {w : Nat → Int32} {R S D k d : Nat} (h : z_ok w R S D) : z_ok (tw_sp0 w k d) R S D := by
  unfold tw_sp0
  split
  · exact h.up (by omega)
  · exact h
theorem tw_sp1_ok {w : Nat → Int32} {R S D k : Nat} (h : z_ok w R S D) : ∀ e : Nat, z_ok (tw_sp1 w k e) R S D
  | 0 => h
  | e + 1 => by
    rw [tw_sp1]
    split
    · exact (tw_sp1_ok h e).up (by omega)
    · exact tw_sp1_ok h e
theorem tw_sp_ok {w : Nat → Int32} {R S D d : Nat} (h : z_ok w R S D) : ∀ k : Nat, z_ok (tw_sp w d D k) R S D
  | 0 => h
  | k + 1 => tw_sp1_ok (tw_sp0_ok (tw_sp_ok h k)) _

set_option maxHeartbeats 1000000 in
theorem m_X3_touched_past {l : Launch} {G : zG} {h : zH} {n : Nat} {t : Nat} {w0 : Nat → Int32} {w1 : Nat → Int32} {w2 : Nat → Int32} {w3 : Nat → Int32} {w4 : Nat → Int32} {w5 : Nat → Int64} {w6 : Nat → Int64} {w7 : Nat → Int64} {w8 : Nat → Int64} {w9 : Nat → Int64} {w10 : Nat → Int64} {w11 : Nat → Int64} {w12 : Int32} {w13 : Int32} {w14 : Int32} {w15 : Int32} {w16 : Int32} {w17 : Int32} {w18 : Bool} {w19 : Nat → Int32} {w20 : Int32} {w21 : Nat → Int32} {w22 : Nat → Int32} {w23 : Nat → Int32} {w24 : Int32} {w25 : Int32} {w26 : Int32} {w27 : Int32} {w28 : Bool} {R S D : Nat} {d : Nat}  (ht : z_n0 G ≤ t) (hw : z_ok w0 R S D) (hd : d < D) : z_C l G yX3_touched 6 0 0 [.ref t, .int (nI d)] (z_tw G t w0 w1 w2 w3 w4 w5 w6 w7 w8 w9 w10 w11 w12 w13 w14 w15 w16 w17 w18 w19 w20 w21 w22 w23 w24 w25 w26 w27 w28 h) n (z_r0 (z_tw G t (tw_sp (va_up w0 5 (w0 5 + nI 1)) d D S) w1 w2 w3 w4 w5 w6 w7 w8 w9 w10 w11 w12 w13 w14 w15 w16 w17 w18 w19 w20 w21 w22 w23 w24 w25 w26 w27 w28 h) n) := by
  refine z_start zk_X3_touched zpl_RX3 (Nat.le_of_ble_eq_true rfl) ?_
  intro hn0 M hl hG ho hb hN hr hm hH hrm hQ
  subst hl hG
  have ho : zm_o M = RX3 := ho
  obtain ⟨hR, hR4, hS, hS8, hD, hD6, hF⟩ := id hw
  show z_V M (z_tw (zm_G M) t w0 w1 w2 w3 w4 w5 w6 w7 w8 w9 w10 w11 w12 w13 w14 w15 w16 w17 w18 w19 w20 w21 w22 w23 w24 w25 w26 w27 w28 h) n 0 0 0 [(0, .ref t), (1, .int (nI d))] []
  refine z_iload_n hb dX3_touched_0 rfl ?_
  refine z_aload_n hb dX3_touched_1 rfl ?_
  refine z_get (k := 0) (C := RX3) (T := TX3) (N := 29) hb ho zc2 in_X3 (zf_RX3_7 _) dX3_touched_2 z_tw_o (by decide) rfl ?_
  refine z_iconst (x := nI 0) hb dX3_touched_5 (by decide) ?_
  refine z_iald (j := 0) hb dX3_touched_6 z_tw_r0 rfl (by omega) (by omega) ?_
  refine z_toI (y := nI D) hD ?_
  refine z_icmp_neN (tgt := 44) hb dX3_touched_7 (by decide) (by omega) (by omega) (fun c_7 => ?_) (fun c_7 => ?_)
  · refine z_aload_n hb dX3_touched_44 rfl ?_
    refine z_get (k := 0) (C := RX3) (T := TX3) (N := 29) hb ho zc2 in_X3 (zf_RX3_7 _) dX3_touched_45 z_tw_o (by decide) rfl ?_
    refine z_iconst (x := nI 5) hb dX3_touched_48 (by decide) ?_
    refine z_dup2_11 hb dX3_touched_49 rfl rfl ?_
    refine z_iald (j := 5) hb dX3_touched_50 z_tw_r0 rfl (by omega) (by omega) ?_
    refine z_iconst (x := nI 1) hb dX3_touched_51 (by decide) ?_
    refine z_iadd hb dX3_touched_52 ?_
    refine z_iast (j := 5) hb dX3_touched_53 z_tw_r0 (by omega) rfl (by omega) (by omega) ?_
    refine z_hh z_tw_u0 ?_
    refine z_iconst (x := nI 0) hb dX3_touched_54 (by decide) ?_
    refine z_istore_n (lv' := [(2, .int (nI 0)), (0, .ref t), (1, .int (nI d))]) hb dX3_touched_55 (by rw [hN]; decide) rfl ?_
    have lp_56 : ∀ (k9_56 : Nat) (k : Nat) (w : Nat → Int32), S - k < k9_56 → (k ≤ S) → (w = tw_sp (va_up w0 5 (w0 5 + nI 1)) d D k) → (z_ok w R S D) → z_V M (z_tw (zm_G M) t w w1 w2 w3 w4 w5 w6 w7 w8 w9 w10 w11 w12 w13 w14 w15 w16 w17 w18 w19 w20 w21 w22 w23 w24 w25 w26 w27 w28 h) n 0 0 56 [(2, .int (nI k)), (0, .ref t), (1, .int (nI d))] [] := by
      intro k9_56
      induction k9_56 with
      | zero => intro k w hk9_56; exact absurd hk9_56 (Nat.not_lt_zero _)
      | succ k9_56 ih_56 =>
        intro k w hk9_56 hk hw2 hok
        refine z_iload_n hb dX3_touched_56 rfl ?_
        refine z_aload_n hb dX3_touched_57 rfl ?_
        refine z_get (k := 0) (C := RX3) (T := TX3) (N := 29) hb ho zc2 in_X3 (zf_RX3_7 _) dX3_touched_58 z_tw_o (by decide) rfl ?_
        refine z_iconst (x := nI 3) hb dX3_touched_61 (by decide) ?_
        refine z_iald (j := 3) hb dX3_touched_62 z_tw_r0 rfl (by omega) (by omega) ?_
        refine z_toI (y := nI S) hok.2.2.1 ?_
        refine z_icmp_geN (tgt := 121) hb dX3_touched_63 (by decide) (by omega) (by omega) (fun c_63 => ?_) (fun c_63 => ?_)
        · refine z_vret hb hr dX3_touched_121 ?_
          rw [hQ]
          rw [hw2, show k = S by omega]; exact ⟨rfl, rfl, rfl⟩
        · have J_81 : ∀ (v : Nat → Int32), (v = tw_sp0 w k d) → (z_ok v R S D) → z_V M (z_tw (zm_G M) t v w1 w2 w3 w4 w5 w6 w7 w8 w9 w10 w11 w12 w13 w14 w15 w16 w17 w18 w19 w20 w21 w22 w23 w24 w25 w26 w27 w28 h) n 0 0 81 [(2, .int (nI k)), (0, .ref t), (1, .int (nI d))] [] := by
            intro v hv hokv
            refine z_iconst (x := nI 0) hb dX3_touched_81 (by decide) ?_
            refine z_istore_n (lv' := [(3, .int (nI 0)), (2, .int (nI k)), (0, .ref t), (1, .int (nI d))]) hb dX3_touched_82 (by rw [hN]; decide) rfl ?_
            have lp_83 : ∀ (k9_83 : Nat) (e : Nat) (u : Nat → Int32), D + 1 - e < k9_83 → (e ≤ D + 1) → (u = tw_sp1 v k e) → (z_ok u R S D) → z_V M (z_tw (zm_G M) t u w1 w2 w3 w4 w5 w6 w7 w8 w9 w10 w11 w12 w13 w14 w15 w16 w17 w18 w19 w20 w21 w22 w23 w24 w25 w26 w27 w28 h) n 0 0 83 [(3, .int (nI e)), (2, .int (nI k)), (0, .ref t), (1, .int (nI d))] [] := by
              intro k9_83
              induction k9_83 with
              | zero => intro e u hk9_83; exact absurd hk9_83 (Nat.not_lt_zero _)
              | succ k9_83 ih_83 =>
                intro e u hk9_83 he hu hok2
                refine z_iload_n hb dX3_touched_83 rfl ?_
                refine z_aload_n hb dX3_touched_84 rfl ?_
                refine z_get (k := 0) (C := RX3) (T := TX3) (N := 29) hb ho zc2 in_X3 (zf_RX3_7 _) dX3_touched_85 z_tw_o (by decide) rfl ?_
                refine z_iconst (x := nI 0) hb dX3_touched_88 (by decide) ?_
                refine z_iald (j := 0) hb dX3_touched_89 z_tw_r0 rfl (by omega) (by omega) ?_
                refine z_toI (y := nI D) hok2.2.2.2.2.1 ?_
                refine z_icmp_gtN (tgt := 115) hb dX3_touched_90 (by decide) (by omega) (by omega) (fun c_90 => ?_) (fun c_90 => ?_)
                · refine z_iinc (k0 := 1) (lv' := [(2, .int (nI (k + 1))), (3, .int (nI e)), (0, .ref t), (1, .int (nI d))]) hb dX3_touched_115 rfl (nI_1 k) (by rw [hN]; decide) rfl ?_
                  refine z_goto (tgt := 56) hb dX3_touched_118 (by decide) ?_
                  refine z_lv [0, 2, 3] (lv' := [(2, .int (nI (k + 1))), (0, .ref t), (1, .int (nI d))]) rfl ?_
                  exact ih_56 (k + 1) _ (by omega) (by omega) (by rw [hu, show e = D + 1 by omega, hv, hw2]; rfl) hok2
                · refine z_aload_n hb dX3_touched_93 rfl ?_
                  refine z_iload_n hb dX3_touched_94 rfl ?_
                  refine z_iload_n hb dX3_touched_95 rfl ?_
                  refine z_call1 (b' := 0) (f' := 0) (rest := []) (av := [.ref t, .int (nI k), .int (nI e)]) (z_siteV hb ho zc2 z_tw_o q2867 q2869 qs45 ⟨_, _, _, _, zk_X3_isFromStale⟩ zy_X3_isFromStale zl_X3_isFromStale dX3_touched_96 : z_Site M _ _ _ _ _ ([.int (nI k), .int (nI e)].reverse ++ .ref t :: []) [] _) zk_X3_isFromStale q104 hrm (m_X3_isFromStale k e ht hok2 (by omega) (by omega)) (by omega) (by decide) (Nat.le_of_ble_eq_true rfl) (by omega) (by omega) ?_
                  refine z_ifb_eq (tgt := 109) hb dX3_touched_99 (by decide) (fun c_99 => ?_) (fun c_99 => ?_)
                  · refine z_iinc (k0 := 0) (lv' := [(3, .int (nI (e + 1))), (2, .int (nI k)), (0, .ref t), (1, .int (nI d))]) hb dX3_touched_109 rfl (nI_1 e) (by rw [hN]; decide) rfl ?_
                    refine z_goto (tgt := 83) hb dX3_touched_112 (by decide) ?_
                    refine z_lv [0, 1, 2, 3] (lv' := [(3, .int (nI (e + 1))), (2, .int (nI k)), (0, .ref t), (1, .int (nI d))]) rfl ?_
                    exact ih_83 (e + 1) _ (by omega) (by omega) (by rw [hu] at *; rw [tw_sp1, if_neg (by simp [c_99])]) hok2
                  · refine z_aload_n hb dX3_touched_102 rfl ?_
                    refine z_iload_n hb dX3_touched_103 rfl ?_
                    refine z_iload_n hb dX3_touched_104 rfl ?_
                    refine z_iconst (x := nI 1) hb dX3_touched_105 (by decide) ?_
                    refine z_call0 (b' := 0) (f' := 0) (rest := []) (av := [.ref t, .int (nI k), .int (nI e), .int (nI 1)]) (z_siteV hb ho zc2 z_tw_o q2863 q2865 qs44 ⟨_, _, _, _, zk_X3_mark⟩ zy_X3_mark zl_X3_mark dX3_touched_106 : z_Site M _ _ _ _ _ ([.int (nI k), .int (nI e), .int (nI 1)].reverse ++ .ref t :: []) [] _) zk_X3_mark q104 hrm (m_X3_mark k e true ht (by omega) (by omega)) (by omega) (by decide) (Nat.le_of_ble_eq_true rfl) (by omega) (by omega) ?_
                    refine z_iinc (k0 := 0) (lv' := [(3, .int (nI (e + 1))), (2, .int (nI k)), (0, .ref t), (1, .int (nI d))]) hb dX3_touched_109 rfl (nI_1 e) (by rw [hN]; decide) rfl ?_
                    refine z_goto (tgt := 83) hb dX3_touched_112 (by decide) ?_
                    refine z_lv [0, 1, 2, 3] (lv' := [(3, .int (nI (e + 1))), (2, .int (nI k)), (0, .ref t), (1, .int (nI d))]) rfl ?_
                    exact ih_83 (e + 1) _ (by omega) (by omega) (by rw [hu] at *; rw [tw_sp1, if_pos c_99]) (hok2.up (by omega))
            refine z_lv [0, 1, 2, 3] (lv' := [(3, .int (nI 0)), (2, .int (nI k)), (0, .ref t), (1, .int (nI d))]) rfl ?_
            exact lp_83 _ 0 _ (Nat.lt_succ_self _) (Nat.zero_le _) rfl hokv
          refine z_aload_n hb dX3_touched_66 rfl ?_
          refine z_iload_n hb dX3_touched_67 rfl ?_
          refine z_call1 (b' := 0) (f' := 0) (rest := []) (av := [.ref t, .int (nI k)]) (z_siteV hb ho zc2 z_tw_o q2843 q2845 qs39 ⟨_, _, _, _, zk_X3_isBase⟩ zy_X3_isBase zl_X3_isBase dX3_touched_68 : z_Site M _ _ _ _ _ ([.int (nI k)].reverse ++ .ref t :: []) [] _) zk_X3_isBase q104 hrm (m_X3_isBase k ht (by omega)) (by omega) (by decide) (Nat.le_of_ble_eq_true rfl) (by omega) (by omega) ?_
          refine z_ifb_eq (tgt := 81) hb dX3_touched_71 (by decide) (fun c_71 => ?_) (fun c_71 => ?_)
          · exact J_81 _ (by rw [tw_sp0, if_neg (by simp [c_71])]) hok
          · refine z_aload_n hb dX3_touched_74 rfl ?_
            refine z_iload_n hb dX3_touched_75 rfl ?_
            refine z_iload_n hb dX3_touched_76 rfl ?_
            refine z_iconst (x := nI 1) hb dX3_touched_77 (by decide) ?_
            refine z_call0 (b' := 0) (f' := 0) (rest := []) (av := [.ref t, .int (nI k), .int (nI d), .int (nI 1)]) (z_siteV hb ho zc2 z_tw_o q2863 q2865 qs44 ⟨_, _, _, _, zk_X3_mark⟩ zy_X3_mark zl_X3_mark dX3_touched_78 : z_Site M _ _ _ _ _ ([.int (nI k), .int (nI d), .int (nI 1)].reverse ++ .ref t :: []) [] _) zk_X3_mark q104 hrm (m_X3_mark k d true ht (by omega) (by omega)) (by omega) (by decide) (Nat.le_of_ble_eq_true rfl) (by omega) (by omega) ?_
            exact J_81 _ (by rw [tw_sp0, if_pos c_71]) (hok.up (by omega))
    refine z_lv [0, 1, 2] (lv' := [(2, .int (nI 0)), (0, .ref t), (1, .int (nI d))]) rfl ?_
    exact lp_56 _ 0 _ (Nat.lt_succ_self _) (Nat.zero_le _) rfl (hw.up (by omega))
  · exact absurd c_7 (by omega)

