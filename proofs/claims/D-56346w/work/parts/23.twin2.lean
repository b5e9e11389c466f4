/-- what a step makes of its inputs' numbers f -/
def tw_sum (f : Nat → Int64) (a g : Nat) : Nat → Int64
  | 0 => 0
  | e + 1 => tw_sum f a g e + f (5 * (7 * a + e) + g)
def tw_made (w0 : Nat → Int32) (f : Nat → Int64) (R k d g : Nat) : Int64 :=
  if tw_base w0 k then tw_of w0 k (nI d) (nI g) R else
  if w0 (176 + 4 * k) = nI 107 then (if (w0 (176 + 4 * k + 1)).toInt64 ≤ f (5 * (7 * tw_f w0 k + d) + g) then f (5 * (7 * tw_f w0 k + d) + g) else 0) else
  if w0 (176 + 4 * k) = nI 43 then f (5 * (7 * tw_f w0 k + d) + g) + f (5 * (7 * tw_s w0 k + d) + g) else
  if w0 (176 + 4 * k) = nI 45 then f (5 * (7 * tw_f w0 k + d) + g) - f (5 * (7 * tw_s w0 k + d) + g) else
  tw_sum f (tw_f w0 k) g (d + 1)
/-- the first c groups of a partition made anew -/
def tw_comp (w0 : Nat → Int32) (R k d : Nat) (f : Nat → Int64) : Nat → (Nat → Int64)
  | 0 => f
  | g + 1 => va_up (tw_comp w0 R k d f g) (5 * (7 * k + d) + g) (tw_made w0 (tw_comp w0 R k d f g) R k d g)
def tw_any (w0 : Nat → Int32) (a : Nat) : Nat → Bool
  | 0 => false
  | e + 1 => tw_any w0 a e || tw_st w0 a e
def tw_from (w0 : Nat → Int32) (k d : Nat) : Bool :=
  if tw_base w0 k then false else (tw_st w0 (tw_f w0 k) d || tw_st w0 (tw_s w0 k) d) || (decide (w0 (176 + 4 * k) = nI 114) && tw_any w0 (tw_f w0 k) d)

set_option maxHeartbeats 1000000 in
theorem m_X3_made {l : Launch} {G : zG} {h : zH} {n : Nat} {t : Nat} {w0 : Nat → Int32} {w1 : Nat → Int32} {w2 : Nat → Int32} {w3 : Nat → Int32} {w4 : Nat → Int32} {w5 : Nat → Int64} {w6 : Nat → Int64} {w7 : Nat → Int64} {w8 : Nat → Int64} {w9 : Nat → Int64} {w10 : Nat → Int64} {w11 : Nat → Int64} {w12 : Int32} {w13 : Int32} {w14 : Int32} {w15 : Int32} {w16 : Int32} {w17 : Int32} {w18 : Bool} {w19 : Nat → Int32} {w20 : Int32} {w21 : Nat → Int32} {w22 : Nat → Int32} {w23 : Nat → Int32} {w24 : Int32} {w25 : Int32} {w26 : Int32} {w27 : Int32} {w28 : Bool} {R S D : Nat} {f : Nat → Int64} (k : Nat) (d : Nat) (g : Nat) (a : Nat) (ht : z_n0 G ≤ t) (hw : z_ok w0 R S D) (hkS : k < S) (hd : d ≤ D) (hg : g < 5) (ha : (z_tw G t w0 w1 w2 w3 w4 w5 w6 w7 w8 w9 w10 w11 w12 w13 w14 w15 w16 w17 w18 w19 w20 w21 w22 w23 w24 w25 w26 w27 w28 h) a = some (z_al G 280 f)) : z_C l G yX3_made 4 0 0 [.ref t, .int (nI k), .int (nI d), .int (nI g), .ref a] (z_tw G t w0 w1 w2 w3 w4 w5 w6 w7 w8 w9 w10 w11 w12 w13 w14 w15 w16 w17 w18 w19 w20 w21 w22 w23 w24 w25 w26 w27 w28 h) n (z_rv (.long (tw_made w0 f R k d g)) (z_tw G t w0 w1 w2 w3 w4 w5 w6 w7 w8 w9 w10 w11 w12 w13 w14 w15 w16 w17 w18 w19 w20 w21 w22 w23 w24 w25 w26 w27 w28 h) n) := by
  refine z_start zk_X3_made zpl_RX3 (Nat.le_of_ble_eq_true rfl) ?_
  intro hn0 M hl hG ho hb hN hr hm hH hrm hQ
  subst hl hG
  have ho : zm_o M = RX3 := ho
  obtain ⟨hR, hR4, hS, hS8, hD, hD6, hF⟩ := id hw
  obtain ⟨hF1, hF2, hF3, hF4⟩ := hF k hkS
  show z_V M (z_tw (zm_G M) t w0 w1 w2 w3 w4 w5 w6 w7 w8 w9 w10 w11 w12 w13 w14 w15 w16 w17 w18 w19 w20 w21 w22 w23 w24 w25 w26 w27 w28 h) n 0 0 0 [(0, .ref t), (1, .int (nI k)), (2, .int (nI d)), (3, .int (nI g)), (4, .ref a)] []
  refine z_aload_n hb dX3_made_0 rfl ?_
  refine z_iload_n hb dX3_made_1 rfl ?_
  refine z_call1 (b' := 0) (f' := 0) (rest := []) (av := [.ref t, .int (nI k)]) (z_siteV hb ho zc2 z_tw_o q2843 q2845 qs39 ⟨_, _, _, _, zk_X3_isBase⟩ zy_X3_isBase zl_X3_isBase dX3_made_2 : z_Site M _ _ _ _ _ ([.int (nI k)].reverse ++ .ref t :: []) [] _) zk_X3_isBase q104 hrm (m_X3_isBase k ht (by omega)) (by omega) (by decide) (Nat.le_of_ble_eq_true rfl) (by omega) (by omega) ?_
  refine z_ifb_eq (tgt := 16) hb dX3_made_5 (by decide) (fun c_5 => ?_) (fun c_5 => ?_)
  · refine z_aload hb dX3_made_16 rfl ?_
    refine z_aload_n hb dX3_made_18 rfl ?_
    refine z_iload_n hb dX3_made_19 rfl ?_
    refine z_iconst (x := nI 2) hb dX3_made_20 (by decide) ?_
    refine z_call1 (b' := 0) (f' := 0) (rest := [.ref a]) (av := [.ref t, .int (nI k), .int (nI 2)]) (z_siteV hb ho zc2 z_tw_o q2847 q2849 qs40 ⟨_, _, _, _, zk_X3_s⟩ zy_X3_s zl_X3_s dX3_made_21 : z_Site M _ _ _ _ _ ([.int (nI k), .int (nI 2)].reverse ++ .ref t :: [.ref a]) [.ref a] _) zk_X3_s q104 hrm (m_X3_s k 2 ht (by omega)) (by omega) (by decide) (Nat.le_of_ble_eq_true rfl) (by omega) (by omega) ?_
    refine z_toI (y := nI (tw_f w0 k)) (hF k (by omega)).1 ?_
    refine z_iload_n hb dX3_made_24 rfl ?_
    refine z_iload_n hb dX3_made_25 rfl ?_
    refine z_call1 (b' := 0) (f' := 0) (rest := [.ref a]) (av := [.int (nI (tw_f w0 k)), .int (nI d), .int (nI g)]) (z_siteS hb ho q2836 q2837 q104 ⟨_, _, _, _, zk_X3_at⟩ zy_X3_at zl_X3_at dX3_made_26 : z_Site M _ _ _ _ _ ([.int (nI (tw_f w0 k)), .int (nI d), .int (nI g)].reverse ++ [.ref a]) [.ref a] _) zk_X3_at q104 hrm (m_X3_at (tw_f w0 k) d g ht) (by omega) (by decide) (Nat.le_of_ble_eq_true rfl) (by omega) (by omega) ?_
    refine z_lald (j := 5 * (7 * (tw_f w0 k) + d) + g) hb dX3_made_29 ha rfl (by omega) (by omega) ?_
    refine z_lstore (lv' := [(5, .long (f (5 * (7 * (tw_f w0 k) + d) + g))), (0, .ref t), (1, .int (nI k)), (2, .int (nI d)), (3, .int (nI g)), (4, .ref a)]) hb dX3_made_30 (by rw [hN]; decide) rfl ?_
    refine z_aload_n hb dX3_made_32 rfl ?_
    refine z_iload_n hb dX3_made_33 rfl ?_
    refine z_iconst (x := nI 0) hb dX3_made_34 (by decide) ?_
    refine z_call1 (b' := 0) (f' := 0) (rest := []) (av := [.ref t, .int (nI k), .int (nI 0)]) (z_siteV hb ho zc2 z_tw_o q2847 q2849 qs40 ⟨_, _, _, _, zk_X3_s⟩ zy_X3_s zl_X3_s dX3_made_35 : z_Site M _ _ _ _ _ ([.int (nI k), .int (nI 0)].reverse ++ .ref t :: []) [] _) zk_X3_s q104 hrm (m_X3_s k 0 ht (by omega)) (by omega) (by decide) (Nat.le_of_ble_eq_true rfl) (by omega) (by omega) ?_
    refine z_toI (y := w0 (176 + 4 * k)) rfl ?_
    refine z_bipush (x := nI 107) hb dX3_made_38 (by decide) ?_
    refine z_icmp_ne (tgt := 63) hb dX3_made_40 (by decide) (fun c_40 => ?_) (fun c_40 => ?_)
    · refine z_aload_n hb dX3_made_63 rfl ?_
      refine z_iload_n hb dX3_made_64 rfl ?_
      refine z_iconst (x := nI 0) hb dX3_made_65 (by decide) ?_
      refine z_call1 (b' := 0) (f' := 0) (rest := []) (av := [.ref t, .int (nI k), .int (nI 0)]) (z_siteV hb ho zc2 z_tw_o q2847 q2849 qs40 ⟨_, _, _, _, zk_X3_s⟩ zy_X3_s zl_X3_s dX3_made_66 : z_Site M _ _ _ _ _ ([.int (nI k), .int (nI 0)].reverse ++ .ref t :: []) [] _) zk_X3_s q104 hrm (m_X3_s k 0 ht (by omega)) (by omega) (by decide) (Nat.le_of_ble_eq_true rfl) (by omega) (by omega) ?_
      refine z_toI (y := w0 (176 + 4 * k)) rfl ?_
      refine z_bipush (x := nI 43) hb dX3_made_69 (by decide) ?_
      refine z_icmp_ne (tgt := 92) hb dX3_made_71 (by decide) (fun c_71 => ?_) (fun c_71 => ?_)
      · refine z_aload_n hb dX3_made_92 rfl ?_
        refine z_iload_n hb dX3_made_93 rfl ?_
        refine z_iconst (x := nI 0) hb dX3_made_94 (by decide) ?_
        refine z_call1 (b' := 0) (f' := 0) (rest := []) (av := [.ref t, .int (nI k), .int (nI 0)]) (z_siteV hb ho zc2 z_tw_o q2847 q2849 qs40 ⟨_, _, _, _, zk_X3_s⟩ zy_X3_s zl_X3_s dX3_made_95 : z_Site M _ _ _ _ _ ([.int (nI k), .int (nI 0)].reverse ++ .ref t :: []) [] _) zk_X3_s q104 hrm (m_X3_s k 0 ht (by omega)) (by omega) (by decide) (Nat.le_of_ble_eq_true rfl) (by omega) (by omega) ?_
        refine z_toI (y := w0 (176 + 4 * k)) rfl ?_
        refine z_bipush (x := nI 45) hb dX3_made_98 (by decide) ?_
        refine z_icmp_ne (tgt := 121) hb dX3_made_100 (by decide) (fun c_100 => ?_) (fun c_100 => ?_)
        · refine z_lconst (x := 0) hb dX3_made_121 rfl ?_
          refine z_lstore (lv' := [(7, .long 0), (5, .long (f (5 * (7 * (tw_f w0 k) + d) + g))), (0, .ref t), (1, .int (nI k)), (2, .int (nI d)), (3, .int (nI g)), (4, .ref a)]) hb dX3_made_122 (by rw [hN]; decide) rfl ?_
          refine z_iconst (x := nI 0) hb dX3_made_124 (by decide) ?_
          refine z_istore (lv' := [(9, .int (nI 0)), (7, .long 0), (5, .long (f (5 * (7 * (tw_f w0 k) + d) + g))), (0, .ref t), (1, .int (nI k)), (2, .int (nI d)), (3, .int (nI g)), (4, .ref a)]) hb dX3_made_125 (by rw [hN]; decide) rfl ?_
          have lp_127 : ∀ (k9_127 : Nat) (e : Nat) (v : Int64), d + 1 - e < k9_127 → (e ≤ d + 1) → (v = tw_sum f (tw_f w0 k) g e) → z_V M (z_tw (zm_G M) t w0 w1 w2 w3 w4 w5 w6 w7 w8 w9 w10 w11 w12 w13 w14 w15 w16 w17 w18 w19 w20 w21 w22 w23 w24 w25 w26 w27 w28 h) n 0 0 127 [(9, .int (nI e)), (7, .long v), (0, .ref t), (1, .int (nI k)), (2, .int (nI d)), (3, .int (nI g)), (4, .ref a)] [] := by
            intro k9_127
            induction k9_127 with
            | zero => intro e v hk9_127; exact absurd hk9_127 (Nat.not_lt_zero _)
            | succ k9_127 ih_127 =>
              intro e v hk9_127 he hv
              refine z_iload hb dX3_made_127 rfl ?_
              refine z_iload_n hb dX3_made_129 rfl ?_
              refine z_icmp_gtN (tgt := 159) hb dX3_made_130 (by decide) (by omega) (by omega) (fun c_130 => ?_) (fun c_130 => ?_)
              · refine z_lload hb dX3_made_159 rfl ?_
                refine z_lret hb hr dX3_made_161 ?_
                rw [hQ]
                exact z_rve (by rw [tw_made, if_neg (by simp [c_5]), if_neg c_40, if_neg c_71, if_neg c_100, hv, show e = d + 1 by omega])
              · refine z_lload hb dX3_made_133 rfl ?_
                refine z_aload hb dX3_made_135 rfl ?_
                refine z_aload_n hb dX3_made_137 rfl ?_
                refine z_iload_n hb dX3_made_138 rfl ?_
                refine z_iconst (x := nI 2) hb dX3_made_139 (by decide) ?_
                refine z_call1 (b' := 0) (f' := 0) (rest := [.ref a, .long v]) (av := [.ref t, .int (nI k), .int (nI 2)]) (z_siteV hb ho zc2 z_tw_o q2847 q2849 qs40 ⟨_, _, _, _, zk_X3_s⟩ zy_X3_s zl_X3_s dX3_made_140 : z_Site M _ _ _ _ _ ([.int (nI k), .int (nI 2)].reverse ++ .ref t :: [.ref a, .long v]) [.ref a, .long v] _) zk_X3_s q104 hrm (m_X3_s k 2 ht (by omega)) (by omega) (by decide) (Nat.le_of_ble_eq_true rfl) (by omega) (by omega) ?_
                refine z_toI (y := nI (tw_f w0 k)) (hF k (by omega)).1 ?_
                refine z_iload hb dX3_made_143 rfl ?_
                refine z_iload_n hb dX3_made_145 rfl ?_
                refine z_call1 (b' := 0) (f' := 0) (rest := [.ref a, .long v]) (av := [.int (nI (tw_f w0 k)), .int (nI e), .int (nI g)]) (z_siteS hb ho q2836 q2837 q104 ⟨_, _, _, _, zk_X3_at⟩ zy_X3_at zl_X3_at dX3_made_146 : z_Site M _ _ _ _ _ ([.int (nI (tw_f w0 k)), .int (nI e), .int (nI g)].reverse ++ [.ref a, .long v]) [.ref a, .long v] _) zk_X3_at q104 hrm (m_X3_at (tw_f w0 k) e g ht) (by omega) (by decide) (Nat.le_of_ble_eq_true rfl) (by omega) (by omega) ?_
                refine z_lald (j := 5 * (7 * (tw_f w0 k) + e) + g) hb dX3_made_149 ha rfl (by omega) (by omega) ?_
                refine z_ladd hb dX3_made_150 ?_
                refine z_lstore (lv' := [(7, .long (v + (f (5 * (7 * (tw_f w0 k) + e) + g)))), (9, .int (nI e)), (0, .ref t), (1, .int (nI k)), (2, .int (nI d)), (3, .int (nI g)), (4, .ref a)]) hb dX3_made_151 (by rw [hN]; decide) rfl ?_
                refine z_iinc (k0 := 1) (lv' := [(9, .int (nI (e + 1))), (7, .long (v + (f (5 * (7 * (tw_f w0 k) + e) + g)))), (0, .ref t), (1, .int (nI k)), (2, .int (nI d)), (3, .int (nI g)), (4, .ref a)]) hb dX3_made_153 rfl (nI_1 e) (by rw [hN]; decide) rfl ?_
                refine z_goto (tgt := 127) hb dX3_made_156 (by decide) ?_
                refine z_lv [0, 1, 2, 3, 4, 5, 6] (lv' := [(9, .int (nI (e + 1))), (7, .long (v + (f (5 * (7 * (tw_f w0 k) + e) + g)))), (0, .ref t), (1, .int (nI k)), (2, .int (nI d)), (3, .int (nI g)), (4, .ref a)]) rfl ?_
                exact ih_127 (e + 1) _ (by omega) (by omega) (by rw [hv]; rfl)
          refine z_lv [0, 1, 3, 4, 5, 6, 7] (lv' := [(9, .int (nI 0)), (7, .long 0), (0, .ref t), (1, .int (nI k)), (2, .int (nI d)), (3, .int (nI g)), (4, .ref a)]) rfl ?_
          exact lp_127 _ 0 0 (Nat.lt_succ_self _) (Nat.zero_le _) rfl
        · refine z_lload hb dX3_made_103 rfl ?_
          refine z_aload hb dX3_made_105 rfl ?_
          refine z_aload_n hb dX3_made_107 rfl ?_
          refine z_iload_n hb dX3_made_108 rfl ?_
          refine z_iconst (x := nI 3) hb dX3_made_109 (by decide) ?_
          refine z_call1 (b' := 0) (f' := 0) (rest := [.ref a, .long (f (5 * (7 * (tw_f w0 k) + d) + g))]) (av := [.ref t, .int (nI k), .int (nI 3)]) (z_siteV hb ho zc2 z_tw_o q2847 q2849 qs40 ⟨_, _, _, _, zk_X3_s⟩ zy_X3_s zl_X3_s dX3_made_110 : z_Site M _ _ _ _ _ ([.int (nI k), .int (nI 3)].reverse ++ .ref t :: [.ref a, .long (f (5 * (7 * (tw_f w0 k) + d) + g))]) [.ref a, .long (f (5 * (7 * (tw_f w0 k) + d) + g))] _) zk_X3_s q104 hrm (m_X3_s k 3 ht (by omega)) (by omega) (by decide) (Nat.le_of_ble_eq_true rfl) (by omega) (by omega) ?_
          refine z_toI (y := nI (tw_s w0 k)) (hF k (by omega)).2.2.1 ?_
          refine z_iload_n hb dX3_made_113 rfl ?_
          refine z_iload_n hb dX3_made_114 rfl ?_
          refine z_call1 (b' := 0) (f' := 0) (rest := [.ref a, .long (f (5 * (7 * (tw_f w0 k) + d) + g))]) (av := [.int (nI (tw_s w0 k)), .int (nI d), .int (nI g)]) (z_siteS hb ho q2836 q2837 q104 ⟨_, _, _, _, zk_X3_at⟩ zy_X3_at zl_X3_at dX3_made_115 : z_Site M _ _ _ _ _ ([.int (nI (tw_s w0 k)), .int (nI d), .int (nI g)].reverse ++ [.ref a, .long (f (5 * (7 * (tw_f w0 k) + d) + g))]) [.ref a, .long (f (5 * (7 * (tw_f w0 k) + d) + g))] _) zk_X3_at q104 hrm (m_X3_at (tw_s w0 k) d g ht) (by omega) (by decide) (Nat.le_of_ble_eq_true rfl) (by omega) (by omega) ?_
          refine z_lald (j := 5 * (7 * (tw_s w0 k) + d) + g) hb dX3_made_118 ha rfl (by omega) (by omega) ?_
          refine z_lsub hb dX3_made_119 ?_
          refine z_lret hb hr dX3_made_120 ?_
          rw [hQ]
          exact z_rve (by rw [tw_made, if_neg (by simp [c_5]), if_neg c_40, if_neg c_71, if_pos c_100])
      · refine z_lload hb dX3_made_74 rfl ?_
        refine z_aload hb dX3_made_76 rfl ?_
        refine z_aload_n hb dX3_made_78 rfl ?_
        refine z_iload_n hb dX3_made_79 rfl ?_
        refine z_iconst (x := nI 3) hb dX3_made_80 (by decide) ?_
        refine z_call1 (b' := 0) (f' := 0) (rest := [.ref a, .long (f (5 * (7 * (tw_f w0 k) + d) + g))]) (av := [.ref t, .int (nI k), .int (nI 3)]) (z_siteV hb ho zc2 z_tw_o q2847 q2849 qs40 ⟨_, _, _, _, zk_X3_s⟩ zy_X3_s zl_X3_s dX3_made_81 : z_Site M _ _ _ _ _ ([.int (nI k), .int (nI 3)].reverse ++ .ref t :: [.ref a, .long (f (5 * (7 * (tw_f w0 k) + d) + g))]) [.ref a, .long (f (5 * (7 * (tw_f w0 k) + d) + g))] _) zk_X3_s q104 hrm (m_X3_s k 3 ht (by omega)) (by omega) (by decide) (Nat.le_of_ble_eq_true rfl) (by omega) (by omega) ?_
        refine z_toI (y := nI (tw_s w0 k)) (hF k (by omega)).2.2.1 ?_
        refine z_iload_n hb dX3_made_84 rfl ?_
        refine z_iload_n hb dX3_made_85 rfl ?_
        refine z_call1 (b' := 0) (f' := 0) (rest := [.ref a, .long (f (5 * (7 * (tw_f w0 k) + d) + g))]) (av := [.int (nI (tw_s w0 k)), .int (nI d), .int (nI g)]) (z_siteS hb ho q2836 q2837 q104 ⟨_, _, _, _, zk_X3_at⟩ zy_X3_at zl_X3_at dX3_made_86 : z_Site M _ _ _ _ _ ([.int (nI (tw_s w0 k)), .int (nI d), .int (nI g)].reverse ++ [.ref a, .long (f (5 * (7 * (tw_f w0 k) + d) + g))]) [.ref a, .long (f (5 * (7 * (tw_f w0 k) + d) + g))] _) zk_X3_at q104 hrm (m_X3_at (tw_s w0 k) d g ht) (by omega) (by decide) (Nat.le_of_ble_eq_true rfl) (by omega) (by omega) ?_
        refine z_lald (j := 5 * (7 * (tw_s w0 k) + d) + g) hb dX3_made_89 ha rfl (by omega) (by omega) ?_
        refine z_ladd hb dX3_made_90 ?_
        refine z_lret hb hr dX3_made_91 ?_
        rw [hQ]
        exact z_rve (by rw [tw_made, if_neg (by simp [c_5]), if_neg c_40, if_pos c_71])
    · refine z_lload hb dX3_made_43 rfl ?_
      refine z_aload_n hb dX3_made_45 rfl ?_
      refine z_iload_n hb dX3_made_46 rfl ?_
      refine z_iconst (x := nI 1) hb dX3_made_47 (by decide) ?_
      refine z_call1 (b' := 0) (f' := 0) (rest := [.long (f (5 * (7 * (tw_f w0 k) + d) + g))]) (av := [.ref t, .int (nI k), .int (nI 1)]) (z_siteV hb ho zc2 z_tw_o q2847 q2849 qs40 ⟨_, _, _, _, zk_X3_s⟩ zy_X3_s zl_X3_s dX3_made_48 : z_Site M _ _ _ _ _ ([.int (nI k), .int (nI 1)].reverse ++ .ref t :: [.long (f (5 * (7 * (tw_f w0 k) + d) + g))]) [.long (f (5 * (7 * (tw_f w0 k) + d) + g))] _) zk_X3_s q104 hrm (m_X3_s k 1 ht (by omega)) (by omega) (by decide) (Nat.le_of_ble_eq_true rfl) (by omega) (by omega) ?_
      refine z_i2l (v := (w0 (176 + 4 * k + 1)).toInt64) hb dX3_made_51 rfl ?_
      refine z_lif_lt (tgt := 61) hb dX3_made_52 dX3_made_53 (by decide) (fun c_53 => ?_) (fun c_53 => ?_)
      · refine z_lconst (x := 0) hb dX3_made_61 rfl ?_
        refine z_lret hb hr dX3_made_62 ?_
        rw [hQ]
        exact z_rve (by rw [tw_made, if_neg (by simp [c_5]), if_pos c_40, if_neg (Int64.not_le.mpr c_53)])
      · refine z_lload hb dX3_made_56 rfl ?_
        refine z_goto (tgt := 62) hb dX3_made_58 (by decide) ?_
        refine z_lret hb hr dX3_made_62 ?_
        rw [hQ]
        exact z_rve (by rw [tw_made, if_neg (by simp [c_5]), if_pos c_40, if_pos (Int64.not_lt.mp c_53)])
  · refine z_aload_n hb dX3_made_8 rfl ?_
    refine z_iload_n hb dX3_made_9 rfl ?_
    refine z_iload_n hb dX3_made_10 rfl ?_
    refine z_iload_n hb dX3_made_11 rfl ?_
    refine z_call1 (b' := 0) (f' := 0) (rest := []) (av := [.ref t, .int (nI k), .int (nI d), .int (nI g)]) (z_siteV hb ho zc2 z_tw_o q2851 q2853 qs41 ⟨_, _, _, _, zk_X3_ofRows⟩ zy_X3_ofRows zl_X3_ofRows dX3_made_12 : z_Site M _ _ _ _ _ ([.int (nI k), .int (nI d), .int (nI g)].reverse ++ .ref t :: []) [] _) zk_X3_ofRows q104 hrm (m_X3_ofRows k (nI d) (nI g) ht hw (by omega)) (by omega) (by decide) (Nat.le_of_ble_eq_true rfl) (by omega) (by omega) ?_
    refine z_lret hb hr dX3_made_15 ?_
    rw [hQ]
    exact z_rve (by rw [tw_made, if_pos c_5])

set_option maxHeartbeats 1000000 in
theorem m_X3_compute {l : Launch} {G : zG} {h : zH} {n : Nat} {t : Nat} {w0 : Nat → Int32} {w1 : Nat → Int32} {w2 : Nat → Int32} {w3 : Nat → Int32} {w4 : Nat → Int32} {w5 : Nat → Int64} {w6 : Nat → Int64} {w7 : Nat → Int64} {w8 : Nat → Int64} {w9 : Nat → Int64} {w10 : Nat → Int64} {w11 : Nat → Int64} {w12 : Int32} {w13 : Int32} {w14 : Int32} {w15 : Int32} {w16 : Int32} {w17 : Int32} {w18 : Bool} {w19 : Nat → Int32} {w20 : Int32} {w21 : Nat → Int32} {w22 : Nat → Int32} {w23 : Nat → Int32} {w24 : Int32} {w25 : Int32} {w26 : Int32} {w27 : Int32} {w28 : Bool} {R S D : Nat}  (k : Nat) (d : Nat) (ht : z_n0 G ≤ t) (hw : z_ok w0 R S D) (hkS : k < S) (hd : d ≤ D) : z_C l G yX3_compute 5 0 0 [.ref t, .int (nI k), .int (nI d)] (z_tw G t w0 w1 w2 w3 w4 w5 w6 w7 w8 w9 w10 w11 w12 w13 w14 w15 w16 w17 w18 w19 w20 w21 w22 w23 w24 w25 w26 w27 w28 h) n (z_r0 (z_tw G t w0 w1 w2 w3 w4 (tw_comp w0 R k d w5 5) w6 w7 w8 w9 w10 w11 w12 w13 w14 w15 w16 w17 w18 w19 w20 w21 w22 w23 w24 w25 w26 w27 w28 h) n) := by
  refine z_start zk_X3_compute zpl_RX3 (Nat.le_of_ble_eq_true rfl) ?_
  intro hn0 M hl hG ho hb hN hr hm hH hrm hQ
  subst hl hG
  have ho : zm_o M = RX3 := ho
  obtain ⟨hR, hR4, hS, hS8, hD, hD6, hF⟩ := id hw
  show z_V M (z_tw (zm_G M) t w0 w1 w2 w3 w4 w5 w6 w7 w8 w9 w10 w11 w12 w13 w14 w15 w16 w17 w18 w19 w20 w21 w22 w23 w24 w25 w26 w27 w28 h) n 0 0 0 [(0, .ref t), (1, .int (nI k)), (2, .int (nI d))] []
  refine z_iconst (x := nI 0) hb dX3_compute_0 (by decide) ?_
  refine z_istore_n (lv' := [(3, .int (nI 0)), (0, .ref t), (1, .int (nI k)), (2, .int (nI d))]) hb dX3_compute_1 (by rw [hN]; decide) rfl ?_
  have lp_2 : ∀ (k9_2 : Nat) (g : Nat), 5 - g < k9_2 → (g ≤ 5) → z_V M (z_tw (zm_G M) t w0 w1 w2 w3 w4 (tw_comp w0 R k d w5 g) w6 w7 w8 w9 w10 w11 w12 w13 w14 w15 w16 w17 w18 w19 w20 w21 w22 w23 w24 w25 w26 w27 w28 h) n 0 0 2 [(3, .int (nI g)), (0, .ref t), (1, .int (nI k)), (2, .int (nI d))] [] := by
    intro k9_2
    induction k9_2 with
    | zero => intro g hk9_2; exact absurd hk9_2 (Nat.not_lt_zero _)
    | succ k9_2 ih_2 =>
      intro g hk9_2 hg
      refine z_iload_n hb dX3_compute_2 rfl ?_
      refine z_iconst (x := nI 5) hb dX3_compute_3 (by decide) ?_
      refine z_icmp_geN (tgt := 35) hb dX3_compute_4 (by decide) (by omega) (by omega) (fun c_4 => ?_) (fun c_4 => ?_)
      · refine z_vret hb hr dX3_compute_35 ?_
        rw [hQ]
        rw [show g = 5 by omega]; exact ⟨rfl, rfl, rfl⟩
      · refine z_aload_n hb dX3_compute_7 rfl ?_
        refine z_get (k := 5) (C := RX3) (T := TX3) (N := 29) hb ho zc2 in_X3 (zf_RX3_25 _) dX3_compute_8 z_tw_o (by decide) rfl ?_
        refine z_iload_n hb dX3_compute_11 rfl ?_
        refine z_iload_n hb dX3_compute_12 rfl ?_
        refine z_iload_n hb dX3_compute_13 rfl ?_
        refine z_call1 (b' := 0) (f' := 0) (rest := [.ref (t + 6)]) (av := [.int (nI k), .int (nI d), .int (nI g)]) (z_siteS hb ho q2836 q2837 q104 ⟨_, _, _, _, zk_X3_at⟩ zy_X3_at zl_X3_at dX3_compute_14 : z_Site M _ _ _ _ _ ([.int (nI k), .int (nI d), .int (nI g)].reverse ++ [.ref (t + 6)]) [.ref (t + 6)] _) zk_X3_at q104 hrm (m_X3_at k d g ht) (by omega) (by decide) (Nat.le_of_ble_eq_true rfl) (by omega) (by omega) ?_
        refine z_aload_n hb dX3_compute_17 rfl ?_
        refine z_iload_n hb dX3_compute_18 rfl ?_
        refine z_iload_n hb dX3_compute_19 rfl ?_
        refine z_iload_n hb dX3_compute_20 rfl ?_
        refine z_aload_n hb dX3_compute_21 rfl ?_
        refine z_get (k := 5) (C := RX3) (T := TX3) (N := 29) hb ho zc2 in_X3 (zf_RX3_25 _) dX3_compute_22 z_tw_o (by decide) rfl ?_
        refine z_call1 (b' := 0) (f' := 0) (rest := [.int (nI (5 * (7 * k + d) + g)), .ref (t + 6)]) (av := [.ref t, .int (nI k), .int (nI d), .int (nI g), .ref (t + 6)]) (z_siteV hb ho zc2 z_tw_o q2839 q2841 qs38 ⟨_, _, _, _, zk_X3_made⟩ zy_X3_made zl_X3_made dX3_compute_25 : z_Site M _ _ _ _ _ ([.int (nI k), .int (nI d), .int (nI g), .ref (t + 6)].reverse ++ .ref t :: [.int (nI (5 * (7 * k + d) + g)), .ref (t + 6)]) [.int (nI (5 * (7 * k + d) + g)), .ref (t + 6)] _) zk_X3_made q104 hrm (m_X3_made k d g (t + 6) ht hw (by omega) (by omega) (by omega) z_tw_r5) (by omega) (by decide) (Nat.le_of_ble_eq_true rfl) (by omega) (by omega) ?_
        refine z_last (j := 5 * (7 * k + d) + g) hb dX3_compute_28 z_tw_r5 (by omega) rfl (by omega) (by omega) ?_
        refine z_hh z_tw_u5 ?_
        refine z_iinc (k0 := 0) (lv' := [(3, .int (nI (g + 1))), (0, .ref t), (1, .int (nI k)), (2, .int (nI d))]) hb dX3_compute_29 rfl (nI_1 g) (by rw [hN]; decide) rfl ?_
        refine z_goto (tgt := 2) hb dX3_compute_32 (by decide) ?_
        refine z_lv [0, 1, 2, 3] (lv' := [(3, .int (nI (g + 1))), (0, .ref t), (1, .int (nI k)), (2, .int (nI d))]) rfl ?_
        exact ih_2 (g + 1) (by omega) (by omega)
  refine z_lv [0, 1, 2, 3] (lv' := [(3, .int (nI 0)), (0, .ref t), (1, .int (nI k)), (2, .int (nI d))]) rfl ?_
  exact lp_2 _ 0 (Nat.lt_succ_self _) (Nat.zero_le _)

set_option maxHeartbeats 1000000 in
theorem m_X3_isFromStale {l : Launch} {G : zG} {h : zH} {n : Nat} {t : Nat} {w0 : Nat → Int32} {w1 : Nat → Int32} {w2 : Nat → Int32} {w3 : Nat → Int32} {w4 : Nat → Int32} {w5 : Nat → Int64} {w6 : Nat → Int64} {w7 : Nat → Int64} {w8 : Nat → Int64} {w9 : Nat → Int64} {w10 : Nat → Int64} {w11 : Nat → Int64} {w12 : Int32} {w13 : Int32} {w14 : Int32} {w15 : Int32} {w16 : Int32} {w17 : Int32} {w18 : Bool} {w19 : Nat → Int32} {w20 : Int32} {w21 : Nat → Int32} {w22 : Nat → Int32} {w23 : Nat → Int32} {w24 : Int32} {w25 : Int32} {w26 : Int32} {w27 : Int32} {w28 : Bool} {R S D : Nat}  (k : Nat) (d : Nat) (ht : z_n0 G ≤ t) (hw : z_ok w0 R S D) (hkS : k < S) (hd : d ≤ D) : z_C l G yX3_isFromStale 3 0 0 [.ref t, .int (nI k), .int (nI d)] (z_tw G t w0 w1 w2 w3 w4 w5 w6 w7 w8 w9 w10 w11 w12 w13 w14 w15 w16 w17 w18 w19 w20 w21 w22 w23 w24 w25 w26 w27 w28 h) n (z_rv (.int (z_b (tw_from w0 k d))) (z_tw G t w0 w1 w2 w3 w4 w5 w6 w7 w8 w9 w10 w11 w12 w13 w14 w15 w16 w17 w18 w19 w20 w21 w22 w23 w24 w25 w26 w27 w28 h) n) := by
  refine z_start zk_X3_isFromStale zpl_RX3 (Nat.le_of_ble_eq_true rfl) ?_
  intro hn0 M hl hG ho hb hN hr hm hH hrm hQ
  subst hl hG
  have ho : zm_o M = RX3 := ho
  obtain ⟨hR, hR4, hS, hS8, hD, hD6, hF⟩ := id hw
  obtain ⟨hF1, hF2, hF3, hF4⟩ := hF k hkS
  show z_V M (z_tw (zm_G M) t w0 w1 w2 w3 w4 w5 w6 w7 w8 w9 w10 w11 w12 w13 w14 w15 w16 w17 w18 w19 w20 w21 w22 w23 w24 w25 w26 w27 w28 h) n 0 0 0 [(0, .ref t), (1, .int (nI k)), (2, .int (nI d))] []
  refine z_aload_n hb dX3_isFromStale_0 rfl ?_
  refine z_iload_n hb dX3_isFromStale_1 rfl ?_
  refine z_call1 (b' := 0) (f' := 0) (rest := []) (av := [.ref t, .int (nI k)]) (z_siteV hb ho zc2 z_tw_o q2843 q2845 qs39 ⟨_, _, _, _, zk_X3_isBase⟩ zy_X3_isBase zl_X3_isBase dX3_isFromStale_2 : z_Site M _ _ _ _ _ ([.int (nI k)].reverse ++ .ref t :: []) [] _) zk_X3_isBase q104 hrm (m_X3_isBase k ht (by omega)) (by omega) (by decide) (Nat.le_of_ble_eq_true rfl) (by omega) (by omega) ?_
  refine z_ifb_eq (tgt := 10) hb dX3_isFromStale_5 (by decide) (fun c_5 => ?_) (fun c_5 => ?_)
  · have J_43 : ∀ (v : Bool), (v = (tw_st w0 (tw_f w0 k) d || tw_st w0 (tw_s w0 k) d)) → z_V M (z_tw (zm_G M) t w0 w1 w2 w3 w4 w5 w6 w7 w8 w9 w10 w11 w12 w13 w14 w15 w16 w17 w18 w19 w20 w21 w22 w23 w24 w25 w26 w27 w28 h) n 0 0 43 [(0, .ref t), (1, .int (nI k)), (2, .int (nI d))] [.int (z_b v)] := by
      intro v hv
      refine z_istore_n (lv' := [(3, .int (z_b v)), (0, .ref t), (1, .int (nI k)), (2, .int (nI d))]) hb dX3_isFromStale_43 (by rw [hN]; decide) rfl ?_
      refine z_iconst (x := nI 0) hb dX3_isFromStale_44 (by decide) ?_
      refine z_istore (lv' := [(4, .int (nI 0)), (3, .int (z_b v)), (0, .ref t), (1, .int (nI k)), (2, .int (nI d))]) hb dX3_isFromStale_45 (by rw [hN]; decide) rfl ?_
      have lp_47 : ∀ (k9_47 : Nat) (e : Nat) (u : Bool), d - e < k9_47 → (e ≤ d) → (u = (v || (decide (w0 (176 + 4 * k) = nI 114) && tw_any w0 (tw_f w0 k) e))) → z_V M (z_tw (zm_G M) t w0 w1 w2 w3 w4 w5 w6 w7 w8 w9 w10 w11 w12 w13 w14 w15 w16 w17 w18 w19 w20 w21 w22 w23 w24 w25 w26 w27 w28 h) n 0 0 47 [(4, .int (nI e)), (3, .int (z_b u)), (0, .ref t), (1, .int (nI k)), (2, .int (nI d))] [] := by
        intro k9_47
        induction k9_47 with
        | zero => intro e u hk9_47; exact absurd hk9_47 (Nat.not_lt_zero _)
        | succ k9_47 ih_47 =>
          intro e u hk9_47 he hu
          refine z_iload hb dX3_isFromStale_47 rfl ?_
          refine z_iload_n hb dX3_isFromStale_49 rfl ?_
          refine z_icmp_geN (tgt := 85) hb dX3_isFromStale_50 (by decide) (by omega) (by omega) (fun c_50 => ?_) (fun c_50 => ?_)
          · refine z_iload_n hb dX3_isFromStale_85 rfl ?_
            refine z_zret hb hr (z_bnar _) dX3_isFromStale_86 ?_
            rw [hQ]
            exact z_rve (by rw [tw_from, if_neg (by simp [c_5]), hu, hv, show e = d by omega])
          · refine z_aload_n hb dX3_isFromStale_53 rfl ?_
            refine z_iload_n hb dX3_isFromStale_54 rfl ?_
            refine z_iconst (x := nI 0) hb dX3_isFromStale_55 (by decide) ?_
            refine z_call1 (b' := 0) (f' := 0) (rest := []) (av := [.ref t, .int (nI k), .int (nI 0)]) (z_siteV hb ho zc2 z_tw_o q2847 q2849 qs40 ⟨_, _, _, _, zk_X3_s⟩ zy_X3_s zl_X3_s dX3_isFromStale_56 : z_Site M _ _ _ _ _ ([.int (nI k), .int (nI 0)].reverse ++ .ref t :: []) [] _) zk_X3_s q104 hrm (m_X3_s k 0 ht (by omega)) (by omega) (by decide) (Nat.le_of_ble_eq_true rfl) (by omega) (by omega) ?_
            refine z_toI (y := w0 (176 + 4 * k)) rfl ?_
            refine z_bipush (x := nI 114) hb dX3_isFromStale_59 (by decide) ?_
            refine z_icmp_ne (tgt := 85) hb dX3_isFromStale_61 (by decide) (fun c_61 => ?_) (fun c_61 => ?_)
            · refine z_iload_n hb dX3_isFromStale_85 rfl ?_
              refine z_zret hb hr (z_bnar _) dX3_isFromStale_86 ?_
              rw [hQ]
              exact z_rve (by rw [tw_from, if_neg (by simp [c_5]), hu, hv]; simp [c_61])
            · refine z_iload_n hb dX3_isFromStale_64 rfl ?_
              refine z_aload_n hb dX3_isFromStale_65 rfl ?_
              refine z_aload_n hb dX3_isFromStale_66 rfl ?_
              refine z_iload_n hb dX3_isFromStale_67 rfl ?_
              refine z_iconst (x := nI 2) hb dX3_isFromStale_68 (by decide) ?_
              refine z_call1 (b' := 0) (f' := 0) (rest := [.ref t, .int (z_b u)]) (av := [.ref t, .int (nI k), .int (nI 2)]) (z_siteV hb ho zc2 z_tw_o q2847 q2849 qs40 ⟨_, _, _, _, zk_X3_s⟩ zy_X3_s zl_X3_s dX3_isFromStale_69 : z_Site M _ _ _ _ _ ([.int (nI k), .int (nI 2)].reverse ++ .ref t :: [.ref t, .int (z_b u)]) [.ref t, .int (z_b u)] _) zk_X3_s q104 hrm (m_X3_s k 2 ht (by omega)) (by omega) (by decide) (Nat.le_of_ble_eq_true rfl) (by omega) (by omega) ?_
              refine z_toI (y := nI (tw_f w0 k)) (hF k (by omega)).1 ?_
              refine z_iload hb dX3_isFromStale_72 rfl ?_
              refine z_call1 (b' := 0) (f' := 0) (rest := [.int (z_b u)]) (av := [.ref t, .int (nI (tw_f w0 k)), .int (nI e)]) (z_siteV hb ho zc2 z_tw_o q2828 q2830 qs36 ⟨_, _, _, _, zk_X3_isStaleNow⟩ zy_X3_isStaleNow zl_X3_isStaleNow dX3_isFromStale_74 : z_Site M _ _ _ _ _ ([.int (nI (tw_f w0 k)), .int (nI e)].reverse ++ .ref t :: [.int (z_b u)]) [.int (z_b u)] _) zk_X3_isStaleNow q104 hrm (m_X3_isStaleNow (tw_f w0 k) e ht (by omega) (by omega)) (by omega) (by decide) (Nat.le_of_ble_eq_true rfl) (by omega) (by omega) ?_
              refine z_ior hb dX3_isFromStale_77 ?_
              refine z_toI (y := z_b (u || tw_st w0 (tw_f w0 k) e)) (z_b_or _ _) ?_
              refine z_istore_n (lv' := [(3, .int (z_b (u || tw_st w0 (tw_f w0 k) e))), (4, .int (nI e)), (0, .ref t), (1, .int (nI k)), (2, .int (nI d))]) hb dX3_isFromStale_78 (by rw [hN]; decide) rfl ?_
              refine z_iinc (k0 := 1) (lv' := [(4, .int (nI (e + 1))), (3, .int (z_b (u || tw_st w0 (tw_f w0 k) e))), (0, .ref t), (1, .int (nI k)), (2, .int (nI d))]) hb dX3_isFromStale_79 rfl (nI_1 e) (by rw [hN]; decide) rfl ?_
              refine z_goto (tgt := 47) hb dX3_isFromStale_82 (by decide) ?_
              refine z_lv [0, 1, 2, 3, 4] (lv' := [(4, .int (nI (e + 1))), (3, .int (z_b (u || tw_st w0 (tw_f w0 k) e))), (0, .ref t), (1, .int (nI k)), (2, .int (nI d))]) rfl ?_
              exact ih_47 (e + 1) _ (by omega) (by omega) (by rw [hu]; simp [tw_any, c_61, Bool.or_assoc])
      refine z_lv [0, 1, 2, 3, 4] (lv' := [(4, .int (nI 0)), (3, .int (z_b v)), (0, .ref t), (1, .int (nI k)), (2, .int (nI d))]) rfl ?_
      exact lp_47 _ 0 v (Nat.lt_succ_self _) (Nat.zero_le _) (by simp [tw_any])
    refine z_aload_n hb dX3_isFromStale_10 rfl ?_
    refine z_aload_n hb dX3_isFromStale_11 rfl ?_
    refine z_iload_n hb dX3_isFromStale_12 rfl ?_
    refine z_iconst (x := nI 2) hb dX3_isFromStale_13 (by decide) ?_
    refine z_call1 (b' := 0) (f' := 0) (rest := [.ref t]) (av := [.ref t, .int (nI k), .int (nI 2)]) (z_siteV hb ho zc2 z_tw_o q2847 q2849 qs40 ⟨_, _, _, _, zk_X3_s⟩ zy_X3_s zl_X3_s dX3_isFromStale_14 : z_Site M _ _ _ _ _ ([.int (nI k), .int (nI 2)].reverse ++ .ref t :: [.ref t]) [.ref t] _) zk_X3_s q104 hrm (m_X3_s k 2 ht (by omega)) (by omega) (by decide) (Nat.le_of_ble_eq_true rfl) (by omega) (by omega) ?_
    refine z_toI (y := nI (tw_f w0 k)) (hF k (by omega)).1 ?_
    refine z_iload_n hb dX3_isFromStale_17 rfl ?_
    refine z_call1 (b' := 0) (f' := 0) (rest := []) (av := [.ref t, .int (nI (tw_f w0 k)), .int (nI d)]) (z_siteV hb ho zc2 z_tw_o q2828 q2830 qs36 ⟨_, _, _, _, zk_X3_isStaleNow⟩ zy_X3_isStaleNow zl_X3_isStaleNow dX3_isFromStale_18 : z_Site M _ _ _ _ _ ([.int (nI (tw_f w0 k)), .int (nI d)].reverse ++ .ref t :: []) [] _) zk_X3_isStaleNow q104 hrm (m_X3_isStaleNow (tw_f w0 k) d ht (by omega) (by omega)) (by omega) (by decide) (Nat.le_of_ble_eq_true rfl) (by omega) (by omega) ?_
    refine z_ifb_ne (tgt := 38) hb dX3_isFromStale_21 (by decide) (fun c_21 => ?_) (fun c_21 => ?_)
    · refine z_iconst (x := nI 1) hb dX3_isFromStale_38 (by decide) ?_
      refine z_goto (tgt := 43) hb dX3_isFromStale_39 (by decide) ?_
      exact J_43 true (by simp [c_5, c_21])
    · refine z_aload_n hb dX3_isFromStale_24 rfl ?_
      refine z_aload_n hb dX3_isFromStale_25 rfl ?_
      refine z_iload_n hb dX3_isFromStale_26 rfl ?_
      refine z_iconst (x := nI 3) hb dX3_isFromStale_27 (by decide) ?_
      refine z_call1 (b' := 0) (f' := 0) (rest := [.ref t]) (av := [.ref t, .int (nI k), .int (nI 3)]) (z_siteV hb ho zc2 z_tw_o q2847 q2849 qs40 ⟨_, _, _, _, zk_X3_s⟩ zy_X3_s zl_X3_s dX3_isFromStale_28 : z_Site M _ _ _ _ _ ([.int (nI k), .int (nI 3)].reverse ++ .ref t :: [.ref t]) [.ref t] _) zk_X3_s q104 hrm (m_X3_s k 3 ht (by omega)) (by omega) (by decide) (Nat.le_of_ble_eq_true rfl) (by omega) (by omega) ?_
      refine z_toI (y := nI (tw_s w0 k)) (hF k (by omega)).2.2.1 ?_
      refine z_iload_n hb dX3_isFromStale_31 rfl ?_
      refine z_call1 (b' := 0) (f' := 0) (rest := []) (av := [.ref t, .int (nI (tw_s w0 k)), .int (nI d)]) (z_siteV hb ho zc2 z_tw_o q2828 q2830 qs36 ⟨_, _, _, _, zk_X3_isStaleNow⟩ zy_X3_isStaleNow zl_X3_isStaleNow dX3_isFromStale_32 : z_Site M _ _ _ _ _ ([.int (nI (tw_s w0 k)), .int (nI d)].reverse ++ .ref t :: []) [] _) zk_X3_isStaleNow q104 hrm (m_X3_isStaleNow (tw_s w0 k) d ht (by omega) (by omega)) (by omega) (by decide) (Nat.le_of_ble_eq_true rfl) (by omega) (by omega) ?_
      refine z_ifb_eq (tgt := 42) hb dX3_isFromStale_35 (by decide) (fun c_35 => ?_) (fun c_35 => ?_)
      · refine z_iconst (x := nI 0) hb dX3_isFromStale_42 (by decide) ?_
        exact J_43 false (by simp [c_5, c_21, c_35])
      · refine z_iconst (x := nI 1) hb dX3_isFromStale_38 (by decide) ?_
        refine z_goto (tgt := 43) hb dX3_isFromStale_39 (by decide) ?_
        exact J_43 true (by simp [c_5, c_21, c_35])
  · refine z_iconst (x := nI 0) hb dX3_isFromStale_8 (by decide) ?_
    refine z_zret hb hr rfl dX3_isFromStale_9 ?_
    rw [hQ]
    exact z_rvb0 (by rw [tw_from, if_pos c_5])

