theorem z_Sg_c {G : zG} {h : zH} {s : Nat} {l : List Nat} {hs : Int32} (q : z_Sg G h s l hs) (i : Nat) : l.getD i 0 < 128 := by
  obtain ⟨e, hz, -, -, -, h4⟩ := q
  rw [List.getD_eq_getElem?_getD]
  by_cases z : i < l.length
  · rw [List.getElem?_eq_getElem z]; exact h4 _ (List.getElem_mem z)
  · rw [List.getElem?_eq_none (by omega)]; decide
theorem z_a255 {c : Nat} (h : c < 128) : nI c &&& nI 255 = nI c := by
  have : ∀ c, c < 128 → nI c &&& nI 255 = nI c := by decide +kernel
  exact this c h
def z_mc3 (f g : Nat → Int32) (L2 i : Nat) : Bool := decide (∀ j, j < L2 → f (i + j) = g j)
/-- the first place where g's L2 letters stand in f -/
def z_sxF (f g : Nat → Int32) (L2 i : Nat) : Nat → Option Nat
  | 0 => none
  | d + 1 => if z_mc3 f g L2 i then some i else z_sxF f g L2 (i + 1) d
theorem z_sxF_none {f g : Nat → Int32} {L2 : Nat} : ∀ {d i : Nat}, (∀ k, i ≤ k → k < i + d → z_mc3 f g L2 k = false) → z_sxF f g L2 i d = none
  | 0, _, _ => rfl
  | d + 1, i, h => by rw [z_sxF, h i (Nat.le_refl _) (by omega), if_neg Bool.false_ne_true, z_sxF_none fun k h1 h2 => h k (by omega) (by omega)]
theorem z_sxF_some {f g : Nat → Int32} {L2 p : Nat} : ∀ {d i : Nat}, (∀ k, i ≤ k → k < p → z_mc3 f g L2 k = false) → i ≤ p → p < i + d → z_mc3 f g L2 p = true → z_sxF f g L2 i d = some p
  | 0, _, _, h1, h2, _ => by omega
  | d + 1, i, h, h1, h2, h3 => by
    rw [z_sxF]
    by_cases q : i = p
    · rw [q, h3, if_pos rfl]
    · rw [h i (Nat.le_refl _) (by omega), if_neg Bool.false_ne_true, z_sxF_some (fun k g1 g2 => h k (by omega) g2) (by omega) (by omega) h3]
theorem z_mc3_f {f g : Nat → Int32} {L2 i j : Nat} (h : j < L2) (q : ¬ f (i + j) = g j) : z_mc3 f g L2 i = false := decide_eq_false fun z => q (z j h)
def z_sx (l1 l2 : List Nat) : Option Nat := z_sxF (z_by l1) (z_by l2) l2.length 0 (l1.length - l2.length + 1)

set_option maxHeartbeats 1000000 in
theorem m_J16_charAt {l : Launch} {G : zG} {h : zH} {n : Nat} {e i : Nat} {ch : List Nat} (hs2 : h e = some (z_ab G ch.length (z_by ch))) (hi : i < ch.length) (hl : ch.length ≤ 100) (hc : ch.getD i 0 < 128) : z_C l G yJ16_charAt 3 0 0 [.ref e, .int (nI i)] h n (z_rn (.int (nI (ch.getD i 0))) h) := by
  refine z_start zk_J16_charAt zpl_RJ16 (Nat.le_of_ble_eq_true rfl) ?_
  intro hn0 M hl hG ho hb hN hr hm hH hrm hQ
  subst hl hG
  have ho : zm_o M = RJ16 := ho
  show z_V M h n 0 0 0 [(0, .ref e), (1, .int (nI i))] []
  refine z_dom (fun hD0 => ?_)
  refine z_iload_n hb dJ16_charAt_0 rfl ?_
  refine z_aload_n hb dJ16_charAt_1 rfl ?_
  refine z_alen (kk := 3) hb rfl dJ16_charAt_2 hs2 ?_
  refine z_call0 (b' := 0) (f' := 0) (rest := []) (av := [.int (nI i), .int (nI ch.length)]) (z_siteS hb ho q2607 q2242 q102 ⟨_, _, _, _, zk_J6_checkIndex⟩ zy_J6_checkIndex zl_J6_checkIndex dJ16_charAt_3 : z_Site M _ _ _ _ _ ([.int (nI i), .int (nI ch.length)].reverse ++ []) [] _) zk_J6_checkIndex q102 hrm (m_J6_checkIndex hi (by omega)) (by omega) (by decide) (Nat.le_of_ble_eq_true rfl) (by omega) (by omega) ?_
  refine z_aload_n hb dJ16_charAt_6 rfl ?_
  refine z_iload_n hb dJ16_charAt_7 rfl ?_
  refine z_bald (j := i) hb dJ16_charAt_8 hs2 rfl (by omega) (by omega) ?_
  refine z_toI (y := nI (ch.getD i 0)) rfl ?_
  refine z_sipush (x := nI 255) hb dJ16_charAt_9 (by decide) ?_
  refine z_iand hb dJ16_charAt_12 ?_
  refine z_toI (y := nI (ch.getD i 0)) (z_a255 hc) ?_
  refine z_i2c hb dJ16_charAt_13 (z_i2cN (by omega)) ?_
  refine z_zret hb hr (pk_charN (by omega)).1 dJ16_charAt_14 ?_
  rw [hQ]
  exact ⟨rfl, rfl⟩

set_option maxHeartbeats 1000000 in
theorem m_J6_charAt {l : Launch} {G : zG} {h : zH} {n : Nat} {s : Nat} {ch : List Nat} {hs9 : Int32} {i : Nat} (hSg : z_Sg G h s ch hs9) (hi : i < ch.length) : z_C l G yJ6_charAt 4 0 0 [.ref s, .int (nI i)] h n (z_rn (.int (nI (ch.getD i 0))) h) := by
  refine z_start zk_J6_charAt zpl_RJ6 (Nat.le_of_ble_eq_true rfl) ?_
  intro hn0 M hl hG ho hb hN hr hm hH hrm hQ
  subst hl hG
  have ho : zm_o M = RJ6 := ho
  obtain ⟨e, hz9, hs1, hs2, hs3, hs4⟩ := id hSg
  show z_V M h n 0 0 0 [(0, .ref s), (1, .int (nI i))] []
  refine z_dom (fun hD0 => ?_)
  refine z_aload_n hb dJ6_charAt_0 rfl ?_
  refine z_callN1 (b' := 0) (f' := 0) (rest := []) (av := [.ref s]) (z_siteV hb ho zc23 hs1 q844 q845 q846 ⟨_, _, _, _, zk_J6_isLatin1⟩ zy_J6_isLatin1 zl_J6_isLatin1 dJ6_charAt_1 : z_Site M _ _ _ _ _ ([].reverse ++ .ref s :: []) [] _) zk_J6_isLatin1 q102 hrm (m_J6_isLatin1 hSg) (by omega) (by decide) (Nat.le_of_ble_eq_true rfl) (by omega) (by omega) (fun n_1 hn_1 => ?_)
  refine z_if_eqN (tgt := 16) hb dJ6_charAt_4 (by decide) (by omega) (fun c_4 => ?_) (fun c_4 => ?_)
  · exact absurd c_4 (by omega)
  · refine z_aload_n hb dJ6_charAt_7 rfl ?_
    refine z_get (k := 0) (C := RJ6) (T := TJ6) (N := 4) hb ho zc23 in_J6 (zf_RJ6_9 _) dJ6_charAt_8 hs1 (by decide) rfl ?_
    refine z_iload_n hb dJ6_charAt_11 rfl ?_
    have hcc := z_Sg_c hSg i
    refine z_callN1 (b' := 0) (f' := 0) (rest := []) (av := [.ref e, .int (nI i)]) (z_siteS hb ho q2604 q2605 q116 ⟨_, _, _, _, zk_J16_charAt⟩ zy_J16_charAt zl_J16_charAt dJ6_charAt_12 : z_Site M _ _ _ _ _ ([.ref e, .int (nI i)].reverse ++ []) [] _) zk_J16_charAt q116 hrm (m_J16_charAt hs2 hi hs3 (z_Sg_c hSg i)) (by omega) (by decide) (Nat.le_of_ble_eq_true rfl) (by omega) (by omega) (fun n_2 hn_2 => ?_)
    refine z_zret hb hr (pk_charN (by omega)).1 dJ6_charAt_15 ?_
    rw [hQ]
    exact ⟨rfl, rfl⟩

theorem z_nx1 {f g : Nat → Int32} {L2 i m : Nat} (h : ∀ k, k < i → k ≤ m → z_mc3 f g L2 k = false) (q : z_mc3 f g L2 i = false) : ∀ k, k < i + 1 → k ≤ m → z_mc3 f g L2 k = false := fun k hk hm => by
  rcases Nat.lt_succ_iff_lt_or_eq.mp hk with z | z
  · exact h k z hm
  · rw [z]; exact q
theorem z_nx2 {f g : Nat → Int32} {b t : Nat} (h : ∀ j, j < 1 + t → f (b + j) = g j) (q : f (b + (1 + t)) = g (1 + t)) : ∀ j, j < 1 + (t + 1) → f (b + j) = g j := fun j hj => by
  by_cases z : j < 1 + t
  · exact h j z
  · rw [show j = 1 + t by omega]; exact q

set_option maxHeartbeats 1000000 in
theorem m_J16_indexOf_3 {l : Launch} {G : zG} {h : zH} {n : Nat} {e1 e2 L1 L2 : Nat} {f1 g1 : Nat → Int32} (hA : h e1 = some (z_ab G L1 f1)) (hB : h e2 = some (z_ab G L2 g1)) (hL : 1 ≤ L2 ∧ L2 ≤ L1 ∧ L1 ≤ 1000) : z_C l G yJ16_indexOf_3 1 0 0 [.ref e1, .int (nI L1), .ref e2, .int (nI L2), .int (nI 0)] h n (z_rn (.int (z_o (z_sxF f1 g1 L2 0 (L1 - L2 + 1)))) h) := by
  refine z_start zk_J16_indexOf_3 zpl_RJ16 (Nat.le_of_ble_eq_true rfl) ?_
  intro hn0 M hl hG ho hb hN hr hm hH hrm hQ
  subst hl hG
  have ho : zm_o M = RJ16 := ho
  show z_V M h n 0 0 0 [(0, .ref e1), (1, .int (nI L1)), (2, .ref e2), (3, .int (nI L2)), (4, .int (nI 0))] []
  refine z_dom (fun hD0 => ?_)
  refine z_aload_n hb dJ16_indexOf_3_0 rfl ?_
  refine z_iconst (x := nI 0) hb dJ16_indexOf_3_1 (by decide) ?_
  refine z_bald (j := 0) hb dJ16_indexOf_3_2 hB rfl (by omega) (by omega) ?_
  refine z_istore (lv' := [(5, .int (g1 0)), (0, .ref e1), (1, .int (nI L1)), (2, .ref e2), (3, .int (nI L2)), (4, .int (nI 0))]) hb dJ16_indexOf_3_3 (by rw [hN]; decide) rfl ?_
  refine z_iload_n hb dJ16_indexOf_3_5 rfl ?_
  refine z_iload_n hb dJ16_indexOf_3_6 rfl ?_
  refine z_isub hb dJ16_indexOf_3_7 ?_
  refine z_toI (y := nI (L1 - L2)) (pk_sub (by omega)) ?_
  refine z_istore (lv' := [(6, .int (nI (L1 - L2))), (5, .int (g1 0)), (0, .ref e1), (1, .int (nI L1)), (2, .ref e2), (3, .int (nI L2)), (4, .int (nI 0))]) hb dJ16_indexOf_3_8 (by rw [hN]; decide) rfl ?_
  refine z_iload hb dJ16_indexOf_3_10 rfl ?_
  refine z_istore (lv' := [(7, .int (nI 0)), (6, .int (nI (L1 - L2))), (5, .int (g1 0)), (0, .ref e1), (1, .int (nI L1)), (2, .ref e2), (3, .int (nI L2)), (4, .int (nI 0))]) hb dJ16_indexOf_3_12 (by rw [hN]; decide) rfl ?_
  have lp_14 : ∀ (k9_14 : Nat) (n14 : Nat) (i : Nat), L1 + 5 - i < k9_14 → (n ≤ n14) → (i ≤ L1 - L2 + 2) → (∀ k, k < i → k ≤ L1 - L2 → z_mc3 f1 g1 L2 k = false) → z_V M h n14 0 0 14 [(7, .int (nI i)), (6, .int (nI (L1 - L2))), (5, .int (g1 0)), (0, .ref e1), (1, .int (nI L1)), (2, .ref e2), (3, .int (nI L2)), (4, .int (nI 0))] [] := by
    intro k9_14
    induction k9_14 with
    | zero => intro n14 i hk9_14; exact absurd hk9_14 (Nat.not_lt_zero _)
    | succ k9_14 ih_14 =>
      intro n14 i hk9_14 hn14 hi hno
      refine z_iload hb dJ16_indexOf_3_14 rfl ?_
      refine z_iload hb dJ16_indexOf_3_16 rfl ?_
      refine z_icmp_gtN (tgt := 119) hb dJ16_indexOf_3_18 (by decide) (by omega) (by omega) (fun c_18 => ?_) (fun c_18 => ?_)
      · refine z_iconst (x := (-1)) hb dJ16_indexOf_3_119 (by decide) ?_
        refine z_iret hb hr dJ16_indexOf_3_120 ?_
        rw [hQ]
        exact z_rn_e (by rw [z_sxF_none (fun k _ hk => hno k (by omega) (by omega))]; rfl)
      · refine z_aload_n hb dJ16_indexOf_3_21 rfl ?_
        refine z_iload hb dJ16_indexOf_3_22 rfl ?_
        refine z_bald (j := i) hb dJ16_indexOf_3_24 hA rfl (by omega) (by omega) ?_
        refine z_iload hb dJ16_indexOf_3_25 rfl ?_
        refine z_icmp_eq (tgt := 52) hb dJ16_indexOf_3_27 (by decide) (fun c_27 => ?_) (fun c_27 => ?_)
        · refine z_iload hb dJ16_indexOf_3_52 rfl ?_
          refine z_iload hb dJ16_indexOf_3_54 rfl ?_
          refine z_icmp_gtN (tgt := 113) hb dJ16_indexOf_3_56 (by decide) (by omega) (by omega) (fun c_56 => ?_) (fun c_56 => ?_)
          · exact absurd c_56 (by omega)
          · have hm0 : f1 (i + 0) = g1 0 := by first | exact c_27 | exact c_46
            refine z_iload hb dJ16_indexOf_3_59 rfl ?_
            refine z_iconst (x := nI 1) hb dJ16_indexOf_3_61 (by decide) ?_
            refine z_iadd hb dJ16_indexOf_3_62 ?_
            refine z_toI (y := nI (i + 1)) (nI_add i 1) ?_
            refine z_istore (lv' := [(8, .int (nI (i + 1))), (7, .int (nI i)), (6, .int (nI (L1 - L2))), (5, .int (g1 0)), (0, .ref e1), (1, .int (nI L1)), (2, .ref e2), (3, .int (nI L2)), (4, .int (nI 0))]) hb dJ16_indexOf_3_63 (by rw [hN]; decide) rfl ?_
            refine z_iload hb dJ16_indexOf_3_65 rfl ?_
            refine z_iload_n hb dJ16_indexOf_3_67 rfl ?_
            refine z_iadd hb dJ16_indexOf_3_68 ?_
            refine z_toI (y := nI (i + 1 + L2)) (nI_add (i + 1) L2) ?_
            refine z_iconst (x := nI 1) hb dJ16_indexOf_3_69 (by decide) ?_
            refine z_isub hb dJ16_indexOf_3_70 ?_
            refine z_toI (y := nI ((i + 1 + L2) - 1)) (pk_sub (by omega)) ?_
            refine z_istore (lv' := [(9, .int (nI ((i + 1 + L2) - 1))), (8, .int (nI (i + 1))), (7, .int (nI i)), (6, .int (nI (L1 - L2))), (5, .int (g1 0)), (0, .ref e1), (1, .int (nI L1)), (2, .ref e2), (3, .int (nI L2)), (4, .int (nI 0))]) hb dJ16_indexOf_3_71 (by rw [hN]; decide) rfl ?_
            refine z_iconst (x := nI 1) hb dJ16_indexOf_3_73 (by decide) ?_
            refine z_istore (lv' := [(10, .int (nI 1)), (9, .int (nI ((i + 1 + L2) - 1))), (8, .int (nI (i + 1))), (7, .int (nI i)), (6, .int (nI (L1 - L2))), (5, .int (g1 0)), (0, .ref e1), (1, .int (nI L1)), (2, .ref e2), (3, .int (nI L2)), (4, .int (nI 0))]) hb dJ16_indexOf_3_74 (by rw [hN]; decide) rfl ?_
            have lp_76 : ∀ (k9_76 : Nat) (n76 : Nat) (t : Nat), L2 + 1 - t < k9_76 → (n14 ≤ n76) → (1 + t ≤ L2) → (∀ j, j < 1 + t → f1 (i + j) = g1 j) → z_V M h n76 0 0 76 [(10, .int (nI (1 + t))), (9, .int (nI ((i + 1 + L2) - 1))), (8, .int (nI (i + 1 + t))), (7, .int (nI i)), (6, .int (nI (L1 - L2))), (5, .int (g1 0)), (0, .ref e1), (1, .int (nI L1)), (2, .ref e2), (3, .int (nI L2)), (4, .int (nI 0))] [] := by
              intro k9_76
              induction k9_76 with
              | zero => intro n76 t hk9_76; exact absurd hk9_76 (Nat.not_lt_zero _)
              | succ k9_76 ih_76 =>
                intro n76 t hk9_76 hn76 ht hmt
                refine z_iload hb dJ16_indexOf_3_76 rfl ?_
                refine z_iload hb dJ16_indexOf_3_78 rfl ?_
                refine z_icmp_geN (tgt := 103) hb dJ16_indexOf_3_80 (by decide) (by omega) (by omega) (fun c_80 => ?_) (fun c_80 => ?_)
                · refine z_iload hb dJ16_indexOf_3_103 rfl ?_
                  refine z_iload hb dJ16_indexOf_3_105 rfl ?_
                  refine z_icmp_neN (tgt := 113) hb dJ16_indexOf_3_107 (by decide) (by omega) (by omega) (fun c_107 => ?_) (fun c_107 => ?_)
                  · exact absurd c_107 (by omega)
                  · refine z_iload hb dJ16_indexOf_3_110 rfl ?_
                    refine z_iret hb hr dJ16_indexOf_3_112 ?_
                    rw [hQ]
                    exact z_rn_e (by rw [z_sxF_some (p := i) (fun k _ hk => hno k (by omega) (by omega)) (Nat.zero_le _) (by omega) (decide_eq_true (fun j hj => hmt j (by omega)))]; rfl)
                · refine z_aload_n hb dJ16_indexOf_3_83 rfl ?_
                  refine z_iload hb dJ16_indexOf_3_84 rfl ?_
                  refine z_bald (j := i + 1 + t) hb dJ16_indexOf_3_86 hA rfl (by omega) (by omega) ?_
                  refine z_aload_n hb dJ16_indexOf_3_87 rfl ?_
                  refine z_iload hb dJ16_indexOf_3_88 rfl ?_
                  refine z_bald (j := 1 + t) hb dJ16_indexOf_3_90 hB rfl (by omega) (by omega) ?_
                  refine z_icmp_ne (tgt := 103) hb dJ16_indexOf_3_91 (by decide) (fun c_91 => ?_) (fun c_91 => ?_)
                  · refine z_iload hb dJ16_indexOf_3_103 rfl ?_
                    refine z_iload hb dJ16_indexOf_3_105 rfl ?_
                    refine z_icmp_neN (tgt := 113) hb dJ16_indexOf_3_107 (by decide) (by omega) (by omega) (fun c_107 => ?_) (fun c_107 => ?_)
                    · refine z_iinc (k0 := 3) (lv' := [(7, .int (nI (i + 1))), (10, .int (nI (1 + t))), (9, .int (nI ((i + 1 + L2) - 1))), (8, .int (nI (i + 1 + t))), (6, .int (nI (L1 - L2))), (5, .int (g1 0)), (0, .ref e1), (1, .int (nI L1)), (2, .ref e2), (3, .int (nI L2)), (4, .int (nI 0))]) hb dJ16_indexOf_3_113 rfl (nI_1 i) (by rw [hN]; decide) rfl ?_
                      refine z_goto (tgt := 14) hb dJ16_indexOf_3_116 (by decide) ?_
                      refine z_lv [0, 4, 5, 6, 7, 8, 9, 10] (lv' := [(7, .int (nI (i + 1))), (6, .int (nI (L1 - L2))), (5, .int (g1 0)), (0, .ref e1), (1, .int (nI L1)), (2, .ref e2), (3, .int (nI L2)), (4, .int (nI 0))]) rfl ?_
                      exact ih_14 n76 (i + 1) (by omega) (by omega) (by omega) (fun k hk hk2 => z_nx1 hno (z_mc3_f (i := i) (j := 1 + t) (by omega) (by rw [show i + (1 + t) = i + 1 + t by omega]; exact c_91)) k (by omega) hk2)
                    · exact absurd c_107 (by omega)
                  · refine z_iinc (k0 := 2) (lv' := [(8, .int (nI (i + 1 + t + 1))), (10, .int (nI (1 + t))), (9, .int (nI ((i + 1 + L2) - 1))), (7, .int (nI i)), (6, .int (nI (L1 - L2))), (5, .int (g1 0)), (0, .ref e1), (1, .int (nI L1)), (2, .ref e2), (3, .int (nI L2)), (4, .int (nI 0))]) hb dJ16_indexOf_3_94 rfl (nI_1 (i + 1 + t)) (by rw [hN]; decide) rfl ?_
                    refine z_iinc (k0 := 1) (lv' := [(10, .int (nI (1 + t + 1))), (8, .int (nI (i + 1 + t + 1))), (9, .int (nI ((i + 1 + L2) - 1))), (7, .int (nI i)), (6, .int (nI (L1 - L2))), (5, .int (g1 0)), (0, .ref e1), (1, .int (nI L1)), (2, .ref e2), (3, .int (nI L2)), (4, .int (nI 0))]) hb dJ16_indexOf_3_97 rfl (nI_1 (1 + t)) (by rw [hN]; decide) rfl ?_
                    refine z_goto (tgt := 76) hb dJ16_indexOf_3_100 (by decide) ?_
                    refine z_lv [0, 2, 1, 3, 4, 5, 6, 7, 8, 9, 10] (lv' := [(10, .int (nI (1 + t + 1))), (9, .int (nI ((i + 1 + L2) - 1))), (8, .int (nI (i + 1 + t + 1))), (7, .int (nI i)), (6, .int (nI (L1 - L2))), (5, .int (g1 0)), (0, .ref e1), (1, .int (nI L1)), (2, .ref e2), (3, .int (nI L2)), (4, .int (nI 0))]) rfl ?_
                    exact ih_76 n76 (t + 1) (by omega) (by omega) (by omega) (z_nx2 hmt (by rw [show i + (1 + t) = i + 1 + t by omega]; exact c_91))
            refine z_lv [0, 1, 2, 3, 4, 5, 6, 7, 8, 9, 10] (lv' := [(10, .int (nI 1)), (9, .int (nI ((i + 1 + L2) - 1))), (8, .int (nI (i + 1))), (7, .int (nI i)), (6, .int (nI (L1 - L2))), (5, .int (g1 0)), (0, .ref e1), (1, .int (nI L1)), (2, .ref e2), (3, .int (nI L2)), (4, .int (nI 0))]) rfl ?_
            exact lp_76 _ n14 0 (Nat.lt_succ_self _) (by omega) (by omega) (fun j hj => by rw [show j = 0 by omega]; exact hm0)
        · have lp_30 : ∀ (k9_30 : Nat) (n30 : Nat) (i2 : Nat), L1 + 5 - i2 < k9_30 → (n14 ≤ n30) → (i ≤ i2) → (i2 ≤ L1 - L2) → (∀ k, k < i2 → k ≤ L1 - L2 → z_mc3 f1 g1 L2 k = false) → (¬ f1 i2 = g1 0) → z_V M h n30 0 0 30 [(7, .int (nI i2)), (6, .int (nI (L1 - L2))), (5, .int (g1 0)), (0, .ref e1), (1, .int (nI L1)), (2, .ref e2), (3, .int (nI L2)), (4, .int (nI 0))] [] := by
            intro k9_30
            induction k9_30 with
            | zero => intro n30 i2 hk9_30; exact absurd hk9_30 (Nat.not_lt_zero _)
            | succ k9_30 ih_30 =>
              intro n30 i2 hk9_30 hn30 hii hi2 hno2 hne2
              refine z_iinc (k0 := 0) (lv' := [(7, .int (nI (i2 + 1))), (6, .int (nI (L1 - L2))), (5, .int (g1 0)), (0, .ref e1), (1, .int (nI L1)), (2, .ref e2), (3, .int (nI L2)), (4, .int (nI 0))]) hb dJ16_indexOf_3_30 rfl (nI_1 i2) (by rw [hN]; decide) rfl ?_
              refine z_iload hb dJ16_indexOf_3_33 rfl ?_
              refine z_iload hb dJ16_indexOf_3_35 rfl ?_
              refine z_icmp_gtN (tgt := 52) hb dJ16_indexOf_3_37 (by decide) (by omega) (by omega) (fun c_37 => ?_) (fun c_37 => ?_)
              · refine z_iload hb dJ16_indexOf_3_52 rfl ?_
                refine z_iload hb dJ16_indexOf_3_54 rfl ?_
                refine z_icmp_gtN (tgt := 113) hb dJ16_indexOf_3_56 (by decide) (by omega) (by omega) (fun c_56 => ?_) (fun c_56 => ?_)
                · refine z_iinc (k0 := 0) (lv' := [(7, .int (nI (i2 + 2))), (6, .int (nI (L1 - L2))), (5, .int (g1 0)), (0, .ref e1), (1, .int (nI L1)), (2, .ref e2), (3, .int (nI L2)), (4, .int (nI 0))]) hb dJ16_indexOf_3_113 rfl (nI_1 (i2 + 1)) (by rw [hN]; decide) rfl ?_
                  refine z_goto (tgt := 14) hb dJ16_indexOf_3_116 (by decide) ?_
                  refine z_lv [0, 1, 2, 3, 4, 5, 6, 7] (lv' := [(7, .int (nI (i2 + 2))), (6, .int (nI (L1 - L2))), (5, .int (g1 0)), (0, .ref e1), (1, .int (nI L1)), (2, .ref e2), (3, .int (nI L2)), (4, .int (nI 0))]) rfl ?_
                  exact ih_14 n30 (i2 + 2) (by omega) (by omega) (by omega) (fun k hk hk2 => z_nx1 hno2 (z_mc3_f (j := 0) (by omega) hne2) k (by omega) hk2)
                · exact absurd c_56 (by omega)
              · refine z_aload_n hb dJ16_indexOf_3_40 rfl ?_
                refine z_iload hb dJ16_indexOf_3_41 rfl ?_
                refine z_bald (j := i2 + 1) hb dJ16_indexOf_3_43 hA rfl (by omega) (by omega) ?_
                refine z_iload hb dJ16_indexOf_3_44 rfl ?_
                refine z_icmp_eq (tgt := 52) hb dJ16_indexOf_3_46 (by decide) (fun c_46 => ?_) (fun c_46 => ?_)
                · refine z_iload hb dJ16_indexOf_3_52 rfl ?_
                  refine z_iload hb dJ16_indexOf_3_54 rfl ?_
                  refine z_icmp_gtN (tgt := 113) hb dJ16_indexOf_3_56 (by decide) (by omega) (by omega) (fun c_56 => ?_) (fun c_56 => ?_)
                  · exact absurd c_56 (by omega)
                  · have hm0 : f1 ((i2 + 1) + 0) = g1 0 := by first | exact c_27 | exact c_46
                    refine z_iload hb dJ16_indexOf_3_59 rfl ?_
                    refine z_iconst (x := nI 1) hb dJ16_indexOf_3_61 (by decide) ?_
                    refine z_iadd hb dJ16_indexOf_3_62 ?_
                    refine z_toI (y := nI (i2 + 2)) (nI_add (i2 + 1) 1) ?_
                    refine z_istore (lv' := [(8, .int (nI (i2 + 2))), (7, .int (nI (i2 + 1))), (6, .int (nI (L1 - L2))), (5, .int (g1 0)), (0, .ref e1), (1, .int (nI L1)), (2, .ref e2), (3, .int (nI L2)), (4, .int (nI 0))]) hb dJ16_indexOf_3_63 (by rw [hN]; decide) rfl ?_
                    refine z_iload hb dJ16_indexOf_3_65 rfl ?_
                    refine z_iload_n hb dJ16_indexOf_3_67 rfl ?_
                    refine z_iadd hb dJ16_indexOf_3_68 ?_
                    refine z_toI (y := nI (i2 + 2 + L2)) (nI_add (i2 + 2) L2) ?_
                    refine z_iconst (x := nI 1) hb dJ16_indexOf_3_69 (by decide) ?_
                    refine z_isub hb dJ16_indexOf_3_70 ?_
                    refine z_toI (y := nI ((i2 + 2 + L2) - 1)) (pk_sub (by omega)) ?_
                    refine z_istore (lv' := [(9, .int (nI ((i2 + 2 + L2) - 1))), (8, .int (nI (i2 + 2))), (7, .int (nI (i2 + 1))), (6, .int (nI (L1 - L2))), (5, .int (g1 0)), (0, .ref e1), (1, .int (nI L1)), (2, .ref e2), (3, .int (nI L2)), (4, .int (nI 0))]) hb dJ16_indexOf_3_71 (by rw [hN]; decide) rfl ?_
                    refine z_iconst (x := nI 1) hb dJ16_indexOf_3_73 (by decide) ?_
                    refine z_istore (lv' := [(10, .int (nI 1)), (9, .int (nI ((i2 + 2 + L2) - 1))), (8, .int (nI (i2 + 2))), (7, .int (nI (i2 + 1))), (6, .int (nI (L1 - L2))), (5, .int (g1 0)), (0, .ref e1), (1, .int (nI L1)), (2, .ref e2), (3, .int (nI L2)), (4, .int (nI 0))]) hb dJ16_indexOf_3_74 (by rw [hN]; decide) rfl ?_
                    have lp_76 : ∀ (k9_76 : Nat) (n76 : Nat) (t : Nat), L2 + 1 - t < k9_76 → (n30 ≤ n76) → (1 + t ≤ L2) → (∀ j, j < 1 + t → f1 ((i2 + 1) + j) = g1 j) → z_V M h n76 0 0 76 [(10, .int (nI (1 + t))), (9, .int (nI ((i2 + 2 + L2) - 1))), (8, .int (nI (i2 + 1 + 1 + t))), (7, .int (nI (i2 + 1))), (6, .int (nI (L1 - L2))), (5, .int (g1 0)), (0, .ref e1), (1, .int (nI L1)), (2, .ref e2), (3, .int (nI L2)), (4, .int (nI 0))] [] := by
                      intro k9_76
                      induction k9_76 with
                      | zero => intro n76 t hk9_76; exact absurd hk9_76 (Nat.not_lt_zero _)
                      | succ k9_76 ih_76 =>
                        intro n76 t hk9_76 hn76 ht hmt
                        refine z_iload hb dJ16_indexOf_3_76 rfl ?_
                        refine z_iload hb dJ16_indexOf_3_78 rfl ?_
                        refine z_icmp_geN (tgt := 103) hb dJ16_indexOf_3_80 (by decide) (by omega) (by omega) (fun c_80 => ?_) (fun c_80 => ?_)
                        · refine z_iload hb dJ16_indexOf_3_103 rfl ?_
                          refine z_iload hb dJ16_indexOf_3_105 rfl ?_
                          refine z_icmp_neN (tgt := 113) hb dJ16_indexOf_3_107 (by decide) (by omega) (by omega) (fun c_107 => ?_) (fun c_107 => ?_)
                          · exact absurd c_107 (by omega)
                          · refine z_iload hb dJ16_indexOf_3_110 rfl ?_
                            refine z_iret hb hr dJ16_indexOf_3_112 ?_
                            rw [hQ]
                            exact z_rn_e (by rw [z_sxF_some (p := (i2 + 1)) (fun k _ hk => (z_nx1 hno2 (z_mc3_f (j := 0) (by omega) hne2)) k (by omega) (by omega)) (Nat.zero_le _) (by omega) (decide_eq_true (fun j hj => hmt j (by omega)))]; rfl)
                        · refine z_aload_n hb dJ16_indexOf_3_83 rfl ?_
                          refine z_iload hb dJ16_indexOf_3_84 rfl ?_
                          refine z_bald (j := i2 + 1 + 1 + t) hb dJ16_indexOf_3_86 hA rfl (by omega) (by omega) ?_
                          refine z_aload_n hb dJ16_indexOf_3_87 rfl ?_
                          refine z_iload hb dJ16_indexOf_3_88 rfl ?_
                          refine z_bald (j := 1 + t) hb dJ16_indexOf_3_90 hB rfl (by omega) (by omega) ?_
                          refine z_icmp_ne (tgt := 103) hb dJ16_indexOf_3_91 (by decide) (fun c_91 => ?_) (fun c_91 => ?_)
                          · refine z_iload hb dJ16_indexOf_3_103 rfl ?_
                            refine z_iload hb dJ16_indexOf_3_105 rfl ?_
                            refine z_icmp_neN (tgt := 113) hb dJ16_indexOf_3_107 (by decide) (by omega) (by omega) (fun c_107 => ?_) (fun c_107 => ?_)
                            · refine z_iinc (k0 := 3) (lv' := [(7, .int (nI (i2 + 2))), (10, .int (nI (1 + t))), (9, .int (nI ((i2 + 2 + L2) - 1))), (8, .int (nI (i2 + 1 + 1 + t))), (6, .int (nI (L1 - L2))), (5, .int (g1 0)), (0, .ref e1), (1, .int (nI L1)), (2, .ref e2), (3, .int (nI L2)), (4, .int (nI 0))]) hb dJ16_indexOf_3_113 rfl (nI_1 (i2 + 1)) (by rw [hN]; decide) rfl ?_
                              refine z_goto (tgt := 14) hb dJ16_indexOf_3_116 (by decide) ?_
                              refine z_lv [0, 4, 5, 6, 7, 8, 9, 10] (lv' := [(7, .int (nI (i2 + 2))), (6, .int (nI (L1 - L2))), (5, .int (g1 0)), (0, .ref e1), (1, .int (nI L1)), (2, .ref e2), (3, .int (nI L2)), (4, .int (nI 0))]) rfl ?_
                              exact ih_14 n76 (i2 + 2) (by omega) (by omega) (by omega) (fun k hk hk2 => z_nx1 (z_nx1 hno2 (z_mc3_f (j := 0) (by omega) hne2)) (z_mc3_f (i := (i2 + 1)) (j := 1 + t) (by omega) (by rw [show (i2 + 1) + (1 + t) = (i2 + 1) + 1 + t by omega]; exact c_91)) k (by omega) hk2)
                            · exact absurd c_107 (by omega)
                          · refine z_iinc (k0 := 2) (lv' := [(8, .int (nI (i2 + 1 + 1 + t + 1))), (10, .int (nI (1 + t))), (9, .int (nI ((i2 + 2 + L2) - 1))), (7, .int (nI (i2 + 1))), (6, .int (nI (L1 - L2))), (5, .int (g1 0)), (0, .ref e1), (1, .int (nI L1)), (2, .ref e2), (3, .int (nI L2)), (4, .int (nI 0))]) hb dJ16_indexOf_3_94 rfl (nI_1 (i2 + 1 + 1 + t)) (by rw [hN]; decide) rfl ?_
                            refine z_iinc (k0 := 1) (lv' := [(10, .int (nI (1 + t + 1))), (8, .int (nI (i2 + 1 + 1 + t + 1))), (9, .int (nI ((i2 + 2 + L2) - 1))), (7, .int (nI (i2 + 1))), (6, .int (nI (L1 - L2))), (5, .int (g1 0)), (0, .ref e1), (1, .int (nI L1)), (2, .ref e2), (3, .int (nI L2)), (4, .int (nI 0))]) hb dJ16_indexOf_3_97 rfl (nI_1 (1 + t)) (by rw [hN]; decide) rfl ?_
                            refine z_goto (tgt := 76) hb dJ16_indexOf_3_100 (by decide) ?_
                            refine z_lv [0, 2, 1, 3, 4, 5, 6, 7, 8, 9, 10] (lv' := [(10, .int (nI (1 + t + 1))), (9, .int (nI ((i2 + 2 + L2) - 1))), (8, .int (nI (i2 + 1 + 1 + t + 1))), (7, .int (nI (i2 + 1))), (6, .int (nI (L1 - L2))), (5, .int (g1 0)), (0, .ref e1), (1, .int (nI L1)), (2, .ref e2), (3, .int (nI L2)), (4, .int (nI 0))]) rfl ?_
                            exact ih_76 n76 (t + 1) (by omega) (by omega) (by omega) (z_nx2 hmt (by rw [show (i2 + 1) + (1 + t) = i2 + 1 + 1 + t by omega]; exact c_91))
                    refine z_lv [0, 1, 2, 3, 4, 5, 6, 7, 8, 9, 10] (lv' := [(10, .int (nI 1)), (9, .int (nI ((i2 + 2 + L2) - 1))), (8, .int (nI (i2 + 2))), (7, .int (nI (i2 + 1))), (6, .int (nI (L1 - L2))), (5, .int (g1 0)), (0, .ref e1), (1, .int (nI L1)), (2, .ref e2), (3, .int (nI L2)), (4, .int (nI 0))]) rfl ?_
                    exact lp_76 _ n30 0 (Nat.lt_succ_self _) (by omega) (by omega) (fun j hj => by rw [show j = 0 by omega]; exact hm0)
                · refine z_goto (tgt := 30) hb dJ16_indexOf_3_49 (by decide) ?_
                  refine z_lv [0, 1, 2, 3, 4, 5, 6, 7] (lv' := [(7, .int (nI (i2 + 1))), (6, .int (nI (L1 - L2))), (5, .int (g1 0)), (0, .ref e1), (1, .int (nI L1)), (2, .ref e2), (3, .int (nI L2)), (4, .int (nI 0))]) rfl ?_
                  exact ih_30 n30 (i2 + 1) (by omega) (by omega) (by omega) (by omega) (z_nx1 hno2 (z_mc3_f (j := 0) (by omega) hne2)) c_46
          refine z_lv [0, 1, 2, 3, 4, 5, 6, 7] (lv' := [(7, .int (nI i)), (6, .int (nI (L1 - L2))), (5, .int (g1 0)), (0, .ref e1), (1, .int (nI L1)), (2, .ref e2), (3, .int (nI L2)), (4, .int (nI 0))]) rfl ?_
          exact lp_30 _ n14 i (Nat.lt_succ_self _) (by omega) (Nat.le_refl _) (by omega) hno c_27
  refine z_lv [0, 1, 2, 3, 4, 5, 6, 7] (lv' := [(7, .int (nI 0)), (6, .int (nI (L1 - L2))), (5, .int (g1 0)), (0, .ref e1), (1, .int (nI L1)), (2, .ref e2), (3, .int (nI L2)), (4, .int (nI 0))]) rfl ?_
  exact lp_14 _ n 0 (Nat.lt_succ_self _) (by omega) (Nat.zero_le _) (fun k hk => absurd hk (Nat.not_lt_zero _))

set_option maxHeartbeats 1000000 in
theorem m_J16_indexOf_2 {l : Launch} {G : zG} {h : zH} {n : Nat} {e1 e2 L1 L2 : Nat} {f1 g1 : Nat → Int32} (hA : h e1 = some (z_ab G L1 f1)) (hB : h e2 = some (z_ab G L2 g1)) (hL : 1 ≤ L2 ∧ L2 ≤ L1 ∧ L1 ≤ 1000) : z_C l G yJ16_indexOf_2 2 0 0 [.ref e1, .ref e2] h n (z_rn (.int (z_o (z_sxF f1 g1 L2 0 (L1 - L2 + 1)))) h) := by
  refine z_start zk_J16_indexOf_2 zpl_RJ16 (Nat.le_of_ble_eq_true rfl) ?_
  intro hn0 M hl hG ho hb hN hr hm hH hrm hQ
  subst hl hG
  have ho : zm_o M = RJ16 := ho
  show z_V M h n 0 0 0 [(0, .ref e1), (1, .ref e2)] []
  refine z_dom (fun hD0 => ?_)
  refine z_aload_n hb dJ16_indexOf_2_0 rfl ?_
  refine z_alen (kk := 3) hb rfl dJ16_indexOf_2_1 hB ?_
  refine z_if_neN (tgt := 7) hb dJ16_indexOf_2_2 (by decide) (by omega) (fun c_2 => ?_) (fun c_2 => ?_)
  · refine z_aload_n hb dJ16_indexOf_2_7 rfl ?_
    refine z_alen (kk := 3) hb rfl dJ16_indexOf_2_8 hA ?_
    refine z_if_neN (tgt := 14) hb dJ16_indexOf_2_9 (by decide) (by omega) (fun c_9 => ?_) (fun c_9 => ?_)
    · refine z_aload_n hb dJ16_indexOf_2_14 rfl ?_
      refine z_aload_n hb dJ16_indexOf_2_15 rfl ?_
      refine z_alen (kk := 3) hb rfl dJ16_indexOf_2_16 hA ?_
      refine z_aload_n hb dJ16_indexOf_2_17 rfl ?_
      refine z_aload_n hb dJ16_indexOf_2_18 rfl ?_
      refine z_alen (kk := 3) hb rfl dJ16_indexOf_2_19 hB ?_
      refine z_iconst (x := nI 0) hb dJ16_indexOf_2_20 (by decide) ?_
      refine z_callN1 (b' := 0) (f' := 0) (rest := []) (av := [.ref e1, .int (nI L1), .ref e2, .int (nI L2), .int (nI 0)]) (z_siteS hb ho q2298 q2299 q116 ⟨_, _, _, _, zk_J16_indexOf_3⟩ zy_J16_indexOf_3 zl_J16_indexOf_3 dJ16_indexOf_2_21 : z_Site M _ _ _ _ _ ([.ref e1, .int (nI L1), .ref e2, .int (nI L2), .int (nI 0)].reverse ++ []) [] _) zk_J16_indexOf_3 q116 hrm (m_J16_indexOf_3 hA hB hL) (by omega) (by decide) (Nat.le_of_ble_eq_true rfl) (by omega) (by omega) (fun n_1 hn_1 => ?_)
      refine z_iret hb hr dJ16_indexOf_2_24 ?_
      rw [hQ]
      exact ⟨rfl, rfl⟩
    · exact absurd c_9 (by omega)
  · exact absurd c_2 (by omega)

set_option maxHeartbeats 1000000 in
theorem m_J6_indexOf_3 {l : Launch} {G : zG} {h : zH} {n : Nat} {s s2 : Nat} {l1 l2 : List Nat} {hs1 hs2 : Int32} (hS1 : z_Sg G h s l1 hs1) (hS2 : z_Sg G h s2 l2 hs2) (hL : 1 ≤ l2.length ∧ l2.length ≤ l1.length) : z_C l G yJ6_indexOf_3 3 0 0 [.ref s, .ref s2] h n (z_rn (.int (z_o (z_sx l1 l2))) h) := by
  refine z_start zk_J6_indexOf_3 zpl_RJ6 (Nat.le_of_ble_eq_true rfl) ?_
  intro hn0 M hl hG ho hb hN hr hm hH hrm hQ
  subst hl hG
  have ho : zm_o M = RJ6 := ho
  obtain ⟨e1, hz1, a1, a2, a3, a4⟩ := id hS1
  obtain ⟨e2, hz2, b1, b2, b3, b4⟩ := id hS2
  show z_V M h n 0 0 0 [(0, .ref s), (1, .ref s2)] []
  refine z_dom (fun hD0 => ?_)
  refine z_aload_n hb dJ6_indexOf_3_0 rfl ?_
  refine z_callN1 (b' := 0) (f' := 0) (rest := []) (av := [.ref s]) (z_siteV hb ho zc23 a1 q969 q970 q971 ⟨_, _, _, _, zk_J6_coder⟩ zy_J6_coder zl_J6_coder dJ6_indexOf_3_1 : z_Site M _ _ _ _ _ ([].reverse ++ .ref s :: []) [] _) zk_J6_coder q102 hrm (m_J6_coder hS1) (by omega) (by decide) (Nat.le_of_ble_eq_true rfl) (by omega) (by omega) (fun n_1 hn_1 => ?_)
  refine z_istore_n (lv' := [(2, .int (nI 0)), (0, .ref s), (1, .ref s2)]) hb dJ6_indexOf_3_4 (by rw [hN]; decide) rfl ?_
  refine z_iload_n hb dJ6_indexOf_3_5 rfl ?_
  refine z_aload_n hb dJ6_indexOf_3_6 rfl ?_
  refine z_callN1 (b' := 0) (f' := 0) (rest := [.int (nI 0)]) (av := [.ref s2]) (z_siteV hb ho zc23 b1 q969 q970 q971 ⟨_, _, _, _, zk_J6_coder⟩ zy_J6_coder zl_J6_coder dJ6_indexOf_3_7 : z_Site M _ _ _ _ _ ([].reverse ++ .ref s2 :: [.int (nI 0)]) [.int (nI 0)] _) zk_J6_coder q102 hrm (m_J6_coder hS2) (by omega) (by decide) (Nat.le_of_ble_eq_true rfl) (by omega) (by omega) (fun n_2 hn_2 => ?_)
  refine z_icmp_neN (tgt := 46) hb dJ6_indexOf_3_10 (by decide) (by omega) (by omega) (fun c_10 => ?_) (fun c_10 => ?_)
  · exact absurd c_10 (by omega)
  · refine z_aload_n hb dJ6_indexOf_3_13 rfl ?_
    refine z_callN1 (b' := 0) (f' := 0) (rest := []) (av := [.ref s]) (z_siteV hb ho zc23 a1 q844 q845 q846 ⟨_, _, _, _, zk_J6_isLatin1⟩ zy_J6_isLatin1 zl_J6_isLatin1 dJ6_indexOf_3_14 : z_Site M _ _ _ _ _ ([].reverse ++ .ref s :: []) [] _) zk_J6_isLatin1 q102 hrm (m_J6_isLatin1 hS1) (by omega) (by decide) (Nat.le_of_ble_eq_true rfl) (by omega) (by omega) (fun n_3 hn_3 => ?_)
    refine z_if_eqN (tgt := 34) hb dJ6_indexOf_3_17 (by decide) (by omega) (fun c_17 => ?_) (fun c_17 => ?_)
    · exact absurd c_17 (by omega)
    · refine z_aload_n hb dJ6_indexOf_3_20 rfl ?_
      refine z_get (k := 0) (C := RJ6) (T := TJ6) (N := 4) hb ho zc23 in_J6 (zf_RJ6_9 _) dJ6_indexOf_3_21 a1 (by decide) rfl ?_
      refine z_aload_n hb dJ6_indexOf_3_24 rfl ?_
      refine z_get (k := 0) (C := RJ6) (T := TJ6) (N := 4) hb ho zc23 in_J6 (zf_RJ6_9 _) dJ6_indexOf_3_25 b1 (by decide) rfl ?_
      refine z_callN1 (b' := 0) (f' := 0) (rest := []) (av := [.ref e1, .ref e2]) (z_siteS hb ho q2295 q2296 q116 ⟨_, _, _, _, zk_J16_indexOf_2⟩ zy_J16_indexOf_2 zl_J16_indexOf_2 dJ6_indexOf_3_28 : z_Site M _ _ _ _ _ ([.ref e1, .ref e2].reverse ++ []) [] _) zk_J16_indexOf_2 q116 hrm (m_J16_indexOf_2 a2 b2 ⟨hL.1, hL.2, by omega⟩) (by omega) (by decide) (Nat.le_of_ble_eq_true rfl) (by omega) (by omega) (fun n_4 hn_4 => ?_)
      refine z_goto (tgt := 45) hb dJ6_indexOf_3_31 (by decide) ?_
      refine z_iret hb hr dJ6_indexOf_3_45 ?_
      rw [hQ]
      exact ⟨rfl, rfl⟩

set_option maxHeartbeats 1000000 in
theorem m_J6_init_3 {l : Launch} {G : zG} {h : zH} {n : Nat} {t e : Nat} (ht9 : h t = some (.inr (23, [.null, .int (nI 0), .int (nI 0), .int (nI 0)]))) (hnt : z_n0 G ≤ t) : z_C l G yJ6_init_3 1 0 0 [.ref t, .ref e, .int (nI 0)] h n (z_r0 (z_up h t (.inr (23, [.ref e, .int (nI 0), .int (nI 0), .int (nI 0)]))) n) := by
  refine z_start zk_J6_init_3 zpl_RJ6 (Nat.le_of_ble_eq_true rfl) ?_
  intro hn0 M hl hG ho hb hN hr hm hH hrm hQ
  subst hl hG
  have ho : zm_o M = RJ6 := ho
  show z_V M h n 0 0 0 [(0, .ref t), (1, .ref e), (2, .int (nI 0))] []
  refine z_aload_n hb dJ6_init_3_0 rfl ?_
  refine z_oinit hb ho hrm (by omega) q1044 q155 q156 (by decide) dJ6_init_3_1 ?_
  refine z_aload_n hb dJ6_init_3_4 rfl ?_
  refine z_aload_n hb dJ6_init_3_5 rfl ?_
  refine z_put (k := 0) (C := RJ6) (T := TJ6) (N := 4) hb ho zc23 in_J6 tyJ6_ok nmJ6 (zf_RJ6_9 _) dJ6_init_3_6 ht9 hnt (by decide) (Or.inr ⟨hm, rfl⟩) rfl rfl rfl (Nat.le_of_ble_eq_true rfl) ?_
  refine z_hn (fun h_1 eh_1 => ?_)
  have eh_1 : h_1 = z_up h t (.inr (23, [.ref e, .int (nI 0), .int (nI 0), .int (nI 0)])) := eh_1
  refine z_aload_n hb dJ6_init_3_9 rfl ?_
  refine z_iload_n hb dJ6_init_3_10 rfl ?_
  refine z_put (k := 1) (C := RJ6) (T := TJ6) (N := 4) hb ho zc23 in_J6 tyJ6_ok nmJ6 (zf_RJ6_15 _) dJ6_init_3_11 (z_nxs eh_1) hnt (by decide) (Or.inr ⟨hm, rfl⟩) rfl rfl rfl (Nat.le_of_ble_eq_true rfl) ?_
  refine z_hn (fun h_2 eh_2 => ?_)
  have eh_2 : h_2 = z_up h_1 t (.inr (23, [.ref e, .int (nI 0), .int (nI 0), .int (nI 0)])) := eh_2
  refine z_vret hb hr dJ6_init_3_14 ?_
  rw [hQ]
  exact ⟨rfl, (by rw [eh_2, eh_1] <;> simp only [z_up_up]), rfl⟩

theorem z_by_d1 {ch : List Nat} {j : Nat} (h : j < 1 + (ch.length - 1) - 1) : va_cpy (z_by ch) (fun _ => 0) 1 0 (1 + (ch.length - 1) - 1) j = z_by (ch.drop 1) j := by
  unfold va_cpy z_by
  rw [if_pos (by omega), Nat.sub_zero, List.getD_eq_getElem?_getD, List.getD_eq_getElem?_getD, List.getElem?_drop]

set_option maxHeartbeats 1000000 in
theorem m_J16_newString {l : Launch} {G : zG} {h : zH} {n : Nat} {e : Nat} {ch : List Nat} (hs2 : h e = some (z_ab G ch.length (z_by ch))) (he0 : z_n0 G ≤ e) (hl : 2 ≤ ch.length ∧ ch.length ≤ 100) (hs4 : ∀ b ∈ ch, b < 128) : z_C l G yJ16_newString 4 2 304 [.ref e, .int (nI 1), .int (nI (ch.length - 1))] h n (z_q1 (fun r9 h9 n9 => r9 = .ref n ∧ n < n9 ∧ z_Sg G h9 n (ch.drop 1) (nI 0) ∧ z_ex h h9)) := by
  refine z_start zk_J16_newString zpl_RJ16 (Nat.le_of_ble_eq_true rfl) ?_
  intro hn0 M hl hG ho hb hN hr hm hH hrm hQ
  subst hl hG
  have ho : zm_o M = RJ16 := ho
  refine z_dom (fun hdm => ?_)
  have hen := hdm _ _ hs2
  show z_V M h n 2 304 0 [(0, .ref e), (1, .int (nI 1)), (2, .int (nI (ch.length - 1)))] []
  refine z_iload_n hb dJ16_newString_0 rfl ?_
  refine z_if_neN (tgt := 7) hb dJ16_newString_1 (by decide) (by omega) (fun c_1 => ?_) (fun c_1 => ?_)
  · refine z_new (N0 := 4) (b' := 1) (f' := 300) (fs := [.null, .int (nI 0), .int (nI 0), .int (nI 0)]) (C := RJ6) (T := TJ6) (N := 4) hb ho zc23 in_J6 tyJ6_ok q2366 q1037 q102 dJ16_newString_7 (zdf_J6) (by omega) (by omega) ?_
    refine z_hn (fun h_1 eh_1 => ?_)
    have eh_1 : h_1 = z_up h n (.inr (23, [.null, .int (nI 0), .int (nI 0), .int (nI 0)])) := eh_1
    have k_2 : h_1 e = some (.inl ((zm_G M).2.1 3, ch.length, .inl (z_by ch))) := z_nx eh_1 (Nat.ne_of_lt hen) hs2
    refine z_dup hb dJ16_newString_10 rfl ?_
    refine z_aload_n hb dJ16_newString_11 rfl ?_
    refine z_iload_n hb dJ16_newString_12 rfl ?_
    refine z_iload_n hb dJ16_newString_13 rfl ?_
    refine z_iload_n hb dJ16_newString_14 rfl ?_
    refine z_iadd hb dJ16_newString_15 ?_
    refine z_toI (y := nI (1 + (ch.length - 1))) (nI_add 1 (ch.length - 1)) ?_
    refine z_call1 (b' := 0) (f' := 0) (rest := [.ref n, .ref n]) (av := [.ref e, .int (nI 1), .int (nI (1 + (ch.length - 1)))]) (z_siteS hb ho q2367 q1060 q112 ⟨_, _, _, _, zk_J15_copyOfRange⟩ zy_J15_copyOfRange zl_J15_copyOfRange dJ16_newString_16 : z_Site M _ _ _ _ _ ([.ref e, .int (nI 1), .int (nI (1 + (ch.length - 1)))].reverse ++ [.ref n, .ref n]) [.ref n, .ref n] _) zk_J15_copyOfRange q112 hrm (m_J15_copyOfRange_p k_2 he0 (by omega) (by omega) (by omega) (by omega) (fun i hi => z_byfit hs4 _) (Or.inl (by decide))) (by omega) (by decide) (Nat.le_of_ble_eq_true rfl) (by omega) (by omega) ?_
    refine z_arU (N := 1 + (ch.length - 1) - 1) (x := va_cpy (z_by ch) (fun _ => 0) 1 0 (1 + (ch.length - 1) - 1)) (y := z_by (ch.drop 1)) (t := n + 1) rfl (by omega) (fun j hj => z_by_d1 hj) (fun h_3 eh_3 => ?_)
    have eh_3 : h_3 = z_up h_1 (n + 1) (z_ab (zm_G M) (1 + (ch.length - 1) - 1) (z_by (ch.drop 1))) := eh_3
    have k_4 : h_3 n = some (.inr (23, [.null, .int (nI 0), .int (nI 0), .int (nI 0)])) := z_nx eh_3 (by omega) (z_nxs eh_1)
    refine z_iconst (x := nI 0) hb dJ16_newString_19 (by decide) ?_
    refine z_call0 (b' := 0) (f' := 0) (rest := [.ref n]) (av := [.ref n, .ref (n + 1), .int (nI 0)]) (z_siteI hb ho q2368 q2369 q2370 rfl zy_J6_init_3 zl_J6_init_3 dJ16_newString_20 : z_Site M _ _ _ _ _ ([.ref (n + 1), .int (nI 0)].reverse ++ .ref n :: [.ref n]) [.ref n] _) zk_J6_init_3 q102 hrm (m_J6_init_3 k_4 hn0) (by omega) (by decide) (Nat.le_of_ble_eq_true rfl) (by omega) (by omega) ?_
    refine z_hn (fun h_5 eh_5 => ?_)
    have eh_5 : h_5 = z_up h_3 n (.inr (23, [.ref (n + 1), .int (nI 0), .int (nI 0), .int (nI 0)])) := eh_5
    have k_6 : h_5 (n + 1) = some (.inl ((zm_G M).2.1 3, 1 + (ch.length - 1) - 1, .inl (z_by (ch.drop 1)))) := z_nx eh_5 (z_neA' (z_nxs eh_3) k_4) (z_nxs eh_3)
    refine z_aret hb hr (Or.inl ⟨_, rfl⟩) (Or.inr ⟨_, rfl⟩) dJ16_newString_23 ?_
    rw [hQ]
    have hdl : (ch.drop 1).length = 1 + (ch.length - 1) - 1 := by rw [List.length_drop]; omega
    exact ⟨_, rfl, rfl, by omega, ⟨n + 1, _, (z_nxs eh_5), by rw [hdl]; exact k_6, by omega, fun b hb => hs4 b (List.mem_of_mem_drop hb)⟩, z_exW hdm (Nat.le_refl _) eh_5 (z_exW hdm (by omega) eh_3 (z_exN z_ex_r hdm eh_1))⟩
  · exact absurd c_1 (by omega)

