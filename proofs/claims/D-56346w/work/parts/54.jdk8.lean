/-- the ring's places from hd up to tl -/
def z_dqc (f : Nat → Option Nat) (hd tl : Nat) (ph i : Nat) : Nat → Option Nat := fun x =>
  if ph = 0 then (if hd ≤ x ∧ x < i then none else f x) else if hd ≤ tl then (if hd ≤ x ∧ x < i then none else f x) else (if (hd ≤ x ∧ x < 17) ∨ x < i then none else f x)
theorem z_dqc_0 (f : Nat → Option Nat) (hd tl : Nat) (ph : Nat) (hp : ph = 0 ∨ hd ≤ tl) : z_dqc f hd tl ph hd = f := by
  funext x
  unfold z_dqc
  by_cases h0 : ph = 0
  · rw [if_pos h0, if_neg (by omega)]
  · rw [if_neg h0, if_pos (hp.resolve_left h0), if_neg (by omega)]
theorem z_dqc_s {f : Nat → Option Nat} {hd tl ph i : Nat} (h : (ph = 0 ∨ hd ≤ tl) → hd ≤ i) : va_up (z_dqc f hd tl ph i) i none = z_dqc f hd tl ph (i + 1) := by
  funext x
  unfold va_up z_dqc
  by_cases hx : x = i
  · subst hx
    rw [if_pos rfl]
    by_cases h0 : ph = 0
    · rw [if_pos h0, if_pos (by have := h (Or.inl h0); omega)]
    · rw [if_neg h0]
      by_cases h1 : hd ≤ tl
      · rw [if_pos h1, if_pos (by have := h (Or.inr h1); omega)]
      · rw [if_neg h1, if_pos (by omega)]
  · rw [if_neg hx]
    by_cases h0 : ph = 0
    · rw [if_pos h0, if_pos h0]
      by_cases q : hd ≤ x ∧ x < i
      · rw [if_pos q, if_pos (by omega)]
      · rw [if_neg q, if_neg (by omega)]
    · rw [if_neg h0, if_neg h0]
      by_cases h1 : hd ≤ tl
      · rw [if_pos h1, if_pos h1]
        by_cases q : hd ≤ x ∧ x < i
        · rw [if_pos q, if_pos (by omega)]
        · rw [if_neg q, if_neg (by omega)]
      · rw [if_neg h1, if_neg h1]
        by_cases q : (hd ≤ x ∧ x < 17) ∨ x < i
        · rw [if_pos q, if_pos (by omega)]
        · rw [if_neg q, if_neg (by omega)]
theorem z_dqc_p {f : Nat → Option Nat} {hd tl : Nat} (h : ¬ hd ≤ tl) : z_dqc f hd tl 0 17 = z_dqc f hd tl 1 0 := by
  funext x
  unfold z_dqc
  rw [if_pos rfl, if_neg (show ¬(1 : Nat) = 0 by decide), if_neg h]
  by_cases q : hd ≤ x ∧ x < 17
  · rw [if_pos q, if_pos (Or.inl q)]
  · rw [if_neg q, if_neg (by omega)]
def z_dqt (tl ph : Nat) : Nat := if ph = 0 then 17 else tl

set_option maxHeartbeats 1000000 in
theorem m_J3_circularClear {l : Launch} {G : zG} {h : zH} {n : Nat} {e hd tl : Nat} {f : Nat → Option Nat} (hA : h e = some (z_ao G 17 f)) (he0 : z_n0 G ≤ e) (hhd : hd < 17) (htl : tl < 17) : z_C l G yJ3_circularClear 1 0 0 [.ref e, .int (nI hd), .int (nI tl)] h n (z_r0 (z_up h e (z_ao G 17 (z_dqc f hd tl 1 tl))) n) := by
  refine z_start zk_J3_circularClear zpl_RJ3 (Nat.le_of_ble_eq_true rfl) ?_
  intro hn0 M hl hG ho hb hN hr hm hH hrm hQ
  subst hl hG
  have ho : zm_o M = RJ3 := ho
  show z_V M h n 0 0 0 [(0, .ref e), (1, .int (nI hd)), (2, .int (nI tl))] []
  refine z_iload_n hb dJ3_circularClear_0 rfl ?_
  refine z_iload_n hb dJ3_circularClear_1 rfl ?_
  refine z_icmp_gtN (tgt := 9) hb dJ3_circularClear_2 (by decide) (by omega) (by omega) (fun c_2 => ?_) (fun c_2 => ?_)
  · refine z_aload_n hb dJ3_circularClear_9 rfl ?_
    refine z_alen (kk := 5) hb rfl dJ3_circularClear_10 hA ?_
    refine z_istore_n (lv' := [(3, .int (nI 17)), (0, .ref e), (1, .int (nI hd)), (2, .int (nI tl))]) hb dJ3_circularClear_11 (by rw [hN]; decide) rfl ?_
    refine z_hh (h2 := z_up h e (z_ao (zm_G M) 17 (z_dqc f hd tl 0 hd))) (by rw [z_dqc_0 f hd tl 0 (Or.inl rfl), z_up_self hA]) ?_
    have lp_12 : ∀ (k9_12 : Nat) (ph : Nat) (i : Nat), (1 - ph) * 40 + 20 - i < k9_12 → (ph = 0 ∨ ph = 1) → (i ≤ z_dqt tl ph) → ((ph = 0 ∨ hd ≤ tl) → hd ≤ i) → (ph = 0 → ¬ hd ≤ tl) → z_V M (z_up h e (z_ao (zm_G M) 17 (z_dqc f hd tl ph i))) n 0 0 12 [(3, .int (nI (z_dqt tl ph))), (0, .ref e), (1, .int (nI i)), (2, .int (nI tl))] [] := by
      intro k9_12
      induction k9_12 with
      | zero => intro ph i hk9_12; exact absurd hk9_12 (Nat.not_lt_zero _)
      | succ k9_12 ih_12 =>
        intro ph i hk9_12 hph hi hst hp0
        have hdt : z_dqt tl ph ≤ 17 := by unfold z_dqt; split <;> omega
        refine z_iload_n hb dJ3_circularClear_12 rfl ?_
        refine z_iload_n hb dJ3_circularClear_13 rfl ?_
        refine z_icmp_geN (tgt := 27) hb dJ3_circularClear_14 (by decide) (by omega) (by omega) (fun c_14 => ?_) (fun c_14 => ?_)
        · refine z_iload_n hb dJ3_circularClear_27 rfl ?_
          refine z_iload_n hb dJ3_circularClear_28 rfl ?_
          refine z_icmp_neN (tgt := 35) hb dJ3_circularClear_29 (by decide) (by omega) (by omega) (fun c_29 => ?_) (fun c_29 => ?_)
          · have hph0 : ph = 0 := by
              rcases hph with q | q
              · exact q
              · subst q; exact absurd rfl c_29
            subst hph0
            have hntl := hp0 rfl
            obtain rfl : i = 17 := Nat.le_antisymm hi c_14
            refine z_hh (h2 := z_up h e (z_ao (zm_G M) 17 (z_dqc f hd tl 1 0))) (by rw [z_dqc_p hntl]) ?_
            refine z_iconst (x := nI 0) hb dJ3_circularClear_35 (by decide) ?_
            refine z_istore_n (lv' := [(1, .int (nI 0)), (3, .int (nI (z_dqt tl 0))), (0, .ref e), (2, .int (nI tl))]) hb dJ3_circularClear_36 (by rw [hN]; decide) rfl ?_
            refine z_iload_n hb dJ3_circularClear_37 rfl ?_
            refine z_istore_n (lv' := [(3, .int (nI tl)), (1, .int (nI 0)), (0, .ref e), (2, .int (nI tl))]) hb dJ3_circularClear_38 (by rw [hN]; decide) rfl ?_
            refine z_goto (tgt := 12) hb dJ3_circularClear_39 (by decide) ?_
            show z_V M _ _ _ _ _ [(3, .int (nI (z_dqt tl 1))), (1, .int (nI 0)), (0, .ref e), (2, .int (nI tl))] _
            refine z_lv [0, 2, 1, 3] (lv' := [(3, .int (nI (z_dqt tl 1))), (0, .ref e), (1, .int (nI 0)), (2, .int (nI tl))]) rfl ?_
            exact ih_12 1 0 (by omega) (Or.inr rfl) (Nat.zero_le _) (fun q => q.elim (fun z => absurd z (by decide)) (fun z => absurd z hntl)) (fun q => absurd q (by decide))
          · refine z_goto (tgt := 42) hb dJ3_circularClear_32 (by decide) ?_
            refine z_vret hb hr dJ3_circularClear_42 ?_
            rw [hQ]
            have hp1 : z_dqc f hd tl ph i = z_dqc f hd tl 1 tl := by
              rcases hph with rfl | rfl
              · exact absurd c_29 (by show ¬ 17 = tl; omega)
              · rw [show i = tl from Nat.le_antisymm hi c_14]
            rw [hp1]; exact ⟨rfl, rfl, rfl⟩
        · refine z_aload_n hb dJ3_circularClear_17 rfl ?_
          refine z_iload_n hb dJ3_circularClear_18 rfl ?_
          refine z_null hb dJ3_circularClear_19 ?_
          refine z_aastN (j := i) hb dJ3_circularClear_20 z_up_s he0 rfl (by omega) (by omega) ?_
          refine z_hh (h2 := z_up h e (z_ao (zm_G M) 17 (z_dqc f hd tl ph (i + 1)))) (by rw [z_up_up, z_dqc_s hst]) ?_
          refine z_iinc (k0 := 2) (lv' := [(1, .int (nI (i + 1))), (3, .int (nI (z_dqt tl ph))), (0, .ref e), (2, .int (nI tl))]) hb dJ3_circularClear_21 rfl (nI_1 i) (by rw [hN]; decide) rfl ?_
          refine z_goto (tgt := 12) hb dJ3_circularClear_24 (by decide) ?_
          show z_V M _ _ _ _ _ [(1, .int (nI (i + 1))), (3, .int (nI (z_dqt tl ph))), (0, .ref e), (2, .int (nI tl))] _
          refine z_lv [1, 2, 0, 3] (lv' := [(3, .int (nI (z_dqt tl ph))), (0, .ref e), (1, .int (nI (i + 1))), (2, .int (nI tl))]) rfl ?_
          exact ih_12 ph (i + 1) (by omega) hph (by omega) (fun q => Nat.le_succ_of_le (hst q)) hp0
    show z_V M _ _ _ _ _ [(3, .int (nI (z_dqt tl 0))), (0, .ref e), (1, .int (nI hd)), (2, .int (nI tl))] _
    refine z_lv [0, 1, 2, 3] (lv' := [(3, .int (nI (z_dqt tl 0))), (0, .ref e), (1, .int (nI hd)), (2, .int (nI tl))]) rfl ?_
    exact lp_12 _ 0 hd (Nat.lt_succ_self _) (Or.inl rfl) (by show hd ≤ 17; omega) (fun _ => Nat.le_refl _) (fun _ => by omega)
  · refine z_iload_n hb dJ3_circularClear_5 rfl ?_
    refine z_goto (tgt := 11) hb dJ3_circularClear_6 (by decide) ?_
    refine z_istore_n (lv' := [(3, .int (nI tl)), (0, .ref e), (1, .int (nI hd)), (2, .int (nI tl))]) hb dJ3_circularClear_11 (by rw [hN]; decide) rfl ?_
    refine z_hh (h2 := z_up h e (z_ao (zm_G M) 17 (z_dqc f hd tl 1 hd))) (by rw [z_dqc_0 f hd tl 1 (Or.inr (by omega)), z_up_self hA]) ?_
    have lp_12 : ∀ (k9_12 : Nat) (ph : Nat) (i : Nat), (1 - ph) * 40 + 20 - i < k9_12 → (ph = 0 ∨ ph = 1) → (i ≤ z_dqt tl ph) → ((ph = 0 ∨ hd ≤ tl) → hd ≤ i) → (ph = 0 → ¬ hd ≤ tl) → z_V M (z_up h e (z_ao (zm_G M) 17 (z_dqc f hd tl ph i))) n 0 0 12 [(3, .int (nI (z_dqt tl ph))), (0, .ref e), (1, .int (nI i)), (2, .int (nI tl))] [] := by
      intro k9_12
      induction k9_12 with
      | zero => intro ph i hk9_12; exact absurd hk9_12 (Nat.not_lt_zero _)
      | succ k9_12 ih_12 =>
        intro ph i hk9_12 hph hi hst hp0
        have hdt : z_dqt tl ph ≤ 17 := by unfold z_dqt; split <;> omega
        refine z_iload_n hb dJ3_circularClear_12 rfl ?_
        refine z_iload_n hb dJ3_circularClear_13 rfl ?_
        refine z_icmp_geN (tgt := 27) hb dJ3_circularClear_14 (by decide) (by omega) (by omega) (fun c_14 => ?_) (fun c_14 => ?_)
        · refine z_iload_n hb dJ3_circularClear_27 rfl ?_
          refine z_iload_n hb dJ3_circularClear_28 rfl ?_
          refine z_icmp_neN (tgt := 35) hb dJ3_circularClear_29 (by decide) (by omega) (by omega) (fun c_29 => ?_) (fun c_29 => ?_)
          · have hph0 : ph = 0 := by
              rcases hph with q | q
              · exact q
              · subst q; exact absurd rfl c_29
            subst hph0
            have hntl := hp0 rfl
            obtain rfl : i = 17 := Nat.le_antisymm hi c_14
            refine z_hh (h2 := z_up h e (z_ao (zm_G M) 17 (z_dqc f hd tl 1 0))) (by rw [z_dqc_p hntl]) ?_
            refine z_iconst (x := nI 0) hb dJ3_circularClear_35 (by decide) ?_
            refine z_istore_n (lv' := [(1, .int (nI 0)), (3, .int (nI (z_dqt tl 0))), (0, .ref e), (2, .int (nI tl))]) hb dJ3_circularClear_36 (by rw [hN]; decide) rfl ?_
            refine z_iload_n hb dJ3_circularClear_37 rfl ?_
            refine z_istore_n (lv' := [(3, .int (nI tl)), (1, .int (nI 0)), (0, .ref e), (2, .int (nI tl))]) hb dJ3_circularClear_38 (by rw [hN]; decide) rfl ?_
            refine z_goto (tgt := 12) hb dJ3_circularClear_39 (by decide) ?_
            show z_V M _ _ _ _ _ [(3, .int (nI (z_dqt tl 1))), (1, .int (nI 0)), (0, .ref e), (2, .int (nI tl))] _
            refine z_lv [0, 2, 1, 3] (lv' := [(3, .int (nI (z_dqt tl 1))), (0, .ref e), (1, .int (nI 0)), (2, .int (nI tl))]) rfl ?_
            exact ih_12 1 0 (by omega) (Or.inr rfl) (Nat.zero_le _) (fun q => q.elim (fun z => absurd z (by decide)) (fun z => absurd z hntl)) (fun q => absurd q (by decide))
          · refine z_goto (tgt := 42) hb dJ3_circularClear_32 (by decide) ?_
            refine z_vret hb hr dJ3_circularClear_42 ?_
            rw [hQ]
            have hp1 : z_dqc f hd tl ph i = z_dqc f hd tl 1 tl := by
              rcases hph with rfl | rfl
              · exact absurd c_29 (by show ¬ 17 = tl; omega)
              · rw [show i = tl from Nat.le_antisymm hi c_14]
            rw [hp1]; exact ⟨rfl, rfl, rfl⟩
        · refine z_aload_n hb dJ3_circularClear_17 rfl ?_
          refine z_iload_n hb dJ3_circularClear_18 rfl ?_
          refine z_null hb dJ3_circularClear_19 ?_
          refine z_aastN (j := i) hb dJ3_circularClear_20 z_up_s he0 rfl (by omega) (by omega) ?_
          refine z_hh (h2 := z_up h e (z_ao (zm_G M) 17 (z_dqc f hd tl ph (i + 1)))) (by rw [z_up_up, z_dqc_s hst]) ?_
          refine z_iinc (k0 := 2) (lv' := [(1, .int (nI (i + 1))), (3, .int (nI (z_dqt tl ph))), (0, .ref e), (2, .int (nI tl))]) hb dJ3_circularClear_21 rfl (nI_1 i) (by rw [hN]; decide) rfl ?_
          refine z_goto (tgt := 12) hb dJ3_circularClear_24 (by decide) ?_
          show z_V M _ _ _ _ _ [(1, .int (nI (i + 1))), (3, .int (nI (z_dqt tl ph))), (0, .ref e), (2, .int (nI tl))] _
          refine z_lv [1, 2, 0, 3] (lv' := [(3, .int (nI (z_dqt tl ph))), (0, .ref e), (1, .int (nI (i + 1))), (2, .int (nI tl))]) rfl ?_
          exact ih_12 ph (i + 1) (by omega) hph (by omega) (fun q => Nat.le_succ_of_le (hst q)) hp0
    show z_V M _ _ _ _ _ [(3, .int (nI (z_dqt tl 1))), (0, .ref e), (1, .int (nI hd)), (2, .int (nI tl))] _
    refine z_lv [0, 1, 2, 3] (lv' := [(3, .int (nI (z_dqt tl 1))), (0, .ref e), (1, .int (nI hd)), (2, .int (nI tl))]) rfl ?_
    exact lp_12 _ 1 hd (Nat.lt_succ_self _) (Or.inr rfl) (by show hd ≤ tl; omega) (fun _ => Nat.le_refl _) (fun q => absurd q (by decide))

set_option maxHeartbeats 1000000 in
theorem m_J3_clear {l : Launch} {G : zG} {h : zH} {n : Nat} {a e hd tl : Nat} {f : Nat → Option Nat} (hO : h a = some (.inr (21, [.ref e, .int (nI hd), .int (nI tl)]))) (hA : h e = some (z_ao G 17 f)) (ha0 : z_n0 G ≤ a) (he0 : z_n0 G ≤ e) (hhd : hd < 17) (htl : tl < 17) : z_C l G yJ3_clear 2 0 0 [.ref a] h n (z_r0 (z_up (z_up h e (z_ao G 17 (z_dqc f hd tl 1 tl))) a (.inr (21, [.ref e, .int (nI 0), .int (nI 0)]))) n) := by
  refine z_start zk_J3_clear zpl_RJ3 (Nat.le_of_ble_eq_true rfl) ?_
  intro hn0 M hl hG ho hb hN hr hm hH hrm hQ
  subst hl hG
  have ho : zm_o M = RJ3 := ho
  show z_V M h n 0 0 0 [(0, .ref a)] []
  refine z_aload_n hb dJ3_clear_0 rfl ?_
  refine z_get (k := 0) (C := RJ3) (T := TJ3) (N := 3) hb ho zc21 in_J3 (zf_RJ3_3 _) dJ3_clear_1 hO (by decide) rfl ?_
  refine z_aload_n hb dJ3_clear_4 rfl ?_
  refine z_get (k := 1) (C := RJ3) (T := TJ3) (N := 3) hb ho zc21 in_J3 (zf_RJ3_24 _) dJ3_clear_5 hO (by decide) rfl ?_
  refine z_aload_n hb dJ3_clear_8 rfl ?_
  refine z_get (k := 2) (C := RJ3) (T := TJ3) (N := 3) hb ho zc21 in_J3 (zf_RJ3_20 _) dJ3_clear_9 hO (by decide) rfl ?_
  refine z_call0 (b' := 0) (f' := 0) (rest := []) (av := [.ref e, .int (nI hd), .int (nI tl)]) (z_siteS hb ho q2686 q2687 q99 ⟨_, _, _, _, zk_J3_circularClear⟩ zy_J3_circularClear zl_J3_circularClear dJ3_clear_12 : z_Site M _ _ _ _ _ ([.ref e, .int (nI hd), .int (nI tl)].reverse ++ []) [] _) zk_J3_circularClear q99 hrm (m_J3_circularClear hA he0 hhd htl) (by omega) (by decide) (Nat.le_of_ble_eq_true rfl) (by omega) (by omega) ?_
  skip
  refine z_hn (fun h_1 eh_1 => ?_)
  have eh_1 : h_1 = z_up h e (.inl ((zm_G M).2.1 5, 17, .inr (.inr (.inr (.inr (z_dqc f hd tl 1 tl)))))) := eh_1
  have k_2 : h_1 a = some (.inr (21, [.ref e, .int (nI hd), .int (nI tl)])) := z_nx eh_1 (z_neA hO hA) hO
  refine z_aload_n hb dJ3_clear_15 rfl ?_
  refine z_aload_n hb dJ3_clear_16 rfl ?_
  refine z_iconst (x := nI 0) hb dJ3_clear_17 (by decide) ?_
  refine z_dup_x1 hb dJ3_clear_18 rfl rfl ?_
  refine z_put (k := 2) (C := RJ3) (T := TJ3) (N := 3) hb ho zc21 in_J3 tyJ3_ok nmJ3 (zf_RJ3_20 _) dJ3_clear_19 k_2 ha0 (by decide) (Or.inl rfl) rfl rfl rfl (Nat.le_of_ble_eq_true rfl) ?_
  refine z_hn (fun h_3 eh_3 => ?_)
  have eh_3 : h_3 = z_up h_1 a (.inr (21, [.ref e, .int (nI hd), .int (nI 0)])) := eh_3
  have k_4 : h_3 e = some (.inl ((zm_G M).2.1 5, 17, .inr (.inr (.inr (.inr (z_dqc f hd tl 1 tl)))))) := z_nx eh_3 (z_neA' (z_nxs eh_1) k_2) (z_nxs eh_1)
  refine z_put (k := 1) (C := RJ3) (T := TJ3) (N := 3) hb ho zc21 in_J3 tyJ3_ok nmJ3 (zf_RJ3_24 _) dJ3_clear_22 (z_nxs eh_3) ha0 (by decide) (Or.inl rfl) rfl rfl rfl (Nat.le_of_ble_eq_true rfl) ?_
  refine z_hn (fun h_5 eh_5 => ?_)
  have eh_5 : h_5 = z_up h_3 a (.inr (21, [.ref e, .int (nI 0), .int (nI 0)])) := eh_5
  have k_6 : h_5 e = some (.inl ((zm_G M).2.1 5, 17, .inr (.inr (.inr (.inr (z_dqc f hd tl 1 tl)))))) := z_nx eh_5 (z_neA' k_4 (z_nxs eh_3)) k_4
  refine z_vret hb hr dJ3_clear_25 ?_
  rw [hQ]
  exact ⟨rfl, (by rw [eh_5, eh_3, eh_1] <;> simp only [z_up_up]), rfl⟩

set_option maxHeartbeats 1000000 in
theorem m_J3_init {l : Launch} {G : zG} {h : zH} {n : Nat} {t : Nat} (ht9 : h t = some (.inr (21, [.null, .int (nI 0), .int (nI 0)]))) (hnt : z_n0 G ≤ t) (htn : t < n) : z_C l G yJ3_init 2 1 17 [.ref t] h n (z_r0 (z_up (z_up h n (z_ao G 17 (fun _ => none))) t (.inr (21, [.ref n, .int (nI 0), .int (nI 0)]))) (n + 1)) := by
  refine z_start zk_J3_init zpl_RJ3 (Nat.le_of_ble_eq_true rfl) ?_
  intro hn0 M hl hG ho hb hN hr hm hH hrm hQ
  subst hl hG
  have ho : zm_o M = RJ3 := ho
  show z_V M h n 1 17 0 [(0, .ref t)] []
  refine z_aload_n hb dJ3_init_0 rfl ?_
  refine z_call0 (b' := 1) (f' := 17) (rest := []) (av := [.ref t]) (z_siteI hb ho q239 q172 q173 rfl zy_J0_init zl_J0_init dJ3_init_1 : z_Site M _ _ _ _ _ ([].reverse ++ .ref t :: []) [] _) zk_J0_init q96 hrm (m_J0_init) (by omega) (by decide) (Nat.le_of_ble_eq_true rfl) (by omega) (by omega) ?_
  refine z_aload_n hb dJ3_init_4 rfl ?_
  refine z_bipush (x := nI 17) hb dJ3_init_5 (by decide) ?_
  refine z_anew (N := 17) (b' := 0) (f' := 0) hb ho q240 dJ3_init_7 rfl (by omega) (by omega) (by omega) ?_
  refine z_hn (fun h_1 eh_1 => ?_)
  have eh_1 : h_1 = z_up h n (.inl ((zm_G M).2.1 5, 17, .inr (.inr (.inr (.inr (fun _ => none)))))) := eh_1
  have k_2 : h_1 t = some (.inr (21, [.null, .int (nI 0), .int (nI 0)])) := z_nx eh_1 (Nat.ne_of_lt htn) ht9
  refine z_put (k := 0) (C := RJ3) (T := TJ3) (N := 3) hb ho zc21 in_J3 tyJ3_ok nmJ3 (zf_RJ3_3 _) dJ3_init_10 k_2 hnt (by decide) (Or.inl rfl) rfl rfl rfl (Nat.le_of_ble_eq_true rfl) ?_
  refine z_hn (fun h_3 eh_3 => ?_)
  have eh_3 : h_3 = z_up h_1 t (.inr (21, [.ref n, .int (nI 0), .int (nI 0)])) := eh_3
  have k_4 : h_3 n = some (.inl ((zm_G M).2.1 5, 17, .inr (.inr (.inr (.inr (fun _ => none)))))) := z_nx eh_3 (z_neA' (z_nxs eh_1) k_2) (z_nxs eh_1)
  refine z_vret hb hr dJ3_init_13 ?_
  rw [hQ]
  exact ⟨rfl, (by rw [eh_3, eh_1] <;> simp only [z_up_up]), rfl⟩

