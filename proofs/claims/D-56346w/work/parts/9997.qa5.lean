/-! the decider -/
abbrev z_DQ := Nat × Int64 × (Nat → Int64)
def z_d1 (s : Nat) (q : z_DQ) : z_DQ := (q.1, q.2.1, va_up q.2.2 s 1)
/-- decide: best, least, costs -/
def z_dd (w : Nat → Int32) (R S : Nat) : Nat → Nat → Nat → Int64 → Nat → z_DQ → z_DQ
  | 0, _, p, c, _, q => if c < q.2.1 ∨ (c = q.2.1 ∧ p < q.1) then (p, c, q.2.2) else q
  | m + 1, s, p, c, lf, q => if q.2.1 < c + (nI S).toInt64 - (nI s).toInt64 then q else
      if lf = 0 then z_dd w R S m (s + 1) p (c + z_cw w R s q.2.2) lf (q.1, q.2.1, va_up q.2.2 s (z_cw w R s q.2.2))
      else z_dd w R S m (s + 1) (p + 2 ^ s) (c + 1) (lf - 1) (z_d1 s (z_dd w R S m (s + 1) p (c + z_cw w R s q.2.2) lf (q.1, q.2.1, va_up q.2.2 s (z_cw w R s q.2.2))))
theorem z_dd_z {w : Nat → Int32} {R S m s p lf b : Nat} {c Lm : Int64} {C : Nat → Int64} (h : lf = 0) (hn : ¬ Lm < c + (nI S).toInt64 - (nI s).toInt64) : z_dd w R S (m + 1) s p c lf (b, Lm, C) = z_dd w R S m (s + 1) p (c + z_cw w R s C) lf (b, Lm, va_up C s (z_cw w R s C)) := by
  rw [z_dd, if_neg hn, if_pos h]
theorem z_dd_s {w : Nat → Int32} {R S m s p lf b : Nat} {c Lm : Int64} {C : Nat → Int64} (h : 0 < lf) (hn : ¬ Lm < c + (nI S).toInt64 - (nI s).toInt64) : z_dd w R S (m + 1) s p c lf (b, Lm, C) = z_dd w R S m (s + 1) (p + 2 ^ s) (c + 1) (lf - 1) ((z_dd w R S m (s + 1) p (c + z_cw w R s C) lf (b, Lm, va_up C s (z_cw w R s C))).1, (z_dd w R S m (s + 1) p (c + z_cw w R s C) lf (b, Lm, va_up C s (z_cw w R s C))).2.1, va_up (z_dd w R S m (s + 1) p (c + z_cw w R s C) lf (b, Lm, va_up C s (z_cw w R s C))).2.2 s 1) := by
  rw [z_dd, if_neg hn, if_neg (by omega)]
  unfold z_d1
  rfl
theorem z_dd_x {w : Nat → Int32} {R S m s p lf b : Nat} {c Lm : Int64} {C : Nat → Int64} (hn : Lm < c + (nI S).toInt64 - (nI s).toInt64) : z_dd w R S (m + 1) s p c lf (b, Lm, C) = (b, Lm, C) := by
  rw [z_dd, if_pos hn]
abbrev z_Dc (tc S b : Nat) (Lm : Int64) : va_E := .inr (17, [.ref tc, .int (nI S), .int (nI b), .long Lm])
def z_de (G : zG) (t tc ec S : Nat) (q : z_DQ) (h h' : zH) : Prop := h' = z_up (z_up h t (z_Dc tc S q.1 q.2.1)) ec (z_al G 8 q.2.2) ∧ q.1 < 256
theorem z_de_c {h h1 h2 : zH} {t ec : Nat} {a b x : va_E} (hne : t ≠ ec) (e1 : h1 = z_up h ec a) (e2 : h2 = z_up (z_up h1 t x) ec b) : h2 = z_up (z_up h t x) ec b := by
  rw [e2, e1]
  funext y
  by_cases q1 : y = ec
  · subst q1; rw [z_up_s, z_up_s]
  · rw [z_up_n q1, z_up_n q1]
    by_cases q2 : y = t
    · subst q2; rw [z_up_s, z_up_s]
    · rw [z_up_n q2, z_up_n q2, z_up_n q1]
theorem z_de_d {h h2 h4 : zH} {t ec : Nat} {b d x y : va_E} (e2 : h2 = z_up (z_up h t x) ec b) (e4 : h4 = z_up (z_up h2 t y) ec d) : h4 = z_up (z_up h t y) ec d := by
  rw [e4, e2]
  funext z
  by_cases q1 : z = ec
  · subst q1; rw [z_up_s, z_up_s]
  · rw [z_up_n q1, z_up_n q1]
    by_cases q2 : z = t
    · subst q2; rw [z_up_s, z_up_s]
    · rw [z_up_n q2, z_up_n q2, z_up_n q1, z_up_n q2]
theorem z_kq17 {h h2 : zH} {t : Nat} {fs : List Value} {c : va_E} (q : h t = some (.inr (17, fs))) (e : h2 = z_up h t c) : z_kq h h2 := fun y c0 q0 l => by
  rw [e, z_up_n (fun z => by
    rw [z, q] at q0
    cases q0
    simp [z_lnj] at l)]
  exact q0
theorem z_deT {G : zG} {t tc ec S : Nat} {q : z_DQ} {h h' : zH} (e : z_de G t tc ec S q h h') (hne : t ≠ ec) : h' t = some (z_Dc tc S q.1 q.2.1) := by rw [e.1, z_up_n hne]; exact z_up_s
theorem z_deE {G : zG} {t tc ec S : Nat} {q : z_DQ} {h h' : zH} (e : z_de G t tc ec S q h h') : h' ec = some (z_al G 8 q.2.2) := by rw [e.1]; exact z_up_s
theorem z_deO {G : zG} {t tc ec S y : Nat} {q : z_DQ} {h h' : zH} {c : va_E} (e : z_de G t tc ec S q h h') (h1 : h y = some c) (n1 : y ≠ t) (n2 : y ≠ ec) : h' y = some c := by rw [e.1, z_up_n n2, z_up_n n1]; exact h1
theorem z_deK {G : zG} {t tc ec S : Nat} {q : z_DQ} {h h' : zH} {fs : List Value} {C : Nat → Int64} (e : z_de G t tc ec S q h h') (ht : h t = some (.inr (17, fs))) (he : h ec = some (z_al G 8 C)) : z_kq h h' := by
  have hne : ec ≠ t := fun z => by rw [z, ht] at he; cases he
  exact (z_kq17 ht rfl).t (z_kq8 ((z_up_n hne).trans he) e.1)
theorem z_kqr {h : zH} : z_kq h h := fun _ _ q _ => q
theorem z_plb {s p : Nat} (hs : s < 8) (hp : p < 2 ^ s) : nI p ||| (nI 1 <<< (nI s &&& 31)) = nI (p + 2 ^ s) ∧ p + 2 ^ s < 2 ^ (s + 1) ∧ p + 2 ^ s < 256 ∧ p < 2 ^ (s + 1) := by
  have : ∀ s, s < 8 → ∀ p, p < 2 ^ s → nI p ||| (nI 1 <<< (nI s &&& 31)) = nI (p + 2 ^ s) ∧ p + 2 ^ s < 2 ^ (s + 1) ∧ p + 2 ^ s < 256 ∧ p < 2 ^ (s + 1) := by decide +kernel
  exact this s hs p hp

set_option maxHeartbeats 1000000 in
theorem m_X21_decide_0 {l : Launch} {G : zG} {h : zH} {n : Nat} {w : Nat → Int32} {R S ls t tc ec b : Nat} {C : Nat → Int64} {Lm : Int64} {p lf : Nat} {c : Int64} (hD : h t = some (z_Dc tc S b Lm)) (htc : h tc = some (.inr (16, [.ref ls, .int (nI R), .ref ec]))) (hec : h ec = some (z_al G 8 C)) (hb2 : b < 256) (hp2 : p < 256) (hS8 : S ≤ 8) (ht0 : z_n0 G ≤ t) : z_C l G yX21_decide 8 0 0 [.ref t, .int (nI S), .int (nI p), .long c, .int (nI lf)] h n (z_q0 (fun h' n' => z_de G t tc ec S (z_dd w R S 0 S p c lf (b, Lm, C)) h h')) := by
  refine z_start zk_X21_decide zpl_RX21 (Nat.le_of_ble_eq_true rfl) ?_
  intro hn0 M hl hG ho hb hN hr hm hH hrm hQ
  subst hl hG
  have ho : zm_o M = RX21 := ho
  show z_V M h n 0 0 0 [(0, .ref t), (1, .int (nI S)), (2, .int (nI p)), (3, .long c), (5, .int (nI lf))] []
  refine z_dom (fun hD0 => ?_)
  refine z_lload_n hb dX21_decide_0 rfl ?_
  refine z_aload_n hb dX21_decide_1 rfl ?_
  refine z_get (k := 3) (C := RX21) (T := TX21) (N := 4) hb ho zc17 in_X21 (zf_RX21_37 _) dX21_decide_2 hD (by decide) rfl ?_
  refine z_lif_lt (tgt := 26) hb dX21_decide_5 dX21_decide_6 (by decide) (fun c_6 => ?_) (fun c_6 => ?_)
  · refine z_iconst (x := nI 1) hb dX21_decide_26 (by decide) ?_
    refine z_goto (tgt := 31) hb dX21_decide_27 (by decide) ?_
    refine z_istore (lv' := [(6, .int (nI 1)), (0, .ref t), (1, .int (nI S)), (2, .int (nI p)), (3, .long c), (5, .int (nI lf))]) hb dX21_decide_31 (by rw [hN]; decide) rfl ?_
    refine z_iload_n hb dX21_decide_33 rfl ?_
    refine z_aload_n hb dX21_decide_34 rfl ?_
    refine z_get (k := 1) (C := RX21) (T := TX21) (N := 4) hb ho zc17 in_X21 (zf_RX21_30 _) dX21_decide_35 hD (by decide) rfl ?_
    refine z_icmp_neN (tgt := 56) hb dX21_decide_38 (by decide) (by omega) (by omega) (fun c_38 => ?_) (fun c_38 => ?_)
    · exact absurd rfl c_38
    · refine z_iload hb dX21_decide_41 rfl ?_
      refine z_if_eqN (tgt := 56) hb dX21_decide_43 (by decide) (by omega) (fun c_43 => ?_) (fun c_43 => ?_)
      · exact absurd c_43 (by omega)
      · refine z_aload_n hb dX21_decide_46 rfl ?_
        refine z_iload_n hb dX21_decide_47 rfl ?_
        refine z_put (k := 2) (C := RX21) (T := TX21) (N := 4) hb ho zc17 in_X21 tyX21_ok nmX21 (zf_RX21_41 _) dX21_decide_48 hD ht0 (by decide) (Or.inl rfl) rfl rfl rfl (Nat.le_of_ble_eq_true rfl) ?_
        refine z_hn (fun h_1 eh_1 => ?_)
        have eh_1 : h_1 = z_up h t (.inr (17, [.ref tc, .int (nI S), .int (nI p), .long Lm])) := eh_1
        have k_2 : h_1 tc = some (.inr (16, [.ref ls, .int (nI R), .ref ec])) := z_nx eh_1 (z_neO htc hD rfl) htc
        have k_3 : h_1 ec = some (.inl ((zm_G M).2.1 1, 8, .inr (.inl C))) := z_nx eh_1 (z_neA' hec hD) hec
        refine z_aload_n hb dX21_decide_51 rfl ?_
        refine z_lload_n hb dX21_decide_52 rfl ?_
        refine z_put (k := 3) (C := RX21) (T := TX21) (N := 4) hb ho zc17 in_X21 tyX21_ok nmX21 (zf_RX21_37 _) dX21_decide_53 (z_nxs eh_1) ht0 (by decide) (Or.inl rfl) rfl rfl rfl (Nat.le_of_ble_eq_true rfl) ?_
        refine z_hn (fun h_4 eh_4 => ?_)
        have eh_4 : h_4 = z_up h_1 t (.inr (17, [.ref tc, .int (nI S), .int (nI p), .long c])) := eh_4
        have k_5 : h_4 tc = some (.inr (16, [.ref ls, .int (nI R), .ref ec])) := z_nx eh_4 (z_neO k_2 (z_nxs eh_1) rfl) k_2
        have k_6 : h_4 ec = some (.inl ((zm_G M).2.1 1, 8, .inr (.inl C))) := z_nx eh_4 (z_neA' k_3 (z_nxs eh_1)) k_3
        refine z_lload_n hb dX21_decide_56 rfl ?_
        refine z_aload_n hb dX21_decide_57 rfl ?_
        refine z_get (k := 1) (C := RX21) (T := TX21) (N := 4) hb ho zc17 in_X21 (zf_RX21_30 _) dX21_decide_58 (z_nxs eh_4) (by decide) rfl ?_
        refine z_i2l (v := (nI S).toInt64) hb dX21_decide_61 rfl ?_
        refine z_ladd hb dX21_decide_62 ?_
        refine z_iload_n hb dX21_decide_63 rfl ?_
        refine z_i2l (v := (nI S).toInt64) hb dX21_decide_64 rfl ?_
        refine z_lsub hb dX21_decide_65 ?_
        refine z_aload_n hb dX21_decide_66 rfl ?_
        refine z_get (k := 3) (C := RX21) (T := TX21) (N := 4) hb ho zc17 in_X21 (zf_RX21_37 _) dX21_decide_67 (z_nxs eh_4) (by decide) rfl ?_
        refine z_lif_gt (tgt := 78) hb dX21_decide_70 dX21_decide_71 (by decide) (fun c_71 => ?_) (fun c_71 => ?_)
        · refine z_iconst (x := nI 0) hb dX21_decide_78 (by decide) ?_
          refine z_istore (lv' := [(7, .int (nI 0)), (6, .int (nI 1)), (0, .ref t), (1, .int (nI S)), (2, .int (nI p)), (3, .long c), (5, .int (nI lf))]) hb dX21_decide_79 (by rw [hN]; decide) rfl ?_
          refine z_iload_n hb dX21_decide_81 rfl ?_
          refine z_aload_n hb dX21_decide_82 rfl ?_
          refine z_get (k := 1) (C := RX21) (T := TX21) (N := 4) hb ho zc17 in_X21 (zf_RX21_30 _) dX21_decide_83 (z_nxs eh_4) (by decide) rfl ?_
          refine z_icmp_geN (tgt := 147) hb dX21_decide_86 (by decide) (by omega) (by omega) (fun c_86 => ?_) (fun c_86 => ?_)
          · refine z_vret hb hr dX21_decide_147 ?_
            rw [hQ]
            have hne : t ≠ ec := z_neA hD hec
            have e9 : z_dd w R S 0 S p c lf (b, Lm, C) = (p, c, C) := by rw [z_dd, if_pos (Or.inl c_6)]
            rw [e9]
            exact ⟨rfl, (by rw [eh_4, eh_1, z_up_up]; exact (z_up_self (by rw [z_up_n (Ne.symm hne)]; exact hec)).symm), hp2⟩
          · exact absurd c_86 (Nat.lt_irrefl _)
        · refine z_iconst (x := nI 1) hb dX21_decide_74 (by decide) ?_
          refine z_goto (tgt := 79) hb dX21_decide_75 (by decide) ?_
          refine z_istore (lv' := [(7, .int (nI 1)), (6, .int (nI 1)), (0, .ref t), (1, .int (nI S)), (2, .int (nI p)), (3, .long c), (5, .int (nI lf))]) hb dX21_decide_79 (by rw [hN]; decide) rfl ?_
          refine z_iload_n hb dX21_decide_81 rfl ?_
          refine z_aload_n hb dX21_decide_82 rfl ?_
          refine z_get (k := 1) (C := RX21) (T := TX21) (N := 4) hb ho zc17 in_X21 (zf_RX21_30 _) dX21_decide_83 (z_nxs eh_4) (by decide) rfl ?_
          refine z_icmp_geN (tgt := 147) hb dX21_decide_86 (by decide) (by omega) (by omega) (fun c_86 => ?_) (fun c_86 => ?_)
          · refine z_vret hb hr dX21_decide_147 ?_
            rw [hQ]
            have hne : t ≠ ec := z_neA hD hec
            have e9 : z_dd w R S 0 S p c lf (b, Lm, C) = (p, c, C) := by rw [z_dd, if_pos (Or.inl c_6)]
            rw [e9]
            exact ⟨rfl, (by rw [eh_4, eh_1, z_up_up]; exact (z_up_self (by rw [z_up_n (Ne.symm hne)]; exact hec)).symm), hp2⟩
          · exact absurd c_86 (Nat.lt_irrefl _)
  · refine z_lload_n hb dX21_decide_9 rfl ?_
    refine z_aload_n hb dX21_decide_10 rfl ?_
    refine z_get (k := 3) (C := RX21) (T := TX21) (N := 4) hb ho zc17 in_X21 (zf_RX21_37 _) dX21_decide_11 hD (by decide) rfl ?_
    refine z_lif_ne (tgt := 30) hb dX21_decide_14 dX21_decide_15 (by decide) (fun c_15 => ?_) (fun c_15 => ?_)
    · refine z_iconst (x := nI 0) hb dX21_decide_30 (by decide) ?_
      refine z_istore (lv' := [(6, .int (nI 0)), (0, .ref t), (1, .int (nI S)), (2, .int (nI p)), (3, .long c), (5, .int (nI lf))]) hb dX21_decide_31 (by rw [hN]; decide) rfl ?_
      refine z_iload_n hb dX21_decide_33 rfl ?_
      refine z_aload_n hb dX21_decide_34 rfl ?_
      refine z_get (k := 1) (C := RX21) (T := TX21) (N := 4) hb ho zc17 in_X21 (zf_RX21_30 _) dX21_decide_35 hD (by decide) rfl ?_
      refine z_icmp_neN (tgt := 56) hb dX21_decide_38 (by decide) (by omega) (by omega) (fun c_38 => ?_) (fun c_38 => ?_)
      · exact absurd rfl c_38
      · refine z_iload hb dX21_decide_41 rfl ?_
        refine z_if_eqN (tgt := 56) hb dX21_decide_43 (by decide) (by omega) (fun c_43 => ?_) (fun c_43 => ?_)
        · refine z_lload_n hb dX21_decide_56 rfl ?_
          refine z_aload_n hb dX21_decide_57 rfl ?_
          refine z_get (k := 1) (C := RX21) (T := TX21) (N := 4) hb ho zc17 in_X21 (zf_RX21_30 _) dX21_decide_58 hD (by decide) rfl ?_
          refine z_i2l (v := (nI S).toInt64) hb dX21_decide_61 rfl ?_
          refine z_ladd hb dX21_decide_62 ?_
          refine z_iload_n hb dX21_decide_63 rfl ?_
          refine z_i2l (v := (nI S).toInt64) hb dX21_decide_64 rfl ?_
          refine z_lsub hb dX21_decide_65 ?_
          refine z_aload_n hb dX21_decide_66 rfl ?_
          refine z_get (k := 3) (C := RX21) (T := TX21) (N := 4) hb ho zc17 in_X21 (zf_RX21_37 _) dX21_decide_67 hD (by decide) rfl ?_
          refine z_lif_gt (tgt := 78) hb dX21_decide_70 dX21_decide_71 (by decide) (fun c_71 => ?_) (fun c_71 => ?_)
          · refine z_iconst (x := nI 0) hb dX21_decide_78 (by decide) ?_
            refine z_istore (lv' := [(7, .int (nI 0)), (6, .int (nI 0)), (0, .ref t), (1, .int (nI S)), (2, .int (nI p)), (3, .long c), (5, .int (nI lf))]) hb dX21_decide_79 (by rw [hN]; decide) rfl ?_
            refine z_iload_n hb dX21_decide_81 rfl ?_
            refine z_aload_n hb dX21_decide_82 rfl ?_
            refine z_get (k := 1) (C := RX21) (T := TX21) (N := 4) hb ho zc17 in_X21 (zf_RX21_30 _) dX21_decide_83 hD (by decide) rfl ?_
            refine z_icmp_geN (tgt := 147) hb dX21_decide_86 (by decide) (by omega) (by omega) (fun c_86 => ?_) (fun c_86 => ?_)
            · refine z_vret hb hr dX21_decide_147 ?_
              rw [hQ]
              have e9 : z_dd w R S 0 S p c lf (b, Lm, C) = (b, Lm, C) := by rw [z_dd, if_neg (fun z => z.elim c_6 (fun z => c_15 z.1))]
              rw [e9]
              exact ⟨rfl, (by rw [z_up_self hD]; exact (z_up_self hec).symm), hb2⟩
            · exact absurd c_86 (Nat.lt_irrefl _)
          · refine z_iconst (x := nI 1) hb dX21_decide_74 (by decide) ?_
            refine z_goto (tgt := 79) hb dX21_decide_75 (by decide) ?_
            refine z_istore (lv' := [(7, .int (nI 1)), (6, .int (nI 0)), (0, .ref t), (1, .int (nI S)), (2, .int (nI p)), (3, .long c), (5, .int (nI lf))]) hb dX21_decide_79 (by rw [hN]; decide) rfl ?_
            refine z_iload_n hb dX21_decide_81 rfl ?_
            refine z_aload_n hb dX21_decide_82 rfl ?_
            refine z_get (k := 1) (C := RX21) (T := TX21) (N := 4) hb ho zc17 in_X21 (zf_RX21_30 _) dX21_decide_83 hD (by decide) rfl ?_
            refine z_icmp_geN (tgt := 147) hb dX21_decide_86 (by decide) (by omega) (by omega) (fun c_86 => ?_) (fun c_86 => ?_)
            · refine z_vret hb hr dX21_decide_147 ?_
              rw [hQ]
              have e9 : z_dd w R S 0 S p c lf (b, Lm, C) = (b, Lm, C) := by rw [z_dd, if_neg (fun z => z.elim c_6 (fun z => c_15 z.1))]
              rw [e9]
              exact ⟨rfl, (by rw [z_up_self hD]; exact (z_up_self hec).symm), hb2⟩
            · exact absurd c_86 (Nat.lt_irrefl _)
        · exact absurd c_43 (by omega)
    · refine z_iload_n hb dX21_decide_18 rfl ?_
      refine z_aload_n hb dX21_decide_19 rfl ?_
      refine z_get (k := 2) (C := RX21) (T := TX21) (N := 4) hb ho zc17 in_X21 (zf_RX21_41 _) dX21_decide_20 hD (by decide) rfl ?_
      refine z_icmp_geN (tgt := 30) hb dX21_decide_23 (by decide) (by omega) (by omega) (fun c_23 => ?_) (fun c_23 => ?_)
      · refine z_iconst (x := nI 0) hb dX21_decide_30 (by decide) ?_
        refine z_istore (lv' := [(6, .int (nI 0)), (0, .ref t), (1, .int (nI S)), (2, .int (nI p)), (3, .long c), (5, .int (nI lf))]) hb dX21_decide_31 (by rw [hN]; decide) rfl ?_
        refine z_iload_n hb dX21_decide_33 rfl ?_
        refine z_aload_n hb dX21_decide_34 rfl ?_
        refine z_get (k := 1) (C := RX21) (T := TX21) (N := 4) hb ho zc17 in_X21 (zf_RX21_30 _) dX21_decide_35 hD (by decide) rfl ?_
        refine z_icmp_neN (tgt := 56) hb dX21_decide_38 (by decide) (by omega) (by omega) (fun c_38 => ?_) (fun c_38 => ?_)
        · exact absurd rfl c_38
        · refine z_iload hb dX21_decide_41 rfl ?_
          refine z_if_eqN (tgt := 56) hb dX21_decide_43 (by decide) (by omega) (fun c_43 => ?_) (fun c_43 => ?_)
          · refine z_lload_n hb dX21_decide_56 rfl ?_
            refine z_aload_n hb dX21_decide_57 rfl ?_
            refine z_get (k := 1) (C := RX21) (T := TX21) (N := 4) hb ho zc17 in_X21 (zf_RX21_30 _) dX21_decide_58 hD (by decide) rfl ?_
            refine z_i2l (v := (nI S).toInt64) hb dX21_decide_61 rfl ?_
            refine z_ladd hb dX21_decide_62 ?_
            refine z_iload_n hb dX21_decide_63 rfl ?_
            refine z_i2l (v := (nI S).toInt64) hb dX21_decide_64 rfl ?_
            refine z_lsub hb dX21_decide_65 ?_
            refine z_aload_n hb dX21_decide_66 rfl ?_
            refine z_get (k := 3) (C := RX21) (T := TX21) (N := 4) hb ho zc17 in_X21 (zf_RX21_37 _) dX21_decide_67 hD (by decide) rfl ?_
            refine z_lif_gt (tgt := 78) hb dX21_decide_70 dX21_decide_71 (by decide) (fun c_71 => ?_) (fun c_71 => ?_)
            · refine z_iconst (x := nI 0) hb dX21_decide_78 (by decide) ?_
              refine z_istore (lv' := [(7, .int (nI 0)), (6, .int (nI 0)), (0, .ref t), (1, .int (nI S)), (2, .int (nI p)), (3, .long c), (5, .int (nI lf))]) hb dX21_decide_79 (by rw [hN]; decide) rfl ?_
              refine z_iload_n hb dX21_decide_81 rfl ?_
              refine z_aload_n hb dX21_decide_82 rfl ?_
              refine z_get (k := 1) (C := RX21) (T := TX21) (N := 4) hb ho zc17 in_X21 (zf_RX21_30 _) dX21_decide_83 hD (by decide) rfl ?_
              refine z_icmp_geN (tgt := 147) hb dX21_decide_86 (by decide) (by omega) (by omega) (fun c_86 => ?_) (fun c_86 => ?_)
              · refine z_vret hb hr dX21_decide_147 ?_
                rw [hQ]
                have e9 : z_dd w R S 0 S p c lf (b, Lm, C) = (b, Lm, C) := by rw [z_dd, if_neg (fun z => z.elim c_6 (fun z => absurd z.2 (Nat.not_lt.mpr c_23)))]
                rw [e9]
                exact ⟨rfl, (by rw [z_up_self hD]; exact (z_up_self hec).symm), hb2⟩
              · exact absurd c_86 (Nat.lt_irrefl _)
            · refine z_iconst (x := nI 1) hb dX21_decide_74 (by decide) ?_
              refine z_goto (tgt := 79) hb dX21_decide_75 (by decide) ?_
              refine z_istore (lv' := [(7, .int (nI 1)), (6, .int (nI 0)), (0, .ref t), (1, .int (nI S)), (2, .int (nI p)), (3, .long c), (5, .int (nI lf))]) hb dX21_decide_79 (by rw [hN]; decide) rfl ?_
              refine z_iload_n hb dX21_decide_81 rfl ?_
              refine z_aload_n hb dX21_decide_82 rfl ?_
              refine z_get (k := 1) (C := RX21) (T := TX21) (N := 4) hb ho zc17 in_X21 (zf_RX21_30 _) dX21_decide_83 hD (by decide) rfl ?_
              refine z_icmp_geN (tgt := 147) hb dX21_decide_86 (by decide) (by omega) (by omega) (fun c_86 => ?_) (fun c_86 => ?_)
              · refine z_vret hb hr dX21_decide_147 ?_
                rw [hQ]
                have e9 : z_dd w R S 0 S p c lf (b, Lm, C) = (b, Lm, C) := by rw [z_dd, if_neg (fun z => z.elim c_6 (fun z => absurd z.2 (Nat.not_lt.mpr c_23)))]
                rw [e9]
                exact ⟨rfl, (by rw [z_up_self hD]; exact (z_up_self hec).symm), hb2⟩
              · exact absurd c_86 (Nat.lt_irrefl _)
          · exact absurd c_43 (by omega)
      · refine z_iconst (x := nI 1) hb dX21_decide_26 (by decide) ?_
        refine z_goto (tgt := 31) hb dX21_decide_27 (by decide) ?_
        refine z_istore (lv' := [(6, .int (nI 1)), (0, .ref t), (1, .int (nI S)), (2, .int (nI p)), (3, .long c), (5, .int (nI lf))]) hb dX21_decide_31 (by rw [hN]; decide) rfl ?_
        refine z_iload_n hb dX21_decide_33 rfl ?_
        refine z_aload_n hb dX21_decide_34 rfl ?_
        refine z_get (k := 1) (C := RX21) (T := TX21) (N := 4) hb ho zc17 in_X21 (zf_RX21_30 _) dX21_decide_35 hD (by decide) rfl ?_
        refine z_icmp_neN (tgt := 56) hb dX21_decide_38 (by decide) (by omega) (by omega) (fun c_38 => ?_) (fun c_38 => ?_)
        · exact absurd rfl c_38
        · refine z_iload hb dX21_decide_41 rfl ?_
          refine z_if_eqN (tgt := 56) hb dX21_decide_43 (by decide) (by omega) (fun c_43 => ?_) (fun c_43 => ?_)
          · exact absurd c_43 (by omega)
          · refine z_aload_n hb dX21_decide_46 rfl ?_
            refine z_iload_n hb dX21_decide_47 rfl ?_
            refine z_put (k := 2) (C := RX21) (T := TX21) (N := 4) hb ho zc17 in_X21 tyX21_ok nmX21 (zf_RX21_41 _) dX21_decide_48 hD ht0 (by decide) (Or.inl rfl) rfl rfl rfl (Nat.le_of_ble_eq_true rfl) ?_
            refine z_hn (fun h_7 eh_7 => ?_)
            have eh_7 : h_7 = z_up h t (.inr (17, [.ref tc, .int (nI S), .int (nI p), .long Lm])) := eh_7
            have k_8 : h_7 tc = some (.inr (16, [.ref ls, .int (nI R), .ref ec])) := z_nx eh_7 (z_neO htc hD rfl) htc
            have k_9 : h_7 ec = some (.inl ((zm_G M).2.1 1, 8, .inr (.inl C))) := z_nx eh_7 (z_neA' hec hD) hec
            refine z_aload_n hb dX21_decide_51 rfl ?_
            refine z_lload_n hb dX21_decide_52 rfl ?_
            refine z_put (k := 3) (C := RX21) (T := TX21) (N := 4) hb ho zc17 in_X21 tyX21_ok nmX21 (zf_RX21_37 _) dX21_decide_53 (z_nxs eh_7) ht0 (by decide) (Or.inl rfl) rfl rfl rfl (Nat.le_of_ble_eq_true rfl) ?_
            refine z_hn (fun h_10 eh_10 => ?_)
            have eh_10 : h_10 = z_up h_7 t (.inr (17, [.ref tc, .int (nI S), .int (nI p), .long c])) := eh_10
            have k_11 : h_10 tc = some (.inr (16, [.ref ls, .int (nI R), .ref ec])) := z_nx eh_10 (z_neO k_8 (z_nxs eh_7) rfl) k_8
            have k_12 : h_10 ec = some (.inl ((zm_G M).2.1 1, 8, .inr (.inl C))) := z_nx eh_10 (z_neA' k_9 (z_nxs eh_7)) k_9
            refine z_lload_n hb dX21_decide_56 rfl ?_
            refine z_aload_n hb dX21_decide_57 rfl ?_
            refine z_get (k := 1) (C := RX21) (T := TX21) (N := 4) hb ho zc17 in_X21 (zf_RX21_30 _) dX21_decide_58 (z_nxs eh_10) (by decide) rfl ?_
            refine z_i2l (v := (nI S).toInt64) hb dX21_decide_61 rfl ?_
            refine z_ladd hb dX21_decide_62 ?_
            refine z_iload_n hb dX21_decide_63 rfl ?_
            refine z_i2l (v := (nI S).toInt64) hb dX21_decide_64 rfl ?_
            refine z_lsub hb dX21_decide_65 ?_
            refine z_aload_n hb dX21_decide_66 rfl ?_
            refine z_get (k := 3) (C := RX21) (T := TX21) (N := 4) hb ho zc17 in_X21 (zf_RX21_37 _) dX21_decide_67 (z_nxs eh_10) (by decide) rfl ?_
            refine z_lif_gt (tgt := 78) hb dX21_decide_70 dX21_decide_71 (by decide) (fun c_71 => ?_) (fun c_71 => ?_)
            · refine z_iconst (x := nI 0) hb dX21_decide_78 (by decide) ?_
              refine z_istore (lv' := [(7, .int (nI 0)), (6, .int (nI 1)), (0, .ref t), (1, .int (nI S)), (2, .int (nI p)), (3, .long c), (5, .int (nI lf))]) hb dX21_decide_79 (by rw [hN]; decide) rfl ?_
              refine z_iload_n hb dX21_decide_81 rfl ?_
              refine z_aload_n hb dX21_decide_82 rfl ?_
              refine z_get (k := 1) (C := RX21) (T := TX21) (N := 4) hb ho zc17 in_X21 (zf_RX21_30 _) dX21_decide_83 (z_nxs eh_10) (by decide) rfl ?_
              refine z_icmp_geN (tgt := 147) hb dX21_decide_86 (by decide) (by omega) (by omega) (fun c_86 => ?_) (fun c_86 => ?_)
              · refine z_vret hb hr dX21_decide_147 ?_
                rw [hQ]
                have hne : t ≠ ec := z_neA hD hec
                have e9 : z_dd w R S 0 S p c lf (b, Lm, C) = (p, c, C) := by rw [z_dd, if_pos (Or.inr ⟨c_15, c_23⟩)]
                rw [e9]
                exact ⟨rfl, (by rw [eh_10, eh_7, z_up_up]; exact (z_up_self (by rw [z_up_n (Ne.symm hne)]; exact hec)).symm), hp2⟩
              · exact absurd c_86 (Nat.lt_irrefl _)
            · refine z_iconst (x := nI 1) hb dX21_decide_74 (by decide) ?_
              refine z_goto (tgt := 79) hb dX21_decide_75 (by decide) ?_
              refine z_istore (lv' := [(7, .int (nI 1)), (6, .int (nI 1)), (0, .ref t), (1, .int (nI S)), (2, .int (nI p)), (3, .long c), (5, .int (nI lf))]) hb dX21_decide_79 (by rw [hN]; decide) rfl ?_
              refine z_iload_n hb dX21_decide_81 rfl ?_
              refine z_aload_n hb dX21_decide_82 rfl ?_
              refine z_get (k := 1) (C := RX21) (T := TX21) (N := 4) hb ho zc17 in_X21 (zf_RX21_30 _) dX21_decide_83 (z_nxs eh_10) (by decide) rfl ?_
              refine z_icmp_geN (tgt := 147) hb dX21_decide_86 (by decide) (by omega) (by omega) (fun c_86 => ?_) (fun c_86 => ?_)
              · refine z_vret hb hr dX21_decide_147 ?_
                rw [hQ]
                have hne : t ≠ ec := z_neA hD hec
                have e9 : z_dd w R S 0 S p c lf (b, Lm, C) = (p, c, C) := by rw [z_dd, if_pos (Or.inr ⟨c_15, c_23⟩)]
                rw [e9]
                exact ⟨rfl, (by rw [eh_10, eh_7, z_up_up]; exact (z_up_self (by rw [z_up_n (Ne.symm hne)]; exact hec)).symm), hp2⟩
              · exact absurd c_86 (Nat.lt_irrefl _)

set_option maxHeartbeats 1000000 in
theorem m_X21_decide_s {l : Launch} {G : zG} {h : zH} {n : Nat} {w : Nat → Int32} {v : Nat → Int64} {R S D a lr ls lv : Nat} {ra sa va : Nat → Nat} {t tc ec b : Nat} {C : Nat → Int64} {Lm : Int64} {m s p lf : Nat} {c : Int64} (hL : z_Ln G h w v R S D a lr ls lv ra sa va) (hS8 : S ≤ 8) (hR4 : R ≤ 40) (hD : h t = some (z_Dc tc S b Lm)) (htc : h tc = some (.inr (16, [.ref ls, .int (nI R), .ref ec]))) (hec : h ec = some (z_al G 8 C)) (hb2 : b < 256) (hp2 : p < 2 ^ s) (hlf : lf ≤ 8) (hsS : s < S) (ht0 : z_n0 G ≤ t) (he0 : z_n0 G ≤ ec) (IH : ∀ (h2 : zH), z_kq h h2 → ∀ (n2 b2 p2 lf2 : Nat) (L2 c2 : Int64) (C2 : Nat → Int64), h2 t = some (z_Dc tc S b2 L2) → h2 tc = some (.inr (16, [.ref ls, .int (nI R), .ref ec])) → h2 ec = some (z_al G 8 C2) → b2 < 256 → p2 < 2 ^ (s + 1) → lf2 ≤ 8 → z_C l G yX21_decide (8 + m) 0 0 [.ref t, .int (nI (s + 1)), .int (nI p2), .long c2, .int (nI lf2)] h2 n2 (z_q0 (fun h' n' => z_de G t tc ec S (z_dd w R S m (s + 1) p2 c2 lf2 (b2, L2, C2)) h2 h'))) : z_C l G yX21_decide (9 + m) 0 0 [.ref t, .int (nI s), .int (nI p), .long c, .int (nI lf)] h n (z_q0 (fun h' n' => z_de G t tc ec S (z_dd w R S (m + 1) s p c lf (b, Lm, C)) h h')) := by
  refine z_start zk_X21_decide zpl_RX21 (Nat.le_of_ble_eq_true rfl) ?_
  intro hn0 M hl hG ho hb hN hr hm hH hrm hQ
  subst hl hG
  have ho : zm_o M = RX21 := ho
  have hne : t ≠ ec := z_neA hD hec
  have hnc : tc ≠ ec := z_neA htc hec
  have hnt : tc ≠ t := z_neO htc hD (by decide)
  have hplb := z_plb (show s < 8 by omega) hp2
  show z_V M h n 0 0 0 [(0, .ref t), (1, .int (nI s)), (2, .int (nI p)), (3, .long c), (5, .int (nI lf))] []
  refine z_dom (fun hD0 => ?_)
  have J_33 : z_V M h n 0 0 33 [(0, .ref t), (1, .int (nI s)), (2, .int (nI p)), (3, .long c), (5, .int (nI lf))] [] := by
    refine z_iload_n hb dX21_decide_33 rfl ?_
    refine z_aload_n hb dX21_decide_34 rfl ?_
    refine z_get (k := 1) (C := RX21) (T := TX21) (N := 4) hb ho zc17 in_X21 (zf_RX21_30 _) dX21_decide_35 hD (by decide) rfl ?_
    refine z_icmp_neN (tgt := 56) hb dX21_decide_38 (by decide) (by omega) (by omega) (fun c_38 => ?_) (fun c_38 => ?_)
    · refine z_lload_n hb dX21_decide_56 rfl ?_
      refine z_aload_n hb dX21_decide_57 rfl ?_
      refine z_get (k := 1) (C := RX21) (T := TX21) (N := 4) hb ho zc17 in_X21 (zf_RX21_30 _) dX21_decide_58 hD (by decide) rfl ?_
      refine z_i2l (v := (nI S).toInt64) hb dX21_decide_61 rfl ?_
      refine z_ladd hb dX21_decide_62 ?_
      refine z_iload_n hb dX21_decide_63 rfl ?_
      refine z_i2l (v := (nI s).toInt64) hb dX21_decide_64 rfl ?_
      refine z_lsub hb dX21_decide_65 ?_
      refine z_aload_n hb dX21_decide_66 rfl ?_
      refine z_get (k := 3) (C := RX21) (T := TX21) (N := 4) hb ho zc17 in_X21 (zf_RX21_37 _) dX21_decide_67 hD (by decide) rfl ?_
      refine z_lif_gt (tgt := 78) hb dX21_decide_70 dX21_decide_71 (by decide) (fun c_71 => ?_) (fun c_71 => ?_)
      · refine z_iconst (x := nI 0) hb dX21_decide_78 (by decide) ?_
        refine z_istore (lv' := [(7, .int (nI 0)), (0, .ref t), (1, .int (nI s)), (2, .int (nI p)), (3, .long c), (5, .int (nI lf))]) hb dX21_decide_79 (by rw [hN]; decide) rfl ?_
        refine z_iload_n hb dX21_decide_81 rfl ?_
        refine z_aload_n hb dX21_decide_82 rfl ?_
        refine z_get (k := 1) (C := RX21) (T := TX21) (N := 4) hb ho zc17 in_X21 (zf_RX21_30 _) dX21_decide_83 hD (by decide) rfl ?_
        refine z_icmp_geN (tgt := 147) hb dX21_decide_86 (by decide) (by omega) (by omega) (fun c_86 => ?_) (fun c_86 => ?_)
        · exact absurd c_86 (by omega)
        · refine z_iload hb dX21_decide_89 rfl ?_
          refine z_if_eqN (tgt := 147) hb dX21_decide_91 (by decide) (by omega) (fun c_91 => ?_) (fun c_91 => ?_)
          · refine z_vret hb hr dX21_decide_147 ?_
            rw [hQ]
            rw [z_dd_x c_71]
            exact ⟨rfl, (by rw [z_up_self hD]; exact (z_up_self hec).symm), hb2⟩
          · exact absurd c_91 (by omega)
      · refine z_iconst (x := nI 1) hb dX21_decide_74 (by decide) ?_
        refine z_goto (tgt := 79) hb dX21_decide_75 (by decide) ?_
        refine z_istore (lv' := [(7, .int (nI 1)), (0, .ref t), (1, .int (nI s)), (2, .int (nI p)), (3, .long c), (5, .int (nI lf))]) hb dX21_decide_79 (by rw [hN]; decide) rfl ?_
        refine z_iload_n hb dX21_decide_81 rfl ?_
        refine z_aload_n hb dX21_decide_82 rfl ?_
        refine z_get (k := 1) (C := RX21) (T := TX21) (N := 4) hb ho zc17 in_X21 (zf_RX21_30 _) dX21_decide_83 hD (by decide) rfl ?_
        refine z_icmp_geN (tgt := 147) hb dX21_decide_86 (by decide) (by omega) (by omega) (fun c_86 => ?_) (fun c_86 => ?_)
        · exact absurd c_86 (by omega)
        · refine z_iload hb dX21_decide_89 rfl ?_
          refine z_if_eqN (tgt := 147) hb dX21_decide_91 (by decide) (by omega) (fun c_91 => ?_) (fun c_91 => ?_)
          · exact absurd c_91 (by omega)
          · refine z_aload_n hb dX21_decide_94 rfl ?_
            refine z_iload_n hb dX21_decide_95 rfl ?_
            refine z_iconst (x := nI 1) hb dX21_decide_96 (by decide) ?_
            refine z_iadd hb dX21_decide_97 ?_
            refine z_toI (y := nI (s + 1)) (nI_add s 1) ?_
            refine z_iload_n hb dX21_decide_98 rfl ?_
            refine z_lload_n hb dX21_decide_99 rfl ?_
            refine z_aload_n hb dX21_decide_100 rfl ?_
            refine z_get (k := 0) (C := RX21) (T := TX21) (N := 4) hb ho zc17 in_X21 (zf_RX21_12 _) dX21_decide_101 hD (by decide) rfl ?_
            refine z_iload_n hb dX21_decide_104 rfl ?_
            refine z_iconst (x := nI 0) hb dX21_decide_105 (by decide) ?_
            refine z_callQ1 (b' := 0) (f' := 0) (rest := [.long c, .int (nI p), .int (nI (s + 1)), .ref t]) (av := [.ref tc, .int (nI s), .int (nI 0)]) (z_siteV hb ho zc16 htc q2160 q2072 q2073 ⟨_, _, _, _, zk_X20_find⟩ zy_X20_find zl_X20_find dX21_decide_106 : z_Site M _ _ _ _ _ ([.int (nI s), .int (nI 0)].reverse ++ .ref tc :: [.long c, .int (nI p), .int (nI (s + 1)), .ref t]) [.long c, .int (nI p), .int (nI (s + 1)), .ref t] _) zk_X20_find q143 hrm (m_X20_find_0 (hL.kq z_kqr) hS8 hR4 htc hec hsS he0) (by omega) (by decide) (Nat.le_of_ble_eq_true rfl) (by omega) (by omega) (fun rhq_1 h_2 n_3 hq_1 hn_3 => ?_)
            obtain ⟨rfl, hq_1⟩ := hq_1
            refine z_ladd hb dX21_decide_109 ?_
            refine z_iload hb dX21_decide_110 rfl ?_
            refine z_callQ0 (b' := 0) (f' := 0) (rest := []) (av := [.ref t, .int (nI (s + 1)), .int (nI p), .long (c + (z_cw w R s C)), .int (nI lf)]) (z_siteV hb ho zc17 (z_nx hq_1 hne hD) q2161 q2157 q2158 ⟨_, _, _, _, zk_X21_decide⟩ zy_X21_decide zl_X21_decide dX21_decide_112 : z_Site M _ _ _ _ _ ([.int (nI (s + 1)), .int (nI p), .long (c + (z_cw w R s C)), .int (nI lf)].reverse ++ .ref t :: []) [] _) zk_X21_decide q144 hrm (IH _ (z_kqr.t (z_kq8 hec hq_1)) _ _ _ _ _ _ _ (z_nx hq_1 hne hD) (z_nx hq_1 hnc htc) (z_nxs hq_1) hb2 hplb.2.2.2 (by omega)) (by omega) (by decide) (Nat.le_of_ble_eq_true rfl) (by omega) (by omega) (fun h_5 n_6 hq_4 hn_6 => ?_)
            refine z_iload hb dX21_decide_115 rfl ?_
            refine z_if_leN (tgt := 147) hb dX21_decide_117 (by decide) (by omega) (fun c_117 => ?_) (fun c_117 => ?_)
            · refine z_vret hb hr dX21_decide_147 ?_
              rw [hQ]
              rw [z_dd_z c_117 c_71]
              exact ⟨rfl, z_de_c hne hq_1 hq_4.1, hq_4.2⟩
            · refine z_aload_n hb dX21_decide_120 rfl ?_
              refine z_iload_n hb dX21_decide_121 rfl ?_
              refine z_iconst (x := nI 1) hb dX21_decide_122 (by decide) ?_
              refine z_iadd hb dX21_decide_123 ?_
              refine z_toI (y := nI (s + 1)) (nI_add s 1) ?_
              refine z_iload_n hb dX21_decide_124 rfl ?_
              refine z_iconst (x := nI 1) hb dX21_decide_125 (by decide) ?_
              refine z_iload_n hb dX21_decide_126 rfl ?_
              refine z_ishl hb dX21_decide_127 ?_
              refine z_ior hb dX21_decide_128 ?_
              refine z_toI (y := nI (p + 2 ^ s)) hplb.1 ?_
              refine z_lload_n hb dX21_decide_129 rfl ?_
              refine z_aload_n hb dX21_decide_130 rfl ?_
              refine z_get (k := 0) (C := RX21) (T := TX21) (N := 4) hb ho zc17 in_X21 (zf_RX21_12 _) dX21_decide_131 (z_deT hq_4 hne) (by decide) rfl ?_
              refine z_iload_n hb dX21_decide_134 rfl ?_
              refine z_iconst (x := nI 1) hb dX21_decide_135 (by decide) ?_
              refine z_callQ1 (b' := 0) (f' := 0) (rest := [.long c, .int (nI (p + 2 ^ s)), .int (nI (s + 1)), .ref t]) (av := [.ref tc, .int (nI s), .int (nI 1)]) (z_siteV hb ho zc16 (z_deO hq_4 (z_nx hq_1 hnc htc) hnt hnc) q2160 q2072 q2073 ⟨_, _, _, _, zk_X20_find⟩ zy_X20_find zl_X20_find dX21_decide_136 : z_Site M _ _ _ _ _ ([.int (nI s), .int (nI 1)].reverse ++ .ref tc :: [.long c, .int (nI (p + 2 ^ s)), .int (nI (s + 1)), .ref t]) [.long c, .int (nI (p + 2 ^ s)), .int (nI (s + 1)), .ref t] _) zk_X20_find q143 hrm (m_X20_find_1 (hL.kq ((z_kqr.t (z_kq8 hec hq_1)).t (z_deK hq_4 (z_nx hq_1 hne hD) (z_nxs hq_1)))) hS8 hR4 (z_deO hq_4 (z_nx hq_1 hnc htc) hnt hnc) (z_deE hq_4) hsS he0) (by omega) (by decide) (Nat.le_of_ble_eq_true rfl) (by omega) (by omega) (fun rhq_7 h_8 n_9 hq_7 hn_9 => ?_)
              obtain ⟨rfl, hq_7⟩ := hq_7
              refine z_ladd hb dX21_decide_139 ?_
              refine z_iload hb dX21_decide_140 rfl ?_
              refine z_iconst (x := nI 1) hb dX21_decide_142 (by decide) ?_
              refine z_isub hb dX21_decide_143 ?_
              refine z_toI (y := nI (lf - 1)) (pk_sub (by omega)) ?_
              refine z_callQ0 (b' := 0) (f' := 0) (rest := []) (av := [.ref t, .int (nI (s + 1)), .int (nI (p + 2 ^ s)), .long (c + 1), .int (nI (lf - 1))]) (z_siteV hb ho zc17 (z_nx hq_7 hne (z_deT hq_4 hne)) q2161 q2157 q2158 ⟨_, _, _, _, zk_X21_decide⟩ zy_X21_decide zl_X21_decide dX21_decide_144 : z_Site M _ _ _ _ _ ([.int (nI (s + 1)), .int (nI (p + 2 ^ s)), .long (c + 1), .int (nI (lf - 1))].reverse ++ .ref t :: []) [] _) zk_X21_decide q144 hrm (IH _ (((z_kqr.t (z_kq8 hec hq_1)).t (z_deK hq_4 (z_nx hq_1 hne hD) (z_nxs hq_1))).t (z_kq8 (z_deE hq_4) hq_7)) _ _ _ _ _ _ _ (z_nx hq_7 hne (z_deT hq_4 hne)) (z_nx hq_7 hnc (z_deO hq_4 (z_nx hq_1 hnc htc) hnt hnc)) (z_nxs hq_7) hq_4.2 hplb.2.1 (by omega)) (by omega) (by decide) (Nat.le_of_ble_eq_true rfl) (by omega) (by omega) (fun h_11 n_12 hq_10 hn_12 => ?_)
              refine z_vret hb hr dX21_decide_147 ?_
              rw [hQ]
              rw [z_dd_s c_117 c_71]
              exact ⟨rfl, z_de_d (z_de_c hne hq_1 hq_4.1) (z_de_c hne hq_7 hq_10.1), hq_10.2⟩
    · exact absurd c_38 (by omega)
  refine z_lload_n hb dX21_decide_0 rfl ?_
  refine z_aload_n hb dX21_decide_1 rfl ?_
  refine z_get (k := 3) (C := RX21) (T := TX21) (N := 4) hb ho zc17 in_X21 (zf_RX21_37 _) dX21_decide_2 hD (by decide) rfl ?_
  refine z_lif_lt (tgt := 26) hb dX21_decide_5 dX21_decide_6 (by decide) (fun c_6 => ?_) (fun c_6 => ?_)
  · refine z_iconst (x := nI 1) hb dX21_decide_26 (by decide) ?_
    refine z_goto (tgt := 31) hb dX21_decide_27 (by decide) ?_
    refine z_istore (lv' := [(6, .int (nI 1)), (0, .ref t), (1, .int (nI s)), (2, .int (nI p)), (3, .long c), (5, .int (nI lf))]) hb dX21_decide_31 (by rw [hN]; decide) rfl ?_
    refine z_lv [1, 2, 3, 4, 5] (lv' := [(0, .ref t), (1, .int (nI s)), (2, .int (nI p)), (3, .long c), (5, .int (nI lf))]) rfl ?_
    exact J_33
  · refine z_lload_n hb dX21_decide_9 rfl ?_
    refine z_aload_n hb dX21_decide_10 rfl ?_
    refine z_get (k := 3) (C := RX21) (T := TX21) (N := 4) hb ho zc17 in_X21 (zf_RX21_37 _) dX21_decide_11 hD (by decide) rfl ?_
    refine z_lif_ne (tgt := 30) hb dX21_decide_14 dX21_decide_15 (by decide) (fun c_15 => ?_) (fun c_15 => ?_)
    · refine z_iconst (x := nI 0) hb dX21_decide_30 (by decide) ?_
      refine z_istore (lv' := [(6, .int (nI 0)), (0, .ref t), (1, .int (nI s)), (2, .int (nI p)), (3, .long c), (5, .int (nI lf))]) hb dX21_decide_31 (by rw [hN]; decide) rfl ?_
      refine z_lv [1, 2, 3, 4, 5] (lv' := [(0, .ref t), (1, .int (nI s)), (2, .int (nI p)), (3, .long c), (5, .int (nI lf))]) rfl ?_
      exact J_33
    · refine z_iload_n hb dX21_decide_18 rfl ?_
      refine z_aload_n hb dX21_decide_19 rfl ?_
      refine z_get (k := 2) (C := RX21) (T := TX21) (N := 4) hb ho zc17 in_X21 (zf_RX21_41 _) dX21_decide_20 hD (by decide) rfl ?_
      refine z_icmp_geN (tgt := 30) hb dX21_decide_23 (by decide) (by omega) (by omega) (fun c_23 => ?_) (fun c_23 => ?_)
      · refine z_iconst (x := nI 0) hb dX21_decide_30 (by decide) ?_
        refine z_istore (lv' := [(6, .int (nI 0)), (0, .ref t), (1, .int (nI s)), (2, .int (nI p)), (3, .long c), (5, .int (nI lf))]) hb dX21_decide_31 (by rw [hN]; decide) rfl ?_
        refine z_lv [1, 2, 3, 4, 5] (lv' := [(0, .ref t), (1, .int (nI s)), (2, .int (nI p)), (3, .long c), (5, .int (nI lf))]) rfl ?_
        exact J_33
      · refine z_iconst (x := nI 1) hb dX21_decide_26 (by decide) ?_
        refine z_goto (tgt := 31) hb dX21_decide_27 (by decide) ?_
        refine z_istore (lv' := [(6, .int (nI 1)), (0, .ref t), (1, .int (nI s)), (2, .int (nI p)), (3, .long c), (5, .int (nI lf))]) hb dX21_decide_31 (by rw [hN]; decide) rfl ?_
        refine z_lv [1, 2, 3, 4, 5] (lv' := [(0, .ref t), (1, .int (nI s)), (2, .int (nI p)), (3, .long c), (5, .int (nI lf))]) rfl ?_
        exact J_33

theorem m_decide {l : Launch} {G : zG} {w : Nat → Int32} {v : Nat → Int64} {R S D a lr ls lv : Nat} {ra sa va : Nat → Nat} {t tc ec : Nat} (hS8 : S ≤ 8) (hR4 : R ≤ 40) (ht0 : z_n0 G ≤ t) (he0 : z_n0 G ≤ ec) : ∀ m s, s + m = S → ∀ (h : zH), z_Ln G h w v R S D a lr ls lv ra sa va → ∀ (n b p lf : Nat) (Lm c : Int64) (C : Nat → Int64), h t = some (z_Dc tc S b Lm) → h tc = some (.inr (16, [.ref ls, .int (nI R), .ref ec])) → h ec = some (z_al G 8 C) → b < 256 → p < 2 ^ s → lf ≤ 8 → z_C l G yX21_decide (8 + m) 0 0 [.ref t, .int (nI s), .int (nI p), .long c, .int (nI lf)] h n (z_q0 (fun h' n' => z_de G t tc ec S (z_dd w R S m s p c lf (b, Lm, C)) h h'))
  | 0, s, hs, h, hL, n, b, p, lf, Lm, c, C, hD, htc, hec, hb2, hp2, hlf => by
    obtain rfl : s = S := by omega
    exact m_X21_decide_0 hD htc hec hb2 (Nat.lt_of_lt_of_le hp2 (z_p256 hS8).2) hS8 ht0
  | m + 1, s, hs, h, hL, n, b, p, lf, Lm, c, C, hD, htc, hec, hb2, hp2, hlf => by
    have IH := fun (h2 : zH) (hk : z_kq h h2) (n2 b2 p2 lf2 : Nat) (L2 c2 : Int64) (C2 : Nat → Int64) h1 h3 h4 h5 h6 h7 => m_decide (l := l) (G := G) (t := t) (tc := tc) (ec := ec) (ls := ls) (ra := ra) (sa := sa) (va := va) (D := D) (v := v) (a := a) (lr := lr) (lv := lv) hS8 hR4 ht0 he0 m (s + 1) (by omega) h2 (hL.kq hk) n2 b2 p2 lf2 L2 c2 C2 h1 h3 h4 h5 h6 h7
    exact (z_C.room (by omega) (Nat.le_refl _) (Nat.le_refl _) (m_X21_decide_s hL hS8 hR4 hD htc hec hb2 hp2 hlf (by omega) ht0 he0 IH))

set_option maxHeartbeats 1000000 in
theorem m_X21_init {l : Launch} {G : zG} {h : zH} {n : Nat} {w : Nat → Int32} {v : Nat → Int64} {R S D a lr ls lv : Nat} {ra sa va : Nat → Nat} {t : Nat} (hL : z_Ln G h w v R S D a lr ls lv ra sa va) (ht9 : h t = some (.inr (17, [.null, .int (nI 0), .int (nI 0), .long 0]))) (hnt : z_n0 G ≤ t) (htn : t < n) : z_C l G yX21_init 3 2 11 [.ref t, .ref a] h n (z_q0 (fun h' n' => ∃ tc ec, h' t = some (z_Dc tc S 0 (9223372036854775807 : Int64)) ∧ h' tc = some (.inr (16, [.ref ls, .int (nI R), .ref ec])) ∧ h' ec = some (z_al G 8 (fun _ => 0)) ∧ n ≤ tc ∧ n ≤ ec ∧ z_fr (fun y => y = t) h h')) := by
  refine z_start zk_X21_init zpl_RX21 (Nat.le_of_ble_eq_true rfl) ?_
  intro hn0 M hl hG ho hb hN hr hm hH hrm hQ
  subst hl hG
  have ho : zm_o M = RX21 := ho
  obtain ⟨h1, ⟨e0, N0, m0, f0, r1, r2, r3, ⟨r4, r4n⟩, r5⟩, ⟨e, N, m9, f, h3, h4, h5, ⟨h6, h6n⟩, h7⟩, ⟨ev, Nv, mv, fv, v1, v2, v3, ⟨v4, v4n⟩, v5⟩, h9, hs, hv, hi, hrI⟩ := id hL
  show z_V M h n 2 11 0 [(0, .ref t), (1, .ref a)] []
  refine z_dom (fun hD0 => ?_)
  refine z_aload_n hb dX21_init_0 rfl ?_
  refine z_oinit hb ho hrm (by omega) q2136 q155 q156 (by decide) dX21_init_1 ?_
  refine z_aload_n hb dX21_init_4 rfl ?_
  refine z_dom (fun hD_1 => ?_)
  refine z_new (N0 := 3) (b' := 1) (f' := 8) (fs := [.null, .int (nI 0), .null]) (C := RX20) (T := TX20) (N := 3) hb ho zc16 in_X20 tyX20_ok q2137 q2049 q143 dX21_init_5 (zdf_X20) (by omega) (by omega) ?_
  refine z_hn (fun h_2 eh_2 => ?_)
  have eh_2 : h_2 = z_up h n (.inr (16, [.null, .int (nI 0), .null])) := eh_2
  have k_3 : h_2 a = some (.inr (1, [.ref lr, .ref ls, .ref lv, .int (nI D), .int (w 2), .int (w 4), .int (w 5), .int (w 6)])) := z_nx eh_2 (Nat.ne_of_lt (hD_1 _ _ h1)) h1
  have k_4 : h_2 lr = some (.inr (20, [.int m0, .ref e0, .int (nI R)])) := z_nx eh_2 (Nat.ne_of_lt (hD_1 _ _ r1)) r1
  have k_5 : h_2 e0 = some (.inl ((zm_G M).2.1 5, N0, .inr (.inr (.inr (.inr f0))))) := z_nx eh_2 (Nat.ne_of_lt (hD_1 _ _ r2)) r2
  have k_6 : h_2 ls = some (.inr (20, [.int m9, .ref e, .int (nI S)])) := z_nx eh_2 (Nat.ne_of_lt (hD_1 _ _ h3)) h3
  have k_7 : h_2 e = some (.inl ((zm_G M).2.1 5, N, .inr (.inr (.inr (.inr f))))) := z_nx eh_2 (Nat.ne_of_lt (hD_1 _ _ h4)) h4
  have k_8 : h_2 lv = some (.inr (20, [.int mv, .ref ev, .int (nI S)])) := z_nx eh_2 (Nat.ne_of_lt (hD_1 _ _ v1)) v1
  have k_9 : h_2 ev = some (.inl ((zm_G M).2.1 5, Nv, .inr (.inr (.inr (.inr fv))))) := z_nx eh_2 (Nat.ne_of_lt (hD_1 _ _ v2)) v2
  have k_10 : h_2 t = some (.inr (17, [.null, .int (nI 0), .int (nI 0), .long 0])) := z_nx eh_2 (Nat.ne_of_lt (hD_1 _ _ ht9)) ht9
  refine z_dup hb dX21_init_8 rfl ?_
  refine z_aload_n hb dX21_init_9 rfl ?_
  refine z_callQ0 (b' := 0) (f' := 0) (rest := [.ref n, .ref t]) (av := [.ref n, .ref a]) (z_siteI hb ho q2138 q2051 q2052 rfl zy_X20_init zl_X20_init dX21_init_10 : z_Site M _ _ _ _ _ ([.ref a].reverse ++ .ref n :: [.ref n, .ref t]) [.ref n, .ref t] _) zk_X20_init q143 hrm (m_X20_init (hL.kp (z_exN z_ex_r hD_1 eh_2).kp) (z_nxs eh_2) (by omega) (by omega)) (by omega) (by decide) (Nat.le_of_ble_eq_true rfl) (by omega) (by omega) (fun h_12 n_13 hq_11 hn_13 => ?_)
  obtain ⟨ec, hct, hce, hle, hfr⟩ := hq_11
  have k_14 : h_12 a = some (.inr (1, [.ref lr, .ref ls, .ref lv, .int (nI D), .int (w 2), .int (w 4), .int (w 5), .int (w 6)])) := hfr _ _ k_3 (Nat.ne_of_lt (hD_1 _ _ h1))
  have k_15 : h_12 lr = some (.inr (20, [.int m0, .ref e0, .int (nI R)])) := hfr _ _ k_4 (Nat.ne_of_lt (hD_1 _ _ r1))
  have k_16 : h_12 e0 = some (.inl ((zm_G M).2.1 5, N0, .inr (.inr (.inr (.inr f0))))) := hfr _ _ k_5 (Nat.ne_of_lt (hD_1 _ _ r2))
  have k_17 : h_12 ls = some (.inr (20, [.int m9, .ref e, .int (nI S)])) := hfr _ _ k_6 (Nat.ne_of_lt (hD_1 _ _ h3))
  have k_18 : h_12 e = some (.inl ((zm_G M).2.1 5, N, .inr (.inr (.inr (.inr f))))) := hfr _ _ k_7 (Nat.ne_of_lt (hD_1 _ _ h4))
  have k_19 : h_12 lv = some (.inr (20, [.int mv, .ref ev, .int (nI S)])) := hfr _ _ k_8 (Nat.ne_of_lt (hD_1 _ _ v1))
  have k_20 : h_12 ev = some (.inl ((zm_G M).2.1 5, Nv, .inr (.inr (.inr (.inr fv))))) := hfr _ _ k_9 (Nat.ne_of_lt (hD_1 _ _ v2))
  have k_21 : h_12 t = some (.inr (17, [.null, .int (nI 0), .int (nI 0), .long 0])) := hfr _ _ k_10 (Nat.ne_of_lt (hD_1 _ _ ht9))
  refine z_put (k := 0) (C := RX21) (T := TX21) (N := 4) hb ho zc17 in_X21 tyX21_ok nmX21 (zf_RX21_12 _) dX21_init_13 k_21 hnt (by decide) (Or.inr ⟨hm, rfl⟩) rfl rfl rfl (Nat.le_of_ble_eq_true rfl) ?_
  refine z_hn (fun h_22 eh_22 => ?_)
  have eh_22 : h_22 = z_up h_12 t (.inr (17, [.ref n, .int (nI 0), .int (nI 0), .long 0])) := eh_22
  have k_23 : h_22 a = some (.inr (1, [.ref lr, .ref ls, .ref lv, .int (nI D), .int (w 2), .int (w 4), .int (w 5), .int (w 6)])) := z_nx eh_22 (z_neO k_14 k_21 rfl) k_14
  have k_24 : h_22 lr = some (.inr (20, [.int m0, .ref e0, .int (nI R)])) := z_nx eh_22 (z_neO k_15 k_21 rfl) k_15
  have k_25 : h_22 e0 = some (.inl ((zm_G M).2.1 5, N0, .inr (.inr (.inr (.inr f0))))) := z_nx eh_22 (z_neA' k_16 k_21) k_16
  have k_26 : h_22 ls = some (.inr (20, [.int m9, .ref e, .int (nI S)])) := z_nx eh_22 (z_neO k_17 k_21 rfl) k_17
  have k_27 : h_22 e = some (.inl ((zm_G M).2.1 5, N, .inr (.inr (.inr (.inr f))))) := z_nx eh_22 (z_neA' k_18 k_21) k_18
  have k_28 : h_22 lv = some (.inr (20, [.int mv, .ref ev, .int (nI S)])) := z_nx eh_22 (z_neO k_19 k_21 rfl) k_19
  have k_29 : h_22 ev = some (.inl ((zm_G M).2.1 5, Nv, .inr (.inr (.inr (.inr fv))))) := z_nx eh_22 (z_neA' k_20 k_21) k_20
  have k_30 : h_22 n = some (.inr (16, [.ref ls, .int (nI R), .ref ec])) := z_nx eh_22 (Nat.ne_of_gt (hD_1 _ _ ht9)) hct
  have k_31 : h_22 ec = some (.inl ((zm_G M).2.1 1, 8, .inr (.inl (fun _ => 0)))) := z_nx eh_22 (z_neA' hce k_21) hce
  refine z_aload_n hb dX21_init_16 rfl ?_
  refine z_aload_n hb dX21_init_17 rfl ?_
  refine z_get (k := 1) (C := RX2) (T := TX2) (N := 8) hb ho zc1 in_X2 (zf_RX21_18 _) dX21_init_18 k_23 (by decide) rfl ?_
  refine z_call1 (b' := 0) (f' := 0) (rest := [.ref t]) (av := [.ref ls]) (z_siteF hb ho zc20 k_26 q2140 zx0 q322 q324 q325 q323 q321 zxl0 dX21_init_21 : z_Site M _ _ _ _ _ ([].reverse ++ .ref ls :: [.ref t]) [.ref t] _) zk_J2_size q98 hrm (m_J2_size k_26) (by omega) (by decide) (Nat.le_of_ble_eq_true rfl) (by omega) (by omega) ?_
  refine z_put (k := 1) (C := RX21) (T := TX21) (N := 4) hb ho zc17 in_X21 tyX21_ok nmX21 (zf_RX21_30 _) dX21_init_26 (z_nxs eh_22) hnt (by decide) (Or.inr ⟨hm, rfl⟩) rfl rfl rfl (Nat.le_of_ble_eq_true rfl) ?_
  refine z_hn (fun h_32 eh_32 => ?_)
  have eh_32 : h_32 = z_up h_22 t (.inr (17, [.ref n, .int (nI S), .int (nI 0), .long 0])) := eh_32
  have k_33 : h_32 a = some (.inr (1, [.ref lr, .ref ls, .ref lv, .int (nI D), .int (w 2), .int (w 4), .int (w 5), .int (w 6)])) := z_nx eh_32 (z_neO k_23 (z_nxs eh_22) rfl) k_23
  have k_34 : h_32 lr = some (.inr (20, [.int m0, .ref e0, .int (nI R)])) := z_nx eh_32 (z_neO k_24 (z_nxs eh_22) rfl) k_24
  have k_35 : h_32 e0 = some (.inl ((zm_G M).2.1 5, N0, .inr (.inr (.inr (.inr f0))))) := z_nx eh_32 (z_neA' k_25 (z_nxs eh_22)) k_25
  have k_36 : h_32 ls = some (.inr (20, [.int m9, .ref e, .int (nI S)])) := z_nx eh_32 (z_neO k_26 (z_nxs eh_22) rfl) k_26
  have k_37 : h_32 e = some (.inl ((zm_G M).2.1 5, N, .inr (.inr (.inr (.inr f))))) := z_nx eh_32 (z_neA' k_27 (z_nxs eh_22)) k_27
  have k_38 : h_32 lv = some (.inr (20, [.int mv, .ref ev, .int (nI S)])) := z_nx eh_32 (z_neO k_28 (z_nxs eh_22) rfl) k_28
  have k_39 : h_32 ev = some (.inl ((zm_G M).2.1 5, Nv, .inr (.inr (.inr (.inr fv))))) := z_nx eh_32 (z_neA' k_29 (z_nxs eh_22)) k_29
  have k_40 : h_32 n = some (.inr (16, [.ref ls, .int (nI R), .ref ec])) := z_nx eh_32 (Nat.ne_of_gt (hD_1 _ _ ht9)) k_30
  have k_41 : h_32 ec = some (.inl ((zm_G M).2.1 1, 8, .inr (.inl (fun _ => 0)))) := z_nx eh_32 (z_neA' k_31 (z_nxs eh_22)) k_31
  refine z_aload_n hb dX21_init_29 rfl ?_
  refine z_ldc2 hb ho q2141 dX21_init_30 ?_
  refine z_put (k := 3) (C := RX21) (T := TX21) (N := 4) hb ho zc17 in_X21 tyX21_ok nmX21 (zf_RX21_37 _) dX21_init_33 (z_nxs eh_32) hnt (by decide) (Or.inl rfl) rfl rfl rfl (Nat.le_of_ble_eq_true rfl) ?_
  refine z_hn (fun h_42 eh_42 => ?_)
  have eh_42 : h_42 = z_up h_32 t (.inr (17, [.ref n, .int (nI S), .int (nI 0), .long (9223372036854775807 : Int64)])) := eh_42
  have k_43 : h_42 a = some (.inr (1, [.ref lr, .ref ls, .ref lv, .int (nI D), .int (w 2), .int (w 4), .int (w 5), .int (w 6)])) := z_nx eh_42 (z_neO k_33 (z_nxs eh_32) rfl) k_33
  have k_44 : h_42 lr = some (.inr (20, [.int m0, .ref e0, .int (nI R)])) := z_nx eh_42 (z_neO k_34 (z_nxs eh_32) rfl) k_34
  have k_45 : h_42 e0 = some (.inl ((zm_G M).2.1 5, N0, .inr (.inr (.inr (.inr f0))))) := z_nx eh_42 (z_neA' k_35 (z_nxs eh_32)) k_35
  have k_46 : h_42 ls = some (.inr (20, [.int m9, .ref e, .int (nI S)])) := z_nx eh_42 (z_neO k_36 (z_nxs eh_32) rfl) k_36
  have k_47 : h_42 e = some (.inl ((zm_G M).2.1 5, N, .inr (.inr (.inr (.inr f))))) := z_nx eh_42 (z_neA' k_37 (z_nxs eh_32)) k_37
  have k_48 : h_42 lv = some (.inr (20, [.int mv, .ref ev, .int (nI S)])) := z_nx eh_42 (z_neO k_38 (z_nxs eh_32) rfl) k_38
  have k_49 : h_42 ev = some (.inl ((zm_G M).2.1 5, Nv, .inr (.inr (.inr (.inr fv))))) := z_nx eh_42 (z_neA' k_39 (z_nxs eh_32)) k_39
  have k_50 : h_42 n = some (.inr (16, [.ref ls, .int (nI R), .ref ec])) := z_nx eh_42 (Nat.ne_of_gt (hD_1 _ _ ht9)) k_40
  have k_51 : h_42 ec = some (.inl ((zm_G M).2.1 1, 8, .inr (.inl (fun _ => 0)))) := z_nx eh_42 (z_neA' k_41 (z_nxs eh_32)) k_41
  refine z_vret hb hr dX21_init_36 ?_
  rw [hQ]
  exact ⟨rfl, _, _, (z_nxs eh_42), k_50, k_51, Nat.le_refl _, by omega, ((((z_frT hD0 (by omega) (z_exN z_ex_r hD_1 eh_2).fr hfr).t (z_fr_up (P := (fun y => y = t)) rfl eh_22)).t (z_fr_up (P := (fun y => y = t)) rfl eh_32)).t (z_fr_up (P := (fun y => y = t)) rfl eh_42))⟩

theorem z_exD {G : zG} {h0 h h' : zH} {n0 t tc ec S : Nat} {q : z_DQ} (d : z_dm h0 n0) (ht : n0 ≤ t) (he : n0 ≤ ec) (a : z_ex h0 h) (e : z_de G t tc ec S q h h') : z_ex h0 h' := fun y c q0 => by
  have := d y c q0
  rw [e.1, z_up_n (by omega), z_up_n (by omega)]
  exact a y c q0

set_option maxHeartbeats 1000000 in
theorem m_X1_bestPlanByDeciding_ok {l : Launch} {G : zG} {h : zH} {n : Nat} {t : Nat} {x1 x2 x3 x4 x5 x6 : Value} {w : Nat → Int32} {v : Nat → Int64} {R S D a lr ls lv : Nat} {ra sa va : Nat → Nat} {x : Nat} (hX : h t = some (.inr (0, [.ref a, x1, x2, x3, x4, x5, x6]))) (hL : z_Ln G h w v R S D a lr ls lv ra sa va) (hS8 : S ≤ 8) (hR4 : R ≤ 40) (hx8 : x ≤ 8) : z_C l G yX1_bestPlanByDeciding 18 5 37 [.ref t, .int (nI x)] h n (z_rn (.int (nI (z_dd w R S S 0 0 0 x (0, (9223372036854775807 : Int64), fun _ => 0)).1)) h) := by
  refine z_start zk_X1_bestPlanByDeciding zpl_RX1 (Nat.le_of_ble_eq_true rfl) ?_
  intro hn0 M hl hG ho hb hN hr hm hH hrm hQ
  subst hl hG
  have ho : zm_o M = RX1 := ho
  obtain ⟨h1, ⟨e0, N0, m0, f0, r1, r2, r3, ⟨r4, r4n⟩, r5⟩, ⟨e, N, m9, f, h3, h4, h5, ⟨h6, h6n⟩, h7⟩, ⟨ev, Nv, mv, fv, v1, v2, v3, ⟨v4, v4n⟩, v5⟩, h9, hs, hv, hi, hrI⟩ := id hL
  show z_V M h n 5 37 0 [(0, .ref t), (1, .int (nI x))] []
  refine z_dom (fun hD0 => ?_)
  refine z_iload_n hb dX1_bestPlanByDeciding_0 rfl ?_
  refine z_callC0 (b' := 4) (f' := 31) (rest := []) (av := [.int (nI x)]) (z_siteS hb ho q2112 q2113 q94 ⟨_, _, _, _, zk_X1_requireSize⟩ zy_X1_requireSize zl_X1_requireSize dX1_bestPlanByDeciding_1 : z_Site M _ _ _ _ _ ([.int (nI x)].reverse ++ []) [] _) zk_X1_requireSize q94 hrm (m_X1_requireSize (nI x)) (by omega) (by decide) (Nat.le_of_ble_eq_true rfl) (by omega) (by omega) (fun c_1 => ?_) (fun c_1 => ?_)
  · refine z_dom (fun hD_1 => ?_)
    refine z_new (N0 := 4) (b' := 3) (f' := 27) (fs := [.null, .int (nI 0), .int (nI 0), .long 0]) (C := RX21) (T := TX21) (N := 4) hb ho zc17 in_X21 tyX21_ok q2131 q2132 q144 dX1_bestPlanByDeciding_4 (zdf_X21) (by omega) (by omega) ?_
    refine z_hn (fun h_2 eh_2 => ?_)
    have eh_2 : h_2 = z_up h n (.inr (17, [.null, .int (nI 0), .int (nI 0), .long 0])) := eh_2
    have k_3 : h_2 t = some (.inr (0, [.ref a, x1, x2, x3, x4, x5, x6])) := z_nx eh_2 (Nat.ne_of_lt (hD_1 _ _ hX)) hX
    have k_4 : h_2 a = some (.inr (1, [.ref lr, .ref ls, .ref lv, .int (nI D), .int (w 2), .int (w 4), .int (w 5), .int (w 6)])) := z_nx eh_2 (Nat.ne_of_lt (hD_1 _ _ h1)) h1
    have k_5 : h_2 lr = some (.inr (20, [.int m0, .ref e0, .int (nI R)])) := z_nx eh_2 (Nat.ne_of_lt (hD_1 _ _ r1)) r1
    have k_6 : h_2 e0 = some (.inl ((zm_G M).2.1 5, N0, .inr (.inr (.inr (.inr f0))))) := z_nx eh_2 (Nat.ne_of_lt (hD_1 _ _ r2)) r2
    have k_7 : h_2 ls = some (.inr (20, [.int m9, .ref e, .int (nI S)])) := z_nx eh_2 (Nat.ne_of_lt (hD_1 _ _ h3)) h3
    have k_8 : h_2 e = some (.inl ((zm_G M).2.1 5, N, .inr (.inr (.inr (.inr f))))) := z_nx eh_2 (Nat.ne_of_lt (hD_1 _ _ h4)) h4
    have k_9 : h_2 lv = some (.inr (20, [.int mv, .ref ev, .int (nI S)])) := z_nx eh_2 (Nat.ne_of_lt (hD_1 _ _ v1)) v1
    have k_10 : h_2 ev = some (.inl ((zm_G M).2.1 5, Nv, .inr (.inr (.inr (.inr fv))))) := z_nx eh_2 (Nat.ne_of_lt (hD_1 _ _ v2)) v2
    refine z_dup hb dX1_bestPlanByDeciding_7 rfl ?_
    refine z_aload_n hb dX1_bestPlanByDeciding_8 rfl ?_
    refine z_get (k := 0) (C := RX1) (T := TX1) (N := 7) hb ho zc0 in_X1 (zf_RX1_41 _) dX1_bestPlanByDeciding_9 k_3 (by decide) rfl ?_
    refine z_callQ0 (b' := 1) (f' := 16) (rest := [.ref n]) (av := [.ref n, .ref a]) (z_siteI hb ho q2133 q2134 q2135 rfl zy_X21_init zl_X21_init dX1_bestPlanByDeciding_12 : z_Site M _ _ _ _ _ ([.ref a].reverse ++ .ref n :: [.ref n]) [.ref n] _) zk_X21_init q144 hrm (m_X21_init (hL.ex (z_exN z_ex_r hD_1 eh_2)) (z_nxs eh_2) (by omega) (by omega)) (by omega) (by decide) (Nat.le_of_ble_eq_true rfl) (by omega) (by omega) (fun h_12 n_13 hq_11 hn_13 => ?_)
    obtain ⟨tc, ec, hct, hcu, hce, hle, hle2, hfr⟩ := hq_11
    have k_14 : h_12 t = some (.inr (0, [.ref a, x1, x2, x3, x4, x5, x6])) := hfr _ _ k_3 (Nat.ne_of_lt (hD_1 _ _ hX))
    have k_15 : h_12 a = some (.inr (1, [.ref lr, .ref ls, .ref lv, .int (nI D), .int (w 2), .int (w 4), .int (w 5), .int (w 6)])) := hfr _ _ k_4 (Nat.ne_of_lt (hD_1 _ _ h1))
    have k_16 : h_12 lr = some (.inr (20, [.int m0, .ref e0, .int (nI R)])) := hfr _ _ k_5 (Nat.ne_of_lt (hD_1 _ _ r1))
    have k_17 : h_12 e0 = some (.inl ((zm_G M).2.1 5, N0, .inr (.inr (.inr (.inr f0))))) := hfr _ _ k_6 (Nat.ne_of_lt (hD_1 _ _ r2))
    have k_18 : h_12 ls = some (.inr (20, [.int m9, .ref e, .int (nI S)])) := hfr _ _ k_7 (Nat.ne_of_lt (hD_1 _ _ h3))
    have k_19 : h_12 e = some (.inl ((zm_G M).2.1 5, N, .inr (.inr (.inr (.inr f))))) := hfr _ _ k_8 (Nat.ne_of_lt (hD_1 _ _ h4))
    have k_20 : h_12 lv = some (.inr (20, [.int mv, .ref ev, .int (nI S)])) := hfr _ _ k_9 (Nat.ne_of_lt (hD_1 _ _ v1))
    have k_21 : h_12 ev = some (.inl ((zm_G M).2.1 5, Nv, .inr (.inr (.inr (.inr fv))))) := hfr _ _ k_10 (Nat.ne_of_lt (hD_1 _ _ v2))
    refine z_astore_n (lv' := [(2, .ref n), (0, .ref t), (1, .int (nI x))]) hb dX1_bestPlanByDeciding_15 (by rw [hN]; decide) rfl ?_
    refine z_aload_n hb dX1_bestPlanByDeciding_16 rfl ?_
    refine z_iconst (x := nI 0) hb dX1_bestPlanByDeciding_17 (by decide) ?_
    refine z_iconst (x := nI 0) hb dX1_bestPlanByDeciding_18 (by decide) ?_
    refine z_lconst (x := 0) hb dX1_bestPlanByDeciding_19 rfl ?_
    refine z_iload_n hb dX1_bestPlanByDeciding_20 rfl ?_
    refine z_callQ0 (b' := 1) (f' := 16) (rest := []) (av := [.ref n, .int (nI 0), .int (nI 0), .long 0, .int (nI x)]) (z_siteV hb ho zc17 hct q2156 q2157 q2158 ⟨_, _, _, _, zk_X21_decide⟩ zy_X21_decide zl_X21_decide dX1_bestPlanByDeciding_21 : z_Site M _ _ _ _ _ ([.int (nI 0), .int (nI 0), .long 0, .int (nI x)].reverse ++ .ref n :: []) [] _) zk_X21_decide q144 hrm (m_decide hS8 hR4 (by omega) (by omega) S 0 (Nat.zero_add _) _ (hL.ex (z_exT hD0 (by omega) (z_exN z_ex_r hD_1 eh_2) hfr)) _ _ _ _ _ _ _ hct hcu hce (by decide) (by decide) (by omega)) (by omega) (by decide) (Nat.le_of_ble_eq_true rfl) (by omega) (by omega) (fun h_23 n_24 hq_22 hn_24 => ?_)
    refine z_aload_n hb dX1_bestPlanByDeciding_24 rfl ?_
    refine z_get (k := 2) (C := RX21) (T := TX21) (N := 4) hb ho zc17 in_X21 (zf_RX1_306 _) dX1_bestPlanByDeciding_25 (z_deT hq_22 (z_neA hct hce)) (by decide) rfl ?_
    refine z_less (z_exD hD0 (by omega) (by omega) (z_exT hD0 (by omega) (z_exN z_ex_r hD_1 eh_2) hfr) hq_22) ?_
    refine z_iret hb hr dX1_bestPlanByDeciding_28 ?_
    rw [hQ]
    exact ⟨rfl, rfl⟩
  · rw [z_inN (Nat.zero_le _) hx8 (by omega)] at c_1; cases c_1

set_option maxHeartbeats 1000000 in
theorem m_X1_bestPlanByDeciding_no {l : Launch} {G : zG} {h : zH} {n : Nat} {t : Nat} {x1 x2 x3 x4 x5 x6 : Value} {w : Nat → Int32} {v : Nat → Int64} {R S D a lr ls lv : Nat} {ra sa va : Nat → Nat} {x : Int32} (hX : h t = some (.inr (0, [.ref a, x1, x2, x3, x4, x5, x6]))) (hL : z_Ln G h w v R S D a lr ls lv ra sa va) (hS8 : S ≤ 8) (hx : decide (nI 0 ≤ x ∧ x ≤ nI 8) = false) : z_C l G yX1_bestPlanByDeciding 18 5 37 [.ref t, .int x] h n (z_tf 27 [] h n) := by
  refine z_start zk_X1_bestPlanByDeciding zpl_RX1 (Nat.le_of_ble_eq_true rfl) ?_
  intro hn0 M hl hG ho hb hN hr hm hH hrm hQ
  subst hl hG
  have ho : zm_o M = RX1 := ho
  obtain ⟨h1, ⟨e0, N0, m0, f0, r1, r2, r3, ⟨r4, r4n⟩, r5⟩, ⟨e, N, m9, f, h3, h4, h5, ⟨h6, h6n⟩, h7⟩, ⟨ev, Nv, mv, fv, v1, v2, v3, ⟨v4, v4n⟩, v5⟩, h9, hs, hv, hi, hrI⟩ := id hL
  show z_V M h n 5 37 0 [(0, .ref t), (1, .int x)] []
  refine z_dom (fun hD0 => ?_)
  refine z_iload_n hb dX1_bestPlanByDeciding_0 rfl ?_
  refine z_callC0 (b' := 4) (f' := 31) (rest := []) (av := [.int x]) (z_siteS hb ho q2112 q2113 q94 ⟨_, _, _, _, zk_X1_requireSize⟩ zy_X1_requireSize zl_X1_requireSize dX1_bestPlanByDeciding_1 : z_Site M _ _ _ _ _ ([.int x].reverse ++ []) [] _) zk_X1_requireSize q94 hrm (m_X1_requireSize x) (by omega) (by decide) (Nat.le_of_ble_eq_true rfl) (by omega) (by omega) (fun c_1 => ?_) (fun c_1 => ?_)
  · rw [hx] at c_1; cases c_1
  · exact z_out ho hH zc27 z_up_s (by omega) (fun _ h => nomatch h) (by rw [hQ]; exact ⟨_, rfl, by omega, Nat.lt_succ_self _, rfl⟩)

