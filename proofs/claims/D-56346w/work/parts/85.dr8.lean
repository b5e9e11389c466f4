def z_DR (G : zG) (h : zH) (b0 : Nat) (w : Nat → Int32) (v : Nat → Int64) (R S D a : Nat) : Prop := ∃ (lr er ls es lv ev : Nat) (ra sa va na ba : Nat → Nat), z_Dr G h b0 w v R S D a lr er ls es lv ev ra sa va na ba
theorem z_Dr.dr {G : zG} {h : zH} {b0 : Nat} {w : Nat → Int32} {v : Nat → Int64} {R S D a lr er ls es lv ev : Nat} {ra sa va na ba : Nat → Nat} (q : z_Dr G h b0 w v R S D a lr er ls es lv ev ra sa va na ba) : z_DR G h b0 w v R S D a := ⟨_, _, _, _, _, _, _, _, _, _, _, q⟩
/-- other rows -/
theorem z_Dr.setR {G : zG} {h h2 : zH} {b0 : Nat} {w : Nat → Int32} {v : Nat → Int64} {R S D a lr er ls es lv ev : Nat} {ra sa va na ba : Nat → Nat} {n R' er' : Nat} {ra' : Nat → Nat} {w' : Nat → Int32} (q : z_Dr G h b0 w v R S D a lr er ls es lv ev ra sa va na ba) (hd : z_dm h n) (hl : z_Lx G h2 b0 lr er' R' ra') (he : er' = er ∨ n ≤ er') (hf : z_fr (fun y => y = lr ∨ (y = er ∧ b0 ≤ y)) h h2) (hrw : ∀ p, p < R' → z_Rw h2 w' ra' p) (hij : z_ij ra' R') (hw : ∀ j, 176 ≤ j → w' j = w j) (hw2 : w' 2 = w 2 ∧ w' 4 = w 4 ∧ w' 5 = w 5 ∧ w' 6 = w 6) : z_Dr G h2 b0 w' v R' S D a lr er' ls es lv ev ra' sa va na ba := by
  obtain ⟨⟨h0, h1⟩, ⟨a1, a2, N1, m1, f1, a3, a4, a5⟩, ⟨b1, b2, N2, m2, f2, b3, b4, b5⟩, ⟨c1, c2, N3, m3, f3, c3, c4, c5⟩, q5, q5b, q6, q7, q8, i1, i2, i3, i4⟩ := q
  have nO : ∀ {y ci fs}, h y = some (.inr (ci, fs)) → ci ≠ 20 → h2 y = some (.inr (ci, fs)) := fun {y ci fs} hy hc => hf _ _ hy fun z => by
    rcases z with z | z
    · rw [z, a3] at hy; cases hy; exact hc rfl
    · rw [z.1, a4] at hy; cases hy
  have nL : ∀ {y ci fs}, h y = some (.inr (ci, fs)) → y ≠ lr → h2 y = some (.inr (ci, fs)) := fun {y ci fs} hy hc => hf _ _ hy fun z => by
    rcases z with z | z
    · exact hc z
    · rw [z.1, a4] at hy; cases hy
  have nE : ∀ {y x}, h y = some (.inl x) → (b0 ≤ er → y ≠ er) → h2 y = some (.inl x) := fun {y x} hy hc => hf _ _ hy fun z => by
    rcases z with z | z
    · rw [z, a3] at hy; cases hy
    · exact hc (z.1 ▸ z.2) z.1
  have des := hd _ _ b4
  have dev := hd _ _ c4
  obtain ⟨w22, w24, w25, w26⟩ := hw2
  refine ⟨⟨h0, by rw [w22, w24, w25, w26]; exact nO h1 (by decide)⟩, hl, ⟨b1, b2, N2, m2, f2, nL b3 (Ne.symm q5.1), nE b4 (fun z => Ne.symm (q5b.1 z).1), b5⟩, ⟨c1, c2, N3, m3, f3, nL c3 (Ne.symm q5.2.1), nE c4 (fun z => Ne.symm (q5b.1 z).2), c5⟩, q5, ⟨fun z => ?_, fun z => ?_, fun z => ?_⟩, hrw, fun k hk => ?_, fun k hk => ?_, i1, hij, i3, i4⟩
  · rcases he with he | he
    · rw [he] at z ⊢; exact q5b.1 z
    · constructor <;> omega
  · rcases he with he | he
    · rw [he]; exact q5b.2.1 z
    · exact ⟨by omega, (q5b.2.1 z).2⟩
  · rcases he with he | he
    · rw [he]; exact q5b.2.2 z
    · exact ⟨by omega, (q5b.2.2 z).2⟩
  · exact ((q7 k hk).frS fun y ci fs hy hc => nO hy (by omega)).w fun o ho => (hw _ (by omega)).symm
  · obtain ⟨z1, z2, z3, z4, F, Z, z5, z6, z7, z8, z9⟩ := q8 k hk
    refine ⟨z1, z2, z3, nO z4 (by decide), F, Z, nE z5 (fun _ => (z_neXlo z5 a4)), nE z6 (fun _ => (z_neXzo z6 a4)), z7, fun d hd => ?_, z9⟩
    rw [z8 d hd, z_st_0 (hw _ (by omega))]
theorem z_Rw.o {h : zH} {w : Nat → Int32} {ra : Nat → Nat} {p : Nat} (q : z_Rw h w ra p) : z_obj h (ra p) := ⟨6, _, _, q, zc6, q3315⟩
/-- a row comes -/
theorem z_Dr.addR {G : zG} {h h2 : zH} {b0 : Nat} {w : Nat → Int32} {v : Nat → Int64} {R S D a lr er ls es lv ev : Nat} {ra sa va na ba : Nat → Nat} {n er' q9 d g c : Nat} (q : z_Dr G h b0 w v R S D a lr er ls es lv ev ra sa va na ba) (hR : R < 40) (hd : z_dm h n) (hq : h q9 = some (.inr (6, [.int (w 2), .int (nI d), .int (nI g), .int (nI c)]))) (hn9 : ∀ p, p < R → ra p ≠ q9) (hl : z_Lx G h2 b0 lr er' (R + 1) (va_up ra R q9)) (he : er' = er ∨ n ≤ er') (hf : z_fr (fun y => y = lr ∨ (y = er ∧ b0 ≤ y)) h h2) : z_Dr G h2 b0 (va_up (tw_nrow w R g d c) 2 (w 2)) v (R + 1) S D a lr er' ls es lv ev (va_up ra R q9) sa va na ba := by
  have nO : ∀ {y fs}, h y = some (.inr (6, fs)) → h2 y = some (.inr (6, fs)) := fun {y fs} hy => hf _ _ hy fun z => by
    obtain ⟨-, -, N1, m1, f1, a3, a4, -⟩ := q.2.1
    rcases z with z | z
    · rw [z, a3] at hy; cases hy
    · rw [z.1, a4] at hy; cases hy
  have hat : ∀ j, j ≠ 1 → j ≠ 2 → (j < 16 + 4 * R ∨ 16 + 4 * R + 4 ≤ j) → va_up (tw_nrow w R g d c) 2 (w 2) j = w j := fun j h1 h2 h3 => by rw [va_upn h2, tw_nrow_at h1 h2 h3]
  refine q.setR hd hl he hf (fun p hp => ?_) (fun i j hi hj e => ?_) (fun j hj => hat j (by omega) (by omega) (by omega)) ⟨va_ups, hat 4 (by omega) (by omega) (by omega), hat 5 (by omega) (by omega) (by omega), hat 6 (by omega) (by omega) (by omega)⟩
  · unfold z_Rw
    by_cases z : p = R
    · subst z
      rw [va_ups, va_upn (by omega), va_upn (by omega), va_upn (by omega), va_upn (by omega)]
      have e0 : tw_nrow w p g d c (16 + 4 * p) = w 2 := by unfold tw_nrow va_up; rw [if_neg (by omega), if_neg (by omega), if_neg (by omega), if_neg (by omega), if_neg (by omega), if_pos rfl]
      have e1 : tw_nrow w p g d c (16 + 4 * p + 1) = nI d := by unfold tw_nrow va_up; rw [if_neg (by omega), if_neg (by omega), if_neg (by omega), if_neg (by omega), if_pos rfl]
      have e2 : tw_nrow w p g d c (16 + 4 * p + 2) = nI g := by unfold tw_nrow va_up; rw [if_neg (by omega), if_neg (by omega), if_neg (by omega), if_pos rfl]
      have e3 : tw_nrow w p g d c (16 + 4 * p + 3) = nI c := by unfold tw_nrow va_up; rw [if_neg (by omega), if_neg (by omega), if_pos rfl]
      rw [e0, e1, e2, e3]
      exact nO hq
    · have h9 := q.2.2.2.2.2.2.1 p (by omega)
      unfold z_Rw at h9
      rw [va_upn z, hat _ (by omega) (by omega) (by omega), hat _ (by omega) (by omega) (by omega), hat _ (by omega) (by omega) (by omega), hat _ (by omega) (by omega) (by omega)]
      exact nO h9
  · have i2 := q.2.2.2.2.2.2.2.2.2.2.1
    unfold va_up at e
    by_cases zi : i = R
    · by_cases zj : j = R
      · omega
      · rw [if_pos zi, if_neg zj] at e
        exact absurd e.symm (hn9 j (by omega))
    · by_cases zj : j = R
      · rw [if_neg zi, if_pos zj] at e
        exact absurd e (hn9 i (by omega))
      · rw [if_neg zi, if_neg zj] at e
        exact i2 i j (by omega) (by omega) e
/-- a row goes -/
theorem z_Dr.remR {G : zG} {h h2 : zH} {b0 : Nat} {w : Nat → Int32} {v : Nat → Int64} {R S D a lr er ls es lv ev : Nat} {ra sa va na ba : Nat → Nat} {n p : Nat} (q : z_Dr G h b0 w v R S D a lr er ls es lv ev ra sa va na ba) (hp : p < R) (hR : R ≤ 40) (hd : z_dm h n) (hl : z_Lx G h2 b0 lr er (R - 1) (fun j => ra (tw_sk p j))) (hf : z_fr (fun y => y = lr ∨ y = er) h h2) : z_Dr G h2 b0 (va_up (tw_gone w R p) 4 (w 4)) v (R - 1) S D a lr er ls es lv ev (fun j => ra (tw_sk p j)) sa va na ba := by
  have hbe : b0 ≤ er := by
    have h1 := q.2.1.2.1
    rcases h1 with h1 | h1 <;> omega
  have nO : ∀ {y fs}, h y = some (.inr (6, fs)) → h2 y = some (.inr (6, fs)) := fun {y fs} hy => hf _ _ hy fun z => by
    obtain ⟨-, -, N1, m1, f1, a3, a4, -⟩ := q.2.1
    rcases z with z | z
    · rw [z, a3] at hy; cases hy
    · rw [z, a4] at hy; cases hy
  have hlo : ∀ j, j < 16 → j ≠ 1 → j ≠ 4 → va_up (tw_gone w R p) 4 (w 4) j = w j := fun j h1 h2 h3 => by
    rw [va_upn h3]
    unfold tw_gone
    rw [tw_shl_eq _ (by omega), if_neg (by omega)]
    unfold tw_gone0
    rw [va_upn h3, va_upn h2]
  refine q.setR hd hl (Or.inl rfl) (hf.w fun y hy => hy.imp id fun z => ⟨z, by rw [z]; exact hbe⟩) (fun j hj => ?_) (fun i j hi hj e => ?_) (fun j hj => by rw [va_upn (by omega), tw_gone_at hp (by omega), if_neg (by omega)]) ⟨hlo 2 (by omega) (by omega) (by omega), va_ups, hlo 5 (by omega) (by omega) (by omega), hlo 6 (by omega) (by omega) (by omega)⟩
  · have hs : tw_sk p j < R := by unfold tw_sk; split <;> omega
    have h9 := q.2.2.2.2.2.2.1 _ hs
    have ho : ∀ o, o < 4 → va_up (tw_gone w R p) 4 (w 4) (16 + 4 * j + o) = w (16 + 4 * tw_sk p j + o) := fun o ho => by
      rw [va_upn (by omega), tw_gone_at hp (by omega)]
      unfold tw_sk
      by_cases z : j < p
      · rw [if_neg (by omega), if_pos z]
      · rw [if_pos (by omega), if_neg z]; exact congrArg w (by omega)
    have o0 := ho 0 (by omega)
    rw [Nat.add_zero, Nat.add_zero] at o0
    unfold z_Rw at h9 ⊢
    rw [o0, ho 1 (by omega), ho 2 (by omega), ho 3 (by omega)]
    exact nO h9
  · have i2 := q.2.2.2.2.2.2.2.2.2.2.1
    have hs : ∀ x, x < R - 1 → tw_sk p x < R := fun x hx => by unfold tw_sk; split <;> omega
    have := i2 _ _ (hs i hi) (hs j hj) e
    unfold tw_sk at this
    split at this <;> split at this <;> omega

set_option maxHeartbeats 1000000 in
theorem m_X2_follow_now {l : Launch} {G : zG} {h : zH} {n : Nat} {b0 : Nat} {w : Nat → Int32} {v : Nat → Int64} {R S D a lr er ls es lv ev : Nat} {ra sa va na ba : Nat → Nat} {q g : Nat} {nu am sg : Int32} (hDr : z_Dr G h b0 w v R S D a lr er ls es lv ev ra sa va na ba) (hb0 : z_n0 G ≤ b0) (hR4 : R ≤ 40) (hS8 : S ≤ 8) (hD6 : D ≤ 6) (hq9 : h q = some (.inr (6, [.int nu, .int (nI D), .int (nI g), .int am]))) (hg : g < 5) : z_C l G yX2_follow 31 11 46 [.ref a, .ref q, .int sg] h n (z_q0 (fun h' n' => z_Dr G h' b0 w (z_cr v (z_ch w v R D g am sg S) D g S) R S D a lr er ls es lv ev ra sa va na ba ∧ z_fr (fun y => y = a ∨ z_VA na ba S y) h h')) := by
  refine z_start zk_X2_follow zpl_RX2 (Nat.le_of_ble_eq_true rfl) ?_
  intro hn0 M hl hG ho hb hN hr hm hH hrm hQ
  subst hl hG
  have ho : zm_o M = RX2 := ho
  obtain ⟨⟨ha0, h1⟩, ⟨lr0, lr1, N0, m0, f0, r1, r2, r3, r4, r4b, r5⟩, ⟨ls0, ls1, N, m9, f, h3, h4, h5, h6, h6b, h7⟩, ⟨lv0, lv1, Nv, mv, fv, v1, v2, v3, v4, v4b, v5⟩, hne, hse, h9, hs, hvx, hi, hrI, hna, hba⟩ := id hDr
  have r4N := r4.le
  have h6N := h6.le
  have v4N := v4.le
  show z_V M h n 11 46 0 [(0, .ref a), (1, .ref q), (2, .int sg)] []
  refine z_dom (fun hD0 => ?_)
  refine z_aload_n hb dX2_follow_0 rfl ?_
  refine z_get (k := 1) (C := RX7) (T := TX7) (N := 4) hb ho zc6 in_X7 (zf_RX2_148 _) dX2_follow_1 hq9 (by decide) rfl ?_
  refine z_aload_n hb dX2_follow_4 rfl ?_
  refine z_get (k := 3) (C := RX2) (T := TX2) (N := 8) hb ho zc1 in_X2 (zf_RX2_54 _) dX2_follow_5 h1 (by decide) rfl ?_
  refine z_icmp_neN (tgt := 20) hb dX2_follow_8 (by decide) (by omega) (by omega) (fun c_8 => ?_) (fun c_8 => ?_)
  · exact absurd rfl c_8
  · refine z_aload_n hb dX2_follow_11 rfl ?_
    refine z_aload_n hb dX2_follow_12 rfl ?_
    refine z_iload_n hb dX2_follow_13 rfl ?_
    refine z_callQ0 (b' := 0) (f' := 0) (rest := []) (av := [.ref a, .ref q, .int sg]) (z_siteV hb ho zc1 h1 q1223 q1225 qs9 ⟨_, _, _, _, zk_X2_carry⟩ zy_X2_carry zl_X2_carry dX2_follow_14 : z_Site M _ _ _ _ _ ([.ref q, .int sg].reverse ++ .ref a :: []) [] _) zk_X2_carry q95 hrm (m_X2_carry hDr hb0 hR4 hS8 hD6 hq9 hg) (by omega) (by decide) (Nat.le_of_ble_eq_true rfl) (by omega) (by omega) (fun h_2 n_3 hq_1 hn_3 => ?_)
    have k_4 : h_2 a = some (.inr (1, [.ref lr, .ref ls, .ref lv, .int (nI D), .int (w 2), .int (w 4), .int (w 5), .int (w 6)])) := (hq_1.2 _ _ h1 (hDr.nO h1))
    have k_5 : h_2 lr = some (.inr (20, [.int m0, .ref er, .int (nI R)])) := (hq_1.2 _ _ r1 (hDr.nO r1))
    have k_6 : h_2 er = some (.inl ((zm_G M).2.1 5, N0, .inr (.inr (.inr (.inr f0))))) := (hq_1.2 _ _ r2 (hDr.nA r2))
    have k_7 : h_2 ls = some (.inr (20, [.int m9, .ref es, .int (nI S)])) := (hq_1.2 _ _ h3 (hDr.nO h3))
    have k_8 : h_2 es = some (.inl ((zm_G M).2.1 5, N, .inr (.inr (.inr (.inr f))))) := (hq_1.2 _ _ h4 (hDr.nA h4))
    have k_9 : h_2 lv = some (.inr (20, [.int mv, .ref ev, .int (nI S)])) := (hq_1.2 _ _ v1 (hDr.nO v1))
    have k_10 : h_2 ev = some (.inl ((zm_G M).2.1 5, Nv, .inr (.inr (.inr (.inr fv))))) := (hq_1.2 _ _ v2 (hDr.nA v2))
    have k_11 : h_2 q = some (.inr (6, [.int nu, .int (nI D), .int (nI g), .int am])) := (hq_1.2 _ _ hq9 (hDr.nO hq9))
    refine z_goto (tgt := 28) hb dX2_follow_17 (by decide) ?_
    refine z_vret hb hr dX2_follow_28 ?_
    rw [hQ]
    exact ⟨rfl, hq_1.1, (hq_1.2.w (fun _ => Or.inr))⟩

set_option maxHeartbeats 1000000 in
theorem m_X2_follow_past {l : Launch} {G : zG} {h : zH} {n : Nat} {b0 : Nat} {w : Nat → Int32} {v : Nat → Int64} {R S D a lr er ls es lv ev : Nat} {ra sa va na ba : Nat → Nat} {q d g : Nat} {nu am sg : Int32} (hDr : z_Dr G h b0 w v R S D a lr er ls es lv ev ra sa va na ba) (hb0 : z_n0 G ≤ b0) (hR4 : R ≤ 40) (hS8 : S ≤ 8) (hD6 : D ≤ 6) (hq9 : h q = some (.inr (6, [.int nu, .int (nI d), .int (nI g), .int am]))) (hd : d < D) (hiW : z_inp w S) : z_C l G yX2_follow 31 11 46 [.ref a, .ref q, .int sg] h n (z_q0 (fun h' n' => z_Dr G h' b0 (tw_sp (va_up w 5 (w 5 + nI 1)) d D S) v R S D a lr er ls es lv ev ra sa va na ba ∧ z_fr (fun y => y = a ∨ z_VA na ba S y) h h')) := by
  refine z_start zk_X2_follow zpl_RX2 (Nat.le_of_ble_eq_true rfl) ?_
  intro hn0 M hl hG ho hb hN hr hm hH hrm hQ
  subst hl hG
  have ho : zm_o M = RX2 := ho
  obtain ⟨⟨ha0, h1⟩, ⟨lr0, lr1, N0, m0, f0, r1, r2, r3, r4, r4b, r5⟩, ⟨ls0, ls1, N, m9, f, h3, h4, h5, h6, h6b, h7⟩, ⟨lv0, lv1, Nv, mv, fv, v1, v2, v3, v4, v4b, v5⟩, hne, hse, h9, hs, hvx, hi, hrI, hna, hba⟩ := id hDr
  have r4N := r4.le
  have h6N := h6.le
  have v4N := v4.le
  show z_V M h n 11 46 0 [(0, .ref a), (1, .ref q), (2, .int sg)] []
  refine z_dom (fun hD0 => ?_)
  refine z_aload_n hb dX2_follow_0 rfl ?_
  refine z_get (k := 1) (C := RX7) (T := TX7) (N := 4) hb ho zc6 in_X7 (zf_RX2_148 _) dX2_follow_1 hq9 (by decide) rfl ?_
  refine z_aload_n hb dX2_follow_4 rfl ?_
  refine z_get (k := 3) (C := RX2) (T := TX2) (N := 8) hb ho zc1 in_X2 (zf_RX2_54 _) dX2_follow_5 h1 (by decide) rfl ?_
  refine z_icmp_neN (tgt := 20) hb dX2_follow_8 (by decide) (by omega) (by omega) (fun c_8 => ?_) (fun c_8 => ?_)
  · refine z_aload_n hb dX2_follow_20 rfl ?_
    refine z_aload_n hb dX2_follow_21 rfl ?_
    refine z_get (k := 1) (C := RX7) (T := TX7) (N := 4) hb ho zc6 in_X7 (zf_RX2_148 _) dX2_follow_22 hq9 (by decide) rfl ?_
    refine z_callQ0 (b' := 10) (f' := 42) (rest := []) (av := [.ref a, .int (nI d)]) (z_siteV hb ho zc1 h1 q1289 q1291 qs10 ⟨_, _, _, _, zk_X2_spoil⟩ zy_X2_spoil zl_X2_spoil dX2_follow_25 : z_Site M _ _ _ _ _ ([.int (nI d)].reverse ++ .ref a :: []) [] _) zk_X2_spoil q95 hrm (m_X2_spoil hDr hb0 hR4 hS8 hD6 (Nat.le_of_lt hd) hiW) (by omega) (by decide) (Nat.le_of_ble_eq_true rfl) (by omega) (by omega) (fun h_2 n_3 hq_1 hn_3 => ?_)
    refine z_vret hb hr dX2_follow_28 ?_
    rw [hQ]
    exact ⟨rfl, hq_1.1, hq_1.2⟩
  · exact absurd c_8 (by omega)

