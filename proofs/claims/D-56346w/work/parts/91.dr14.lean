theorem m_remS {l : Launch} {G : zG} {h : zH} {n b0 a e S k : Nat} {w : Nat → Int32} {sa : Nat → Nat} (hb0 : z_n0 G ≤ b0) (q : z_Lx G h b0 a e S sa) (hs : ∀ j, j < S → z_Sp h w sa j) (hij : z_ij sa S) (hk : k < S) :
    z_C l G yJ2_remove 3 0 0 [.ref a, .ref (sa k)] h n (z_q1 (fun r9 h' _ => r9 = .int (nI 1) ∧ z_Lx G h' b0 a e (S - 1) (fun j => sa (tw_sk k j)) ∧ z_fr (fun y => y = a ∨ y = e) h h')) := by
  obtain ⟨-, -, N, m9, f, h1, -⟩ := id q
  have hob : ∀ j, j < S → z_obj h (sa j) ∧ sa j ≠ a := fun j hj => ⟨(hs j hj).o.1, (hs j hj).ne h1 (by omega)⟩
  have hne : ∀ j, j < k → sa j ≠ sa k := fun j hj z => absurd (hij j k (by omega) hk z) (by omega)
  rcases hs k hk with ⟨-, z⟩ | ⟨-, z⟩ | ⟨-, z⟩ | ⟨-, -, -, z⟩ | ⟨-, -, -, z⟩ | ⟨-, -, -, z⟩ | ⟨-, -, -, z⟩
  · exact m_rem_8 hb0 q hob z hk rfl hne
  · exact m_rem_9 hb0 q hob z hk rfl hne
  · exact m_rem_10 hb0 q hob z hk rfl hne
  · exact m_rem_11 hb0 q hob z hk rfl hne
  · exact m_rem_11 hb0 q hob z hk rfl hne
  · exact m_rem_12 hb0 q hob z hk rfl hne
  · exact m_rem_13 hb0 q hob z hk rfl hne
/-- a step and its view go -/
theorem z_Dr.remS {G : zG} {h h2 : zH} {b0 : Nat} {w : Nat → Int32} {v : Nat → Int64} {R S D a lr er ls es lv ev : Nat} {ra sa va na ba : Nat → Nat} {k : Nat} (q : z_Dr G h b0 w v R S D a lr er ls es lv ev ra sa va na ba) (hw : z_ok w R S D) (hiW : z_inp w S) (hk : k < S) (hno : ∀ o, k < o → o < S → tw_inpt w k o = false)
    (hl1 : z_Lx G h2 b0 ls es (S - 1) (fun j => sa (tw_sk k j))) (hl2 : z_Lx G h2 b0 lv ev (S - 1) (fun j => va (tw_sk k j))) (hf : z_fr (fun y => (y = ls ∨ y = lv) ∨ (y = es ∨ y = ev)) h h2) (hes : b0 ≤ es) (hev : b0 ≤ ev) :
    z_Dr G h2 b0 (tw_cut w S k) (tw_cut5 v S k) R (S - 1) D a lr er ls es lv ev ra (fun j => sa (tw_sk k j)) (fun j => va (tw_sk k j)) (fun j => na (tw_sk k j)) (fun j => ba (tw_sk k j)) := by
  have hS8 := hw.2.2.2.1
  have hR4 := hw.2.1
  have hD6 := hw.2.2.2.2.2.1
  obtain ⟨⟨h0, h1⟩, ⟨a1, a2, N1, m1, f1, a3, a4, a5⟩, ⟨b1, b2, N2, m2, f2, b3, b4, b5⟩, ⟨c1, c2, N3, m3, f3, c3, c4, c5⟩, q5, q5b, q6, q7, q8, i1, i2, i3, i4⟩ := q
  have nO : ∀ {y ci fs}, h y = some (.inr (ci, fs)) → ci ≠ 20 → h2 y = some (.inr (ci, fs)) := fun {y ci fs} hy hc => hf _ _ hy fun z => by
    rcases z with (z | z) | (z | z)
    · rw [z, b3] at hy; cases hy; exact hc rfl
    · rw [z, c3] at hy; cases hy; exact hc rfl
    · rw [z, b4] at hy; cases hy
    · rw [z, c4] at hy; cases hy
  have hlr : h2 lr = some (.inr (20, [.int m1, .ref er, .int (nI R)])) := hf _ _ a3 fun z => by
    rcases z with (z | z) | (z | z)
    · exact q5.1 z
    · exact q5.2.1 z
    · rw [z, b4] at a3; cases a3
    · rw [z, c4] at a3; cases a3
  have her : h2 er = some (z_ao G N1 f1) := hf _ _ a4 fun z => by
    rcases z with (z | z) | (z | z)
    · rw [z, b3] at a4; cases a4
    · rw [z, c3] at a4; cases a4
    · exact (q5b.2.1 hes).1 z.symm
    · exact (q5b.2.2 hev).1 z.symm
  have nA : ∀ {y N} {F : Nat → Int64}, h y = some (z_al G N F) → h2 y = some (z_al G N F) := fun {y N F} hy => hf _ _ hy fun z => by
    rcases z with (z | z) | (z | z)
    · rw [z, b3] at hy; cases hy
    · rw [z, c3] at hy; cases hy
    · exact z_neXlo hy b4 z
    · exact z_neXlo hy c4 z
  have nZ : ∀ {y N} {F : Nat → Int32}, h y = some (z_az G N F) → h2 y = some (z_az G N F) := fun {y N F} hy => hf _ _ hy fun z => by
    rcases z with (z | z) | (z | z)
    · rw [z, b3] at hy; cases hy
    · rw [z, c3] at hy; cases hy
    · exact z_neXzo hy b4 z
    · exact z_neXzo hy c4 z
  have hsk : ∀ i, i < S - 1 → tw_sk k i < S := fun i hi => by unfold tw_sk; split <;> omega
  have inj : ∀ {f : Nat → Nat}, z_ij f S → z_ij (fun j => f (tw_sk k j)) (S - 1) := fun {f} hij i j hi hj e => by
    have := hij _ _ (hsk i hi) (hsk j hj) e
    unfold tw_sk at this
    split at this <;> split at this <;> omega
  refine ⟨⟨h0, ?_⟩, ⟨a1, a2, N1, m1, f1, hlr, her, a5⟩, hl1, hl2, q5, q5b, fun p hp => ?_, fun i hi => ?_, fun i hi => ?_, inj i1, i2, inj i3, inj i4⟩
  · rw [tw_cut_lo hS8 hk (by omega) (by omega), tw_cut_lo hS8 hk (by omega) (by omega), tw_cut_lo hS8 hk (by omega) (by omega), tw_cut_lo hS8 hk (by omega) (by omega)]
    exact nO h1 (by decide)
  · have := q6 p hp
    unfold z_Rw at this ⊢
    rw [tw_cut_lo hS8 hk (by omega) (by omega), tw_cut_lo hS8 hk (by omega) (by omega), tw_cut_lo hS8 hk (by omega) (by omega), tw_cut_lo hS8 hk (by omega) (by omega)]
    exact nO this (by decide)
  · obtain ⟨eb, e0, e1, e2⟩ := z_cut_st hw hiW hk hno hi
    have hS9 := (q7 _ (hsk i hi)).frS (h2 := h2) fun y ci fs hy hc => nO hy (by omega)
    have fin : tw_base w (tw_sk k i) = false → tw_f (tw_cut w S k) i < i ∧ tw_s (tw_cut w S k) i < i ∧ sa (tw_sk k (tw_f (tw_cut w S k) i)) = sa (tw_f w (tw_sk k i)) ∧ sa (tw_sk k (tw_s (tw_cut w S k) i)) = sa (tw_s w (tw_sk k i)) := fun hb => by
      obtain ⟨n1, n2, f1, f2⟩ := e2 hb
      obtain ⟨l1, l2⟩ := hiW.lt (hsk i hi) hb
      exact ⟨f1 ▸ z_dk_lt l1 n1, f2 ▸ z_dk_lt l2 n2, by rw [f1, z_sk_dk n1], by rw [f2, z_sk_dk n2]⟩
    rcases hS9 with ⟨qk, z⟩ | ⟨qk, z⟩ | ⟨qk, z⟩ | ⟨qk, -, -, z⟩ | ⟨qk, -, -, z⟩ | ⟨qk, -, g2, z⟩ | ⟨qk, -, g2, z⟩
    · exact Or.inl ⟨e0.trans qk, by rw [e1]; exact z⟩
    · exact Or.inr (Or.inl ⟨e0.trans qk, by rw [e1]; exact z⟩)
    · exact Or.inr (Or.inr (Or.inl ⟨e0.trans qk, by rw [e1]; exact z⟩))
    · obtain ⟨p1, p2, p3, p4⟩ := fin (z_kn qk (by simp))
      exact Or.inr (Or.inr (Or.inr (Or.inl ⟨e0.trans qk, p1, p2, by dsimp only; rw [p3, p4]; exact z⟩)))
    · obtain ⟨p1, p2, p3, p4⟩ := fin (z_kn qk (by simp))
      exact Or.inr (Or.inr (Or.inr (Or.inr (Or.inl ⟨e0.trans qk, p1, p2, by dsimp only; rw [p3, p4]; exact z⟩))))
    · obtain ⟨p1, p2, p3, p4⟩ := fin (z_kn qk (by simp))
      obtain ⟨n1, n2, f1, f2⟩ := e2 (z_kn qk (by simp))
      exact Or.inr (Or.inr (Or.inr (Or.inr (Or.inr (Or.inl ⟨e0.trans qk, p1, by rw [f1, f2, g2], by dsimp only; rw [p3]; exact z⟩)))))
    · obtain ⟨p1, p2, p3, p4⟩ := fin (z_kn qk (by simp))
      obtain ⟨n1, n2, f1, f2⟩ := e2 (z_kn qk (by simp))
      exact Or.inr (Or.inr (Or.inr (Or.inr (Or.inr (Or.inr ⟨e0.trans qk, p1, by rw [f1, f2, g2], by dsimp only; rw [p3, e1]; exact z⟩)))))
  · obtain ⟨z1, z2, z3, z4, F, Z, z5, z6, z7, z8, z9⟩ := q8 _ (hsk i hi)
    refine ⟨z1, z2, z3, nO z4 (by decide), F, Z, nA z5, nZ z6, fun d hd g hg => ?_, fun d hd => ?_, z9⟩
    · rw [z7 d hd g hg, z_cut5_at hS8 hk hi (by omega) hg]
    · rw [z8 d hd, z_cut_fl hS8 hk hi (by omega)]

set_option maxHeartbeats 1000000 in
theorem m_X2_removeStep_ok {l : Launch} {G : zG} {h : zH} {n : Nat} {b0 : Nat} {w : Nat → Int32} {v : Nat → Int64} {R S D a lr er ls es lv ev : Nat} {ra sa va na ba : Nat → Nat} {k : Nat} (hDr : z_Dr G h b0 w v R S D a lr er ls es lv ev ra sa va na ba) (hb0 : z_n0 G ≤ b0) (hw : z_ok w R S D) (hiW : z_inp w S) (hk : k < S) (hno : ∀ o, k < o → o < S → tw_inpt w k o = false) (hno2 : ∀ o, o < S → z_hi w o k = false) : z_C l G yX2_removeStep 31 20 100 [.ref a, .int (nI k)] h n (z_q1 (fun r9 h' n' => r9 = .int (nI (S - 1)) ∧ z_DR G h' b0 (tw_cut w S k) (tw_cut5 v S k) R (S - 1) D a ∧ z_fb b0 h h')) := by
  refine z_start zk_X2_removeStep zpl_RX2 (Nat.le_of_ble_eq_true rfl) ?_
  intro hn0 M hl hG ho hb hN hr hm hH hrm hQ
  subst hl hG
  have ho : zm_o M = RX2 := ho
  obtain ⟨⟨ha0, h1⟩, ⟨lr0, lr1, N0, m0, f0, r1, r2, r3, r4, r4b, r5⟩, ⟨ls0, ls1, N, m9, f, h3, h4, h5, h6, h6b, h7⟩, ⟨lv0, lv1, Nv, mv, fv, v1, v2, v3, v4, v4b, v5⟩, hne, hse, h9, hs, hvx, hi, hrI, hna, hba⟩ := id hDr
  have r4N := r4.le
  have h6N := h6.le
  have v4N := v4.le
  have hS8 := hw.2.2.2.1
  show z_V M h n 20 100 0 [(0, .ref a), (1, .int (nI k))] []
  refine z_dom (fun hD0 => ?_)
  refine z_aload_n hb dX2_removeStep_0 rfl ?_
  refine z_iload_n hb dX2_removeStep_1 rfl ?_
  refine z_call1 (b' := 19) (f' := 94) (rest := []) (av := [.ref a, .int (nI k)]) (z_siteV hb ho zc1 h1 q1505 q1506 q1507 ⟨_, _, _, _, zk_X2_step⟩ zy_X2_step zl_X2_step dX2_removeStep_2 : z_Site M _ _ _ _ _ ([.int (nI k)].reverse ++ .ref a :: []) [] _) zk_X2_step q95 hrm (m_X2_step hDr.ln (by omega) hk) (by omega) (by decide) (Nat.le_of_ble_eq_true rfl) (by omega) (by omega) ?_
  refine z_astore_n (lv' := [(2, .ref (sa k)), (0, .ref a), (1, .int (nI k))]) hb dX2_removeStep_5 (by rw [hN]; decide) rfl ?_
  refine z_iconst (x := nI 0) hb dX2_removeStep_6 (by decide) ?_
  refine z_istore_n (lv' := [(3, .int (nI 0)), (2, .ref (sa k)), (0, .ref a), (1, .int (nI k))]) hb dX2_removeStep_7 (by rw [hN]; decide) rfl ?_
  have lp_8 : ∀ (k9_8 : Nat) (j : Nat) (nnr : Nat), S + 1 - j < k9_8 → (j ≤ S) → (n ≤ nnr) → z_V M h nnr (8 - j) (8 * (8 - j)) 8 [(3, .int (nI j)), (2, .ref (sa k)), (0, .ref a), (1, .int (nI k))] [] := by
    intro k9_8
    induction k9_8 with
    | zero => intro j nnr hk9_8; exact absurd hk9_8 (Nat.not_lt_zero _)
    | succ k9_8 ih_8 =>
      intro j nnr hk9_8 hj hnnr
      refine z_iload_n hb dX2_removeStep_8 rfl ?_
      refine z_aload_n hb dX2_removeStep_9 rfl ?_
      refine z_get (k := 1) (C := RX2) (T := TX2) (N := 8) hb ho zc1 in_X2 (zf_RX2_18 _) dX2_removeStep_10 h1 (by decide) rfl ?_
      refine z_call1 (b' := 8 - j) (f' := 8 * (8 - j)) (rest := [.int (nI j)]) (av := [.ref ls]) (z_siteF hb ho zc20 h3 q1183 zx0 q322 q324 q325 q323 q321 zxl0 dX2_removeStep_13 : z_Site M _ _ _ _ _ ([].reverse ++ .ref ls :: [.int (nI j)]) [.int (nI j)] _) zk_J2_size q98 hrm (m_J2_size h3) (by omega) (by decide) (Nat.le_of_ble_eq_true rfl) (by omega) (by omega) ?_
      refine z_icmp_geN (tgt := 57) hb dX2_removeStep_18 (by decide) (by omega) (by omega) (fun c_18 => ?_) (fun c_18 => ?_)
      · refine z_aload_n hb dX2_removeStep_57 rfl ?_
        refine z_get (k := 1) (C := RX2) (T := TX2) (N := 8) hb ho zc1 in_X2 (zf_RX2_18 _) dX2_removeStep_58 h1 (by decide) rfl ?_
        refine z_aload_n hb dX2_removeStep_61 rfl ?_
        refine z_callQ1 (b' := 8 - j) (f' := 8 * (8 - j)) (rest := []) (av := [.ref ls, .ref (sa k)]) (z_siteF hb ho zc20 h3 q1383 zx9 q1386 q1388 q1389 q1387 q321 zxl9 dX2_removeStep_62 : z_Site M _ _ _ _ _ ([.ref (sa k)].reverse ++ .ref ls :: []) [] _) zk_J2_remove q98 hrm (m_remS hb0 hDr.2.2.1 hDr.sp hi hk) (by omega) (by decide) (Nat.le_of_ble_eq_true rfl) (by omega) (by omega) (fun rhq_1 h_2 n_3 hq_1 hn_3 => ?_)
        obtain ⟨rfl, hq_1⟩ := hq_1
        obtain ⟨hlx1, hfl1⟩ := hq_1
        obtain ⟨ls0x, ls1x, N8, m8, f8, y1, y2, y3, y4, y4b, y5⟩ := id hlx1
        have hbes : b0 ≤ es := ls1.elim id (fun z => by omega)
        have hbev : b0 ≤ ev := lv1.elim id (fun z => by omega)
        have k_4 : h_2 a = some (.inr (1, [.ref lr, .ref ls, .ref lv, .int (nI D), .int (w 2), .int (w 4), .int (w 5), .int (w 6)])) := hfl1 _ _ h1 (fun z => z.elim (z_neO h1 h3 rfl) (z_neA h1 h4))
        have k_5 : h_2 lv = some (.inr (20, [.int mv, .ref ev, .int (nI S)])) := hfl1 _ _ v1 (fun z => z.elim hne.2.2.symm (z_neA v1 h4))
        have k_6 : h_2 ev = some (.inl ((zm_G M).2.1 5, Nv, .inr (.inr (.inr (.inr fv))))) := hfl1 _ _ v2 (fun z => z.elim (z_neA' v2 h3) (hse.2.1 hbes).2.symm)
        have hvo1 : ∀ j, j < S → h_2 (va j) = some (.inr (3, [.ref (na j), .ref (ba j)])) := fun j hj => hfl1 _ _ (hDr.ob hj) (fun z => z.elim (z_neO (hDr.ob hj) h3 rfl) (z_neA (hDr.ob hj) h4))
        refine z_istore_n (lv' := [(3, .int (nI 1)), (2, .ref (sa k)), (0, .ref a), (1, .int (nI k))]) hb dX2_removeStep_67 (by rw [hN]; decide) rfl ?_
        refine z_aload_n hb dX2_removeStep_68 rfl ?_
        refine z_get (k := 2) (C := RX2) (T := TX2) (N := 8) hb ho zc1 in_X2 (zf_RX2_21 _) dX2_removeStep_69 k_4 (by decide) rfl ?_
        refine z_iload_n hb dX2_removeStep_72 rfl ?_
        refine z_callQ1 (b' := 8 - j) (f' := 8 * (8 - j)) (rest := []) (av := [.ref lv, .int (nI k)]) (z_siteF hb ho zc20 k_5 q1597 zx10 q1600 q1602 q1603 q1601 q321 zxl10 dX2_removeStep_73 : z_Site M _ _ _ _ _ ([.int (nI k)].reverse ++ .ref lv :: []) [] _) zk_J2_remove_2 q98 hrm (m_remI hb0 (⟨lv0, lv1, Nv, mv, fv, k_5, k_6, v3, v4, v4b, v5⟩ : z_Lx (zm_G M) h_2 b0 lv ev S va) (fun j hj => ⟨⟨3, _, _, hvo1 j hj, zc3, q3309⟩, z_neO (hvo1 j hj) k_5 rfl⟩) hk) (by omega) (by decide) (Nat.le_of_ble_eq_true rfl) (by omega) (by omega) (fun rhq_7 h_8 n_9 hq_7 hn_9 => ?_)
        obtain ⟨rfl, hq_7⟩ := hq_7
        obtain ⟨hlx2, hfl2⟩ := hq_7
        have k_10 : h_8 a = some (.inr (1, [.ref lr, .ref ls, .ref lv, .int (nI D), .int (w 2), .int (w 4), .int (w 5), .int (w 6)])) := hfl2 _ _ k_4 (fun z => z.elim (z_neO k_4 k_5 rfl) (z_neA k_4 k_6))
        have k_11 : h_8 ls = some (.inr (20, [.int m8, .ref es, .int (nI (S - 1))])) := hfl2 _ _ y1 (fun z => z.elim hne.2.2 (z_neA y1 k_6))
        have k_12 : h_8 es = some (.inl ((zm_G M).2.1 5, N8, .inr (.inr (.inr (.inr f8))))) := hfl2 _ _ y2 (fun z => z.elim (z_neA' y2 k_5) (hse.2.1 hbes).2)
        have kvw : h_8 (va k) = some (.inr (3, [.ref (na k), .ref (ba k)])) := hfl2 _ _ (hvo1 k hk) (fun z => z.elim (z_neO (hvo1 k hk) k_5 rfl) (z_neA (hvo1 k hk) k_6))
        have hfa : z_fr (fun y => (y = ls ∨ y = lv) ∨ (y = es ∨ y = ev)) h h_8 := (hfl1.w (fun y hy => hy.imp Or.inl Or.inl)).t (hfl2.w (fun y hy => hy.imp Or.inr Or.inr))
        have hl1 : z_Lx (zm_G M) h_8 b0 ls es (S - 1) (fun j => sa (tw_sk k j)) := ⟨ls0x, ls1x, N8, m8, f8, k_11, k_12, y3, y4, y4b, y5⟩
        have hD1 := z_Dr.remS hDr hw hiW hk hno hl1 hlx2 hfa hbes hbev
        refine z_cast hb ho zc3 kvw q461 (Or.inl rfl) dX2_removeStep_78 ?_
        refine z_astore (lv' := [(4, .ref (va k)), (3, .int (nI 1)), (2, .ref (sa k)), (0, .ref a), (1, .int (nI k))]) hb dX2_removeStep_81 (by rw [hN]; decide) rfl ?_
        refine z_aload_n hb dX2_removeStep_83 rfl ?_
        refine z_get (k := 1) (C := RX2) (T := TX2) (N := 8) hb ho zc1 in_X2 (zf_RX2_18 _) dX2_removeStep_84 k_10 (by decide) rfl ?_
        refine z_call1 (b' := 8 - j) (f' := 8 * (8 - j)) (rest := []) (av := [.ref ls]) (z_siteF hb ho zc20 k_11 q1183 zx0 q322 q324 q325 q323 q321 zxl0 dX2_removeStep_87 : z_Site M _ _ _ _ _ ([].reverse ++ .ref ls :: []) [] _) zk_J2_size q98 hrm (m_J2_size k_11) (by omega) (by decide) (Nat.le_of_ble_eq_true rfl) (by omega) (by omega) ?_
        refine z_iret hb hr dX2_removeStep_92 ?_
        rw [hQ]
        exact ⟨_, rfl, rfl, hD1.dr, ((z_fbL2 h3 h4 h6N.2 ls0 hbes hfl1).t (z_fbL2 k_5 k_6 v4N.2 lv0 hbev hfl2))⟩
      · refine z_aload_n hb dX2_removeStep_21 rfl ?_
        refine z_get (k := 1) (C := RX2) (T := TX2) (N := 8) hb ho zc1 in_X2 (zf_RX2_18 _) dX2_removeStep_22 h1 (by decide) rfl ?_
        refine z_iload_n hb dX2_removeStep_25 rfl ?_
        refine z_call1 (b' := 8 - j) (f' := 8 * (8 - j)) (rest := []) (av := [.ref ls, .int (nI j)]) (z_siteF hb ho zc20 h3 q660 zx6 q663 q665 q666 q664 q321 zxl6 dX2_removeStep_26 : z_Site M _ _ _ _ _ ([.int (nI j)].reverse ++ .ref ls :: []) [] _) zk_J2_get q98 hrm (m_J2_get h3 h4 (by omega) (by omega) h7 (by omega)) (by omega) (by decide) (Nat.le_of_ble_eq_true rfl) (by omega) (by omega) ?_
        have J_34 : z_V M h nnr (8 - j) (8 * (8 - j)) 34 [(3, .int (nI j)), (2, .ref (sa k)), (0, .ref a), (1, .int (nI k))] [.ref (sa j)] := by
          refine z_aload_n hb dX2_removeStep_34 rfl ?_
          have J_38 : ∀ n_13 : Nat, nnr ≤ n_13 → z_V M h n_13 (8 - j) (8 * (8 - j)) 38 [(3, .int (nI j)), (2, .ref (sa k)), (0, .ref a), (1, .int (nI k))] [.int (z_b (z_hi w j k))] := by
            intro n_13 hn_13
            refine z_ifb_ne (tgt := 45) hb dX2_removeStep_38 (by decide) (fun c_38 => ?_) (fun c_38 => ?_)
            · rw [hno2 j (by omega)] at c_38; cases c_38
            · refine z_iconst (x := nI 1) hb dX2_removeStep_41 (by decide) ?_
              refine z_goto (tgt := 46) hb dX2_removeStep_42 (by decide) ?_
              refine z_iconst (x := nI 4) hb dX2_removeStep_46 (by decide) ?_
              refine z_iload_n hb dX2_removeStep_47 rfl ?_
              refine z_call0 (b' := (8 - j) - 1) (f' := (8 * (8 - j)) - 8) (rest := []) (av := [.int (nI 1), .int (nI 4), .int (nI j)]) (z_siteSN hb ho q1149 q1150 q94 ⟨_, _, _, _, zk_X1_denyUnless⟩ zy_X1_denyUnless zl_X1_denyUnless dX2_removeStep_48 : z_Site M _ _ _ _ _ ([.int (nI 1), .int (nI 4), .int (nI j)].reverse ++ []) [] _) zk_X1_denyUnless q94 hrm ((m_X1_denyUnless_t (nI 4) (nI j))) (by omega) (by decide) (Nat.le_of_ble_eq_true rfl) (by omega) (by omega) ?_
              refine z_iinc (k0 := 0) (lv' := [(3, .int (nI (j + 1))), (2, .ref (sa k)), (0, .ref a), (1, .int (nI k))]) hb dX2_removeStep_51 rfl (nI_1 j) (by rw [hN]; decide) rfl ?_
              refine z_goto (tgt := 8) hb dX2_removeStep_54 (by decide) ?_
              refine z_lv [0, 1, 2, 3] (lv' := [(3, .int (nI (j + 1))), (2, .ref (sa k)), (0, .ref a), (1, .int (nI k))]) rfl ?_
              exact z_bf (by omega) (by omega) (ih_8 (j + 1) n_13 (by omega) (by omega) (by omega))
          rcases hDr.sp j (by omega) with ⟨q1, q9⟩ | ⟨q1, q9⟩ | ⟨q1, q9⟩ | ⟨q1, q2, q3, q9⟩ | ⟨q1, q2, q3, q9⟩ | ⟨q1, q2, q3, q9⟩ | ⟨q1, q2, q3, q9⟩
          · refine z_callN1 (b' := 8 - j) (f' := 8 * (8 - j)) (rest := []) (av := [.ref (sa j), .ref (sa k)]) (z_siteU hb ho zc8 q9 q1581 q1583 (Or.inl q1582) q1588 q1595 ⟨by decide +kernel, by decide +kernel⟩ (by show _ = some 1; decide +kernel) dX2_removeStep_35 : z_Site M _ _ _ _ _ ([.ref (sa k)].reverse ++ .ref (sa j) :: []) [] _) zk_X10_hasInput q128 hrm (m_hasInput hDr.sp hi (show j < S by omega) hk _ _ q9 _) (by omega) (by decide) (Nat.le_of_ble_eq_true rfl) (by omega) (by omega) (fun n_14 hn_14 => ?_)
            exact J_38 _ (by omega)
          · refine z_callN1 (b' := 8 - j) (f' := 8 * (8 - j)) (rest := []) (av := [.ref (sa j), .ref (sa k)]) (z_siteU hb ho zc9 q9 q1581 q1583 (Or.inl q1582) q1588 q1587 ⟨by decide +kernel, by decide +kernel⟩ (by show _ = some 1; decide +kernel) dX2_removeStep_35 : z_Site M _ _ _ _ _ ([.ref (sa k)].reverse ++ .ref (sa j) :: []) [] _) zk_X10_hasInput q128 hrm (m_hasInput hDr.sp hi (show j < S by omega) hk _ _ q9 _) (by omega) (by decide) (Nat.le_of_ble_eq_true rfl) (by omega) (by omega) (fun n_15 hn_15 => ?_)
            exact J_38 _ (by omega)
          · refine z_callN1 (b' := 8 - j) (f' := 8 * (8 - j)) (rest := []) (av := [.ref (sa j), .ref (sa k)]) (z_siteU hb ho zc10 q9 q1581 q1583 (Or.inl q1582) q1588 q1590 ⟨by decide +kernel, by decide +kernel⟩ (by show _ = some 1; decide +kernel) dX2_removeStep_35 : z_Site M _ _ _ _ _ ([.ref (sa k)].reverse ++ .ref (sa j) :: []) [] _) zk_X10_hasInput q128 hrm (m_hasInput hDr.sp hi (show j < S by omega) hk _ _ q9 _) (by omega) (by decide) (Nat.le_of_ble_eq_true rfl) (by omega) (by omega) (fun n_16 hn_16 => ?_)
            exact J_38 _ (by omega)
          · refine z_callN1 (b' := 8 - j) (f' := 8 * (8 - j)) (rest := []) (av := [.ref (sa j), .ref (sa k)]) (z_siteU hb ho zc11 q9 q1581 q1583 (Or.inl q1582) q1592 q1591 ⟨by decide +kernel, by decide +kernel⟩ (by show _ = some 1; decide +kernel) dX2_removeStep_35 : z_Site M _ _ _ _ _ ([.ref (sa k)].reverse ++ .ref (sa j) :: []) [] _) zk_X14_hasInput q133 hrm (m_hasInput hDr.sp hi (show j < S by omega) hk _ _ q9 _) (by omega) (by decide) (Nat.le_of_ble_eq_true rfl) (by omega) (by omega) (fun n_17 hn_17 => ?_)
            exact J_38 _ (by omega)
          · refine z_callN1 (b' := 8 - j) (f' := 8 * (8 - j)) (rest := []) (av := [.ref (sa j), .ref (sa k)]) (z_siteU hb ho zc11 q9 q1581 q1583 (Or.inl q1582) q1592 q1591 ⟨by decide +kernel, by decide +kernel⟩ (by show _ = some 1; decide +kernel) dX2_removeStep_35 : z_Site M _ _ _ _ _ ([.ref (sa k)].reverse ++ .ref (sa j) :: []) [] _) zk_X14_hasInput q133 hrm (m_hasInput hDr.sp hi (show j < S by omega) hk _ _ q9 _) (by omega) (by decide) (Nat.le_of_ble_eq_true rfl) (by omega) (by omega) (fun n_18 hn_18 => ?_)
            exact J_38 _ (by omega)
          · refine z_callN1 (b' := 8 - j) (f' := 8 * (8 - j)) (rest := []) (av := [.ref (sa j), .ref (sa k)]) (z_siteU hb ho zc12 q9 q1581 q1583 (Or.inl q1582) q1585 q1594 ⟨by decide +kernel, by decide +kernel⟩ (by show _ = some 1; decide +kernel) dX2_removeStep_35 : z_Site M _ _ _ _ _ ([.ref (sa k)].reverse ++ .ref (sa j) :: []) [] _) zk_X15_hasInput q134 hrm (m_hasInput hDr.sp hi (show j < S by omega) hk _ _ q9 _) (by omega) (by decide) (Nat.le_of_ble_eq_true rfl) (by omega) (by omega) (fun n_19 hn_19 => ?_)
            exact J_38 _ (by omega)
          · refine z_callN1 (b' := 8 - j) (f' := 8 * (8 - j)) (rest := []) (av := [.ref (sa j), .ref (sa k)]) (z_siteU hb ho zc13 q9 q1581 q1583 (Or.inl q1582) q1585 q1584 ⟨by decide +kernel, by decide +kernel⟩ (by show _ = some 1; decide +kernel) dX2_removeStep_35 : z_Site M _ _ _ _ _ ([.ref (sa k)].reverse ++ .ref (sa j) :: []) [] _) zk_X15_hasInput q134 hrm (m_hasInput hDr.sp hi (show j < S by omega) hk _ _ q9 _) (by omega) (by decide) (Nat.le_of_ble_eq_true rfl) (by omega) (by omega) (fun n_20 hn_20 => ?_)
            exact J_38 _ (by omega)
        rcases hDr.sp j (by omega) with ⟨q1, q9⟩ | ⟨q1, q9⟩ | ⟨q1, q9⟩ | ⟨q1, q2, q3, q9⟩ | ⟨q1, q2, q3, q9⟩ | ⟨q1, q2, q3, q9⟩ | ⟨q1, q2, q3, q9⟩
        · exact z_cast hb ho zc8 q9 q560 (Or.inr q3300) dX2_removeStep_31 J_34
        · exact z_cast hb ho zc9 q9 q560 (Or.inr q3296) dX2_removeStep_31 J_34
        · exact z_cast hb ho zc10 q9 q560 (Or.inr q3297) dX2_removeStep_31 J_34
        · exact z_cast hb ho zc11 q9 q560 (Or.inr q3298) dX2_removeStep_31 J_34
        · exact z_cast hb ho zc11 q9 q560 (Or.inr q3298) dX2_removeStep_31 J_34
        · exact z_cast hb ho zc12 q9 q560 (Or.inr q3299) dX2_removeStep_31 J_34
        · exact z_cast hb ho zc13 q9 q560 (Or.inr q3295) dX2_removeStep_31 J_34
  refine z_lv [0, 1, 2, 3] (lv' := [(3, .int (nI 0)), (2, .ref (sa k)), (0, .ref a), (1, .int (nI k))]) rfl ?_
  exact z_bf (by omega) (by omega) (lp_8 _ 0 n (Nat.lt_succ_self _) (Nat.zero_le _) (by omega))

set_option maxHeartbeats 1000000 in
theorem m_X2_removeStep_no2 {l : Launch} {G : zG} {h : zH} {n : Nat} {w : Nat → Int32} {v : Nat → Int64} {R S D a lr ls lv : Nat} {ra sa va : Nat → Nat} {k o9 : Nat} (hL : z_Ln G h w v R S D a lr ls lv ra sa va) (hS8 : S ≤ 8) (hk : k < S) (ho9 : o9 < S) (hhi : z_hi w o9 k = true) (hfst : ∀ o, o < o9 → z_hi w o k = false) : z_C l G yX2_removeStep 31 20 100 [.ref a, .int (nI k)] h n (z_tf 5 [.null, .null, .null, .null, .null, .int (nI 0), .int (nI 4), .int (nI o9)] h n) := by
  refine z_start zk_X2_removeStep zpl_RX2 (Nat.le_of_ble_eq_true rfl) ?_
  intro hn0 M hl hG ho hb hN hr hm hH hrm hQ
  subst hl hG
  have ho : zm_o M = RX2 := ho
  obtain ⟨h1, ⟨e0, N0, m0, f0, r1, r2, r3, ⟨r4, r4n⟩, r5⟩, ⟨e, N, m9, f, h3, h4, h5, ⟨h6, h6n⟩, h7⟩, ⟨ev, Nv, mv, fv, v1, v2, v3, ⟨v4, v4n⟩, v5⟩, h9, hs, hv, hi, hrI⟩ := id hL
  show z_V M h n 20 100 0 [(0, .ref a), (1, .int (nI k))] []
  refine z_dom (fun hD0 => ?_)
  refine z_aload_n hb dX2_removeStep_0 rfl ?_
  refine z_iload_n hb dX2_removeStep_1 rfl ?_
  refine z_call1 (b' := 19) (f' := 94) (rest := []) (av := [.ref a, .int (nI k)]) (z_siteV hb ho zc1 h1 q1505 q1506 q1507 ⟨_, _, _, _, zk_X2_step⟩ zy_X2_step zl_X2_step dX2_removeStep_2 : z_Site M _ _ _ _ _ ([.int (nI k)].reverse ++ .ref a :: []) [] _) zk_X2_step q95 hrm (m_X2_step hL hS8 hk) (by omega) (by decide) (Nat.le_of_ble_eq_true rfl) (by omega) (by omega) ?_
  refine z_astore_n (lv' := [(2, .ref (sa k)), (0, .ref a), (1, .int (nI k))]) hb dX2_removeStep_5 (by rw [hN]; decide) rfl ?_
  refine z_iconst (x := nI 0) hb dX2_removeStep_6 (by decide) ?_
  refine z_istore_n (lv' := [(3, .int (nI 0)), (2, .ref (sa k)), (0, .ref a), (1, .int (nI k))]) hb dX2_removeStep_7 (by rw [hN]; decide) rfl ?_
  have lp_8 : ∀ (k9_8 : Nat) (nno : Nat) (j : Nat), o9 + 1 - j < k9_8 → (n ≤ nno) → (j ≤ o9) → z_V M h nno (10 - j) (8 * (10 - j)) 8 [(3, .int (nI j)), (2, .ref (sa k)), (0, .ref a), (1, .int (nI k))] [] := by
    intro k9_8
    induction k9_8 with
    | zero => intro nno j hk9_8; exact absurd hk9_8 (Nat.not_lt_zero _)
    | succ k9_8 ih_8 =>
      intro nno j hk9_8 hnno hj
      refine z_iload_n hb dX2_removeStep_8 rfl ?_
      refine z_aload_n hb dX2_removeStep_9 rfl ?_
      refine z_get (k := 1) (C := RX2) (T := TX2) (N := 8) hb ho zc1 in_X2 (zf_RX2_18 _) dX2_removeStep_10 h1 (by decide) rfl ?_
      refine z_call1 (b' := 10 - j) (f' := 8 * (10 - j)) (rest := [.int (nI j)]) (av := [.ref ls]) (z_siteF hb ho zc20 h3 q1183 zx0 q322 q324 q325 q323 q321 zxl0 dX2_removeStep_13 : z_Site M _ _ _ _ _ ([].reverse ++ .ref ls :: [.int (nI j)]) [.int (nI j)] _) zk_J2_size q98 hrm (m_J2_size h3) (by omega) (by decide) (Nat.le_of_ble_eq_true rfl) (by omega) (by omega) ?_
      refine z_icmp_geN (tgt := 57) hb dX2_removeStep_18 (by decide) (by omega) (by omega) (fun c_18 => ?_) (fun c_18 => ?_)
      · exact absurd c_18 (by omega)
      · refine z_aload_n hb dX2_removeStep_21 rfl ?_
        refine z_get (k := 1) (C := RX2) (T := TX2) (N := 8) hb ho zc1 in_X2 (zf_RX2_18 _) dX2_removeStep_22 h1 (by decide) rfl ?_
        refine z_iload_n hb dX2_removeStep_25 rfl ?_
        refine z_call1 (b' := 10 - j) (f' := 8 * (10 - j)) (rest := []) (av := [.ref ls, .int (nI j)]) (z_siteF hb ho zc20 h3 q660 zx6 q663 q665 q666 q664 q321 zxl6 dX2_removeStep_26 : z_Site M _ _ _ _ _ ([.int (nI j)].reverse ++ .ref ls :: []) [] _) zk_J2_get q98 hrm (m_J2_get h3 h4 (by omega) (by omega) h7 (by omega)) (by omega) (by decide) (Nat.le_of_ble_eq_true rfl) (by omega) (by omega) ?_
        have J_34 : z_V M h nno (10 - j) (8 * (10 - j)) 34 [(3, .int (nI j)), (2, .ref (sa k)), (0, .ref a), (1, .int (nI k))] [.ref (sa j)] := by
          refine z_aload_n hb dX2_removeStep_34 rfl ?_
          have J_38 : ∀ n_1 : Nat, nno ≤ n_1 → z_V M h n_1 (10 - j) (8 * (10 - j)) 38 [(3, .int (nI j)), (2, .ref (sa k)), (0, .ref a), (1, .int (nI k))] [.int (z_b (z_hi w j k))] := by
            intro n_1 hn_1
            refine z_ifb_ne (tgt := 45) hb dX2_removeStep_38 (by decide) (fun c_38 => ?_) (fun c_38 => ?_)
            · refine z_iconst (x := nI 0) hb dX2_removeStep_45 (by decide) ?_
              refine z_iconst (x := nI 4) hb dX2_removeStep_46 (by decide) ?_
              refine z_iload_n hb dX2_removeStep_47 rfl ?_
              refine z_callTf (b' := (10 - j) - 1) (f' := (8 * (10 - j)) - 8) (rest := []) (av := [.int (nI 0), .int (nI 4), .int (nI j)]) (z_siteSN hb ho q1149 q1150 q94 ⟨_, _, _, _, zk_X1_denyUnless⟩ zy_X1_denyUnless zl_X1_denyUnless dX2_removeStep_48 : z_Site M _ _ _ _ _ ([.int (nI 0), .int (nI 4), .int (nI j)].reverse ++ []) [] _) zk_X1_denyUnless q94 hrm (z_C.tf (m_X1_denyUnless_f (nI 4) (nI j))) (by omega) (by decide) (Nat.le_of_ble_eq_true rfl) (by omega) (by omega) (fun q_2 n_3 hq_2 hn_3 => ?_)
              have hjo : j = o9 := by
                rcases Nat.lt_or_ge j o9 with z | z
                · rw [hfst j z] at c_38; cases c_38
                · omega
              subst hjo
              exact z_out ho hH zc5 z_up_s (by omega) (fun _ h => nomatch h) (by rw [hQ]; exact ⟨_, rfl, by omega, by omega, rfl⟩)
            · refine z_iconst (x := nI 1) hb dX2_removeStep_41 (by decide) ?_
              refine z_goto (tgt := 46) hb dX2_removeStep_42 (by decide) ?_
              refine z_iconst (x := nI 4) hb dX2_removeStep_46 (by decide) ?_
              refine z_iload_n hb dX2_removeStep_47 rfl ?_
              refine z_call0 (b' := (10 - j) - 1) (f' := (8 * (10 - j)) - 8) (rest := []) (av := [.int (nI 1), .int (nI 4), .int (nI j)]) (z_siteSN hb ho q1149 q1150 q94 ⟨_, _, _, _, zk_X1_denyUnless⟩ zy_X1_denyUnless zl_X1_denyUnless dX2_removeStep_48 : z_Site M _ _ _ _ _ ([.int (nI 1), .int (nI 4), .int (nI j)].reverse ++ []) [] _) zk_X1_denyUnless q94 hrm ((m_X1_denyUnless_t (nI 4) (nI j))) (by omega) (by decide) (Nat.le_of_ble_eq_true rfl) (by omega) (by omega) ?_
              refine z_iinc (k0 := 0) (lv' := [(3, .int (nI (j + 1))), (2, .ref (sa k)), (0, .ref a), (1, .int (nI k))]) hb dX2_removeStep_51 rfl (nI_1 j) (by rw [hN]; decide) rfl ?_
              refine z_goto (tgt := 8) hb dX2_removeStep_54 (by decide) ?_
              refine z_lv [0, 1, 2, 3] (lv' := [(3, .int (nI (j + 1))), (2, .ref (sa k)), (0, .ref a), (1, .int (nI k))]) rfl ?_
              exact z_bf (by omega) (by omega) (ih_8 n_1 (j + 1) (by omega) (by omega) (by
                rcases Nat.lt_or_ge j o9 with z | z
                · omega
                · rw [show j = o9 by omega, hhi] at c_38; cases c_38))
          rcases hs j (by omega) with ⟨q1, q9⟩ | ⟨q1, q9⟩ | ⟨q1, q9⟩ | ⟨q1, q2, q3, q9⟩ | ⟨q1, q2, q3, q9⟩ | ⟨q1, q2, q3, q9⟩ | ⟨q1, q2, q3, q9⟩
          · refine z_callN1 (b' := 10 - j) (f' := 8 * (10 - j)) (rest := []) (av := [.ref (sa j), .ref (sa k)]) (z_siteU hb ho zc8 q9 q1581 q1583 (Or.inl q1582) q1588 q1595 ⟨by decide +kernel, by decide +kernel⟩ (by show _ = some 1; decide +kernel) dX2_removeStep_35 : z_Site M _ _ _ _ _ ([.ref (sa k)].reverse ++ .ref (sa j) :: []) [] _) zk_X10_hasInput q128 hrm (m_hasInput hs hi (show j < S by omega) (show k < S by omega) _ _ q9 _) (by omega) (by decide) (Nat.le_of_ble_eq_true rfl) (by omega) (by omega) (fun n_4 hn_4 => ?_)
            exact J_38 _ (by omega)
          · refine z_callN1 (b' := 10 - j) (f' := 8 * (10 - j)) (rest := []) (av := [.ref (sa j), .ref (sa k)]) (z_siteU hb ho zc9 q9 q1581 q1583 (Or.inl q1582) q1588 q1587 ⟨by decide +kernel, by decide +kernel⟩ (by show _ = some 1; decide +kernel) dX2_removeStep_35 : z_Site M _ _ _ _ _ ([.ref (sa k)].reverse ++ .ref (sa j) :: []) [] _) zk_X10_hasInput q128 hrm (m_hasInput hs hi (show j < S by omega) (show k < S by omega) _ _ q9 _) (by omega) (by decide) (Nat.le_of_ble_eq_true rfl) (by omega) (by omega) (fun n_5 hn_5 => ?_)
            exact J_38 _ (by omega)
          · refine z_callN1 (b' := 10 - j) (f' := 8 * (10 - j)) (rest := []) (av := [.ref (sa j), .ref (sa k)]) (z_siteU hb ho zc10 q9 q1581 q1583 (Or.inl q1582) q1588 q1590 ⟨by decide +kernel, by decide +kernel⟩ (by show _ = some 1; decide +kernel) dX2_removeStep_35 : z_Site M _ _ _ _ _ ([.ref (sa k)].reverse ++ .ref (sa j) :: []) [] _) zk_X10_hasInput q128 hrm (m_hasInput hs hi (show j < S by omega) (show k < S by omega) _ _ q9 _) (by omega) (by decide) (Nat.le_of_ble_eq_true rfl) (by omega) (by omega) (fun n_6 hn_6 => ?_)
            exact J_38 _ (by omega)
          · refine z_callN1 (b' := 10 - j) (f' := 8 * (10 - j)) (rest := []) (av := [.ref (sa j), .ref (sa k)]) (z_siteU hb ho zc11 q9 q1581 q1583 (Or.inl q1582) q1592 q1591 ⟨by decide +kernel, by decide +kernel⟩ (by show _ = some 1; decide +kernel) dX2_removeStep_35 : z_Site M _ _ _ _ _ ([.ref (sa k)].reverse ++ .ref (sa j) :: []) [] _) zk_X14_hasInput q133 hrm (m_hasInput hs hi (show j < S by omega) (show k < S by omega) _ _ q9 _) (by omega) (by decide) (Nat.le_of_ble_eq_true rfl) (by omega) (by omega) (fun n_7 hn_7 => ?_)
            exact J_38 _ (by omega)
          · refine z_callN1 (b' := 10 - j) (f' := 8 * (10 - j)) (rest := []) (av := [.ref (sa j), .ref (sa k)]) (z_siteU hb ho zc11 q9 q1581 q1583 (Or.inl q1582) q1592 q1591 ⟨by decide +kernel, by decide +kernel⟩ (by show _ = some 1; decide +kernel) dX2_removeStep_35 : z_Site M _ _ _ _ _ ([.ref (sa k)].reverse ++ .ref (sa j) :: []) [] _) zk_X14_hasInput q133 hrm (m_hasInput hs hi (show j < S by omega) (show k < S by omega) _ _ q9 _) (by omega) (by decide) (Nat.le_of_ble_eq_true rfl) (by omega) (by omega) (fun n_8 hn_8 => ?_)
            exact J_38 _ (by omega)
          · refine z_callN1 (b' := 10 - j) (f' := 8 * (10 - j)) (rest := []) (av := [.ref (sa j), .ref (sa k)]) (z_siteU hb ho zc12 q9 q1581 q1583 (Or.inl q1582) q1585 q1594 ⟨by decide +kernel, by decide +kernel⟩ (by show _ = some 1; decide +kernel) dX2_removeStep_35 : z_Site M _ _ _ _ _ ([.ref (sa k)].reverse ++ .ref (sa j) :: []) [] _) zk_X15_hasInput q134 hrm (m_hasInput hs hi (show j < S by omega) (show k < S by omega) _ _ q9 _) (by omega) (by decide) (Nat.le_of_ble_eq_true rfl) (by omega) (by omega) (fun n_9 hn_9 => ?_)
            exact J_38 _ (by omega)
          · refine z_callN1 (b' := 10 - j) (f' := 8 * (10 - j)) (rest := []) (av := [.ref (sa j), .ref (sa k)]) (z_siteU hb ho zc13 q9 q1581 q1583 (Or.inl q1582) q1585 q1584 ⟨by decide +kernel, by decide +kernel⟩ (by show _ = some 1; decide +kernel) dX2_removeStep_35 : z_Site M _ _ _ _ _ ([.ref (sa k)].reverse ++ .ref (sa j) :: []) [] _) zk_X15_hasInput q134 hrm (m_hasInput hs hi (show j < S by omega) (show k < S by omega) _ _ q9 _) (by omega) (by decide) (Nat.le_of_ble_eq_true rfl) (by omega) (by omega) (fun n_10 hn_10 => ?_)
            exact J_38 _ (by omega)
        rcases hs j (by omega) with ⟨q1, q9⟩ | ⟨q1, q9⟩ | ⟨q1, q9⟩ | ⟨q1, q2, q3, q9⟩ | ⟨q1, q2, q3, q9⟩ | ⟨q1, q2, q3, q9⟩ | ⟨q1, q2, q3, q9⟩
        · exact z_cast hb ho zc8 q9 q560 (Or.inr q3300) dX2_removeStep_31 J_34
        · exact z_cast hb ho zc9 q9 q560 (Or.inr q3296) dX2_removeStep_31 J_34
        · exact z_cast hb ho zc10 q9 q560 (Or.inr q3297) dX2_removeStep_31 J_34
        · exact z_cast hb ho zc11 q9 q560 (Or.inr q3298) dX2_removeStep_31 J_34
        · exact z_cast hb ho zc11 q9 q560 (Or.inr q3298) dX2_removeStep_31 J_34
        · exact z_cast hb ho zc12 q9 q560 (Or.inr q3299) dX2_removeStep_31 J_34
        · exact z_cast hb ho zc13 q9 q560 (Or.inr q3295) dX2_removeStep_31 J_34
  refine z_lv [0, 1, 2, 3] (lv' := [(3, .int (nI 0)), (2, .ref (sa k)), (0, .ref a), (1, .int (nI k))]) rfl ?_
  exact z_bf (by omega) (by omega) (lp_8 _ n 0 (Nat.lt_succ_self _) (by omega) (Nat.zero_le _))

set_option maxHeartbeats 1000000 in
theorem m_X2_removeStep_no1 {l : Launch} {G : zG} {h : zH} {n : Nat} {w : Nat → Int32} {v : Nat → Int64} {R S D a lr ls lv : Nat} {ra sa va : Nat → Nat} {x : Int32} (hL : z_Ln G h w v R S D a lr ls lv ra sa va) (hS8 : S ≤ 8) (hx : tw_isS S x = false) : z_C l G yX2_removeStep 31 50 356 [.ref a, .int x] h n (z_tf 28 [] h n) := by
  refine z_start zk_X2_removeStep zpl_RX2 (Nat.le_of_ble_eq_true rfl) ?_
  intro hn0 M hl hG ho hb hN hr hm hH hrm hQ
  subst hl hG
  have ho : zm_o M = RX2 := ho
  obtain ⟨h1, ⟨e0, N0, m0, f0, r1, r2, r3, ⟨r4, r4n⟩, r5⟩, ⟨e, N, m9, f, h3, h4, h5, ⟨h6, h6n⟩, h7⟩, ⟨ev, Nv, mv, fv, v1, v2, v3, ⟨v4, v4n⟩, v5⟩, h9, hs, hv, hi, hrI⟩ := id hL
  show z_V M h n 50 356 0 [(0, .ref a), (1, .int x)] []
  refine z_dom (fun hD0 => ?_)
  refine z_aload_n hb dX2_removeStep_0 rfl ?_
  refine z_iload_n hb dX2_removeStep_1 rfl ?_
  refine z_callTf (b' := 49) (f' := 350) (rest := []) (av := [.ref a, .int x]) (z_siteV hb ho zc1 h1 q1505 q1506 q1507 ⟨_, _, _, _, zk_X2_step⟩ zy_X2_step zl_X2_step dX2_removeStep_2 : z_Site M _ _ _ _ _ ([.int x].reverse ++ .ref a :: []) [] _) zk_X2_step q95 hrm (z_C.tf (m_X2_step_no hL hS8 hx)) (by omega) (by decide) (Nat.le_of_ble_eq_true rfl) (by omega) (by omega) (fun q_1 n_2 hq_1 hn_2 => ?_)
  exact z_out ho hH zc28 z_up_s (by omega) (fun _ h => nomatch h) (by rw [hQ]; exact ⟨_, rfl, by omega, by omega, rfl⟩)

