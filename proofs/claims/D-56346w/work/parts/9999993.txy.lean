theorem z_ixF_ch {f : Nat → Int32} {x : Int32} : ∀ d k, (z_ixF f x k d = none ∧ ∀ j, k ≤ j → j < k + d → f j ≠ x) ∨ ∃ i, z_ixF f x k d = some i ∧ k ≤ i ∧ i < k + d ∧ f i = x
  | 0, k => Or.inl ⟨rfl, fun j h1 h2 => absurd h2 (by omega)⟩
  | d + 1, k => by
    rw [z_ixF]
    by_cases q : f k = x
    · rw [if_pos q]; exact Or.inr ⟨k, rfl, Nat.le_refl _, by omega, q⟩
    · rw [if_neg q]
      rcases z_ixF_ch (f := f) (x := x) d (k + 1) with ⟨h1, h2⟩ | ⟨i, h1, h2, h3, h4⟩
      · refine Or.inl ⟨h1, fun j g1 g2 => ?_⟩
        by_cases z : j = k
        · rw [z]; exact q
        · exact h2 j (by omega) (by omega)
      · exact Or.inr ⟨i, h1, by omega, by omega, h4⟩
theorem z_by8 : ∀ b : Nat, b < 128 → ∀ c : Nat, c < 256 → (nI b = (nI c).toInt8.toInt32 ↔ b = c) := by decide +kernel
theorem z_ix_mem {L : List Nat} {c : Nat} (hL : ∀ b ∈ L, b < 128) (hl : L.length ≤ 100) : z_o (z_ix L c) < nI 0 ↔ ¬ c ∈ L := by
  unfold z_ix
  by_cases h : c ≤ 255
  · rw [if_pos h]
    rcases z_ixF_ch (f := z_by L) (x := (nI c).toInt8.toInt32) L.length 0 with ⟨h1, h2⟩ | ⟨i, h1, h2, h3, h4⟩
    · rw [h1]
      refine ⟨fun _ hm => ?_, fun _ => by decide⟩
      obtain ⟨j, hj, e⟩ := List.getElem_of_mem hm
      refine h2 j (Nat.zero_le _) (by omega) ?_
      unfold z_by
      rw [List.getD_eq_getElem?_getD, List.getElem?_eq_getElem hj, Option.getD_some, e]
      exact (z_by8 c (by rw [← e]; exact hL _ (List.getElem_mem hj)) c (by omega)).mpr rfl
    · rw [h1]
      refine ⟨fun hx => ?_, fun hm => absurd ?_ hm⟩
      · have h9 : ¬ nI i < nI 0 := by rw [Int32.lt_iff_toInt_lt, nI_toInt (by omega), nI_toInt (by omega)]; omega
        exact absurd hx h9
      · have hi : i < L.length := by omega
        unfold z_by at h4
        rw [List.getD_eq_getElem?_getD, List.getElem?_eq_getElem hi, Option.getD_some] at h4
        rw [← (z_by8 _ (hL _ (List.getElem_mem hi)) c (by omega)).mp h4]
        exact List.getElem_mem hi
  · rw [if_neg h]
    exact ⟨fun _ hm => absurd (hL c hm) (by omega), fun _ => by decide⟩
theorem z_BF.c16 {G : zG} {h : zH} {b e cd : Nat} {cs : List Nat} (q : z_BF G h b e cd cs) (i : Nat) : cs.getD i 0 < 65536 := by
  obtain ⟨N, f, ml, -, -, -, -, -, -, -, q⟩ := q
  rcases Nat.lt_or_ge i cs.length with z | z
  · rcases q with ⟨-, -, q⟩ | ⟨-, -, -, q⟩
    · have := (q i z).1; omega
    · exact (q i z).1
  · rw [List.getD_eq_getElem?_getD, List.getElem?_eq_none z]; decide
/-- the text stands at p, at a sign of L -/
def z_at (cs : List Nat) (p : Nat) (L : List Nat) : Bool := decide (p < cs.length ∧ cs.getD p 0 ∈ L)
def z_sf (p : Nat) : List Value := [.null, .null, .null, .null, .null, .int (nI 0), .int (nI p)]
/-- how a step of the reading ends -/
def z_ps (t x : Nat) (n : Nat) (h : zH) (q : Nat × Bool) (v : Value) : zQ := fun o h' n' =>
  (q.2 = false ∧ o = .returned (some v) ∧ h' t = some (.inr (18, [.int (nI q.1), .ref x])) ∧ z_fr (fun y => y = t) h h') ∨
  (q.2 = true ∧ ∃ a, o = .threw a ∧ n ≤ a ∧ h' a = some (.inr (19, z_sf q.1)) ∧ z_fr (fun y => y = t) h h')
theorem z_ps_r {t x n : Nat} {h : zH} {q : Nat × Bool} {v : Value} {w : Option Value} {h' : zH} {n' : Nat} (z : z_ps t x n h q v (.returned w) h' n') : q.2 = false ∧ w = some v ∧ h' t = some (.inr (18, [.int (nI q.1), .ref x])) ∧ z_fr (fun y => y = t) h h' := by
  rcases z with ⟨z1, z2, z3, z4⟩ | ⟨z1, a, z2, -⟩
  · cases z2; exact ⟨z1, rfl, z3, z4⟩
  · cases z2
theorem z_ps_t {t x n : Nat} {h : zH} {q : Nat × Bool} {v : Value} {a : Nat} {h' : zH} {n' : Nat} (z : z_ps t x n h q v (.threw a) h' n') : q.2 = true ∧ n ≤ a ∧ h' a = some (.inr (19, z_sf q.1)) ∧ z_fr (fun y => y = t) h h' := by
  rcases z with ⟨z1, z2, -⟩ | ⟨z1, a', z2, z3⟩
  · cases z2
  · cases z2; exact ⟨z1, z3⟩

set_option maxHeartbeats 1000000 in
theorem m_X22_isAt {l : Launch} {G : zG} {h : zH} {n : Nat} {t x bu e cd p : Nat} {cs : List Nat} {x0 x1 x3 x4 x5 x6 : Value} {s : Nat} {L : List Nat} {hs9 : Int32} (hp : h t = some (.inr (18, [.int (nI p), .ref x]))) (hX : h x = some (.inr (0, [x0, x1, .ref bu, x3, x4, x5, x6]))) (hBF : z_BF G h bu e cd cs) (hT : cs.length ≤ 60) (hpT : p ≤ cs.length) (hSg : z_Sg G h s L hs9) : z_C l G yX22_isAt 6 0 0 [.ref t, .ref s] h n (z_rn (.int (z_b (z_at cs p L))) h) := by
  refine z_start zk_X22_isAt zpl_RX22 (Nat.le_of_ble_eq_true rfl) ?_
  intro hn0 M hl hG ho hb hN hr hm hH hrm hQ
  subst hl hG
  have ho : zm_o M = RX22 := ho
  obtain ⟨fsb, hob⟩ := z_BF.o hBF
  have hc16 := z_BF.c16 hBF
  obtain ⟨es, hz, a1, a2, a3, a4⟩ := id hSg
  show z_V M h n 0 0 0 [(0, .ref t), (1, .ref s)] []
  refine z_dom (fun hD0 => ?_)
  refine z_aload_n hb dX22_isAt_0 rfl ?_
  refine z_get (k := 0) (C := RX22) (T := TX22) (N := 2) hb ho zc18 in_X22 (zf_RX22_13 _) dX22_isAt_1 hp (by decide) rfl ?_
  refine z_aload_n hb dX22_isAt_4 rfl ?_
  refine z_get (k := 1) (C := RX22) (T := TX22) (N := 2) hb ho zc18 in_X22 (zf_RX22_1 _) dX22_isAt_5 hp (by decide) rfl ?_
  refine z_get (k := 2) (C := RX1) (T := TX1) (N := 7) hb ho zc0 in_X1 (zf_RX22_17 _) dX22_isAt_8 hX (by decide) rfl ?_
  refine z_call1 (b' := 0) (f' := 0) (rest := [.int (nI p)]) (av := [.ref bu]) (z_siteV hb ho zc22 hob q2317 q1054 q3287 ⟨_, _, _, _, zk_J5_length⟩ zy_J5_length zl_J5_length dX22_isAt_11 : z_Site M _ _ _ _ _ ([].reverse ++ .ref bu :: [.int (nI p)]) [.int (nI p)] _) zk_J5_length q101 hrm (m_J5_length (hBF.exx z_ex_r)) (by omega) (by decide) (Nat.le_of_ble_eq_true rfl) (by omega) (by omega) ?_
  refine z_icmp_geN (tgt := 42) hb dX22_isAt_14 (by decide) (by omega) (by omega) (fun c_14 => ?_) (fun c_14 => ?_)
  · refine z_iconst (x := nI 0) hb dX22_isAt_42 (by decide) ?_
    refine z_toI (y := z_b (z_at cs p L)) (by unfold z_at; rw [decide_eq_false (by first | exact fun z => c_14 z.1 | exact fun z => (z_ix_mem a4 a3).mp c_35 z.2 | exact fun z => absurd z.1 (by omega))]; rfl) ?_
    refine z_zret hb hr (z_bnar _) dX22_isAt_43 ?_
    rw [hQ]
    exact ⟨rfl, rfl⟩
  · refine z_aload_n hb dX22_isAt_17 rfl ?_
    refine z_aload_n hb dX22_isAt_18 rfl ?_
    refine z_get (k := 1) (C := RX22) (T := TX22) (N := 2) hb ho zc18 in_X22 (zf_RX22_1 _) dX22_isAt_19 hp (by decide) rfl ?_
    refine z_get (k := 2) (C := RX1) (T := TX1) (N := 7) hb ho zc0 in_X1 (zf_RX22_17 _) dX22_isAt_22 hX (by decide) rfl ?_
    refine z_aload_n hb dX22_isAt_25 rfl ?_
    refine z_get (k := 0) (C := RX22) (T := TX22) (N := 2) hb ho zc18 in_X22 (zf_RX22_13 _) dX22_isAt_26 hp (by decide) rfl ?_
    refine z_call1 (b' := 0) (f' := 0) (rest := [.ref s]) (av := [.ref bu, .int (nI p)]) (z_siteV hb ho zc22 hob q2318 q2319 q2320 ⟨_, _, _, _, zk_J5_charAt⟩ zy_J5_charAt zl_J5_charAt dX22_isAt_29 : z_Site M _ _ _ _ _ ([.int (nI p)].reverse ++ .ref bu :: [.ref s]) [.ref s] _) zk_J5_charAt q101 hrm (m_J5_charAt (hBF.exx z_ex_r) (by omega) (hc16 _)) (by omega) (by decide) (Nat.le_of_ble_eq_true rfl) (by omega) (by omega) ?_
    refine z_callN1 (b' := 0) (f' := 0) (rest := []) (av := [.ref s, .int (nI (cs.getD p 0))]) (z_siteV hb ho zc23 a1 q2328 q1412 q1413 ⟨_, _, _, _, zk_J6_indexOf⟩ zy_J6_indexOf zl_J6_indexOf dX22_isAt_32 : z_Site M _ _ _ _ _ ([.int (nI (cs.getD p 0))].reverse ++ .ref s :: []) [] _) zk_J6_indexOf q102 hrm (m_J6_indexOf (hSg.ex z_ex_r) (hc16 _)) (by omega) (by decide) (Nat.le_of_ble_eq_true rfl) (by omega) (by omega) (fun n_1 hn_1 => ?_)
    refine z_if_lt (tgt := 42) hb dX22_isAt_35 (by decide) (fun c_35 => ?_) (fun c_35 => ?_)
    · refine z_iconst (x := nI 0) hb dX22_isAt_42 (by decide) ?_
      refine z_toI (y := z_b (z_at cs p L)) (by unfold z_at; rw [decide_eq_false (by first | exact fun z => c_14 z.1 | exact fun z => (z_ix_mem a4 a3).mp c_35 z.2 | exact fun z => absurd z.1 (by omega))]; rfl) ?_
      refine z_zret hb hr (z_bnar _) dX22_isAt_43 ?_
      rw [hQ]
      exact ⟨rfl, rfl⟩
    · refine z_iconst (x := nI 1) hb dX22_isAt_38 (by decide) ?_
      refine z_toI (y := z_b (z_at cs p L)) (by unfold z_at; rw [decide_eq_true ⟨by omega, Decidable.byContradiction fun z => c_35 ((z_ix_mem a4 a3).mpr z)⟩]; rfl) ?_
      refine z_goto (tgt := 43) hb dX22_isAt_39 (by decide) ?_
      refine z_zret hb hr (z_bnar _) dX22_isAt_43 ?_
      rw [hQ]
      exact ⟨rfl, rfl⟩

