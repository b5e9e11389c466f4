/-- places of a step's numbers where two tables differ -/
def z_wf (v u : Nat → Int64) (k : Nat) : Nat → Nat
  | 0 => 0
  | i + 1 => z_wf v u k i + (!decide (v (35 * k + i) = u (35 * k + i))).toNat
def z_wq (v u : Nat → Int64) (D : Nat) : Nat → Nat
  | 0 => 0
  | k + 1 => z_wq v u D k + z_wf v u k (5 * (D + 1))
theorem z_wf_le {v u : Nat → Int64} {k : Nat} : ∀ i, z_wf v u k i ≤ i
  | 0 => Nat.le_refl _
  | i + 1 => by
    have := z_wf_le (v := v) (u := u) (k := k) i
    rw [z_wf]
    cases (!decide (v (35 * k + i) = u (35 * k + i))) <;> simp <;> omega
theorem z_wq_le {v u : Nat → Int64} {D : Nat} (hD : D ≤ 6) : ∀ k, z_wq v u D k ≤ 35 * k
  | 0 => Nat.le_refl _
  | k + 1 => by
    have h1 := z_wq_le (v := v) (u := u) (D := D) hD k
    have h2 := z_wf_le (v := v) (u := u) (k := k) (5 * (D + 1))
    rw [z_wq]
    omega
theorem z_wf_e {v u : Nat → Int64} {k i q : Nat} {x y : Int64} (hx : x = v (35 * k + i)) (hy : y = u (35 * k + i)) (h : x = y) : nI (q + z_wf v u k i + 0) = nI (q + z_wf v u k (i + 1)) := by
  rw [z_wf, ← hx, ← hy, h, decide_eq_true rfl]
  rfl
theorem z_wf_n {v u : Nat → Int64} {k i q : Nat} {x y : Int64} (hx : x = v (35 * k + i)) (hy : y = u (35 * k + i)) (h : ¬ x = y) : nI (q + z_wf v u k i + 1) = nI (q + z_wf v u k (i + 1)) := by
  rw [z_wf, ← hx, ← hy, decide_eq_false h]
  rfl
theorem z_vwat {D k i : Nat} {F v : Nat → Int64} (h : ∀ d, d ≤ D → ∀ g, g < 5 → F (5 * d + g) = v (5 * (7 * k + d) + g)) (hi : i < 5 * (D + 1)) : F i = v (35 * k + i) := by
  have h1 := h (i / 5) (by omega) (i % 5) (by omega)
  rw [show 5 * (i / 5) + i % 5 = i by omega] at h1
  rw [h1]
  congr 1
  omega

set_option maxHeartbeats 1000000 in
theorem m_X1_wrong {l : Launch} {G : zG} {h : zH} {n : Nat} {t pa bu li : Nat} {fa : Int32} {de sn : Option Nat} {c9 : Nat} {w : Nat → Int32} {v : Nat → Int64} {R S D a lr ls lv : Nat} {ra sa va : Nat → Nat} (hX : h t = some (z_Ob a pa bu li fa de sn)) (hx0 : z_n0 G ≤ t) (hL : z_Ln G h w v R S D a lr ls lv ra sa va) (hI : z_inv w v R S D c9) (hK : z_KC G h) : z_C l G yX1_wrong 11 400 5000 [.ref t] h n (z_rn (.int (nI (z_wq v (z_n2 w R S v (D + 1)) D S))) h) := by
  refine z_start zk_X1_wrong zpl_RX1 (Nat.le_of_ble_eq_true rfl) ?_
  intro hn0 M hl hG ho hb hN hr hm hH hrm hQ
  subst hl hG
  have ho : zm_o M = RX1 := ho
  obtain ⟨h1, ⟨e0, N0, m0, f0, r1, r2, r3, ⟨r4, r4n⟩, r5⟩, ⟨e, N, m9, f, h3, h4, h5, ⟨h6, h6n⟩, h7⟩, ⟨ev, Nv, mv, fv, v1, v2, v3, ⟨v4, v4n⟩, v5⟩, h9, hs, hv, hi, hrI⟩ := id hL
  obtain ⟨hw, -⟩ := id hI
  obtain ⟨-, hR4, -, hS8, -, hD6, -⟩ := id hw
  show z_V M h n 400 5000 0 [(0, .ref t)] []
  refine z_dom (fun hD0 => ?_)
  refine z_aload_n hb dX1_wrong_0 rfl ?_
  refine z_callQ1 (b' := 0) (f' := 0) (rest := []) (av := [.ref t]) (z_siteV hb ho zc0 hX q466 q468 qs1 ⟨_, _, _, _, zk_X1_renewed⟩ zy_X1_renewed zl_X1_renewed dX1_wrong_1 : z_Site M _ _ _ _ _ ([].reverse ++ .ref t :: []) [] _) zk_X1_renewed q94 hrm (m_X1_renewed hX hx0 ⟨_, _, _, _, _, _, hL⟩ hI hK) (by omega) (by decide) (Nat.le_of_ble_eq_true rfl) (by omega) (by omega) (fun rhq9 h9 n9 hq9 hn9 => ?_)
  obtain ⟨rfl, hq9⟩ := hq9
  obtain ⟨hnn9, hL9, hex9⟩ := hq9
  obtain ⟨lr2, ls2, lv2, ra2, sa2, va2, hLB⟩ := id hL9
  obtain ⟨g1, -, -, ⟨ev2, Nv2, mv2, fv2, t1, t2, t3, ⟨t4, t4n⟩, t5⟩, -, -, hv2, -⟩ := id hLB
  refine z_astore_n (lv' := [(1, .ref n), (0, .ref t)]) hb dX1_wrong_4 (by rw [hN]; decide) rfl ?_
  refine z_iconst (x := nI 0) hb dX1_wrong_5 (by decide) ?_
  refine z_istore_n (lv' := [(2, .int (nI 0)), (1, .ref n), (0, .ref t)]) hb dX1_wrong_6 (by rw [hN]; decide) rfl ?_
  refine z_iconst (x := nI 0) hb dX1_wrong_7 (by decide) ?_
  refine z_istore_n (lv' := [(3, .int (nI 0)), (2, .int (nI 0)), (1, .ref n), (0, .ref t)]) hb dX1_wrong_8 (by rw [hN]; decide) rfl ?_
  have lp_9 : ∀ (k9_9 : Nat) (k : Nat), S + 1 - k < k9_9 → (k ≤ S) → z_V M h9 n9 0 0 9 [(3, .int (nI k)), (2, .int (nI (z_wq v (z_n2 w R S v (D + 1)) D k))), (1, .ref n), (0, .ref t)] [] := by
    intro k9_9
    induction k9_9 with
    | zero => intro k hk9_9; exact absurd hk9_9 (Nat.not_lt_zero _)
    | succ k9_9 ih_9 =>
      intro k hk9_9 hkk
      refine z_iload_n hb dX1_wrong_9 rfl ?_
      refine z_aload_n hb dX1_wrong_10 rfl ?_
      refine z_call1 (b' := 0) (f' := 0) (rest := [.int (nI k)]) (av := [.ref t]) (z_siteV hb ho zc0 (hex9 _ _ hX) q766 q328 q329 ⟨_, _, _, _, zk_X1_steps⟩ zy_X1_steps zl_X1_steps dX1_wrong_11 : z_Site M _ _ _ _ _ ([].reverse ++ .ref t :: [.int (nI k)]) [.int (nI k)] _) zk_X1_steps q94 hrm (m_X1_steps (hex9 _ _ hX) (hL.ex hex9)) (by omega) (by decide) (Nat.le_of_ble_eq_true rfl) (by omega) (by omega) ?_
      refine z_icmp_geN (tgt := 103) hb dX1_wrong_14 (by decide) (by omega) (by omega) (fun c_14 => ?_) (fun c_14 => ?_)
      · refine z_iload_n hb dX1_wrong_103 rfl ?_
        refine z_less hex9 ?_
        refine z_iret hb hr dX1_wrong_104 ?_
        rw [hQ]
        obtain rfl : k = S := by omega
        exact ⟨rfl, rfl⟩
      · have hkS : k < S := by omega
        refine z_iconst (x := nI 0) hb dX1_wrong_17 (by decide) ?_
        refine z_istore (lv' := [(4, .int (nI 0)), (3, .int (nI k)), (2, .int (nI (z_wq v (z_n2 w R S v (D + 1)) D k))), (1, .ref n), (0, .ref t)]) hb dX1_wrong_18 (by rw [hN]; decide) rfl ?_
        have lp_20 : ∀ (k9_20 : Nat) (i : Nat), 5 * (D + 1) + 1 - i < k9_20 → (i ≤ 5 * (D + 1)) → z_V M h9 n9 0 0 20 [(4, .int (nI i)), (3, .int (nI k)), (2, .int (nI (z_wq v (z_n2 w R S v (D + 1)) D k + z_wf v (z_n2 w R S v (D + 1)) k i))), (1, .ref n), (0, .ref t)] [] := by
          intro k9_20
          induction k9_20 with
          | zero => intro i hk9_20; exact absurd hk9_20 (Nat.not_lt_zero _)
          | succ k9_20 ih_20 =>
            intro i hk9_20 hii
            refine z_iload hb dX1_wrong_20 rfl ?_
            refine z_aload_n hb dX1_wrong_22 rfl ?_
            refine z_get (k := 0) (C := RX1) (T := TX1) (N := 7) hb ho zc0 in_X1 (zf_RX1_41 _) dX1_wrong_23 (hex9 _ _ hX) (by decide) rfl ?_
            refine z_get (k := 3) (C := RX2) (T := TX2) (N := 8) hb ho zc1 in_X2 (zf_RX1_120 _) dX1_wrong_26 (hex9 _ _ h1) (by decide) rfl ?_
            refine z_iconst (x := nI 1) hb dX1_wrong_29 (by decide) ?_
            refine z_iadd hb dX1_wrong_30 ?_
            refine z_toI (y := nI (D + 1)) (nI_add D 1) ?_
            refine z_iconst (x := nI 0) hb dX1_wrong_31 (by decide) ?_
            refine z_call1 (b' := 0) (f' := 0) (rest := [.int (nI i)]) (av := [.int (nI (D + 1)), .int (nI 0)]) (z_siteS hb ho q767 q679 q94 ⟨_, _, _, _, zk_X1_place⟩ zy_X1_place zl_X1_place dX1_wrong_32 : z_Site M _ _ _ _ _ ([.int (nI (D + 1)), .int (nI 0)].reverse ++ [.int (nI i)]) [.int (nI i)] _) zk_X1_place q94 hrm (m_X1_place (D + 1) 0) (by omega) (by decide) (Nat.le_of_ble_eq_true rfl) (by omega) (by omega) ?_
            refine z_icmp_geN (tgt := 97) hb dX1_wrong_35 (by decide) (by omega) (by omega) (fun c_35 => ?_) (fun c_35 => ?_)
            · obtain rfl : i = 5 * (D + 1) := by omega
              refine z_iinc (k0 := 1) (lv' := [(3, .int (nI (k + 1))), (4, .int (nI (5 * (D + 1)))), (2, .int (nI (z_wq v (z_n2 w R S v (D + 1)) D k + z_wf v (z_n2 w R S v (D + 1)) k (5 * (D + 1))))), (1, .ref n), (0, .ref t)]) hb dX1_wrong_97 rfl (nI_1 k) (by rw [hN]; decide) rfl ?_
              refine z_goto (tgt := 9) hb dX1_wrong_100 (by decide) ?_
              refine z_lv [0, 2, 3, 4] (lv' := [(3, .int (nI (k + 1))), (2, .int (nI (z_wq v (z_n2 w R S v (D + 1)) D k + z_wf v (z_n2 w R S v (D + 1)) k (5 * (D + 1))))), (1, .ref n), (0, .ref t)]) rfl ?_
              exact ih_9 (k + 1) (by omega) (by omega)
            · have hq1 := z_wq_le (v := v) (u := (z_n2 w R S v (D + 1))) hD6 k
              have hq2 := z_wf_le (v := v) (u := (z_n2 w R S v (D + 1))) (k := k) i
              refine z_iload_n hb dX1_wrong_38 rfl ?_
              refine z_aload_n hb dX1_wrong_39 rfl ?_
              refine z_get (k := 0) (C := RX1) (T := TX1) (N := 7) hb ho zc0 in_X1 (zf_RX1_41 _) dX1_wrong_40 (hex9 _ _ hX) (by decide) rfl ?_
              refine z_get (k := 2) (C := RX2) (T := TX2) (N := 8) hb ho zc1 in_X2 (zf_RX1_240 _) dX1_wrong_43 (hex9 _ _ h1) (by decide) rfl ?_
              refine z_iload_n hb dX1_wrong_46 rfl ?_
              refine z_call1 (b' := 0) (f' := 0) (rest := [.int (nI (z_wq v (z_n2 w R S v (D + 1)) D k + z_wf v (z_n2 w R S v (D + 1)) k i))]) (av := [.ref lv, .int (nI k)]) (z_siteF hb ho zc20 (hex9 _ _ v1) q769 zx6 q663 q665 q666 q664 q321 zxl6 dX1_wrong_47 : z_Site M _ _ _ _ _ ([.int (nI k)].reverse ++ .ref lv :: [.int (nI (z_wq v (z_n2 w R S v (D + 1)) D k + z_wf v (z_n2 w R S v (D + 1)) k i))]) [.int (nI (z_wq v (z_n2 w R S v (D + 1)) D k + z_wf v (z_n2 w R S v (D + 1)) k i))] _) zk_J2_get q98 hrm (m_J2_get (hex9 _ _ v1) (hex9 _ _ v2) (by omega) (by omega) v5 (by omega)) (by omega) (by decide) (Nat.le_of_ble_eq_true rfl) (by omega) (by omega) ?_
              obtain ⟨vi1, vi2, viF, viZ, vip, viq, vir, vis, vit, viu⟩ := hv k hkS
              refine z_cast hb ho zc3 (hex9 _ _ vip) q770 (Or.inl rfl) dX1_wrong_52 ?_
              refine z_get (k := 0) (C := RX4) (T := TX4) (N := 2) hb ho zc3 in_X4 (zf_RX1_245 _) dX1_wrong_55 (hex9 _ _ vip) (by decide) rfl ?_
              refine z_iload hb dX1_wrong_58 rfl ?_
              refine z_lald (j := i) hb dX1_wrong_60 (hex9 _ _ viq) rfl (by omega) (by omega) ?_
              refine z_aload_n hb dX1_wrong_61 rfl ?_
              refine z_get (k := 2) (C := RX2) (T := TX2) (N := 8) hb ho zc1 in_X2 (zf_RX1_240 _) dX1_wrong_62 g1 (by decide) rfl ?_
              refine z_iload_n hb dX1_wrong_65 rfl ?_
              refine z_call1 (b' := 0) (f' := 0) (rest := [.long (viF i), .int (nI (z_wq v (z_n2 w R S v (D + 1)) D k + z_wf v (z_n2 w R S v (D + 1)) k i))]) (av := [.ref lv2, .int (nI k)]) (z_siteF hb ho zc20 t1 q769 zx6 q663 q665 q666 q664 q321 zxl6 dX1_wrong_66 : z_Site M _ _ _ _ _ ([.int (nI k)].reverse ++ .ref lv2 :: [.long (viF i), .int (nI (z_wq v (z_n2 w R S v (D + 1)) D k + z_wf v (z_n2 w R S v (D + 1)) k i))]) [.long (viF i), .int (nI (z_wq v (z_n2 w R S v (D + 1)) D k + z_wf v (z_n2 w R S v (D + 1)) k i))] _) zk_J2_get q98 hrm (m_J2_get t1 t2 (by omega) (by omega) t5 (by omega)) (by omega) (by decide) (Nat.le_of_ble_eq_true rfl) (by omega) (by omega) ?_
              obtain ⟨vj1, vj2, vjF, vjZ, vjp, vjq, vjr, vjs, vjt, vju⟩ := hv2 k hkS
              refine z_cast hb ho zc3 vjp q770 (Or.inl rfl) dX1_wrong_71 ?_
              refine z_get (k := 0) (C := RX4) (T := TX4) (N := 2) hb ho zc3 in_X4 (zf_RX1_245 _) dX1_wrong_74 vjp (by decide) rfl ?_
              refine z_iload hb dX1_wrong_77 rfl ?_
              refine z_lald (j := i) hb dX1_wrong_79 vjq rfl (by omega) (by omega) ?_
              have hA9 := z_vwat vis (show i < 5 * (D + 1) by omega)
              have hB9 := z_vwat vjs (show i < 5 * (D + 1) by omega)
              refine z_lif_ne (tgt := 88) hb dX1_wrong_80 dX1_wrong_81 (by decide) (fun c_81 => ?_) (fun c_81 => ?_)
              · refine z_iconst (x := nI 1) hb dX1_wrong_88 (by decide) ?_
                refine z_iadd hb dX1_wrong_89 ?_
                refine z_toI (y := nI (z_wq v (z_n2 w R S v (D + 1)) D k + z_wf v (z_n2 w R S v (D + 1)) k i + 1)) (nI_add (z_wq v (z_n2 w R S v (D + 1)) D k + z_wf v (z_n2 w R S v (D + 1)) k i) 1) ?_
                refine z_toI (y := nI (z_wq v (z_n2 w R S v (D + 1)) D k + z_wf v (z_n2 w R S v (D + 1)) k (i + 1))) (by first | exact z_wf_e hA9 hB9 (by simpa using c_81) | exact z_wf_n hA9 hB9 (by simpa using c_81)) ?_
                refine z_istore_n (lv' := [(2, .int (nI (z_wq v (z_n2 w R S v (D + 1)) D k + z_wf v (z_n2 w R S v (D + 1)) k (i + 1)))), (4, .int (nI i)), (3, .int (nI k)), (1, .ref n), (0, .ref t)]) hb dX1_wrong_90 (by rw [hN]; decide) rfl ?_
                refine z_iinc (k0 := 1) (lv' := [(4, .int (nI (i + 1))), (2, .int (nI (z_wq v (z_n2 w R S v (D + 1)) D k + z_wf v (z_n2 w R S v (D + 1)) k (i + 1)))), (3, .int (nI k)), (1, .ref n), (0, .ref t)]) hb dX1_wrong_91 rfl (nI_1 i) (by rw [hN]; decide) rfl ?_
                refine z_goto (tgt := 20) hb dX1_wrong_94 (by decide) ?_
                refine z_lv [0, 2, 1, 3, 4] (lv' := [(4, .int (nI (i + 1))), (3, .int (nI k)), (2, .int (nI (z_wq v (z_n2 w R S v (D + 1)) D k + z_wf v (z_n2 w R S v (D + 1)) k (i + 1)))), (1, .ref n), (0, .ref t)]) rfl ?_
                exact ih_20 (i + 1) (by omega) (by omega)
              · refine z_iconst (x := nI 0) hb dX1_wrong_84 (by decide) ?_
                refine z_goto (tgt := 89) hb dX1_wrong_85 (by decide) ?_
                refine z_iadd hb dX1_wrong_89 ?_
                refine z_toI (y := nI (z_wq v (z_n2 w R S v (D + 1)) D k + z_wf v (z_n2 w R S v (D + 1)) k i)) (nI_add (z_wq v (z_n2 w R S v (D + 1)) D k + z_wf v (z_n2 w R S v (D + 1)) k i) 0) ?_
                refine z_toI (y := nI (z_wq v (z_n2 w R S v (D + 1)) D k + z_wf v (z_n2 w R S v (D + 1)) k (i + 1))) (by first | exact z_wf_e hA9 hB9 (by simpa using c_81) | exact z_wf_n hA9 hB9 (by simpa using c_81)) ?_
                refine z_istore_n (lv' := [(2, .int (nI (z_wq v (z_n2 w R S v (D + 1)) D k + z_wf v (z_n2 w R S v (D + 1)) k (i + 1)))), (4, .int (nI i)), (3, .int (nI k)), (1, .ref n), (0, .ref t)]) hb dX1_wrong_90 (by rw [hN]; decide) rfl ?_
                refine z_iinc (k0 := 1) (lv' := [(4, .int (nI (i + 1))), (2, .int (nI (z_wq v (z_n2 w R S v (D + 1)) D k + z_wf v (z_n2 w R S v (D + 1)) k (i + 1)))), (3, .int (nI k)), (1, .ref n), (0, .ref t)]) hb dX1_wrong_91 rfl (nI_1 i) (by rw [hN]; decide) rfl ?_
                refine z_goto (tgt := 20) hb dX1_wrong_94 (by decide) ?_
                refine z_lv [0, 2, 1, 3, 4] (lv' := [(4, .int (nI (i + 1))), (3, .int (nI k)), (2, .int (nI (z_wq v (z_n2 w R S v (D + 1)) D k + z_wf v (z_n2 w R S v (D + 1)) k (i + 1)))), (1, .ref n), (0, .ref t)]) rfl ?_
                exact ih_20 (i + 1) (by omega) (by omega)
        refine z_lv [0, 1, 2, 3, 4] (lv' := [(4, .int (nI 0)), (3, .int (nI k)), (2, .int (nI (z_wq v (z_n2 w R S v (D + 1)) D k))), (1, .ref n), (0, .ref t)]) rfl ?_
        exact lp_20 _ 0 (Nat.lt_succ_self _) (Nat.zero_le _)
  refine z_lv [0, 1, 2, 3] (lv' := [(3, .int (nI 0)), (2, .int (nI 0)), (1, .ref n), (0, .ref t)]) rfl ?_
  exact lp_9 _ 0 (Nat.lt_succ_self _) (Nat.zero_le _)

