/-! rows behind a number -/
def z_yb : Nat → MethodName
  | 11 => yX14_rowsBehind
  | 12 => yX16_rowsBehind
  | 13 => yX17_rowsBehind
  | _ => yX10_rowsBehind
def z_rbr (u : Nat → Int64) (a : Nat) : Nat → Int64
  | 0 => 0
  | e + 1 => z_rbr u a e ||| u (7 * a + e)
/-- rows behind a step's number, by those of its inputs -/
def z_rbk (w : Nat → Int32) (u : Nat → Int64) (R g k d : Nat) : Int64 :=
  if tw_base w k then tw_own w k (nI d) (nI g) R else
  if w (176 + 4 * k) = nI 107 then u (7 * tw_f w k + d) else
  if w (176 + 4 * k) = nI 114 then z_rbr u (tw_f w k) (d + 1) else u (7 * tw_f w k + d) ||| u (7 * tw_s w k + d)
section ZRB
variable {w : Nat → Int32} {u : Nat → Int64} {R g k d p : Nat}
theorem z_rbk_b (h : tw_base w k = true) : z_rbk w u R g k d = tw_own w k (nI d) (nI g) R := by unfold z_rbk; rw [if_pos h]
theorem z_rbk_k (h : w (176 + 4 * k) = nI 107) : z_rbk w u R g k d = u (7 * tw_f w k + d) := by
  unfold z_rbk; rw [z_kn h (by simp), h, if_neg (by decide), if_pos rfl]
theorem z_rbk_r (h : w (176 + 4 * k) = nI 114) : z_rbk w u R g k d = z_rbr u (tw_f w k) (d + 1) := by
  unfold z_rbk; rw [z_kn h (by simp), h, if_neg (by decide), if_neg (by decide), if_pos rfl]
theorem z_rbk_p {kd : Nat} (h : w (176 + 4 * k) = nI kd) (hc : kd = 43 ∨ kd = 45) : z_rbk w u R g k d = u (7 * tw_f w k + d) ||| u (7 * tw_s w k + d) := by
  unfold z_rbk; rw [z_kn h (by omega), h]
  rcases hc with rfl | rfl <;> rw [if_neg (by decide), if_neg (by decide), if_neg (by decide)]
theorem z_own_t (h : tw_cnt w p k (nI d) (nI g) = true) : tw_own w k (nI d) (nI g) p ||| (1 <<< ((nI p).toInt64 &&& 63)) = tw_own w k (nI d) (nI g) (p + 1) := by
  show _ = tw_own w k (nI d) (nI g) p ||| (if tw_cnt w p k (nI d) (nI g) then 1 <<< ((nI p).toInt64 &&& 63) else 0)
  rw [if_pos h]
theorem z_own_f (h : tw_cnt w p k (nI d) (nI g) = false) : tw_own w k (nI d) (nI g) p ||| 0 = tw_own w k (nI d) (nI g) (p + 1) := by
  show _ = tw_own w k (nI d) (nI g) p ||| (if tw_cnt w p k (nI d) (nI g) then 1 <<< ((nI p).toInt64 &&& 63) else 0)
  rw [h]; rfl
end ZRB

set_option maxHeartbeats 1000000 in
theorem m_X10_rowsBehind_8 {l : Launch} {G : zG} {h : zH} {n : Nat} {w : Nat → Int32} {v : Nat → Int64} {R S D a lr ls lv : Nat} {ra sa va : Nat → Nat} {k d g : Nat} (hL : z_Ln G h w v R S D a lr ls lv ra sa va) (hR4 : R ≤ 40) (hx : h (sa k) = some (.inr (8, [.int (w (176 + 4 * k + 1)), .int (nI 115)]))) : z_C l G yX10_rowsBehind (2 * k + 6) 0 0 [.ref (sa k), .ref lr, .int (nI d), .int (nI g)] h n (z_rn (.long (tw_own w k (nI d) (nI g) R)) h) := by
  refine z_start zk_X10_rowsBehind zpl_RX10 (Nat.le_of_ble_eq_true rfl) ?_
  intro hn0 M hl hG ho hb hN hr hm hH hrm hQ
  subst hl hG
  have ho : zm_o M = RX10 := ho
  obtain ⟨h1, ⟨e0, N0, m0, f0, r1, r2, r3, ⟨r4, r4n⟩, r5⟩, ⟨e, N, m9, f, h3, h4, h5, ⟨h6, h6n⟩, h7⟩, ⟨ev, Nv, mv, fv, v1, v2, v3, ⟨v4, v4n⟩, v5⟩, h9, hs, hv, hi, hrI⟩ := id hL
  show z_V M h n 0 0 0 [(0, .ref (sa k)), (1, .ref lr), (2, .int (nI d)), (3, .int (nI g))] []
  refine z_dom (fun hD0 => ?_)
  refine z_lconst (x := 0) hb dX10_rowsBehind_0 rfl ?_
  refine z_lstore (lv' := [(4, .long 0), (0, .ref (sa k)), (1, .ref lr), (2, .int (nI d)), (3, .int (nI g))]) hb dX10_rowsBehind_1 (by rw [hN]; decide) rfl ?_
  refine z_iconst (x := nI 0) hb dX10_rowsBehind_3 (by decide) ?_
  refine z_istore (lv' := [(6, .int (nI 0)), (4, .long 0), (0, .ref (sa k)), (1, .ref lr), (2, .int (nI d)), (3, .int (nI g))]) hb dX10_rowsBehind_4 (by rw [hN]; decide) rfl ?_
  have lp_6 : ∀ (k9_6 : Nat) (nno : Nat) (p : Nat), R + 1 - p < k9_6 → (n ≤ nno) → (p ≤ R) → z_V M h nno 0 0 6 [(6, .int (nI p)), (4, .long (tw_own w k (nI d) (nI g) p)), (0, .ref (sa k)), (1, .ref lr), (2, .int (nI d)), (3, .int (nI g))] [] := by
    intro k9_6
    induction k9_6 with
    | zero => intro nno p hk9_6; exact absurd hk9_6 (Nat.not_lt_zero _)
    | succ k9_6 ih_6 =>
      intro nno p hk9_6 hnno hp
      refine z_iload hb dX10_rowsBehind_6 rfl ?_
      refine z_aload_n hb dX10_rowsBehind_8 rfl ?_
      refine z_call1 (b' := 0) (f' := 0) (rest := [.int (nI p)]) (av := [.ref lr]) (z_siteF hb ho zc20 r1 q1955 zx0 q322 q324 q325 q323 q321 zxl0 dX10_rowsBehind_9 : z_Site M _ _ _ _ _ ([].reverse ++ .ref lr :: [.int (nI p)]) [.int (nI p)] _) zk_J2_size q98 hrm (m_J2_size r1) (by omega) (by decide) (Nat.le_of_ble_eq_true rfl) (by omega) (by omega) ?_
      refine z_icmp_geN (tgt := 68) hb dX10_rowsBehind_14 (by decide) (by omega) (by omega) (fun c_14 => ?_) (fun c_14 => ?_)
      · refine z_lload hb dX10_rowsBehind_68 rfl ?_
        refine z_lret hb hr dX10_rowsBehind_70 ?_
        rw [hQ]
        obtain rfl : p = R := by omega
        exact ⟨rfl, rfl⟩
      · refine z_aload_n hb dX10_rowsBehind_17 rfl ?_
        refine z_iload hb dX10_rowsBehind_18 rfl ?_
        refine z_call1 (b' := 0) (f' := 0) (rest := []) (av := [.ref lr, .int (nI p)]) (z_siteF hb ho zc20 r1 q1957 zx6 q663 q665 q666 q664 q321 zxl6 dX10_rowsBehind_20 : z_Site M _ _ _ _ _ ([.int (nI p)].reverse ++ .ref lr :: []) [] _) zk_J2_get q98 hrm (m_J2_get r1 r2 (by omega) (by omega) r5 (by omega)) (by omega) (by decide) (Nat.le_of_ble_eq_true rfl) (by omega) (by omega) ?_
        have hrw_1 := h9 p (by omega)
        unfold z_Rw at hrw_1
        have k_2 : h (ra p) = some (.inr (6, [.int (w (16 + 4 * p)), .int (w (16 + 4 * p + 1)), .int (w (16 + 4 * p + 2)), .int (w (16 + 4 * p + 3))])) := z_ex_r _ _ hrw_1
        refine z_cast hb ho zc6 k_2 q712 (Or.inl rfl) dX10_rowsBehind_25 ?_
        refine z_astore (lv' := [(7, .ref (ra p)), (6, .int (nI p)), (4, .long (tw_own w k (nI d) (nI g) p)), (0, .ref (sa k)), (1, .ref lr), (2, .int (nI d)), (3, .int (nI g))]) hb dX10_rowsBehind_28 (by rw [hN]; decide) rfl ?_
        refine z_lload hb dX10_rowsBehind_30 rfl ?_
        refine z_aload hb dX10_rowsBehind_32 rfl ?_
        refine z_iload_n hb dX10_rowsBehind_34 rfl ?_
        refine z_iload_n hb dX10_rowsBehind_35 rfl ?_
        refine z_call1 (b' := 0) (f' := 0) (rest := [.long (tw_own w k (nI d) (nI g) p)]) (av := [.ref (ra p), .int (nI d), .int (nI g)]) (z_siteV hb ho zc6 k_2 q713 q714 q715 ⟨_, _, _, _, zk_X7_isOf⟩ zy_X7_isOf zl_X7_isOf dX10_rowsBehind_36 : z_Site M _ _ _ _ _ ([.int (nI d), .int (nI g)].reverse ++ .ref (ra p) :: [.long (tw_own w k (nI d) (nI g) p)]) [.long (tw_own w k (nI d) (nI g) p)] _) zk_X7_isOf q122 hrm (m_X7_isOfI k_2) (by omega) (by decide) (Nat.le_of_ble_eq_true rfl) (by omega) (by omega) ?_
        refine z_ifb_eq (tgt := 58) hb dX10_rowsBehind_39 (by decide) (fun c_39 => ?_) (fun c_39 => ?_)
        · refine z_lconst (x := 0) hb dX10_rowsBehind_58 rfl ?_
          refine z_lor hb dX10_rowsBehind_59 ?_
          refine z_toL (y := tw_own w k (nI d) (nI g) (p + 1)) (z_own_f (by unfold tw_cnt; rw [← Bool.and_assoc, c_39]; rfl)) ?_
          refine z_lstore (lv' := [(4, .long (tw_own w k (nI d) (nI g) (p + 1))), (7, .ref (ra p)), (6, .int (nI p)), (0, .ref (sa k)), (1, .ref lr), (2, .int (nI d)), (3, .int (nI g))]) hb dX10_rowsBehind_60 (by rw [hN]; decide) rfl ?_
          refine z_iinc (k0 := 2) (lv' := [(6, .int (nI (p + 1))), (4, .long (tw_own w k (nI d) (nI g) (p + 1))), (7, .ref (ra p)), (0, .ref (sa k)), (1, .ref lr), (2, .int (nI d)), (3, .int (nI g))]) hb dX10_rowsBehind_62 rfl (nI_1 p) (by rw [hN]; decide) rfl ?_
          refine z_goto (tgt := 6) hb dX10_rowsBehind_65 (by decide) ?_
          refine z_lv [0, 1, 3, 4, 5, 6] (lv' := [(6, .int (nI (p + 1))), (4, .long (tw_own w k (nI d) (nI g) (p + 1))), (0, .ref (sa k)), (1, .ref lr), (2, .int (nI d)), (3, .int (nI g))]) rfl ?_
          exact ih_6 nno (p + 1) (by omega) (by omega) (by omega)
        · refine z_aload_n hb dX10_rowsBehind_42 rfl ?_
          refine z_aload hb dX10_rowsBehind_43 rfl ?_
          refine z_call1 (b' := 0) (f' := 0) (rest := [.long (tw_own w k (nI d) (nI g) p)]) (av := [.ref (sa k), .ref (ra p)]) (z_siteV hb ho zc8 hx q717 q718 q722 ⟨_, _, _, _, zk_X10_takes⟩ zy_X10_takes zl_X10_takes dX10_rowsBehind_45 : z_Site M _ _ _ _ _ ([.ref (ra p)].reverse ++ .ref (sa k) :: [.long (tw_own w k (nI d) (nI g) p)]) [.long (tw_own w k (nI d) (nI g) p)] _) zk_X10_takes q128 hrm (m_X10_takes_8 hx k_2) (by omega) (by decide) (Nat.le_of_ble_eq_true rfl) (by omega) (by omega) ?_
          refine z_ifb_eq (tgt := 58) hb dX10_rowsBehind_48 (by decide) (fun c_48 => ?_) (fun c_48 => ?_)
          · refine z_lconst (x := 0) hb dX10_rowsBehind_58 rfl ?_
            refine z_lor hb dX10_rowsBehind_59 ?_
            refine z_toL (y := tw_own w k (nI d) (nI g) (p + 1)) (z_own_f (by unfold tw_cnt; rw [← Bool.and_assoc, c_39, c_48]; rfl)) ?_
            refine z_lstore (lv' := [(4, .long (tw_own w k (nI d) (nI g) (p + 1))), (7, .ref (ra p)), (6, .int (nI p)), (0, .ref (sa k)), (1, .ref lr), (2, .int (nI d)), (3, .int (nI g))]) hb dX10_rowsBehind_60 (by rw [hN]; decide) rfl ?_
            refine z_iinc (k0 := 2) (lv' := [(6, .int (nI (p + 1))), (4, .long (tw_own w k (nI d) (nI g) (p + 1))), (7, .ref (ra p)), (0, .ref (sa k)), (1, .ref lr), (2, .int (nI d)), (3, .int (nI g))]) hb dX10_rowsBehind_62 rfl (nI_1 p) (by rw [hN]; decide) rfl ?_
            refine z_goto (tgt := 6) hb dX10_rowsBehind_65 (by decide) ?_
            refine z_lv [0, 1, 3, 4, 5, 6] (lv' := [(6, .int (nI (p + 1))), (4, .long (tw_own w k (nI d) (nI g) (p + 1))), (0, .ref (sa k)), (1, .ref lr), (2, .int (nI d)), (3, .int (nI g))]) rfl ?_
            exact ih_6 nno (p + 1) (by omega) (by omega) (by omega)
          · refine z_lconst (x := 1) hb dX10_rowsBehind_51 rfl ?_
            refine z_iload hb dX10_rowsBehind_52 rfl ?_
            refine z_lshl hb dX10_rowsBehind_54 rfl ?_
            refine z_goto (tgt := 59) hb dX10_rowsBehind_55 (by decide) ?_
            refine z_lor hb dX10_rowsBehind_59 ?_
            refine z_toL (y := tw_own w k (nI d) (nI g) (p + 1)) (z_own_t (by unfold tw_cnt; simp only [Bool.and_eq_true] at c_39 ⊢; exact ⟨c_39.1, c_39.2, c_48⟩)) ?_
            refine z_lstore (lv' := [(4, .long (tw_own w k (nI d) (nI g) (p + 1))), (7, .ref (ra p)), (6, .int (nI p)), (0, .ref (sa k)), (1, .ref lr), (2, .int (nI d)), (3, .int (nI g))]) hb dX10_rowsBehind_60 (by rw [hN]; decide) rfl ?_
            refine z_iinc (k0 := 2) (lv' := [(6, .int (nI (p + 1))), (4, .long (tw_own w k (nI d) (nI g) (p + 1))), (7, .ref (ra p)), (0, .ref (sa k)), (1, .ref lr), (2, .int (nI d)), (3, .int (nI g))]) hb dX10_rowsBehind_62 rfl (nI_1 p) (by rw [hN]; decide) rfl ?_
            refine z_goto (tgt := 6) hb dX10_rowsBehind_65 (by decide) ?_
            refine z_lv [0, 1, 3, 4, 5, 6] (lv' := [(6, .int (nI (p + 1))), (4, .long (tw_own w k (nI d) (nI g) (p + 1))), (0, .ref (sa k)), (1, .ref lr), (2, .int (nI d)), (3, .int (nI g))]) rfl ?_
            exact ih_6 nno (p + 1) (by omega) (by omega) (by omega)
  refine z_lv [0, 1, 2, 3, 4, 5] (lv' := [(6, .int (nI 0)), (4, .long 0), (0, .ref (sa k)), (1, .ref lr), (2, .int (nI d)), (3, .int (nI g))]) rfl ?_
  exact lp_6 _ n 0 (Nat.lt_succ_self _) (by omega) (Nat.zero_le _)

set_option maxHeartbeats 1000000 in
theorem m_X10_rowsBehind_9 {l : Launch} {G : zG} {h : zH} {n : Nat} {w : Nat → Int32} {v : Nat → Int64} {R S D a lr ls lv : Nat} {ra sa va : Nat → Nat} {k d g : Nat} (hL : z_Ln G h w v R S D a lr ls lv ra sa va) (hR4 : R ≤ 40) (hx : h (sa k) = some (.inr (9, [.int (w (176 + 4 * k + 1)), .int (nI 110)]))) : z_C l G yX10_rowsBehind (2 * k + 6) 0 0 [.ref (sa k), .ref lr, .int (nI d), .int (nI g)] h n (z_rn (.long (tw_own w k (nI d) (nI g) R)) h) := by
  refine z_start zk_X10_rowsBehind zpl_RX10 (Nat.le_of_ble_eq_true rfl) ?_
  intro hn0 M hl hG ho hb hN hr hm hH hrm hQ
  subst hl hG
  have ho : zm_o M = RX10 := ho
  obtain ⟨h1, ⟨e0, N0, m0, f0, r1, r2, r3, ⟨r4, r4n⟩, r5⟩, ⟨e, N, m9, f, h3, h4, h5, ⟨h6, h6n⟩, h7⟩, ⟨ev, Nv, mv, fv, v1, v2, v3, ⟨v4, v4n⟩, v5⟩, h9, hs, hv, hi, hrI⟩ := id hL
  show z_V M h n 0 0 0 [(0, .ref (sa k)), (1, .ref lr), (2, .int (nI d)), (3, .int (nI g))] []
  refine z_dom (fun hD0 => ?_)
  refine z_lconst (x := 0) hb dX10_rowsBehind_0 rfl ?_
  refine z_lstore (lv' := [(4, .long 0), (0, .ref (sa k)), (1, .ref lr), (2, .int (nI d)), (3, .int (nI g))]) hb dX10_rowsBehind_1 (by rw [hN]; decide) rfl ?_
  refine z_iconst (x := nI 0) hb dX10_rowsBehind_3 (by decide) ?_
  refine z_istore (lv' := [(6, .int (nI 0)), (4, .long 0), (0, .ref (sa k)), (1, .ref lr), (2, .int (nI d)), (3, .int (nI g))]) hb dX10_rowsBehind_4 (by rw [hN]; decide) rfl ?_
  have lp_6 : ∀ (k9_6 : Nat) (nno : Nat) (p : Nat), R + 1 - p < k9_6 → (n ≤ nno) → (p ≤ R) → z_V M h nno 0 0 6 [(6, .int (nI p)), (4, .long (tw_own w k (nI d) (nI g) p)), (0, .ref (sa k)), (1, .ref lr), (2, .int (nI d)), (3, .int (nI g))] [] := by
    intro k9_6
    induction k9_6 with
    | zero => intro nno p hk9_6; exact absurd hk9_6 (Nat.not_lt_zero _)
    | succ k9_6 ih_6 =>
      intro nno p hk9_6 hnno hp
      refine z_iload hb dX10_rowsBehind_6 rfl ?_
      refine z_aload_n hb dX10_rowsBehind_8 rfl ?_
      refine z_call1 (b' := 0) (f' := 0) (rest := [.int (nI p)]) (av := [.ref lr]) (z_siteF hb ho zc20 r1 q1955 zx0 q322 q324 q325 q323 q321 zxl0 dX10_rowsBehind_9 : z_Site M _ _ _ _ _ ([].reverse ++ .ref lr :: [.int (nI p)]) [.int (nI p)] _) zk_J2_size q98 hrm (m_J2_size r1) (by omega) (by decide) (Nat.le_of_ble_eq_true rfl) (by omega) (by omega) ?_
      refine z_icmp_geN (tgt := 68) hb dX10_rowsBehind_14 (by decide) (by omega) (by omega) (fun c_14 => ?_) (fun c_14 => ?_)
      · refine z_lload hb dX10_rowsBehind_68 rfl ?_
        refine z_lret hb hr dX10_rowsBehind_70 ?_
        rw [hQ]
        obtain rfl : p = R := by omega
        exact ⟨rfl, rfl⟩
      · refine z_aload_n hb dX10_rowsBehind_17 rfl ?_
        refine z_iload hb dX10_rowsBehind_18 rfl ?_
        refine z_call1 (b' := 0) (f' := 0) (rest := []) (av := [.ref lr, .int (nI p)]) (z_siteF hb ho zc20 r1 q1957 zx6 q663 q665 q666 q664 q321 zxl6 dX10_rowsBehind_20 : z_Site M _ _ _ _ _ ([.int (nI p)].reverse ++ .ref lr :: []) [] _) zk_J2_get q98 hrm (m_J2_get r1 r2 (by omega) (by omega) r5 (by omega)) (by omega) (by decide) (Nat.le_of_ble_eq_true rfl) (by omega) (by omega) ?_
        have hrw_1 := h9 p (by omega)
        unfold z_Rw at hrw_1
        have k_2 : h (ra p) = some (.inr (6, [.int (w (16 + 4 * p)), .int (w (16 + 4 * p + 1)), .int (w (16 + 4 * p + 2)), .int (w (16 + 4 * p + 3))])) := z_ex_r _ _ hrw_1
        refine z_cast hb ho zc6 k_2 q712 (Or.inl rfl) dX10_rowsBehind_25 ?_
        refine z_astore (lv' := [(7, .ref (ra p)), (6, .int (nI p)), (4, .long (tw_own w k (nI d) (nI g) p)), (0, .ref (sa k)), (1, .ref lr), (2, .int (nI d)), (3, .int (nI g))]) hb dX10_rowsBehind_28 (by rw [hN]; decide) rfl ?_
        refine z_lload hb dX10_rowsBehind_30 rfl ?_
        refine z_aload hb dX10_rowsBehind_32 rfl ?_
        refine z_iload_n hb dX10_rowsBehind_34 rfl ?_
        refine z_iload_n hb dX10_rowsBehind_35 rfl ?_
        refine z_call1 (b' := 0) (f' := 0) (rest := [.long (tw_own w k (nI d) (nI g) p)]) (av := [.ref (ra p), .int (nI d), .int (nI g)]) (z_siteV hb ho zc6 k_2 q713 q714 q715 ⟨_, _, _, _, zk_X7_isOf⟩ zy_X7_isOf zl_X7_isOf dX10_rowsBehind_36 : z_Site M _ _ _ _ _ ([.int (nI d), .int (nI g)].reverse ++ .ref (ra p) :: [.long (tw_own w k (nI d) (nI g) p)]) [.long (tw_own w k (nI d) (nI g) p)] _) zk_X7_isOf q122 hrm (m_X7_isOfI k_2) (by omega) (by decide) (Nat.le_of_ble_eq_true rfl) (by omega) (by omega) ?_
        refine z_ifb_eq (tgt := 58) hb dX10_rowsBehind_39 (by decide) (fun c_39 => ?_) (fun c_39 => ?_)
        · refine z_lconst (x := 0) hb dX10_rowsBehind_58 rfl ?_
          refine z_lor hb dX10_rowsBehind_59 ?_
          refine z_toL (y := tw_own w k (nI d) (nI g) (p + 1)) (z_own_f (by unfold tw_cnt; rw [← Bool.and_assoc, c_39]; rfl)) ?_
          refine z_lstore (lv' := [(4, .long (tw_own w k (nI d) (nI g) (p + 1))), (7, .ref (ra p)), (6, .int (nI p)), (0, .ref (sa k)), (1, .ref lr), (2, .int (nI d)), (3, .int (nI g))]) hb dX10_rowsBehind_60 (by rw [hN]; decide) rfl ?_
          refine z_iinc (k0 := 2) (lv' := [(6, .int (nI (p + 1))), (4, .long (tw_own w k (nI d) (nI g) (p + 1))), (7, .ref (ra p)), (0, .ref (sa k)), (1, .ref lr), (2, .int (nI d)), (3, .int (nI g))]) hb dX10_rowsBehind_62 rfl (nI_1 p) (by rw [hN]; decide) rfl ?_
          refine z_goto (tgt := 6) hb dX10_rowsBehind_65 (by decide) ?_
          refine z_lv [0, 1, 3, 4, 5, 6] (lv' := [(6, .int (nI (p + 1))), (4, .long (tw_own w k (nI d) (nI g) (p + 1))), (0, .ref (sa k)), (1, .ref lr), (2, .int (nI d)), (3, .int (nI g))]) rfl ?_
          exact ih_6 nno (p + 1) (by omega) (by omega) (by omega)
        · refine z_aload_n hb dX10_rowsBehind_42 rfl ?_
          refine z_aload hb dX10_rowsBehind_43 rfl ?_
          refine z_call1 (b' := 0) (f' := 0) (rest := [.long (tw_own w k (nI d) (nI g) p)]) (av := [.ref (sa k), .ref (ra p)]) (z_siteV hb ho zc9 hx q717 q718 q720 ⟨_, _, _, _, zk_X10_takes⟩ zy_X10_takes zl_X10_takes dX10_rowsBehind_45 : z_Site M _ _ _ _ _ ([.ref (ra p)].reverse ++ .ref (sa k) :: [.long (tw_own w k (nI d) (nI g) p)]) [.long (tw_own w k (nI d) (nI g) p)] _) zk_X10_takes q128 hrm (m_X10_takes_9 hx k_2) (by omega) (by decide) (Nat.le_of_ble_eq_true rfl) (by omega) (by omega) ?_
          refine z_ifb_eq (tgt := 58) hb dX10_rowsBehind_48 (by decide) (fun c_48 => ?_) (fun c_48 => ?_)
          · refine z_lconst (x := 0) hb dX10_rowsBehind_58 rfl ?_
            refine z_lor hb dX10_rowsBehind_59 ?_
            refine z_toL (y := tw_own w k (nI d) (nI g) (p + 1)) (z_own_f (by unfold tw_cnt; rw [← Bool.and_assoc, c_39, c_48]; rfl)) ?_
            refine z_lstore (lv' := [(4, .long (tw_own w k (nI d) (nI g) (p + 1))), (7, .ref (ra p)), (6, .int (nI p)), (0, .ref (sa k)), (1, .ref lr), (2, .int (nI d)), (3, .int (nI g))]) hb dX10_rowsBehind_60 (by rw [hN]; decide) rfl ?_
            refine z_iinc (k0 := 2) (lv' := [(6, .int (nI (p + 1))), (4, .long (tw_own w k (nI d) (nI g) (p + 1))), (7, .ref (ra p)), (0, .ref (sa k)), (1, .ref lr), (2, .int (nI d)), (3, .int (nI g))]) hb dX10_rowsBehind_62 rfl (nI_1 p) (by rw [hN]; decide) rfl ?_
            refine z_goto (tgt := 6) hb dX10_rowsBehind_65 (by decide) ?_
            refine z_lv [0, 1, 3, 4, 5, 6] (lv' := [(6, .int (nI (p + 1))), (4, .long (tw_own w k (nI d) (nI g) (p + 1))), (0, .ref (sa k)), (1, .ref lr), (2, .int (nI d)), (3, .int (nI g))]) rfl ?_
            exact ih_6 nno (p + 1) (by omega) (by omega) (by omega)
          · refine z_lconst (x := 1) hb dX10_rowsBehind_51 rfl ?_
            refine z_iload hb dX10_rowsBehind_52 rfl ?_
            refine z_lshl hb dX10_rowsBehind_54 rfl ?_
            refine z_goto (tgt := 59) hb dX10_rowsBehind_55 (by decide) ?_
            refine z_lor hb dX10_rowsBehind_59 ?_
            refine z_toL (y := tw_own w k (nI d) (nI g) (p + 1)) (z_own_t (by unfold tw_cnt; simp only [Bool.and_eq_true] at c_39 ⊢; exact ⟨c_39.1, c_39.2, c_48⟩)) ?_
            refine z_lstore (lv' := [(4, .long (tw_own w k (nI d) (nI g) (p + 1))), (7, .ref (ra p)), (6, .int (nI p)), (0, .ref (sa k)), (1, .ref lr), (2, .int (nI d)), (3, .int (nI g))]) hb dX10_rowsBehind_60 (by rw [hN]; decide) rfl ?_
            refine z_iinc (k0 := 2) (lv' := [(6, .int (nI (p + 1))), (4, .long (tw_own w k (nI d) (nI g) (p + 1))), (7, .ref (ra p)), (0, .ref (sa k)), (1, .ref lr), (2, .int (nI d)), (3, .int (nI g))]) hb dX10_rowsBehind_62 rfl (nI_1 p) (by rw [hN]; decide) rfl ?_
            refine z_goto (tgt := 6) hb dX10_rowsBehind_65 (by decide) ?_
            refine z_lv [0, 1, 3, 4, 5, 6] (lv' := [(6, .int (nI (p + 1))), (4, .long (tw_own w k (nI d) (nI g) (p + 1))), (0, .ref (sa k)), (1, .ref lr), (2, .int (nI d)), (3, .int (nI g))]) rfl ?_
            exact ih_6 nno (p + 1) (by omega) (by omega) (by omega)
  refine z_lv [0, 1, 2, 3, 4, 5] (lv' := [(6, .int (nI 0)), (4, .long 0), (0, .ref (sa k)), (1, .ref lr), (2, .int (nI d)), (3, .int (nI g))]) rfl ?_
  exact lp_6 _ n 0 (Nat.lt_succ_self _) (by omega) (Nat.zero_le _)

set_option maxHeartbeats 1000000 in
theorem m_X10_rowsBehind_10 {l : Launch} {G : zG} {h : zH} {n : Nat} {w : Nat → Int32} {v : Nat → Int64} {R S D a lr ls lv : Nat} {ra sa va : Nat → Nat} {k d g : Nat} (hL : z_Ln G h w v R S D a lr ls lv ra sa va) (hR4 : R ≤ 40) (hx : h (sa k) = some (.inr (10, [.int (w (176 + 4 * k + 1)), .int (nI 120)]))) : z_C l G yX10_rowsBehind (2 * k + 6) 0 0 [.ref (sa k), .ref lr, .int (nI d), .int (nI g)] h n (z_rn (.long (tw_own w k (nI d) (nI g) R)) h) := by
  refine z_start zk_X10_rowsBehind zpl_RX10 (Nat.le_of_ble_eq_true rfl) ?_
  intro hn0 M hl hG ho hb hN hr hm hH hrm hQ
  subst hl hG
  have ho : zm_o M = RX10 := ho
  obtain ⟨h1, ⟨e0, N0, m0, f0, r1, r2, r3, ⟨r4, r4n⟩, r5⟩, ⟨e, N, m9, f, h3, h4, h5, ⟨h6, h6n⟩, h7⟩, ⟨ev, Nv, mv, fv, v1, v2, v3, ⟨v4, v4n⟩, v5⟩, h9, hs, hv, hi, hrI⟩ := id hL
  show z_V M h n 0 0 0 [(0, .ref (sa k)), (1, .ref lr), (2, .int (nI d)), (3, .int (nI g))] []
  refine z_dom (fun hD0 => ?_)
  refine z_lconst (x := 0) hb dX10_rowsBehind_0 rfl ?_
  refine z_lstore (lv' := [(4, .long 0), (0, .ref (sa k)), (1, .ref lr), (2, .int (nI d)), (3, .int (nI g))]) hb dX10_rowsBehind_1 (by rw [hN]; decide) rfl ?_
  refine z_iconst (x := nI 0) hb dX10_rowsBehind_3 (by decide) ?_
  refine z_istore (lv' := [(6, .int (nI 0)), (4, .long 0), (0, .ref (sa k)), (1, .ref lr), (2, .int (nI d)), (3, .int (nI g))]) hb dX10_rowsBehind_4 (by rw [hN]; decide) rfl ?_
  have lp_6 : ∀ (k9_6 : Nat) (nno : Nat) (p : Nat), R + 1 - p < k9_6 → (n ≤ nno) → (p ≤ R) → z_V M h nno 0 0 6 [(6, .int (nI p)), (4, .long (tw_own w k (nI d) (nI g) p)), (0, .ref (sa k)), (1, .ref lr), (2, .int (nI d)), (3, .int (nI g))] [] := by
    intro k9_6
    induction k9_6 with
    | zero => intro nno p hk9_6; exact absurd hk9_6 (Nat.not_lt_zero _)
    | succ k9_6 ih_6 =>
      intro nno p hk9_6 hnno hp
      refine z_iload hb dX10_rowsBehind_6 rfl ?_
      refine z_aload_n hb dX10_rowsBehind_8 rfl ?_
      refine z_call1 (b' := 0) (f' := 0) (rest := [.int (nI p)]) (av := [.ref lr]) (z_siteF hb ho zc20 r1 q1955 zx0 q322 q324 q325 q323 q321 zxl0 dX10_rowsBehind_9 : z_Site M _ _ _ _ _ ([].reverse ++ .ref lr :: [.int (nI p)]) [.int (nI p)] _) zk_J2_size q98 hrm (m_J2_size r1) (by omega) (by decide) (Nat.le_of_ble_eq_true rfl) (by omega) (by omega) ?_
      refine z_icmp_geN (tgt := 68) hb dX10_rowsBehind_14 (by decide) (by omega) (by omega) (fun c_14 => ?_) (fun c_14 => ?_)
      · refine z_lload hb dX10_rowsBehind_68 rfl ?_
        refine z_lret hb hr dX10_rowsBehind_70 ?_
        rw [hQ]
        obtain rfl : p = R := by omega
        exact ⟨rfl, rfl⟩
      · refine z_aload_n hb dX10_rowsBehind_17 rfl ?_
        refine z_iload hb dX10_rowsBehind_18 rfl ?_
        refine z_call1 (b' := 0) (f' := 0) (rest := []) (av := [.ref lr, .int (nI p)]) (z_siteF hb ho zc20 r1 q1957 zx6 q663 q665 q666 q664 q321 zxl6 dX10_rowsBehind_20 : z_Site M _ _ _ _ _ ([.int (nI p)].reverse ++ .ref lr :: []) [] _) zk_J2_get q98 hrm (m_J2_get r1 r2 (by omega) (by omega) r5 (by omega)) (by omega) (by decide) (Nat.le_of_ble_eq_true rfl) (by omega) (by omega) ?_
        have hrw_1 := h9 p (by omega)
        unfold z_Rw at hrw_1
        have k_2 : h (ra p) = some (.inr (6, [.int (w (16 + 4 * p)), .int (w (16 + 4 * p + 1)), .int (w (16 + 4 * p + 2)), .int (w (16 + 4 * p + 3))])) := z_ex_r _ _ hrw_1
        refine z_cast hb ho zc6 k_2 q712 (Or.inl rfl) dX10_rowsBehind_25 ?_
        refine z_astore (lv' := [(7, .ref (ra p)), (6, .int (nI p)), (4, .long (tw_own w k (nI d) (nI g) p)), (0, .ref (sa k)), (1, .ref lr), (2, .int (nI d)), (3, .int (nI g))]) hb dX10_rowsBehind_28 (by rw [hN]; decide) rfl ?_
        refine z_lload hb dX10_rowsBehind_30 rfl ?_
        refine z_aload hb dX10_rowsBehind_32 rfl ?_
        refine z_iload_n hb dX10_rowsBehind_34 rfl ?_
        refine z_iload_n hb dX10_rowsBehind_35 rfl ?_
        refine z_call1 (b' := 0) (f' := 0) (rest := [.long (tw_own w k (nI d) (nI g) p)]) (av := [.ref (ra p), .int (nI d), .int (nI g)]) (z_siteV hb ho zc6 k_2 q713 q714 q715 ⟨_, _, _, _, zk_X7_isOf⟩ zy_X7_isOf zl_X7_isOf dX10_rowsBehind_36 : z_Site M _ _ _ _ _ ([.int (nI d), .int (nI g)].reverse ++ .ref (ra p) :: [.long (tw_own w k (nI d) (nI g) p)]) [.long (tw_own w k (nI d) (nI g) p)] _) zk_X7_isOf q122 hrm (m_X7_isOfI k_2) (by omega) (by decide) (Nat.le_of_ble_eq_true rfl) (by omega) (by omega) ?_
        refine z_ifb_eq (tgt := 58) hb dX10_rowsBehind_39 (by decide) (fun c_39 => ?_) (fun c_39 => ?_)
        · refine z_lconst (x := 0) hb dX10_rowsBehind_58 rfl ?_
          refine z_lor hb dX10_rowsBehind_59 ?_
          refine z_toL (y := tw_own w k (nI d) (nI g) (p + 1)) (z_own_f (by unfold tw_cnt; rw [← Bool.and_assoc, c_39]; rfl)) ?_
          refine z_lstore (lv' := [(4, .long (tw_own w k (nI d) (nI g) (p + 1))), (7, .ref (ra p)), (6, .int (nI p)), (0, .ref (sa k)), (1, .ref lr), (2, .int (nI d)), (3, .int (nI g))]) hb dX10_rowsBehind_60 (by rw [hN]; decide) rfl ?_
          refine z_iinc (k0 := 2) (lv' := [(6, .int (nI (p + 1))), (4, .long (tw_own w k (nI d) (nI g) (p + 1))), (7, .ref (ra p)), (0, .ref (sa k)), (1, .ref lr), (2, .int (nI d)), (3, .int (nI g))]) hb dX10_rowsBehind_62 rfl (nI_1 p) (by rw [hN]; decide) rfl ?_
          refine z_goto (tgt := 6) hb dX10_rowsBehind_65 (by decide) ?_
          refine z_lv [0, 1, 3, 4, 5, 6] (lv' := [(6, .int (nI (p + 1))), (4, .long (tw_own w k (nI d) (nI g) (p + 1))), (0, .ref (sa k)), (1, .ref lr), (2, .int (nI d)), (3, .int (nI g))]) rfl ?_
          exact ih_6 nno (p + 1) (by omega) (by omega) (by omega)
        · refine z_aload_n hb dX10_rowsBehind_42 rfl ?_
          refine z_aload hb dX10_rowsBehind_43 rfl ?_
          refine z_call1 (b' := 0) (f' := 0) (rest := [.long (tw_own w k (nI d) (nI g) p)]) (av := [.ref (sa k), .ref (ra p)]) (z_siteV hb ho zc10 hx q717 q718 q721 ⟨_, _, _, _, zk_X10_takes⟩ zy_X10_takes zl_X10_takes dX10_rowsBehind_45 : z_Site M _ _ _ _ _ ([.ref (ra p)].reverse ++ .ref (sa k) :: [.long (tw_own w k (nI d) (nI g) p)]) [.long (tw_own w k (nI d) (nI g) p)] _) zk_X10_takes q128 hrm (m_X10_takes_10 hx k_2) (by omega) (by decide) (Nat.le_of_ble_eq_true rfl) (by omega) (by omega) ?_
          refine z_ifb_eq (tgt := 58) hb dX10_rowsBehind_48 (by decide) (fun c_48 => ?_) (fun c_48 => ?_)
          · refine z_lconst (x := 0) hb dX10_rowsBehind_58 rfl ?_
            refine z_lor hb dX10_rowsBehind_59 ?_
            refine z_toL (y := tw_own w k (nI d) (nI g) (p + 1)) (z_own_f (by unfold tw_cnt; rw [← Bool.and_assoc, c_39, c_48]; rfl)) ?_
            refine z_lstore (lv' := [(4, .long (tw_own w k (nI d) (nI g) (p + 1))), (7, .ref (ra p)), (6, .int (nI p)), (0, .ref (sa k)), (1, .ref lr), (2, .int (nI d)), (3, .int (nI g))]) hb dX10_rowsBehind_60 (by rw [hN]; decide) rfl ?_
            refine z_iinc (k0 := 2) (lv' := [(6, .int (nI (p + 1))), (4, .long (tw_own w k (nI d) (nI g) (p + 1))), (7, .ref (ra p)), (0, .ref (sa k)), (1, .ref lr), (2, .int (nI d)), (3, .int (nI g))]) hb dX10_rowsBehind_62 rfl (nI_1 p) (by rw [hN]; decide) rfl ?_
            refine z_goto (tgt := 6) hb dX10_rowsBehind_65 (by decide) ?_
            refine z_lv [0, 1, 3, 4, 5, 6] (lv' := [(6, .int (nI (p + 1))), (4, .long (tw_own w k (nI d) (nI g) (p + 1))), (0, .ref (sa k)), (1, .ref lr), (2, .int (nI d)), (3, .int (nI g))]) rfl ?_
            exact ih_6 nno (p + 1) (by omega) (by omega) (by omega)
          · refine z_lconst (x := 1) hb dX10_rowsBehind_51 rfl ?_
            refine z_iload hb dX10_rowsBehind_52 rfl ?_
            refine z_lshl hb dX10_rowsBehind_54 rfl ?_
            refine z_goto (tgt := 59) hb dX10_rowsBehind_55 (by decide) ?_
            refine z_lor hb dX10_rowsBehind_59 ?_
            refine z_toL (y := tw_own w k (nI d) (nI g) (p + 1)) (z_own_t (by unfold tw_cnt; simp only [Bool.and_eq_true] at c_39 ⊢; exact ⟨c_39.1, c_39.2, c_48⟩)) ?_
            refine z_lstore (lv' := [(4, .long (tw_own w k (nI d) (nI g) (p + 1))), (7, .ref (ra p)), (6, .int (nI p)), (0, .ref (sa k)), (1, .ref lr), (2, .int (nI d)), (3, .int (nI g))]) hb dX10_rowsBehind_60 (by rw [hN]; decide) rfl ?_
            refine z_iinc (k0 := 2) (lv' := [(6, .int (nI (p + 1))), (4, .long (tw_own w k (nI d) (nI g) (p + 1))), (7, .ref (ra p)), (0, .ref (sa k)), (1, .ref lr), (2, .int (nI d)), (3, .int (nI g))]) hb dX10_rowsBehind_62 rfl (nI_1 p) (by rw [hN]; decide) rfl ?_
            refine z_goto (tgt := 6) hb dX10_rowsBehind_65 (by decide) ?_
            refine z_lv [0, 1, 3, 4, 5, 6] (lv' := [(6, .int (nI (p + 1))), (4, .long (tw_own w k (nI d) (nI g) (p + 1))), (0, .ref (sa k)), (1, .ref lr), (2, .int (nI d)), (3, .int (nI g))]) rfl ?_
            exact ih_6 nno (p + 1) (by omega) (by omega) (by omega)
  refine z_lv [0, 1, 2, 3, 4, 5] (lv' := [(6, .int (nI 0)), (4, .long 0), (0, .ref (sa k)), (1, .ref lr), (2, .int (nI d)), (3, .int (nI g))]) rfl ?_
  exact lp_6 _ n 0 (Nat.lt_succ_self _) (by omega) (Nat.zero_le _)

set_option maxHeartbeats 1000000 in
theorem m_X14_rowsBehind {l : Launch} {G : zG} {h : zH} {n : Nat} {w : Nat → Int32} {u : Nat → Int64} {sa : Nat → Nat} {R S D lr k d g : Nat} {kd : Nat} {s9 : Int32} (hs : ∀ j, j < S → z_Sp h w sa j) (hk : k < S) (hN2 : ∀ j, j < k → ∀ x, x ≤ D → ∀ ci fs, h (sa j) = some (.inr (ci, fs)) → ∀ n : Nat, z_C l G (z_yb ci) (2 * j + 6) 0 0 [.ref (sa j), .ref lr, .int (nI x), .int (nI g)] h n (z_rn (.long (u (7 * j + x))) h)) (hd : d ≤ D) (hD6 : D ≤ 6) (hf : tw_f w k < k) (hs2 : tw_s w k < k) (hx : h (sa k) = some (.inr (11, [.int (nI kd), .ref (sa (tw_f w k)), .ref (sa (tw_s w k)), .int s9]))) (hkd : w (176 + 4 * k) = nI kd) (hkc : kd = 43 ∨ kd = 45) : z_C l G yX14_rowsBehind (2 * k + 6) 0 0 [.ref (sa k), .ref lr, .int (nI d), .int (nI g)] h n (z_rn (.long (z_rbk w u R g k d)) h) := by
  refine z_start zk_X14_rowsBehind zpl_RX14 (Nat.le_of_ble_eq_true rfl) ?_
  intro hn0 M hl hG ho hb hN hr hm hH hrm hQ
  subst hl hG
  have ho : zm_o M = RX14 := ho
  show z_V M h n 0 0 0 [(0, .ref (sa k)), (1, .ref lr), (2, .int (nI d)), (3, .int (nI g))] []
  refine z_dom (fun hD0 => ?_)
  refine z_aload_n hb dX14_rowsBehind_0 rfl ?_
  refine z_get (k := 1) (C := RX14) (T := TX14) (N := 4) hb ho zc11 in_X14 (zf_RX14_7 _) dX14_rowsBehind_1 hx (by decide) rfl ?_
  refine z_aload_n hb dX14_rowsBehind_4 rfl ?_
  refine z_iload_n hb dX14_rowsBehind_5 rfl ?_
  refine z_iload_n hb dX14_rowsBehind_6 rfl ?_
  have J_10 : ∀ n_1 : Nat, n ≤ n_1 → z_V M h n_1 0 0 10 [(0, .ref (sa k)), (1, .ref lr), (2, .int (nI d)), (3, .int (nI g))] [.long (u (7 * tw_f w k + d))] := by
    intro n_1 hn_1
    refine z_aload_n hb dX14_rowsBehind_10 rfl ?_
    refine z_get (k := 2) (C := RX14) (T := TX14) (N := 4) hb ho zc11 in_X14 (zf_RX14_13 _) dX14_rowsBehind_11 hx (by decide) rfl ?_
    refine z_aload_n hb dX14_rowsBehind_14 rfl ?_
    refine z_iload_n hb dX14_rowsBehind_15 rfl ?_
    refine z_iload_n hb dX14_rowsBehind_16 rfl ?_
    have J_20 : ∀ n_2 : Nat, n_1 ≤ n_2 → z_V M h n_2 0 0 20 [(0, .ref (sa k)), (1, .ref lr), (2, .int (nI d)), (3, .int (nI g))] [.long (u (7 * tw_s w k + d)), .long (u (7 * tw_f w k + d))] := by
      intro n_2 hn_2
      refine z_lor hb dX14_rowsBehind_20 ?_
      refine z_lret hb hr dX14_rowsBehind_21 ?_
      rw [hQ]
      exact z_rn_e (by rw [z_rbk_p hkd hkc])
    rcases hs (tw_s w k) (by omega) with ⟨q1, q9⟩ | ⟨q1, q9⟩ | ⟨q1, q9⟩ | ⟨q1, q2, q3, q9⟩ | ⟨q1, q2, q3, q9⟩ | ⟨q1, q2, q3, q9⟩ | ⟨q1, q2, q3, q9⟩
    · refine z_callN1 (b' := 0) (f' := 0) (rest := [.long (u (7 * tw_f w k + d))]) (av := [.ref (sa (tw_s w k)), .ref lr, .int (nI d), .int (nI g)]) (z_siteU hb ho zc8 q9 q1960 q1947 (Or.inl q1946) q1952 q1968 ⟨by decide +kernel, by decide +kernel⟩ (by show _ = some 3; decide +kernel) dX14_rowsBehind_17 : z_Site M _ _ _ _ _ ([.ref lr, .int (nI d), .int (nI g)].reverse ++ .ref (sa (tw_s w k)) :: [.long (u (7 * tw_f w k + d))]) [.long (u (7 * tw_f w k + d))] _) zk_X10_rowsBehind q128 hrm (hN2 _ (by omega) _ (by omega) _ _ q9 _) (by omega) (by decide) (Nat.le_of_ble_eq_true rfl) (by omega) (by omega) (fun n_3 hn_3 => ?_)
      exact J_20 _ (by omega)
    · refine z_callN1 (b' := 0) (f' := 0) (rest := [.long (u (7 * tw_f w k + d))]) (av := [.ref (sa (tw_s w k)), .ref lr, .int (nI d), .int (nI g)]) (z_siteU hb ho zc9 q9 q1960 q1947 (Or.inl q1946) q1952 q1964 ⟨by decide +kernel, by decide +kernel⟩ (by show _ = some 3; decide +kernel) dX14_rowsBehind_17 : z_Site M _ _ _ _ _ ([.ref lr, .int (nI d), .int (nI g)].reverse ++ .ref (sa (tw_s w k)) :: [.long (u (7 * tw_f w k + d))]) [.long (u (7 * tw_f w k + d))] _) zk_X10_rowsBehind q128 hrm (hN2 _ (by omega) _ (by omega) _ _ q9 _) (by omega) (by decide) (Nat.le_of_ble_eq_true rfl) (by omega) (by omega) (fun n_4 hn_4 => ?_)
      exact J_20 _ (by omega)
    · refine z_callN1 (b' := 0) (f' := 0) (rest := [.long (u (7 * tw_f w k + d))]) (av := [.ref (sa (tw_s w k)), .ref lr, .int (nI d), .int (nI g)]) (z_siteU hb ho zc10 q9 q1960 q1947 (Or.inl q1946) q1952 q1965 ⟨by decide +kernel, by decide +kernel⟩ (by show _ = some 3; decide +kernel) dX14_rowsBehind_17 : z_Site M _ _ _ _ _ ([.ref lr, .int (nI d), .int (nI g)].reverse ++ .ref (sa (tw_s w k)) :: [.long (u (7 * tw_f w k + d))]) [.long (u (7 * tw_f w k + d))] _) zk_X10_rowsBehind q128 hrm (hN2 _ (by omega) _ (by omega) _ _ q9 _) (by omega) (by decide) (Nat.le_of_ble_eq_true rfl) (by omega) (by omega) (fun n_5 hn_5 => ?_)
      exact J_20 _ (by omega)
    · refine z_callN1 (b' := 0) (f' := 0) (rest := [.long (u (7 * tw_f w k + d))]) (av := [.ref (sa (tw_s w k)), .ref lr, .int (nI d), .int (nI g)]) (z_siteU hb ho zc11 q9 q1960 q1947 (Or.inl q1946) q1958 q1966 ⟨by decide +kernel, by decide +kernel⟩ (by show _ = some 3; decide +kernel) dX14_rowsBehind_17 : z_Site M _ _ _ _ _ ([.ref lr, .int (nI d), .int (nI g)].reverse ++ .ref (sa (tw_s w k)) :: [.long (u (7 * tw_f w k + d))]) [.long (u (7 * tw_f w k + d))] _) zk_X14_rowsBehind q133 hrm (hN2 _ (by omega) _ (by omega) _ _ q9 _) (by omega) (by decide) (Nat.le_of_ble_eq_true rfl) (by omega) (by omega) (fun n_6 hn_6 => ?_)
      exact J_20 _ (by omega)
    · refine z_callN1 (b' := 0) (f' := 0) (rest := [.long (u (7 * tw_f w k + d))]) (av := [.ref (sa (tw_s w k)), .ref lr, .int (nI d), .int (nI g)]) (z_siteU hb ho zc11 q9 q1960 q1947 (Or.inl q1946) q1958 q1966 ⟨by decide +kernel, by decide +kernel⟩ (by show _ = some 3; decide +kernel) dX14_rowsBehind_17 : z_Site M _ _ _ _ _ ([.ref lr, .int (nI d), .int (nI g)].reverse ++ .ref (sa (tw_s w k)) :: [.long (u (7 * tw_f w k + d))]) [.long (u (7 * tw_f w k + d))] _) zk_X14_rowsBehind q133 hrm (hN2 _ (by omega) _ (by omega) _ _ q9 _) (by omega) (by decide) (Nat.le_of_ble_eq_true rfl) (by omega) (by omega) (fun n_7 hn_7 => ?_)
      exact J_20 _ (by omega)
    · refine z_callN1 (b' := 0) (f' := 0) (rest := [.long (u (7 * tw_f w k + d))]) (av := [.ref (sa (tw_s w k)), .ref lr, .int (nI d), .int (nI g)]) (z_siteU hb ho zc12 q9 q1960 q1947 (Or.inl q1946) q1961 q1967 ⟨by decide +kernel, by decide +kernel⟩ (by show _ = some 3; decide +kernel) dX14_rowsBehind_17 : z_Site M _ _ _ _ _ ([.ref lr, .int (nI d), .int (nI g)].reverse ++ .ref (sa (tw_s w k)) :: [.long (u (7 * tw_f w k + d))]) [.long (u (7 * tw_f w k + d))] _) zk_X16_rowsBehind q135 hrm (hN2 _ (by omega) _ (by omega) _ _ q9 _) (by omega) (by decide) (Nat.le_of_ble_eq_true rfl) (by omega) (by omega) (fun n_8 hn_8 => ?_)
      exact J_20 _ (by omega)
    · refine z_callN1 (b' := 0) (f' := 0) (rest := [.long (u (7 * tw_f w k + d))]) (av := [.ref (sa (tw_s w k)), .ref lr, .int (nI d), .int (nI g)]) (z_siteU hb ho zc13 q9 q1960 q1947 (Or.inl q1946) q1949 q1948 ⟨by decide +kernel, by decide +kernel⟩ (by show _ = some 3; decide +kernel) dX14_rowsBehind_17 : z_Site M _ _ _ _ _ ([.ref lr, .int (nI d), .int (nI g)].reverse ++ .ref (sa (tw_s w k)) :: [.long (u (7 * tw_f w k + d))]) [.long (u (7 * tw_f w k + d))] _) zk_X17_rowsBehind q136 hrm (hN2 _ (by omega) _ (by omega) _ _ q9 _) (by omega) (by decide) (Nat.le_of_ble_eq_true rfl) (by omega) (by omega) (fun n_9 hn_9 => ?_)
      exact J_20 _ (by omega)
  rcases hs (tw_f w k) (by omega) with ⟨q1, q9⟩ | ⟨q1, q9⟩ | ⟨q1, q9⟩ | ⟨q1, q2, q3, q9⟩ | ⟨q1, q2, q3, q9⟩ | ⟨q1, q2, q3, q9⟩ | ⟨q1, q2, q3, q9⟩
  · refine z_callN1 (b' := 0) (f' := 0) (rest := []) (av := [.ref (sa (tw_f w k)), .ref lr, .int (nI d), .int (nI g)]) (z_siteU hb ho zc8 q9 q1960 q1947 (Or.inl q1946) q1952 q1968 ⟨by decide +kernel, by decide +kernel⟩ (by show _ = some 3; decide +kernel) dX14_rowsBehind_7 : z_Site M _ _ _ _ _ ([.ref lr, .int (nI d), .int (nI g)].reverse ++ .ref (sa (tw_f w k)) :: []) [] _) zk_X10_rowsBehind q128 hrm (hN2 _ (by omega) _ (by omega) _ _ q9 _) (by omega) (by decide) (Nat.le_of_ble_eq_true rfl) (by omega) (by omega) (fun n_10 hn_10 => ?_)
    exact J_10 _ (by omega)
  · refine z_callN1 (b' := 0) (f' := 0) (rest := []) (av := [.ref (sa (tw_f w k)), .ref lr, .int (nI d), .int (nI g)]) (z_siteU hb ho zc9 q9 q1960 q1947 (Or.inl q1946) q1952 q1964 ⟨by decide +kernel, by decide +kernel⟩ (by show _ = some 3; decide +kernel) dX14_rowsBehind_7 : z_Site M _ _ _ _ _ ([.ref lr, .int (nI d), .int (nI g)].reverse ++ .ref (sa (tw_f w k)) :: []) [] _) zk_X10_rowsBehind q128 hrm (hN2 _ (by omega) _ (by omega) _ _ q9 _) (by omega) (by decide) (Nat.le_of_ble_eq_true rfl) (by omega) (by omega) (fun n_11 hn_11 => ?_)
    exact J_10 _ (by omega)
  · refine z_callN1 (b' := 0) (f' := 0) (rest := []) (av := [.ref (sa (tw_f w k)), .ref lr, .int (nI d), .int (nI g)]) (z_siteU hb ho zc10 q9 q1960 q1947 (Or.inl q1946) q1952 q1965 ⟨by decide +kernel, by decide +kernel⟩ (by show _ = some 3; decide +kernel) dX14_rowsBehind_7 : z_Site M _ _ _ _ _ ([.ref lr, .int (nI d), .int (nI g)].reverse ++ .ref (sa (tw_f w k)) :: []) [] _) zk_X10_rowsBehind q128 hrm (hN2 _ (by omega) _ (by omega) _ _ q9 _) (by omega) (by decide) (Nat.le_of_ble_eq_true rfl) (by omega) (by omega) (fun n_12 hn_12 => ?_)
    exact J_10 _ (by omega)
  · refine z_callN1 (b' := 0) (f' := 0) (rest := []) (av := [.ref (sa (tw_f w k)), .ref lr, .int (nI d), .int (nI g)]) (z_siteU hb ho zc11 q9 q1960 q1947 (Or.inl q1946) q1958 q1966 ⟨by decide +kernel, by decide +kernel⟩ (by show _ = some 3; decide +kernel) dX14_rowsBehind_7 : z_Site M _ _ _ _ _ ([.ref lr, .int (nI d), .int (nI g)].reverse ++ .ref (sa (tw_f w k)) :: []) [] _) zk_X14_rowsBehind q133 hrm (hN2 _ (by omega) _ (by omega) _ _ q9 _) (by omega) (by decide) (Nat.le_of_ble_eq_true rfl) (by omega) (by omega) (fun n_13 hn_13 => ?_)
    exact J_10 _ (by omega)
  · refine z_callN1 (b' := 0) (f' := 0) (rest := []) (av := [.ref (sa (tw_f w k)), .ref lr, .int (nI d), .int (nI g)]) (z_siteU hb ho zc11 q9 q1960 q1947 (Or.inl q1946) q1958 q1966 ⟨by decide +kernel, by decide +kernel⟩ (by show _ = some 3; decide +kernel) dX14_rowsBehind_7 : z_Site M _ _ _ _ _ ([.ref lr, .int (nI d), .int (nI g)].reverse ++ .ref (sa (tw_f w k)) :: []) [] _) zk_X14_rowsBehind q133 hrm (hN2 _ (by omega) _ (by omega) _ _ q9 _) (by omega) (by decide) (Nat.le_of_ble_eq_true rfl) (by omega) (by omega) (fun n_14 hn_14 => ?_)
    exact J_10 _ (by omega)
  · refine z_callN1 (b' := 0) (f' := 0) (rest := []) (av := [.ref (sa (tw_f w k)), .ref lr, .int (nI d), .int (nI g)]) (z_siteU hb ho zc12 q9 q1960 q1947 (Or.inl q1946) q1961 q1967 ⟨by decide +kernel, by decide +kernel⟩ (by show _ = some 3; decide +kernel) dX14_rowsBehind_7 : z_Site M _ _ _ _ _ ([.ref lr, .int (nI d), .int (nI g)].reverse ++ .ref (sa (tw_f w k)) :: []) [] _) zk_X16_rowsBehind q135 hrm (hN2 _ (by omega) _ (by omega) _ _ q9 _) (by omega) (by decide) (Nat.le_of_ble_eq_true rfl) (by omega) (by omega) (fun n_15 hn_15 => ?_)
    exact J_10 _ (by omega)
  · refine z_callN1 (b' := 0) (f' := 0) (rest := []) (av := [.ref (sa (tw_f w k)), .ref lr, .int (nI d), .int (nI g)]) (z_siteU hb ho zc13 q9 q1960 q1947 (Or.inl q1946) q1949 q1948 ⟨by decide +kernel, by decide +kernel⟩ (by show _ = some 3; decide +kernel) dX14_rowsBehind_7 : z_Site M _ _ _ _ _ ([.ref lr, .int (nI d), .int (nI g)].reverse ++ .ref (sa (tw_f w k)) :: []) [] _) zk_X17_rowsBehind q136 hrm (hN2 _ (by omega) _ (by omega) _ _ q9 _) (by omega) (by decide) (Nat.le_of_ble_eq_true rfl) (by omega) (by omega) (fun n_16 hn_16 => ?_)
    exact J_10 _ (by omega)

set_option maxHeartbeats 1000000 in
theorem m_X17_rowsBehind {l : Launch} {G : zG} {h : zH} {n : Nat} {w : Nat → Int32} {u : Nat → Int64} {sa : Nat → Nat} {R S D lr k d g : Nat} (hs : ∀ j, j < S → z_Sp h w sa j) (hk : k < S) (hN2 : ∀ j, j < k → ∀ x, x ≤ D → ∀ ci fs, h (sa j) = some (.inr (ci, fs)) → ∀ n : Nat, z_C l G (z_yb ci) (2 * j + 6) 0 0 [.ref (sa j), .ref lr, .int (nI x), .int (nI g)] h n (z_rn (.long (u (7 * j + x))) h)) (hd : d ≤ D) (hD6 : D ≤ 6) (hf : tw_f w k < k) (hx : h (sa k) = some (.inr (13, [.ref (sa (tw_f w k)), .int (nI 107), .int (w (176 + 4 * k + 1))]))) (hkd : w (176 + 4 * k) = nI 107) : z_C l G yX17_rowsBehind (2 * k + 6) 0 0 [.ref (sa k), .ref lr, .int (nI d), .int (nI g)] h n (z_rn (.long (z_rbk w u R g k d)) h) := by
  refine z_start zk_X17_rowsBehind zpl_RX17 (Nat.le_of_ble_eq_true rfl) ?_
  intro hn0 M hl hG ho hb hN hr hm hH hrm hQ
  subst hl hG
  have ho : zm_o M = RX17 := ho
  show z_V M h n 0 0 0 [(0, .ref (sa k)), (1, .ref lr), (2, .int (nI d)), (3, .int (nI g))] []
  refine z_dom (fun hD0 => ?_)
  refine z_aload_n hb dX17_rowsBehind_0 rfl ?_
  refine z_call1 (b' := 0) (f' := 0) (rest := []) (av := [.ref (sa k)]) (z_siteU hb ho zc13 hx q687 q688 (Or.inl q689) q691 q690 ⟨by decide +kernel, by decide +kernel⟩ (by show _ = some 0; decide +kernel) dX17_rowsBehind_1 : z_Site M _ _ _ _ _ ([].reverse ++ .ref (sa k) :: []) [] _) zk_X15_input q134 hrm (m_X15_input_13 hx) (by omega) (by decide) (Nat.le_of_ble_eq_true rfl) (by omega) (by omega) ?_
  refine z_aload_n hb dX17_rowsBehind_4 rfl ?_
  refine z_iload_n hb dX17_rowsBehind_5 rfl ?_
  refine z_iload_n hb dX17_rowsBehind_6 rfl ?_
  have J_10 : ∀ n_1 : Nat, n ≤ n_1 → z_V M h n_1 0 0 10 [(0, .ref (sa k)), (1, .ref lr), (2, .int (nI d)), (3, .int (nI g))] [.long (u (7 * tw_f w k + d))] := by
    intro n_1 hn_1
    refine z_lret hb hr dX17_rowsBehind_10 ?_
    rw [hQ]
    exact z_rn_e (by rw [z_rbk_k hkd])
  rcases hs (tw_f w k) (by omega) with ⟨q1, q9⟩ | ⟨q1, q9⟩ | ⟨q1, q9⟩ | ⟨q1, q2, q3, q9⟩ | ⟨q1, q2, q3, q9⟩ | ⟨q1, q2, q3, q9⟩ | ⟨q1, q2, q3, q9⟩
  · refine z_callN1 (b' := 0) (f' := 0) (rest := []) (av := [.ref (sa (tw_f w k)), .ref lr, .int (nI d), .int (nI g)]) (z_siteU hb ho zc8 q9 q1951 q1947 (Or.inl q1946) q1952 q1968 ⟨by decide +kernel, by decide +kernel⟩ (by show _ = some 3; decide +kernel) dX17_rowsBehind_7 : z_Site M _ _ _ _ _ ([.ref lr, .int (nI d), .int (nI g)].reverse ++ .ref (sa (tw_f w k)) :: []) [] _) zk_X10_rowsBehind q128 hrm (hN2 _ (by omega) _ (by omega) _ _ q9 _) (by omega) (by decide) (Nat.le_of_ble_eq_true rfl) (by omega) (by omega) (fun n_2 hn_2 => ?_)
    exact J_10 _ (by omega)
  · refine z_callN1 (b' := 0) (f' := 0) (rest := []) (av := [.ref (sa (tw_f w k)), .ref lr, .int (nI d), .int (nI g)]) (z_siteU hb ho zc9 q9 q1951 q1947 (Or.inl q1946) q1952 q1964 ⟨by decide +kernel, by decide +kernel⟩ (by show _ = some 3; decide +kernel) dX17_rowsBehind_7 : z_Site M _ _ _ _ _ ([.ref lr, .int (nI d), .int (nI g)].reverse ++ .ref (sa (tw_f w k)) :: []) [] _) zk_X10_rowsBehind q128 hrm (hN2 _ (by omega) _ (by omega) _ _ q9 _) (by omega) (by decide) (Nat.le_of_ble_eq_true rfl) (by omega) (by omega) (fun n_3 hn_3 => ?_)
    exact J_10 _ (by omega)
  · refine z_callN1 (b' := 0) (f' := 0) (rest := []) (av := [.ref (sa (tw_f w k)), .ref lr, .int (nI d), .int (nI g)]) (z_siteU hb ho zc10 q9 q1951 q1947 (Or.inl q1946) q1952 q1965 ⟨by decide +kernel, by decide +kernel⟩ (by show _ = some 3; decide +kernel) dX17_rowsBehind_7 : z_Site M _ _ _ _ _ ([.ref lr, .int (nI d), .int (nI g)].reverse ++ .ref (sa (tw_f w k)) :: []) [] _) zk_X10_rowsBehind q128 hrm (hN2 _ (by omega) _ (by omega) _ _ q9 _) (by omega) (by decide) (Nat.le_of_ble_eq_true rfl) (by omega) (by omega) (fun n_4 hn_4 => ?_)
    exact J_10 _ (by omega)
  · refine z_callN1 (b' := 0) (f' := 0) (rest := []) (av := [.ref (sa (tw_f w k)), .ref lr, .int (nI d), .int (nI g)]) (z_siteU hb ho zc11 q9 q1951 q1947 (Or.inl q1946) q1958 q1966 ⟨by decide +kernel, by decide +kernel⟩ (by show _ = some 3; decide +kernel) dX17_rowsBehind_7 : z_Site M _ _ _ _ _ ([.ref lr, .int (nI d), .int (nI g)].reverse ++ .ref (sa (tw_f w k)) :: []) [] _) zk_X14_rowsBehind q133 hrm (hN2 _ (by omega) _ (by omega) _ _ q9 _) (by omega) (by decide) (Nat.le_of_ble_eq_true rfl) (by omega) (by omega) (fun n_5 hn_5 => ?_)
    exact J_10 _ (by omega)
  · refine z_callN1 (b' := 0) (f' := 0) (rest := []) (av := [.ref (sa (tw_f w k)), .ref lr, .int (nI d), .int (nI g)]) (z_siteU hb ho zc11 q9 q1951 q1947 (Or.inl q1946) q1958 q1966 ⟨by decide +kernel, by decide +kernel⟩ (by show _ = some 3; decide +kernel) dX17_rowsBehind_7 : z_Site M _ _ _ _ _ ([.ref lr, .int (nI d), .int (nI g)].reverse ++ .ref (sa (tw_f w k)) :: []) [] _) zk_X14_rowsBehind q133 hrm (hN2 _ (by omega) _ (by omega) _ _ q9 _) (by omega) (by decide) (Nat.le_of_ble_eq_true rfl) (by omega) (by omega) (fun n_6 hn_6 => ?_)
    exact J_10 _ (by omega)
  · refine z_callN1 (b' := 0) (f' := 0) (rest := []) (av := [.ref (sa (tw_f w k)), .ref lr, .int (nI d), .int (nI g)]) (z_siteU hb ho zc12 q9 q1951 q1947 (Or.inl q1946) q1961 q1967 ⟨by decide +kernel, by decide +kernel⟩ (by show _ = some 3; decide +kernel) dX17_rowsBehind_7 : z_Site M _ _ _ _ _ ([.ref lr, .int (nI d), .int (nI g)].reverse ++ .ref (sa (tw_f w k)) :: []) [] _) zk_X16_rowsBehind q135 hrm (hN2 _ (by omega) _ (by omega) _ _ q9 _) (by omega) (by decide) (Nat.le_of_ble_eq_true rfl) (by omega) (by omega) (fun n_7 hn_7 => ?_)
    exact J_10 _ (by omega)
  · refine z_callN1 (b' := 0) (f' := 0) (rest := []) (av := [.ref (sa (tw_f w k)), .ref lr, .int (nI d), .int (nI g)]) (z_siteU hb ho zc13 q9 q1951 q1947 (Or.inl q1946) q1949 q1948 ⟨by decide +kernel, by decide +kernel⟩ (by show _ = some 3; decide +kernel) dX17_rowsBehind_7 : z_Site M _ _ _ _ _ ([.ref lr, .int (nI d), .int (nI g)].reverse ++ .ref (sa (tw_f w k)) :: []) [] _) zk_X17_rowsBehind q136 hrm (hN2 _ (by omega) _ (by omega) _ _ q9 _) (by omega) (by decide) (Nat.le_of_ble_eq_true rfl) (by omega) (by omega) (fun n_8 hn_8 => ?_)
    exact J_10 _ (by omega)

set_option maxHeartbeats 1000000 in
theorem m_X16_rowsBehind {l : Launch} {G : zG} {h : zH} {n : Nat} {w : Nat → Int32} {u : Nat → Int64} {sa : Nat → Nat} {R S D lr k d g : Nat} (hs : ∀ j, j < S → z_Sp h w sa j) (hk : k < S) (hN2 : ∀ j, j < k → ∀ x, x ≤ D → ∀ ci fs, h (sa j) = some (.inr (ci, fs)) → ∀ n : Nat, z_C l G (z_yb ci) (2 * j + 6) 0 0 [.ref (sa j), .ref lr, .int (nI x), .int (nI g)] h n (z_rn (.long (u (7 * j + x))) h)) (hd : d ≤ D) (hD6 : D ≤ 6) (hf : tw_f w k < k) (hx : h (sa k) = some (.inr (12, [.ref (sa (tw_f w k)), .int (nI 114)]))) (hkd : w (176 + 4 * k) = nI 114) : z_C l G yX16_rowsBehind (2 * k + 6) 0 0 [.ref (sa k), .ref lr, .int (nI d), .int (nI g)] h n (z_rn (.long (z_rbk w u R g k d)) h) := by
  refine z_start zk_X16_rowsBehind zpl_RX16 (Nat.le_of_ble_eq_true rfl) ?_
  intro hn0 M hl hG ho hb hN hr hm hH hrm hQ
  subst hl hG
  have ho : zm_o M = RX16 := ho
  show z_V M h n 0 0 0 [(0, .ref (sa k)), (1, .ref lr), (2, .int (nI d)), (3, .int (nI g))] []
  refine z_dom (fun hD0 => ?_)
  refine z_lconst (x := 0) hb dX16_rowsBehind_0 rfl ?_
  refine z_lstore (lv' := [(4, .long 0), (0, .ref (sa k)), (1, .ref lr), (2, .int (nI d)), (3, .int (nI g))]) hb dX16_rowsBehind_1 (by rw [hN]; decide) rfl ?_
  refine z_iconst (x := nI 0) hb dX16_rowsBehind_3 (by decide) ?_
  refine z_istore (lv' := [(6, .int (nI 0)), (4, .long 0), (0, .ref (sa k)), (1, .ref lr), (2, .int (nI d)), (3, .int (nI g))]) hb dX16_rowsBehind_4 (by rw [hN]; decide) rfl ?_
  have lp_6 : ∀ (k9_6 : Nat) (nno : Nat) (e : Nat), d + 2 - e < k9_6 → (n ≤ nno) → (e ≤ d + 1) → z_V M h nno 0 0 6 [(6, .int (nI e)), (4, .long (z_rbr u (tw_f w k) e)), (0, .ref (sa k)), (1, .ref lr), (2, .int (nI d)), (3, .int (nI g))] [] := by
    intro k9_6
    induction k9_6 with
    | zero => intro nno e hk9_6; exact absurd hk9_6 (Nat.not_lt_zero _)
    | succ k9_6 ih_6 =>
      intro nno e hk9_6 hnno he
      refine z_iload hb dX16_rowsBehind_6 rfl ?_
      refine z_iload_n hb dX16_rowsBehind_8 rfl ?_
      refine z_icmp_gtN (tgt := 34) hb dX16_rowsBehind_9 (by decide) (by omega) (by omega) (fun c_9 => ?_) (fun c_9 => ?_)
      · refine z_lload hb dX16_rowsBehind_34 rfl ?_
        refine z_lret hb hr dX16_rowsBehind_36 ?_
        rw [hQ]
        obtain rfl : e = d + 1 := by omega
        exact z_rn_e (by rw [z_rbk_r hkd])
      · refine z_lload hb dX16_rowsBehind_12 rfl ?_
        refine z_aload_n hb dX16_rowsBehind_14 rfl ?_
        refine z_call1 (b' := 0) (f' := 0) (rest := [.long (z_rbr u (tw_f w k) e)]) (av := [.ref (sa k)]) (z_siteU hb ho zc12 hx q751 q752 (Or.inl q689) q691 q753 ⟨by decide +kernel, by decide +kernel⟩ (by show _ = some 0; decide +kernel) dX16_rowsBehind_15 : z_Site M _ _ _ _ _ ([].reverse ++ .ref (sa k) :: [.long (z_rbr u (tw_f w k) e)]) [.long (z_rbr u (tw_f w k) e)] _) zk_X15_input q134 hrm (m_X15_input_12 hx) (by omega) (by decide) (Nat.le_of_ble_eq_true rfl) (by omega) (by omega) ?_
        refine z_aload_n hb dX16_rowsBehind_18 rfl ?_
        refine z_iload hb dX16_rowsBehind_19 rfl ?_
        refine z_iload_n hb dX16_rowsBehind_21 rfl ?_
        have J_25 : ∀ n_1 : Nat, nno ≤ n_1 → z_V M h n_1 0 0 25 [(6, .int (nI e)), (4, .long (z_rbr u (tw_f w k) e)), (0, .ref (sa k)), (1, .ref lr), (2, .int (nI d)), (3, .int (nI g))] [.long (u (7 * tw_f w k + e)), .long (z_rbr u (tw_f w k) e)] := by
          intro n_1 hn_1
          refine z_lor hb dX16_rowsBehind_25 ?_
          refine z_toL (y := z_rbr u (tw_f w k) (e + 1)) rfl ?_
          refine z_lstore (lv' := [(4, .long (z_rbr u (tw_f w k) (e + 1))), (6, .int (nI e)), (0, .ref (sa k)), (1, .ref lr), (2, .int (nI d)), (3, .int (nI g))]) hb dX16_rowsBehind_26 (by rw [hN]; decide) rfl ?_
          refine z_iinc (k0 := 1) (lv' := [(6, .int (nI (e + 1))), (4, .long (z_rbr u (tw_f w k) (e + 1))), (0, .ref (sa k)), (1, .ref lr), (2, .int (nI d)), (3, .int (nI g))]) hb dX16_rowsBehind_28 rfl (nI_1 e) (by rw [hN]; decide) rfl ?_
          refine z_goto (tgt := 6) hb dX16_rowsBehind_31 (by decide) ?_
          refine z_lv [0, 1, 2, 3, 4, 5] (lv' := [(6, .int (nI (e + 1))), (4, .long (z_rbr u (tw_f w k) (e + 1))), (0, .ref (sa k)), (1, .ref lr), (2, .int (nI d)), (3, .int (nI g))]) rfl ?_
          exact ih_6 n_1 (e + 1) (by omega) (by omega) (by omega)
        rcases hs (tw_f w k) (by omega) with ⟨q1, q9⟩ | ⟨q1, q9⟩ | ⟨q1, q9⟩ | ⟨q1, q2, q3, q9⟩ | ⟨q1, q2, q3, q9⟩ | ⟨q1, q2, q3, q9⟩ | ⟨q1, q2, q3, q9⟩
        · refine z_callN1 (b' := 0) (f' := 0) (rest := [.long (z_rbr u (tw_f w k) e)]) (av := [.ref (sa (tw_f w k)), .ref lr, .int (nI e), .int (nI g)]) (z_siteU hb ho zc8 q9 q1963 q1947 (Or.inl q1946) q1952 q1968 ⟨by decide +kernel, by decide +kernel⟩ (by show _ = some 3; decide +kernel) dX16_rowsBehind_22 : z_Site M _ _ _ _ _ ([.ref lr, .int (nI e), .int (nI g)].reverse ++ .ref (sa (tw_f w k)) :: [.long (z_rbr u (tw_f w k) e)]) [.long (z_rbr u (tw_f w k) e)] _) zk_X10_rowsBehind q128 hrm (hN2 _ (by omega) _ (by omega) _ _ q9 _) (by omega) (by decide) (Nat.le_of_ble_eq_true rfl) (by omega) (by omega) (fun n_2 hn_2 => ?_)
          exact J_25 _ (by omega)
        · refine z_callN1 (b' := 0) (f' := 0) (rest := [.long (z_rbr u (tw_f w k) e)]) (av := [.ref (sa (tw_f w k)), .ref lr, .int (nI e), .int (nI g)]) (z_siteU hb ho zc9 q9 q1963 q1947 (Or.inl q1946) q1952 q1964 ⟨by decide +kernel, by decide +kernel⟩ (by show _ = some 3; decide +kernel) dX16_rowsBehind_22 : z_Site M _ _ _ _ _ ([.ref lr, .int (nI e), .int (nI g)].reverse ++ .ref (sa (tw_f w k)) :: [.long (z_rbr u (tw_f w k) e)]) [.long (z_rbr u (tw_f w k) e)] _) zk_X10_rowsBehind q128 hrm (hN2 _ (by omega) _ (by omega) _ _ q9 _) (by omega) (by decide) (Nat.le_of_ble_eq_true rfl) (by omega) (by omega) (fun n_3 hn_3 => ?_)
          exact J_25 _ (by omega)
        · refine z_callN1 (b' := 0) (f' := 0) (rest := [.long (z_rbr u (tw_f w k) e)]) (av := [.ref (sa (tw_f w k)), .ref lr, .int (nI e), .int (nI g)]) (z_siteU hb ho zc10 q9 q1963 q1947 (Or.inl q1946) q1952 q1965 ⟨by decide +kernel, by decide +kernel⟩ (by show _ = some 3; decide +kernel) dX16_rowsBehind_22 : z_Site M _ _ _ _ _ ([.ref lr, .int (nI e), .int (nI g)].reverse ++ .ref (sa (tw_f w k)) :: [.long (z_rbr u (tw_f w k) e)]) [.long (z_rbr u (tw_f w k) e)] _) zk_X10_rowsBehind q128 hrm (hN2 _ (by omega) _ (by omega) _ _ q9 _) (by omega) (by decide) (Nat.le_of_ble_eq_true rfl) (by omega) (by omega) (fun n_4 hn_4 => ?_)
          exact J_25 _ (by omega)
        · refine z_callN1 (b' := 0) (f' := 0) (rest := [.long (z_rbr u (tw_f w k) e)]) (av := [.ref (sa (tw_f w k)), .ref lr, .int (nI e), .int (nI g)]) (z_siteU hb ho zc11 q9 q1963 q1947 (Or.inl q1946) q1958 q1966 ⟨by decide +kernel, by decide +kernel⟩ (by show _ = some 3; decide +kernel) dX16_rowsBehind_22 : z_Site M _ _ _ _ _ ([.ref lr, .int (nI e), .int (nI g)].reverse ++ .ref (sa (tw_f w k)) :: [.long (z_rbr u (tw_f w k) e)]) [.long (z_rbr u (tw_f w k) e)] _) zk_X14_rowsBehind q133 hrm (hN2 _ (by omega) _ (by omega) _ _ q9 _) (by omega) (by decide) (Nat.le_of_ble_eq_true rfl) (by omega) (by omega) (fun n_5 hn_5 => ?_)
          exact J_25 _ (by omega)
        · refine z_callN1 (b' := 0) (f' := 0) (rest := [.long (z_rbr u (tw_f w k) e)]) (av := [.ref (sa (tw_f w k)), .ref lr, .int (nI e), .int (nI g)]) (z_siteU hb ho zc11 q9 q1963 q1947 (Or.inl q1946) q1958 q1966 ⟨by decide +kernel, by decide +kernel⟩ (by show _ = some 3; decide +kernel) dX16_rowsBehind_22 : z_Site M _ _ _ _ _ ([.ref lr, .int (nI e), .int (nI g)].reverse ++ .ref (sa (tw_f w k)) :: [.long (z_rbr u (tw_f w k) e)]) [.long (z_rbr u (tw_f w k) e)] _) zk_X14_rowsBehind q133 hrm (hN2 _ (by omega) _ (by omega) _ _ q9 _) (by omega) (by decide) (Nat.le_of_ble_eq_true rfl) (by omega) (by omega) (fun n_6 hn_6 => ?_)
          exact J_25 _ (by omega)
        · refine z_callN1 (b' := 0) (f' := 0) (rest := [.long (z_rbr u (tw_f w k) e)]) (av := [.ref (sa (tw_f w k)), .ref lr, .int (nI e), .int (nI g)]) (z_siteU hb ho zc12 q9 q1963 q1947 (Or.inl q1946) q1961 q1967 ⟨by decide +kernel, by decide +kernel⟩ (by show _ = some 3; decide +kernel) dX16_rowsBehind_22 : z_Site M _ _ _ _ _ ([.ref lr, .int (nI e), .int (nI g)].reverse ++ .ref (sa (tw_f w k)) :: [.long (z_rbr u (tw_f w k) e)]) [.long (z_rbr u (tw_f w k) e)] _) zk_X16_rowsBehind q135 hrm (hN2 _ (by omega) _ (by omega) _ _ q9 _) (by omega) (by decide) (Nat.le_of_ble_eq_true rfl) (by omega) (by omega) (fun n_7 hn_7 => ?_)
          exact J_25 _ (by omega)
        · refine z_callN1 (b' := 0) (f' := 0) (rest := [.long (z_rbr u (tw_f w k) e)]) (av := [.ref (sa (tw_f w k)), .ref lr, .int (nI e), .int (nI g)]) (z_siteU hb ho zc13 q9 q1963 q1947 (Or.inl q1946) q1949 q1948 ⟨by decide +kernel, by decide +kernel⟩ (by show _ = some 3; decide +kernel) dX16_rowsBehind_22 : z_Site M _ _ _ _ _ ([.ref lr, .int (nI e), .int (nI g)].reverse ++ .ref (sa (tw_f w k)) :: [.long (z_rbr u (tw_f w k) e)]) [.long (z_rbr u (tw_f w k) e)] _) zk_X17_rowsBehind q136 hrm (hN2 _ (by omega) _ (by omega) _ _ q9 _) (by omega) (by decide) (Nat.le_of_ble_eq_true rfl) (by omega) (by omega) (fun n_8 hn_8 => ?_)
          exact J_25 _ (by omega)
  refine z_lv [0, 1, 2, 3, 4, 5] (lv' := [(6, .int (nI 0)), (4, .long 0), (0, .ref (sa k)), (1, .ref lr), (2, .int (nI d)), (3, .int (nI g))]) rfl ?_
  exact lp_6 _ n 0 (Nat.lt_succ_self _) (by omega) (Nat.zero_le _)

theorem m_rb {l : Launch} {G : zG} {h : zH} {w : Nat → Int32} {v : Nat → Int64} {R S D a lr ls lv : Nat} {ra sa va : Nat → Nat} (hL : z_Ln G h w v R S D a lr ls lv ra sa va) (hR4 : R ≤ 40) (hD6 : D ≤ 6) {u : Nat → Int64} {g : Nat} (hu : ∀ k, k < S → ∀ d, d ≤ D → u (7 * k + d) = z_rbk w u R g k d) : ∀ m k, k < m → k < S → ∀ d, d ≤ D → ∀ ci fs, h (sa k) = some (.inr (ci, fs)) → ∀ n : Nat, z_C l G (z_yb ci) (2 * k + 6) 0 0 [.ref (sa k), .ref lr, .int (nI d), .int (nI g)] h n (z_rn (.long (u (7 * k + d))) h)
  | 0, k, h0 => absurd h0 (Nat.not_lt_zero _)
  | m + 1, k, h0 => fun hk d hd ci fs hx n => by
    have IH := fun j (hj : j < k) x (hx9 : x ≤ D) => m_rb (l := l) hL hR4 hD6 hu m j (by omega) (by omega) x hx9
    obtain ⟨-, -, -, -, -, hs, -⟩ := id hL
    rw [hu k hk d hd]
    rcases hs k hk with ⟨qk, q⟩ | ⟨qk, q⟩ | ⟨qk, q⟩ | ⟨qk, g1, g2, q⟩ | ⟨qk, g1, g2, q⟩ | ⟨qk, g1, g2, q⟩ | ⟨qk, g1, g2, q⟩
    all_goals obtain ⟨rfl, rfl⟩ := z_inj hx q
    · rw [z_rbk_b (z_kb qk (by simp))]; exact m_X10_rowsBehind_8 hL hR4 hx
    · rw [z_rbk_b (z_kb qk (by simp))]; exact m_X10_rowsBehind_9 hL hR4 hx
    · rw [z_rbk_b (z_kb qk (by simp))]; exact m_X10_rowsBehind_10 hL hR4 hx
    · exact m_X14_rowsBehind hs hk IH hd hD6 g1 g2 hx qk (Or.inl rfl)
    · exact m_X14_rowsBehind hs hk IH hd hD6 g1 g2 hx qk (Or.inr rfl)
    · exact m_X16_rowsBehind hs hk IH hd hD6 g1 hx qk
    · exact m_X17_rowsBehind hs hk IH hd hD6 g1 hx qk

