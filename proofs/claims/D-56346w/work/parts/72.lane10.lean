theorem z_Ls.ex {G : zG} {h h2 : zH} {a k : Nat} {g : Nat → Nat} (he : z_ex h h2) (q : z_Ls G h a k g) : z_Ls G h2 a k g := by
  obtain ⟨e, N, m9, f, h1, h2, h3⟩ := q
  exact ⟨e, N, m9, f, he _ _ h1, he _ _ h2, h3⟩
theorem z_Sp.ex {h h2 : zH} {w : Nat → Int32} {sa : Nat → Nat} {k : Nat} (he : z_ex h h2) (q : z_Sp h w sa k) : z_Sp h2 w sa k := by
  rcases q with ⟨q1, q⟩ | ⟨q1, q⟩ | ⟨q1, q⟩ | ⟨q1, q2, q3, q⟩ | ⟨q1, q2, q3, q⟩ | ⟨q1, q2, q3, q⟩ | ⟨q1, q2, q3, q⟩
  · exact Or.inl ⟨q1, he _ _ q⟩
  · exact Or.inr (Or.inl ⟨q1, he _ _ q⟩)
  · exact Or.inr (Or.inr (Or.inl ⟨q1, he _ _ q⟩))
  · exact Or.inr (Or.inr (Or.inr (Or.inl ⟨q1, q2, q3, he _ _ q⟩)))
  · exact Or.inr (Or.inr (Or.inr (Or.inr (Or.inl ⟨q1, q2, q3, he _ _ q⟩))))
  · exact Or.inr (Or.inr (Or.inr (Or.inr (Or.inr (Or.inl ⟨q1, q2, q3, he _ _ q⟩)))))
  · exact Or.inr (Or.inr (Or.inr (Or.inr (Or.inr (Or.inr ⟨q1, q2, q3, he _ _ q⟩)))))
theorem z_Vw.ex {G : zG} {h h2 : zH} {w : Nat → Int32} {v : Nat → Int64} {D : Nat} {va : Nat → Nat} {k : Nat} (he : z_ex h h2) (q : z_Vw G h w v D va k) : z_Vw G h2 w v D va k := by
  obtain ⟨e1, e2, F, Z, q1, q2, q3, q4⟩ := q
  exact ⟨e1, e2, F, Z, he _ _ q1, he _ _ q2, he _ _ q3, q4⟩
theorem z_Ln.ex {G : zG} {h h2 : zH} {w : Nat → Int32} {v : Nat → Int64} {R S D a lr ls lv : Nat} {ra sa va : Nat → Nat} (he : z_ex h h2) (q : z_Ln G h w v R S D a lr ls lv ra sa va) : z_Ln G h2 w v R S D a lr ls lv ra sa va := by
  obtain ⟨h1, h2, h3, h4, h5, h6, h7, h8, h9⟩ := q
  exact ⟨he _ _ h1, h2.ex he, h3.ex he, h4.ex he, fun p hp => he _ _ (h5 p hp), fun k hk => (h6 k hk).ex he, fun k hk => (h7 k hk).ex he, h8, h9⟩
def z_yc : Nat → MethodName
  | 11 => yX14_compute
  | 12 => yX16_compute
  | 13 => yX17_compute
  | _ => yX10_compute
/-- the kinds of a step, by its cell -/
theorem z_inj {h : zH} {a c1 c2 : Nat} {f1 f2 : List Value} (h1 : h a = some (.inr (c1, f1))) (h2 : h a = some (.inr (c2, f2))) : c1 = c2 ∧ f1 = f2 := by
  have e := Option.some.inj (h1.symm.trans h2)
  injection e with e
  injection e with e e2
  exact ⟨e, e2⟩
def z_sum' (f : Nat → Nat) : Nat → Nat
  | 0 => 0
  | n + 1 => z_sum' f n + f n
/-- cells that the numbers computed anew cost -/
def z_F : Nat → Nat → Nat
  | 0, _ => 1
  | k + 1, d => max (2 * z_F k d) (z_sum' (z_F k) (d + 1))
theorem z_F_pos : ∀ k d, 1 ≤ z_F k d
  | 0, _ => Nat.le_refl _
  | k + 1, d => by
    have := z_F_pos k d
    rw [z_F]; omega
theorem z_F_mono {d : Nat} : ∀ {k j : Nat}, j ≤ k → z_F j d ≤ z_F k d
  | 0, j, h => by rw [show j = 0 by omega]; exact Nat.le_refl _
  | k + 1, j, h => by
    by_cases q : j = k + 1
    · rw [q]; exact Nat.le_refl _
    · have := z_F_mono (d := d) (show j ≤ k by omega)
      rw [z_F.eq_2]; omega
theorem z_F_two {f s k d : Nat} (hf : f < k) (hs : s < k) : z_F f d + z_F s d ≤ z_F k d := by
  have h1 := z_F_mono (d := d) (show f ≤ k - 1 by omega)
  have h2 := z_F_mono (d := d) (show s ≤ k - 1 by omega)
  obtain ⟨m, rfl⟩ : ∃ m, k = m + 1 := ⟨k - 1, by omega⟩
  rw [Nat.add_sub_cancel] at h1 h2
  rw [z_F.eq_2]; omega
theorem z_sF_eq {F : Nat → Nat → Nat} {j : Nat} : ∀ n a, z_sF F j a n + z_sum' (F j) a = z_sum' (F j) (a + n)
  | 0, a => by rw [z_sF, Nat.zero_add]; rfl
  | n + 1, a => by
    have := z_sF_eq (F := F) (j := j) n (a + 1)
    rw [z_sF, show a + (n + 1) = a + 1 + n by omega, ← this, z_sum']; omega
theorem z_sum_mono {f g : Nat → Nat} : ∀ n, (∀ i, i < n → f i ≤ g i) → z_sum' f n ≤ z_sum' g n
  | 0, _ => Nat.le_refl _
  | n + 1, h => by
    have := z_sum_mono n fun i hi => h i (by omega)
    have := h n (by omega)
    rw [z_sum', z_sum']; omega
theorem z_F_run {f k d : Nat} (hf : f < k) : z_sF z_F f 0 (d + 1) ≤ z_F k d := by
  have h1 := z_sF_eq (F := z_F) (j := f) (d + 1) 0
  obtain ⟨m, rfl⟩ : ∃ m, k = m + 1 := ⟨k - 1, by omega⟩
  have h2 := z_sum_mono (f := z_F f) (g := z_F m) (d + 1) fun i _ => z_F_mono (by omega)
  rw [Nat.zero_add] at h1
  rw [z_F.eq_2]
  have h3 : z_sum' (z_F f) 0 = 0 := rfl
  omega

theorem z_sF_0 (j : Nat) : ∀ (n a : Nat), z_sF (fun _ _ => 0) j a n ≤ 1
  | 0, _ => Nat.zero_le _
  | n + 1, a => by rw [z_sF]; have := z_sF_0 j n (a + 1); omega

theorem m_compL {l : Launch} {G : zG} {h : zH} {w : Nat → Int32} {v : Nat → Int64} {R S D a lr ls lv : Nat} {ra sa va : Nat → Nat} (hL : z_Ln G h w v R S D a lr ls lv ra sa va) (hS8 : S ≤ 8) (hR4 : R ≤ 40) (hD6 : D ≤ 6)  {k : Nat} (hk : k < S) {d g : Nat} (hd : d ≤ D) (hg : g < 5)  : ∀ ci fs, h (sa k) = some (.inr (ci, fs)) → ∀ n : Nat, z_C l G (z_yc ci) 8 1 (4 * 1) [.ref (sa k), .ref lr, .ref a, .int (nI d), .int (nI g)] h n (z_rn (.long (tw_made w v R k d g)) h) := by
  intro ci fs hx n
  have hN2 : ∀ j, j < k → ∀ x y, x ≤ D → y < 5 → ∀ n : Nat, z_C l G yX2_number ((fun _ => 6 : Nat → Nat) j) ((fun _ _ => 0 : Nat → Nat → Nat) j x) (4 * (fun _ _ => 0 : Nat → Nat → Nat) j x) [.ref a, .ref (sa j), .int (nI x), .int (nI y)] h n (z_rn (.long (v (5 * (7 * j + x) + y))) h) := fun j hj x y hx hy n => z_C.rn (m_X2_number hL (by omega) hS8 hD6 hx hy)
  obtain ⟨h1, -, -, -, -, hs, -⟩ := id hL
  have hrN : ∀ j, j < k → (fun _ => 6) j < 8 := fun j hj => by show 6 < 8; decide
  rcases hs k hk with ⟨qk, q⟩ | ⟨qk, q⟩ | ⟨qk, q⟩ | ⟨qk, g1, g2, q⟩ | ⟨qk, g1, g2, q⟩ | ⟨qk, g1, g2, q⟩ | ⟨qk, g1, g2, q⟩
  all_goals obtain ⟨rfl, rfl⟩ := z_inj hx q
  · rw [z_mk_b (z_kb qk (by simp))]; exact m_X10_compute_8 (nb := _) (u := v) (F := fun _ _ => 0) (rN := fun _ => 0) (fsn := []) hL hR4 (Nat.le_refl _) (by omega) hx qk
  · rw [z_mk_b (z_kb qk (by simp))]; exact m_X10_compute_9 (nb := _) (u := v) (F := fun _ _ => 0) (rN := fun _ => 0) (fsn := []) hL hR4 (Nat.le_refl _) (by omega) hx qk
  · rw [z_mk_b (z_kb qk (by simp))]; exact m_X10_compute_10 (nb := _) (u := v) (F := fun _ _ => 0) (rN := fun _ => 0) (fsn := []) hL hR4 (Nat.le_refl _) (by omega) hx qk
  · exact m_X14_compute_p_1 h1 hN2 hrN (by omega) hd hg hD6 g1 g2 (Nat.zero_le _) hx qk
  · exact m_X14_compute_m_1 h1 hN2 hrN (by omega) hd hg hD6 g1 g2 (Nat.zero_le _) hx qk
  · exact m_X16_compute_1 h1 hN2 hrN (by omega) hd hg hD6 g1 (z_sF_0 _ _ _) hx qk
  · exact m_X17_compute_1 h1 hN2 hrN (by omega) hd hg hD6 g1 (Nat.zero_le _) hx qk

theorem m_compA {l : Launch} {G : zG} {h : zH} {w : Nat → Int32} {v : Nat → Int64} {R S D a lr ls lv : Nat} {ra sa va : Nat → Nat} (hL : z_Ln G h w v R S D a lr ls lv ra sa va) (hS8 : S ≤ 8) (hR4 : R ≤ 40) (hD6 : D ≤ 6) {u : Nat → Int64} {nb : Nat} {fsn : List Value} (hnb : h nb = some (.inr (14, fsn))) {k : Nat} (hk : k < S) {d g : Nat} (hd : d ≤ D) (hg : g < 5) (hN2 : ∀ j, j < k → ∀ x y, x ≤ D → y < 5 → ∀ n : Nat, z_C l G yX18_number ((fun j => 2 * j + 7 : Nat → Nat) j) (z_F j x) (4 * z_F j x) [.ref nb, .ref (sa j), .int (nI x), .int (nI y)] h n (z_rn (.long (u (5 * (7 * j + x) + y))) h)) : ∀ ci fs, h (sa k) = some (.inr (ci, fs)) → ∀ n : Nat, z_C l G (z_yc ci) (2 * k + 6) (z_F k d) (4 * (z_F k d)) [.ref (sa k), .ref lr, .ref nb, .int (nI d), .int (nI g)] h n (z_rn (.long (tw_made w u R k d g)) h) := by
  intro ci fs hx n
  obtain ⟨h1, -, -, -, -, hs, -⟩ := id hL
  have hrN : ∀ j, j < k → (fun j => 2 * j + 7) j < (2 * k + 6) := fun j hj => by show 2 * j + 7 < 2 * k + 6; omega
  rcases hs k hk with ⟨qk, q⟩ | ⟨qk, q⟩ | ⟨qk, q⟩ | ⟨qk, g1, g2, q⟩ | ⟨qk, g1, g2, q⟩ | ⟨qk, g1, g2, q⟩ | ⟨qk, g1, g2, q⟩
  all_goals obtain ⟨rfl, rfl⟩ := z_inj hx q
  · rw [z_mk_b (z_kb qk (by simp))]; exact m_X10_compute_8 (nb := _) (u := v) (F := fun _ _ => 0) (rN := fun _ => 0) (fsn := []) hL hR4 (z_F_pos _ _) (by omega) hx qk
  · rw [z_mk_b (z_kb qk (by simp))]; exact m_X10_compute_9 (nb := _) (u := v) (F := fun _ _ => 0) (rN := fun _ => 0) (fsn := []) hL hR4 (z_F_pos _ _) (by omega) hx qk
  · rw [z_mk_b (z_kb qk (by simp))]; exact m_X10_compute_10 (nb := _) (u := v) (F := fun _ _ => 0) (rN := fun _ => 0) (fsn := []) hL hR4 (z_F_pos _ _) (by omega) hx qk
  · exact m_X14_compute_p_14 hnb hN2 hrN (by omega) hd hg hD6 g1 g2 (z_F_two g1 g2) hx qk
  · exact m_X14_compute_m_14 hnb hN2 hrN (by omega) hd hg hD6 g1 g2 (z_F_two g1 g2) hx qk
  · exact m_X16_compute_14 hnb hN2 hrN (by omega) hd hg hD6 g1 (z_F_run g1) hx qk
  · exact m_X17_compute_14 hnb hN2 hrN (by omega) hd hg hD6 g1 (z_F_mono (by omega)) hx qk

set_option maxHeartbeats 1000000 in
theorem m_X18_number {l : Launch} {G : zG} {h : zH} {n : Nat} {w : Nat → Int32} {v : Nat → Int64} {R S D a lr ls lv : Nat} {ra sa va : Nat → Nat} {nb k d g rc B : Nat} {X : Int64} (hL : z_Ln G h w v R S D a lr ls lv ra sa va) (hk : k < S) (hnb : h nb = some (.inr (14, [.ref a]))) (hC : ∀ ci fs, h (sa k) = some (.inr (ci, fs)) → ∀ n : Nat, z_C l G (z_yc ci) rc B (4 * B) [.ref (sa k), .ref lr, .ref nb, .int (nI d), .int (nI g)] h n (z_rn (.long X) h)) : z_C l G yX18_number (rc + 1) B (4 * B) [.ref nb, .ref (sa k), .int (nI d), .int (nI g)] h n (z_rn (.long X) h) := by
  refine z_start zk_X18_number zpl_RX18 (Nat.le_of_ble_eq_true rfl) ?_
  intro hn0 M hl hG ho hb hN hr hm hH hrm hQ
  subst hl hG
  have ho : zm_o M = RX18 := ho
  obtain ⟨h1, ⟨e0, N0, m0, f0, r1, r2, r3, ⟨r4, r4n⟩, r5⟩, ⟨e, N, m9, f, h3, h4, h5, ⟨h6, h6n⟩, h7⟩, ⟨ev, Nv, mv, fv, v1, v2, v3, ⟨v4, v4n⟩, v5⟩, h9, hs, hv, hi, hrI⟩ := id hL
  show z_V M h n B (4 * B) 0 [(0, .ref nb), (1, .ref (sa k)), (2, .int (nI d)), (3, .int (nI g))] []
  refine z_dom (fun hD0 => ?_)
  refine z_aload_n hb dX18_number_0 rfl ?_
  refine z_aload_n hb dX18_number_1 rfl ?_
  refine z_get (k := 0) (C := RX18) (T := TX18) (N := 1) hb ho zc14 in_X18 (zf_RX18_7 _) dX18_number_2 hnb (by decide) rfl ?_
  refine z_get (k := 0) (C := RX2) (T := TX2) (N := 8) hb ho zc1 in_X2 (zf_RX18_13 _) dX18_number_5 h1 (by decide) rfl ?_
  refine z_aload_n hb dX18_number_8 rfl ?_
  refine z_iload_n hb dX18_number_9 rfl ?_
  refine z_iload_n hb dX18_number_10 rfl ?_
  have J_14 : ∀ n_1 : Nat, n ≤ n_1 → z_V M h n_1 0 0 14 [(0, .ref nb), (1, .ref (sa k)), (2, .int (nI d)), (3, .int (nI g))] [.long X] := by
    intro n_1 hn_1
    refine z_lret hb hr dX18_number_14 ?_
    rw [hQ]
    exact ⟨rfl, rfl⟩
  rcases hs k hk with ⟨q1, q9⟩ | ⟨q1, q9⟩ | ⟨q1, q9⟩ | ⟨q1, q2, q3, q9⟩ | ⟨q1, q2, q3, q9⟩ | ⟨q1, q2, q3, q9⟩ | ⟨q1, q2, q3, q9⟩
  · refine z_callN1 (b' := 0) (f' := 0) (rest := []) (av := [.ref (sa k), .ref lr, .ref nb, .int (nI d), .int (nI g)]) (z_siteU hb ho zc8 q9 q703 q683 (Or.inl q682) q704 q765 ⟨by decide +kernel, by decide +kernel⟩ (by show _ = some 4; decide +kernel) dX18_number_11 : z_Site M _ _ _ _ _ ([.ref lr, .ref nb, .int (nI d), .int (nI g)].reverse ++ .ref (sa k) :: []) [] _) zk_X10_compute q128 hrm (hC _ _ q9 _) (by omega) (by decide) (Nat.le_of_ble_eq_true rfl) (by omega) (by omega) (fun n_2 hn_2 => ?_)
    exact J_14 _ (by omega)
  · refine z_callN1 (b' := 0) (f' := 0) (rest := []) (av := [.ref (sa k), .ref lr, .ref nb, .int (nI d), .int (nI g)]) (z_siteU hb ho zc9 q9 q703 q683 (Or.inl q682) q704 q761 ⟨by decide +kernel, by decide +kernel⟩ (by show _ = some 4; decide +kernel) dX18_number_11 : z_Site M _ _ _ _ _ ([.ref lr, .ref nb, .int (nI d), .int (nI g)].reverse ++ .ref (sa k) :: []) [] _) zk_X10_compute q128 hrm (hC _ _ q9 _) (by omega) (by decide) (Nat.le_of_ble_eq_true rfl) (by omega) (by omega) (fun n_3 hn_3 => ?_)
    exact J_14 _ (by omega)
  · refine z_callN1 (b' := 0) (f' := 0) (rest := []) (av := [.ref (sa k), .ref lr, .ref nb, .int (nI d), .int (nI g)]) (z_siteU hb ho zc10 q9 q703 q683 (Or.inl q682) q704 q762 ⟨by decide +kernel, by decide +kernel⟩ (by show _ = some 4; decide +kernel) dX18_number_11 : z_Site M _ _ _ _ _ ([.ref lr, .ref nb, .int (nI d), .int (nI g)].reverse ++ .ref (sa k) :: []) [] _) zk_X10_compute q128 hrm (hC _ _ q9 _) (by omega) (by decide) (Nat.le_of_ble_eq_true rfl) (by omega) (by omega) (fun n_4 hn_4 => ?_)
    exact J_14 _ (by omega)
  · refine z_callN1 (b' := 0) (f' := 0) (rest := []) (av := [.ref (sa k), .ref lr, .ref nb, .int (nI d), .int (nI g)]) (z_siteU hb ho zc11 q9 q703 q683 (Or.inl q682) q739 q763 ⟨by decide +kernel, by decide +kernel⟩ (by show _ = some 4; decide +kernel) dX18_number_11 : z_Site M _ _ _ _ _ ([.ref lr, .ref nb, .int (nI d), .int (nI g)].reverse ++ .ref (sa k) :: []) [] _) zk_X14_compute q133 hrm (hC _ _ q9 _) (by omega) (by decide) (Nat.le_of_ble_eq_true rfl) (by omega) (by omega) (fun n_5 hn_5 => ?_)
    exact J_14 _ (by omega)
  · refine z_callN1 (b' := 0) (f' := 0) (rest := []) (av := [.ref (sa k), .ref lr, .ref nb, .int (nI d), .int (nI g)]) (z_siteU hb ho zc11 q9 q703 q683 (Or.inl q682) q739 q763 ⟨by decide +kernel, by decide +kernel⟩ (by show _ = some 4; decide +kernel) dX18_number_11 : z_Site M _ _ _ _ _ ([.ref lr, .ref nb, .int (nI d), .int (nI g)].reverse ++ .ref (sa k) :: []) [] _) zk_X14_compute q133 hrm (hC _ _ q9 _) (by omega) (by decide) (Nat.le_of_ble_eq_true rfl) (by omega) (by omega) (fun n_6 hn_6 => ?_)
    exact J_14 _ (by omega)
  · refine z_callN1 (b' := 0) (f' := 0) (rest := []) (av := [.ref (sa k), .ref lr, .ref nb, .int (nI d), .int (nI g)]) (z_siteU hb ho zc12 q9 q703 q683 (Or.inl q682) q749 q764 ⟨by decide +kernel, by decide +kernel⟩ (by show _ = some 4; decide +kernel) dX18_number_11 : z_Site M _ _ _ _ _ ([.ref lr, .ref nb, .int (nI d), .int (nI g)].reverse ++ .ref (sa k) :: []) [] _) zk_X16_compute q135 hrm (hC _ _ q9 _) (by omega) (by decide) (Nat.le_of_ble_eq_true rfl) (by omega) (by omega) (fun n_7 hn_7 => ?_)
    exact J_14 _ (by omega)
  · refine z_callN1 (b' := 0) (f' := 0) (rest := []) (av := [.ref (sa k), .ref lr, .ref nb, .int (nI d), .int (nI g)]) (z_siteU hb ho zc13 q9 q703 q683 (Or.inl q682) q685 q684 ⟨by decide +kernel, by decide +kernel⟩ (by show _ = some 4; decide +kernel) dX18_number_11 : z_Site M _ _ _ _ _ ([.ref lr, .ref nb, .int (nI d), .int (nI g)].reverse ++ .ref (sa k) :: []) [] _) zk_X17_compute q136 hrm (hC _ _ q9 _) (by omega) (by decide) (Nat.le_of_ble_eq_true rfl) (by omega) (by omega) (fun n_8 hn_8 => ?_)
    exact J_14 _ (by omega)

theorem m_anew {l : Launch} {G : zG} {h : zH} {w : Nat → Int32} {v : Nat → Int64} {R S D a lr ls lv : Nat} {ra sa va : Nat → Nat} (hL : z_Ln G h w v R S D a lr ls lv ra sa va) (hS8 : S ≤ 8) (hR4 : R ≤ 40) (hD6 : D ≤ 6) {u : Nat → Int64} {nb : Nat} (hnb : h nb = some (.inr (14, [.ref a]))) (hu : ∀ k, k < S → ∀ d, d ≤ D → ∀ g, g < 5 → u (5 * (7 * k + d) + g) = tw_made w u R k d g) : ∀ m k, k < m → k < S → ∀ d g, d ≤ D → g < 5 → ∀ n : Nat, z_C l G yX18_number (2 * k + 7) (z_F k d) (4 * z_F k d) [.ref nb, .ref (sa k), .int (nI d), .int (nI g)] h n (z_rn (.long (u (5 * (7 * k + d) + g))) h)
  | 0, k, h0 => absurd h0 (Nat.not_lt_zero _)
  | m + 1, k, h0 => fun hk d g hd hg n => by
    rw [hu k hk d hd g hg]
    exact m_X18_number hL hk hnb (m_compA hL hS8 hR4 hD6 hnb hk hd hg fun j hj x y hx hy n => m_anew hL hS8 hR4 hD6 hnb hu m j (by omega) (by omega) x y hx hy n)

