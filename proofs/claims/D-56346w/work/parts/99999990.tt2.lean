theorem z_cq9_r {G : zG} {t x n p b : Nat} {h : zH} {cs : List Nat} {w : Option Value} {h' : zH} {n' : Nat} (hn0 : b ≤ n) (q : z_cq9 G t x n h cs p (.returned w) h' n') : ∃ kd c, w = some (.ref c) ∧ z_kc cs p kd ∧ n ≤ c ∧ z_ck G b h' cs c p kd ∧ h' t = some (.inr (18, [.int (nI (z_e9 cs kd p)), .ref x])) ∧ z_e9 cs kd p ≤ cs.length ∧ p + 3 ≤ z_e9 cs kd p ∧ z_fr (fun y => y = t) h h' := by
  rcases q with ⟨kd, s, c, q1, q2, q3, q4, q5, q6, q7, q8, q9, q10, q11⟩ | ⟨a, r, q4, -⟩
  · cases q4
    refine ⟨kd, c, rfl, ⟨q1, q2, q3⟩, q6, ⟨s, z_wh9 kd, ⟨by omega, by unfold z_wh9; split <;> first | (rename_i z; exact Or.inl ⟨z, rfl⟩) | exact Or.inr rfl⟩, q7, q8⟩, q9, q10, ?_, q11⟩
    have h1 := z_rr_ge (cs := cs) (kd := kd) (p := p + (z_wd kd).length)
    have h2 := z_wd_len kd q1
    show p + 3 ≤ (z_rr cs kd (p + (z_wd kd).length)).1
    omega
  · cases q4
theorem z_cq9_t {G : zG} {t x n p : Nat} {h : zH} {cs : List Nat} {a : Nat} {h' : zH} {n' : Nat} (q : z_cq9 G t x n h cs p (.threw a) h' n') : ∃ r, n ≤ a ∧ z_cf cs p r ∧ h' a = some (.inr (19, z_sf r)) ∧ z_fr (fun y => y = t) h h' := by
  rcases q with ⟨kd, s, c, q1, q2, q3, q4, -⟩ | ⟨a, r, q4, q5, q6, q7, q8⟩
  · cases q4
  · cases q4; exact ⟨r, q5, q6, q7, q8⟩
theorem z_neL {G : zG} {h : zH} {t a e b0 N ci : Nat} {x : Nat → Option Nat} {l fs : List Value} (ht : h t = some (.inr (ci, fs))) (hc : ci ≠ 20) (ha : h a = some (.inr (20, l))) (he : h e = some (z_ao G N x)) : ¬ (t = a ∨ (t = e ∧ b0 ≤ t)) := by
  rintro (z | ⟨z, -⟩)
  · rw [z, ha] at ht; cases ht; exact hc rfl
  · rw [z, he] at ht; cases ht
theorem z_chn_r {cs : List Nat} {P KD : Nat → Nat} {c kd r : Nat} (q : z_chn cs P KD c) (hc : 1 ≤ c) (hr : r = z_e9 cs (KD (c - 1)) (P (c - 1))) (hs : z_at cs r z_semi = true) (hk : z_kc cs (r + 1) kd) : z_chn cs (va_up P c (r + 1)) (va_up KD c kd) (c + 1) := by
  subst hr
  exact z_chn_s q hc hs hk
theorem z_cks_s {G : zG} {b : Nat} {h : zH} {cs : List Nat} {g P KD : Nat → Nat} {c cc q kd : Nat} (a : ∀ i, i < c → z_ck G b h cs (g i) (P i) (KD i)) (bk : z_ck G b h cs cc q kd) : ∀ i, i < c + 1 → z_ck G b h cs (va_up g c cc i) (va_up P c q i) (va_up KD c kd i) := fun i hi => by
  by_cases z : i = c
  · rw [z, va_ups, va_ups, va_ups]; exact bk
  · rw [va_upn z, va_upn z, va_upn z]; exact a i (by omega)
theorem z_ne_em {G : zG} {h : zH} {t E ci : Nat} {fs : List Value} {f : Nat → Option Nat} (h1 : h t = some (.inr (ci, fs))) (h2 : h E = some (z_ao G 0 f)) : ¬ E = t := fun z => by rw [z, h1] at h2; cases h2
theorem z_cks_1 {G : zG} {b : Nat} {h : zH} {cs : List Nat} {cc q kd : Nat} (bk : z_ck G b h cs cc q kd) : ∀ i, i < 1 → z_ck G b h cs (va_up (fun _ => 0) 0 cc i) ((fun _ => q) i) ((fun _ => kd) i) := fun i hi => by
  obtain rfl : i = 0 := by omega
  rw [va_ups]
  exact bk
/-- the end of 'text' -/
def z_tq9 (G : zG) (t n : Nat) (h : zH) (cs : List Nat) : zQ := fun o h' n' =>
  (∃ l e c g P KD, 1 ≤ c ∧ 3 * c ≤ cs.length ∧ z_chn cs P KD c ∧ z_e9 cs (KD (c - 1)) (P (c - 1)) = cs.length ∧ o = .returned (some (.ref l)) ∧ z_Lx G h' n l e c g ∧ (∀ i, i < c → z_ck G n h' cs (g i) (P i) (KD i)) ∧ z_fr (fun y => y = t) h h') ∨
  (∃ a r, o = .threw a ∧ n ≤ a ∧ z_tf9 cs r ∧ h' a = some (.inr (19, z_sf r)) ∧ z_fr (fun y => y = t) h h')

set_option maxHeartbeats 1000000 in
theorem m_X22_text {l : Launch} {G : zG} {h : zH} {n : Nat} {t x bu e cd : Nat} {cs : List Nat} {x0 x1 x3 x4 x5 x6 : Value} (hp : h t = some (.inr (18, [.int (nI 0), .ref x]))) (hX : h x = some (.inr (0, [x0, x1, .ref bu, x3, x4, x5, x6]))) (hBF : z_BF G h bu e cd cs) (hT : cs.length ≤ 60) (hKS : z_KS G h) (ht0 : z_n0 G ≤ t) (hK : z_KC G h) : z_C l G yX22_text 13 (40 * cs.length + 310) (6700 * cs.length + 33000) [.ref t] h n (z_tq9 G t n h cs) := by
  refine z_start zk_X22_text zpl_RX22 (Nat.le_of_ble_eq_true rfl) ?_
  intro hn0 M hl hG ho hb hN hr hm hH hrm hQ
  subst hl hG
  have ho : zm_o M = RX22 := ho
  refine z_dom (fun hdm0 => ?_)
  obtain ⟨fE, hEM⟩ := hK.em
  have hE0 := hK.e0
  obtain ⟨fsb, hob⟩ := z_BF.o hBF
  have hc16 := z_BF.c16 hBF
  
  show z_V M h n (40 * cs.length + 310) (6700 * cs.length + 33000) 0 [(0, .ref t)] []
  refine z_dom (fun hD0 => ?_)
  refine z_dom (fun hD_1 => ?_)
  refine z_new (N0 := 3) (b' := (40 * cs.length + 310) - 1) (f' := (6700 * cs.length + 33000) - 3) (fs := [.int (nI 0), .null, .int (nI 0)]) (C := RJ2) (T := TJ2) (N := 3) hb ho zc20 in_J2 tyJ2_ok q2274 q164 q98 dX22_text_0 (zdf_J2) (by omega) (by omega) ?_
  refine z_hn (fun h_2 eh_2 => ?_)
  have eh_2 : h_2 = z_up h n (.inr (20, [.int (nI 0), .null, .int (nI 0)])) := eh_2
  have k_3 : h_2 t = some (.inr (18, [.int (nI 0), .ref x])) := z_nx eh_2 (Nat.ne_of_lt (hD_1 _ _ hp)) hp
  have k_4 : h_2 x = some (.inr (0, [x0, x1, .ref bu, x3, x4, x5, x6])) := z_nx eh_2 (Nat.ne_of_lt (hD_1 _ _ hX)) hX
  have k_5 : h_2 bu = some (.inr (22, fsb)) := z_nx eh_2 (Nat.ne_of_lt (hD_1 _ _ hob)) hob
  refine z_dup hb dX22_text_3 rfl ?_
  refine z_call0 (b' := (40 * cs.length + 310) - 1) (f' := (6700 * cs.length + 33000) - 3) (rest := [.ref n]) (av := [.ref n]) (z_siteI hb ho q2275 q166 q167 rfl zy_J2_init zl_J2_init dX22_text_4 : z_Site M _ _ _ _ _ ([].reverse ++ .ref n :: [.ref n]) [.ref n] _) zk_J2_init q98 hrm (m_J2_init (z_nxs eh_2) (by omega)) (by omega) (by decide) (Nat.le_of_ble_eq_true rfl) (by omega) (by omega) ?_
  refine z_hn (fun h_6 eh_6 => ?_)
  have eh_6 : h_6 = z_up h_2 n (.inr (20, [.int (nI 0), .ref ((zm_G M).2.2.1 1002), .int (nI 0)])) := eh_6
  have k_7 : h_6 t = some (.inr (18, [.int (nI 0), .ref x])) := z_nx eh_6 (Nat.ne_of_lt (hD_1 _ _ hp)) k_3
  have k_8 : h_6 x = some (.inr (0, [x0, x1, .ref bu, x3, x4, x5, x6])) := z_nx eh_6 (Nat.ne_of_lt (hD_1 _ _ hX)) k_4
  have k_9 : h_6 bu = some (.inr (22, fsb)) := z_nx eh_6 (Nat.ne_of_lt (hD_1 _ _ hob)) k_5
  have hL0 : z_Lx (zm_G M) h_6 n n ((zm_G M).2.2.1 1002) 0 (fun _ => 0) := z_Lx0 (z_nxs eh_6) ((z_fr.tn (P := fun y => y = t) hdm0 (z_exN z_ex_r hD_1 eh_2).fr (z_fr_up (P := fun y => y = n) rfl eh_6) (fun y z => by omega)) _ _ hEM (z_ne_em hp hEM)) (Nat.lt_of_lt_of_le hE0 hn0) (Nat.le_refl _)
  obtain ⟨-, qe0, N0, m0, f0, li0, lj0, lk0⟩ := id hL0
  refine z_astore_n (lv' := [(1, .ref n), (0, .ref t)]) hb dX22_text_7 (by rw [hN]; decide) rfl ?_
  refine z_aload_n hb dX22_text_8 rfl ?_
  refine z_aload_n hb dX22_text_9 rfl ?_
  refine z_call (b' := ((40 * cs.length + 310) - 1) - 150) (f' := ((6700 * cs.length + 33000) - 3) - 26400) (rest := [.ref n]) (av := [.ref t]) (z_siteV hb ho zc18 k_7 q2276 q2278 qs22 ⟨_, _, _, _, zk_X22_command⟩ zy_X22_command zl_X22_command dX22_text_10 : z_Site M _ _ _ _ _ ([].reverse ++ .ref t :: [.ref n]) [.ref n] _) zk_X22_command q146 hrm (m_X22_command k_7 ((z_fr.tn (P := fun y => y = t) hdm0 (z_exN z_ex_r hD_1 eh_2).fr (z_fr_up (P := fun y => y = n) rfl eh_6) (fun y z => by omega)) _ _ hX (z_x_t hp hX)) (hBF.frc hp (by decide) (z_fr.tn (P := fun y => y = t) hdm0 (z_exN z_ex_r hD_1 eh_2).fr (z_fr_up (P := fun y => y = n) rfl eh_6) (fun y z => by omega))) hT (Nat.zero_le _) (hKS.frx hp (by decide) (z_fr.tn (P := fun y => y = t) hdm0 (z_exN z_ex_r hD_1 eh_2).fr (z_fr_up (P := fun y => y = n) rfl eh_6) (fun y z => by omega))) ht0) (by omega) (by decide) (Nat.le_of_ble_eq_true rfl) (by omega) (by omega) (fun v1 h1 n1 hq1 hn1 => ?_) (fun q1 h1 n1 hq1 hn1 => ?_)
  · obtain ⟨kd1, c1, hv1, hkc1, hnc1, hnk1, hp1, hle1, hge1, hfr1⟩ := z_cq9_r (b := n) (by omega) hq1
    subst hv1
    refine z_dom (fun hdd1 => ?_)
    have la1 := hfr1 _ _ li0 (z_ne_cc k_7 li0 (by decide))
    have lb1 := hfr1 _ _ lj0 (fun z => by have q9 := k_7; have q8 := lj0; rw [z, q9] at q8; cases q8)
    have hF1 := (z_fr.tn (P := fun y => y = t) hdm0 (z_exN z_ex_r hD_1 eh_2).fr (z_fr_up (P := fun y => y = n) rfl eh_6) (fun y z => by omega)).t hfr1
    obtain ⟨fsb1, hob1⟩ := z_BF.o (hBF.frc hp (by decide) hF1)
    refine z_callQ1 (b' := (((40 * cs.length + 310) - 1) - 150) - 1) (f' := (((6700 * cs.length + 33000) - 3) - 26400) - 50) (rest := []) (av := [.ref n, .ref c1]) (z_siteF hb ho zc20 la1 q2407 zx4 q478 q480 q481 q479 q321 zxl4 dX22_text_13 : z_Site M _ _ _ _ _ ([.ref c1].reverse ++ .ref n :: []) [] _) zk_J2_add q98 hrm (m_add hn0 ⟨Nat.le_refl _, qe0, N0, m0, f0, la1, lb1, lk0⟩ (by omega) hnk1.obj (hnk1.ne la1) (fun j hj => absurd hj (Nat.not_lt_zero _))) (by omega) (by decide) (Nat.le_of_ble_eq_true rfl) (by omega) (by omega) (fun rhq5 h5 n5 hq5 hn5 => ?_)
    obtain ⟨rfl, hq5⟩ := hq5
    obtain ⟨e5, hL5, -, hfr5⟩ := hq5
    have hF5 := z_fr.tn hdm0 hF1 hfr5 (fun y z => by omega)
    have ht5 := hfr5 _ _ hp1 (z_neL hp1 (by decide) la1 lb1)
    have hnk5 := hnk1.fl la1 lb1 hfr5
    obtain ⟨-, qe5, N5, m5, f5, li5, lj5, lk5⟩ := id hL5
    obtain ⟨fsb5, hob5⟩ := z_BF.o (hBF.frc hp (by decide) hF5)
    refine z_pop hb dX22_text_18 rfl ?_
    have lp_19 : ∀ (k9_19 : Nat) (c : Nat) (r : Nat) (nn : Nat) (hh : zH) (e9 : Nat) (P : Nat → Nat) (KD : Nat → Nat) (g : Nat → Nat), cs.length + 1 - r < k9_19 → (1 ≤ c) → (3 * c ≤ r) → (r ≤ cs.length) → (n + 1 ≤ nn) → (z_fr (fun y => y = t) h hh) → (hh t = some (.inr (18, [.int (nI r), .ref x]))) → (z_Lx (zm_G M) hh n n e9 c g) → (z_chn cs P KD c) → (r = z_e9 cs (KD (c - 1)) (P (c - 1))) → (∀ i, i < c → z_ck (zm_G M) n hh cs (g i) (P i) (KD i)) → z_V M hh nn (40 * (cs.length - r) + 155) (6700 * (cs.length - r) + 26500) 19 [(0, .ref t), (1, .ref n)] [] := by
      intro k9_19
      induction k9_19 with
      | zero => intro c r nn hh e9 P KD g hk9_19; exact absurd hk9_19 (Nat.not_lt_zero _)
      | succ k9_19 ih_19 =>
        intro c r nn hh e9 P KD g hk9_19 hc1 hc3 hrT hnn9 hF9 hpl hLx hch hre hcks
        refine z_dom (fun hdl => ?_)
        obtain ⟨-, qe9, N9, m19, f9, li9, lj9, lk9⟩ := id hLx
        obtain ⟨fsb9, hob9⟩ := z_BF.o (hBF.frc hp (by decide) hF9)
        refine z_aload_n hb dX22_text_19 rfl ?_
        refine z_get (k := 0) (C := RX22) (T := TX22) (N := 2) hb ho zc18 in_X22 (zf_RX22_13 _) dX22_text_20 hpl (by decide) rfl ?_
        refine z_aload_n hb dX22_text_23 rfl ?_
        refine z_get (k := 1) (C := RX22) (T := TX22) (N := 2) hb ho zc18 in_X22 (zf_RX22_1 _) dX22_text_24 hpl (by decide) rfl ?_
        refine z_get (k := 2) (C := RX1) (T := TX1) (N := 7) hb ho zc0 in_X1 (zf_RX22_17 _) dX22_text_27 (hF9 _ _ hX (z_x_t hp hX)) (by decide) rfl ?_
        refine z_call1 (b' := 40 * (cs.length - r) + 155) (f' := 6700 * (cs.length - r) + 26500) (rest := [.int (nI r)]) (av := [.ref bu]) (z_siteV hb ho zc22 hob9 q2317 q1054 q3287 ⟨_, _, _, _, zk_J5_length⟩ zy_J5_length zl_J5_length dX22_text_30 : z_Site M _ _ _ _ _ ([].reverse ++ .ref bu :: [.int (nI r)]) [.int (nI r)] _) zk_J5_length q101 hrm (m_J5_length (hBF.frc hp (by decide) hF9)) (by omega) (by decide) (Nat.le_of_ble_eq_true rfl) (by omega) (by omega) ?_
        refine z_icmp_geN (tgt := 57) hb dX22_text_33 (by decide) (by omega) (by omega) (fun c_33 => ?_) (fun c_33 => ?_)
        · refine z_aload_n hb dX22_text_57 rfl ?_
          refine z_aret hb hr (Or.inl ⟨_, rfl⟩) (Or.inr ⟨_, rfl⟩) dX22_text_58 ?_
          rw [hQ]
          obtain rfl : r = cs.length := by omega
          exact Or.inl ⟨n, e9, c, g, P, KD, hc1, hc3, hch, hre.symm, rfl, hLx, hcks, hF9⟩
        · refine z_aload_n hb dX22_text_36 rfl ?_
          refine z_ldcS (i := 41) hb ho rfl rfl rfl dX22_text_37 ?_
          refine z_call (b' := (40 * (cs.length - r) + 155) - 1) (f' := (6700 * (cs.length - r) + 26500) - 10) (rest := []) (av := [.ref t, .ref ((zm_G M).2.2.1 41)]) (z_siteV hb ho zc18 hpl q2349 q2351 qs25 ⟨_, _, _, _, zk_X22_take⟩ zy_X22_take zl_X22_take dX22_text_39 : z_Site M _ _ _ _ _ ([.ref ((zm_G M).2.2.1 41)].reverse ++ .ref t :: []) [] _) zk_X22_take q146 hrm (m_X22_take hpl (hF9 _ _ hX (z_x_t hp hX)) (hBF.frc hp (by decide) hF9) hT hrT ((hKS.frx hp (by decide) hF9) 41 (by decide)) ht0) (by omega) (by decide) (Nat.le_of_ble_eq_true rfl) (by omega) (by omega) (fun v2 h2 n2 hq2 hn2 => ?_) (fun q2 h2 n2 hq2 hn2 => ?_)
          · obtain ⟨hok2, hv2, hp2, hfr2⟩ := z_ps_r hq2
            subst hv2
            rw [z_tk_t (z_tk2f hok2)] at hp2
            refine z_dom (fun hdd2 => ?_)
            have la2 := hfr2 _ _ li9 (z_ne_cc hpl li9 (by decide))
            have lb2 := hfr2 _ _ lj9 (fun z => by have q9 := hpl; have q8 := lj9; rw [z, q9] at q8; cases q8)
            have hck2 := fun i hi => (hcks i hi).ft hpl ⟨by decide, by decide⟩ hfr2
            have hF2 := hF9.t hfr2
            obtain ⟨fsb2, hob2⟩ := z_BF.o (hBF.frc hp (by decide) hF2)
            refine z_istore_n (lv' := [(2, .int (nI (cs.getD r 0))), (0, .ref t), (1, .ref n)]) hb dX22_text_42 (by rw [hN]; decide) rfl ?_
            refine z_aload_n hb dX22_text_43 rfl ?_
            refine z_aload_n hb dX22_text_44 rfl ?_
            refine z_call (b' := ((40 * (cs.length - r) + 155) - 1) - 150) (f' := ((6700 * (cs.length - r) + 26500) - 10) - 26400) (rest := [.ref n]) (av := [.ref t]) (z_siteV hb ho zc18 hp2 q2276 q2278 qs22 ⟨_, _, _, _, zk_X22_command⟩ zy_X22_command zl_X22_command dX22_text_45 : z_Site M _ _ _ _ _ ([].reverse ++ .ref t :: [.ref n]) [.ref n] _) zk_X22_command q146 hrm (m_X22_command hp2 (hF2 _ _ hX (z_x_t hp hX)) (hBF.frc hp (by decide) hF2) hT (z_at_lt (z_tk2f hok2)) (hKS.frx hp (by decide) hF2) ht0) (by omega) (by decide) (Nat.le_of_ble_eq_true rfl) (by omega) (by omega) (fun v3 h3 n3 hq3 hn3 => ?_) (fun q3 h3 n3 hq3 hn3 => ?_)
            · obtain ⟨kd3, c3, hv3, hkc3, hnc3, hnk3, hp3, hle3, hge3, hfr3⟩ := z_cq9_r (b := n) (by omega) hq3
              subst hv3
              refine z_dom (fun hdd3 => ?_)
              have la3 := hfr3 _ _ la2 (z_ne_cc hp2 la2 (by decide))
              have lb3 := hfr3 _ _ lb2 (fun z => by have q9 := hp2; have q8 := lb2; rw [z, q9] at q8; cases q8)
              have hck3 := fun i hi => (hck2 i hi).ft hp2 ⟨by decide, by decide⟩ hfr3
              have hF3 := hF2.t hfr3
              obtain ⟨fsb3, hob3⟩ := z_BF.o (hBF.frc hp (by decide) hF3)
              refine z_callQ1 (b' := (((40 * (cs.length - r) + 155) - 1) - 150) - 1) (f' := (((6700 * (cs.length - r) + 26500) - 10) - 26400) - 50) (rest := []) (av := [.ref n, .ref c3]) (z_siteF hb ho zc20 la3 q2407 zx4 q478 q480 q481 q479 q321 zxl4 dX22_text_48 : z_Site M _ _ _ _ _ ([.ref c3].reverse ++ .ref n :: []) [] _) zk_J2_add q98 hrm (m_add hn0 ⟨Nat.le_refl _, qe9, N9, m19, f9, la3, lb3, lk9⟩ (by omega) hnk3.obj (hnk3.ne la3) (fun j hj => ⟨(hck3 j hj).obj, (hck3 j hj).ne la3⟩)) (by omega) (by decide) (Nat.le_of_ble_eq_true rfl) (by omega) (by omega) (fun rhq6 h6 n6 hq6 hn6 => ?_)
              obtain ⟨rfl, hq6⟩ := hq6
              obtain ⟨e6, hL6, -, hfr6⟩ := hq6
              have hF6 := z_fr.tn hdm0 hF3 hfr6 (fun y z => by omega)
              have ht6 := hfr6 _ _ hp3 (z_neL hp3 (by decide) la3 lb3)
              have hnk6 := hnk3.fl la3 lb3 hfr6
              have hcs6 := fun i hi => (hck3 i hi).fl la3 lb3 hfr6
              obtain ⟨-, qe6, N6, m6, f6, li6, lj6, lk6⟩ := id hL6
              obtain ⟨fsb6, hob6⟩ := z_BF.o (hBF.frc hp (by decide) hF6)
              refine z_pop hb dX22_text_53 rfl ?_
              refine z_goto (tgt := 19) hb dX22_text_54 (by decide) ?_
              refine z_lv [1, 2] (lv' := [(0, .ref t), (1, .ref n)]) rfl ?_
              exact z_bf (by omega) (by omega) (ih_19 (c + 1) _ n6 h6 e6 (va_up P c (r + 1)) (va_up KD c kd3) (va_up g c c3) (by omega) (by omega) (by omega) (by omega) (by omega) hF6 ht6 ⟨Nat.le_refl _, qe6, N6, m6, f6, li6, lj6, lk6⟩ (z_chn_r hch hc1 hre (z_tk2f hok2) hkc3) (by rw [Nat.add_sub_cancel, va_ups, va_ups]) (z_cks_s hcs6 hnk6))
            · obtain ⟨r3, b23, b33, b43, b53⟩ := z_cq9_t hq3
              exact z_out ho hH zc19 b43 (by omega) (fun _ h => nomatch h) (by rw [hQ]; exact Or.inr ⟨_, r3, rfl, by omega, Or.inr ⟨P, KD, c, hc1, hch, by omega, Or.inr ⟨hre ▸ z_tk2f hok2, hre ▸ b33⟩⟩, b43, hF2.t b53⟩)
          · obtain ⟨b12, b22, b32, b42⟩ := z_ps_t hq2
            rw [z_tk_f (z_tk2t b12)] at b32
            exact z_out ho hH zc19 b32 (by omega) (fun _ h => nomatch h) (by rw [hQ]; exact Or.inr ⟨_, r, rfl, by omega, Or.inr ⟨P, KD, c, hc1, hch, by omega, Or.inl ⟨hre ▸ z_tk2t b12, hre⟩⟩, b32, hF9.t b42⟩)
    refine z_lv [1, 0] (lv' := [(0, .ref t), (1, .ref n)]) rfl ?_
    exact z_bf (by omega) (by omega) (lp_19 _ 1 _ n5 h5 e5 (fun _ => 0) (fun _ => kd1) (va_up (fun _ => 0) 0 c1) (Nat.lt_succ_self _) (Nat.le_refl 1) (by omega) (by omega) (by omega) hF5 ht5 ⟨Nat.le_refl _, qe5, N5, m5, f5, li5, lj5, lk5⟩ (z_chn_1 rfl rfl hkc1) rfl (z_cks_1 hnk5))
  · obtain ⟨r1, b21, b31, b41, b51⟩ := z_cq9_t hq1
    exact z_out ho hH zc19 b41 (by omega) (fun _ h => nomatch h) (by rw [hQ]; exact Or.inr ⟨_, r1, rfl, by omega, Or.inl b31, b41, (z_fr.tn (P := fun y => y = t) hdm0 (z_exN z_ex_r hD_1 eh_2).fr (z_fr_up (P := fun y => y = n) rfl eh_6) (fun y z => by omega)).t b51⟩)

