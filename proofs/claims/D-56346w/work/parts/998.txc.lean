theorem z_siteP {M : zM} {h : zH} {n pc : Nat} {cc : ByteArray} {own : String} {idx a ci : Nat} {r : vw_C} {fs : List Value} {y : MethodName} {As rest : List Value} (hb : zm_c M = cc) (ho : zm_o M = own) (hc : zCL[ci]? = some r) (ha : h a = some (.inr (ci, fs))) (w1 : Cond.methodLink own idx y ∈ lw_all) (w2 : Cond.sameMethod y.cls y.cls y.name y.desc ∈ lw_all) (w3 : Cond.instanceMethod y ∈ lw_all) (w4 : Cond.superclass own y.cls ∈ lw_all) (hcode : ∃ bytes maxL ret hh, z_code y bytes maxL ret hh) (hn : y.name ≠ "<init>") (hlen : (parseMethodDescriptor y.desc).map (fun d => d.parameters.length) = some As.length) (d : decode cc pc = .ok (.invokespecial idx, 3)) :
    z_Site M h n y 3 pc (As.reverse ++ .ref a :: rest) rest (.ref a :: As) := by
  intro p e s m args below meth c A T locs k j ls X hR
  have hWd := A.2.2.2.2.1
  have hown : s.vm.findClass own = some m.cls := by rw [← ho]; exact A.2.2.2.1
  have hts := hWd.g args
  have hd : decode c.code pc = .ok (.invokespecial idx, 3) := by rw [A.2.1, hb]; exact d
  obtain ⟨mk, methM, hnamed, hmethM, hstM, habM⟩ := Cond.instanceMethod_spec (hts _ w3)
  have hlenM : As.length = methM.sig.parameters.length := by
    obtain ⟨bytes, maxL, ret, hh, hcode⟩ := hcode
    obtain ⟨methM', cM, hmethM', -, -, -, -, -, -, hsigM⟩ := z_code_spec hcode hWd hnamed
    cases hmethM.symm.trans hmethM'
    rw [hsigM] at hlen; exact (Option.some.inj hlen).symm
  have hcn := findClass_of_methodNamed hnamed
  obtain ⟨dk, hdk, -⟩ := Vm.findClass_spec hown
  obtain ⟨kp, hp, -⟩ := Vm.findClass_spec hcn
  have ws := hts _ w4
  simp only [Cond.before, Cond.holds, Cond.value, hown, hcn, hdk, hp, Option.bind_some, Option.map_some] at ws
  have ws' : ((dk.super = some mk.cls ∧ dk.kind = .ordinary) ∧ kp.kind = .ordinary) ∧ dk.isInterface = false := by simpa using ws
  obtain ⟨cell, h1, h2, h3⟩ := z_rc hR hWd hc ha
  obtain ⟨kc, hkc, -⟩ := Vm.findClass_spec h3
  obtain ⟨vm₁, X₁, hstep₁⟩ := X.invokespecialUp A.1 (owner := y.cls) hown (hts _ w1) (hts _ w2) hnamed hmethM hstM habM hn hdk ws'.2 hcn ws'.1.1.1 (by simp [Vm.isSubclass, Vm.isSubclassAux]) (a := a) h1 (fun q e => by rw [e] at h2; cases h2) hkc (g := F0 m pc ls (As.reverse ++ .ref a :: rest)) rfl hlenM rfl hd
  exact ⟨mk, vm₁, _, hnamed, X₁.warmed, X₁, hd, fun target ht => hstep₁ _ (by rw [doInvoke_state]; exact ht)⟩
/-- a private method of a class above the receiver's -/
theorem z_siteQ {M : zM} {h : zH} {n pc : Nat} {cc : ByteArray} {own : String} {idx : Nat} {y : MethodName} {a ci : Nat} {fs : List Value} {r : vw_C} {As rest : List Value} (hb : zm_c M = cc) (ho : zm_o M = own) (hc : zCL[ci]? = some r) (ha : h a = some (.inr (ci, fs))) (w1 : Cond.methodLink own idx y ∈ lw_all) (w2 : Cond.instanceMethod y ∈ lw_all) (w3 : Cond.privateMethod y ∈ lw_tbl) (w5 : Cond.sameMethod y.cls y.cls y.name y.desc ∈ lw_all) (hcode : ∃ bytes maxL ret hh, z_code y bytes maxL ret hh) (hy : y.cls ≠ "java/lang/invoke/MethodHandle" ∧ y.cls ≠ "java/lang/invoke/VarHandle") (hlen : (parseMethodDescriptor y.desc).map (fun d => d.parameters.length) = some As.length) (d : decode cc pc = .ok (.invokevirtual idx, 3)) :
    z_Site M h n y 3 pc (As.reverse ++ .ref a :: rest) rest (.ref a :: As) := by
  intro p e s m args below meth c A T locs k j ls X hR
  have hWd := A.2.2.2.2.1
  have hown : s.vm.findClass own = some m.cls := by rw [← ho]; exact A.2.2.2.1
  have hts := hWd.g args
  have hd : decode c.code pc = .ok (.invokevirtual idx, 3) := by rw [A.2.1, hb]; exact d
  obtain ⟨mk, methM, hnamed, hmethM, hstM, habM⟩ := Cond.instanceMethod_spec (hts _ w2)
  obtain ⟨bytes, maxL, ret, hh, hcode⟩ := hcode
  obtain ⟨methM', cM, hmethM', -, -, -, -, -, -, hsigM⟩ := z_code_spec hcode hWd hnamed
  cases hmethM.symm.trans hmethM'
  obtain ⟨cell, hcell, hobj, hcls⟩ := z_rc hR hWd hc ha
  obtain ⟨cn', ck, r1, hcn', hck, hni, -, -⟩ := Cond.sameMethod_found (hts _ w5)
  cases (findClass_of_methodNamed hnamed).symm.trans hcn'
  have hpriv : methM.isPrivate = true := Cond.privateMethod_at (hWd.w w3 rfl rfl args) mk methM hnamed hmethM
  have hselP : selectMethod e.platform s.vm cell.cls mk = .method mk := selectMethod_private hmethM hpriv
  have hlen' : As.length = methM.sig.parameters.length := by rw [hsigM] at hlen; exact (Option.some.inj hlen).symm
  obtain ⟨vm₁, X₁, hstep₁⟩ := X.invokevirtual A.1 hown (hts _ w1) hnamed hmethM hstM hck hni hy (a := a) (cell := cell) hcell
    (fun z h => by rw [h] at hobj; cases hobj) hselP hmethM habM hck hni (g := F0 m pc ls (As.reverse ++ .ref a :: rest)) rfl (argsL := As) (rest := rest) hlen' rfl hd
  exact ⟨mk, vm₁, _, hnamed, X₁.warmed, X₁, hd, fun target ht => hstep₁ _ fun acts => by rw [doInvoke_state]; exact ht⟩

theorem z_sble {a b : Nat} (ha : a < 2 ^ 30) (hb : b < 2 ^ 30) : (nI a - nI b ≤ 0) ↔ a ≤ b := by
  rw [Int32.le_iff_toInt_le, Int32.toInt_sub, nI_toInt (by omega), nI_toInt (by omega), Int.bmod_eq_of_le (by omega) (by omega)]
  simp
  omega
theorem z_up_id {h : zH} {a : Nat} {c : va_E} (q : h a = some c) : z_up h a c = h := by
  funext x
  by_cases z : x = a
  · rw [z, z_up_s, q]
  · rw [z_up_n z]
/-- the StringBuilder b: array e of N bytes f, coder cd, k chars -/
abbrev z_sb (e cd : Nat) (ml : Bool) (k : Nat) : va_E := .inr (22, [.ref e, .int (nI cd), .int (z_b ml), .int (nI k)])
def z_fB (f : Nat → Int32) (N : Nat) : Prop := ∀ j, j < N → fits .byte (.int (f j)) = true
def z_ec (G : zG) (h : zH) (n b e cd : Nat) (ml : Bool) (k N mn : Nat) (f : Nat → Int32) : zH → Nat → Prop := fun h' n' => ∃ (e2 N2 : Nat) (f2 : Nat → Int32), h' b = some (z_sb e2 cd ml k) ∧ h' e2 = some (z_ab G N2 f2) ∧ z_n0 G ≤ e2 ∧ (cd + 1) * mn ≤ N2 ∧ N ≤ N2 ∧ N2 ≤ 300 * (cd + 1) ∧ (N2 % 2 = 0 ∨ cd = 0) ∧ (∀ j, j < N → f2 j = f j) ∧ z_fB f2 N2 ∧ (e2 = e ∨ n ≤ e2) ∧ z_fr (fun y => y = b) h h'

theorem z_cpyZ {f g : Nat → Int32} {N j : Nat} (h : j < N) : va_cpy f g 0 0 N j = f j := by
  unfold va_cpy
  rw [if_pos ⟨Nat.zero_le _, by omega⟩]; congr 1; omega
theorem z_cpyfB {f : Nat → Int32} {N m : Nat} (h : z_fB f N) : z_fB (va_cpy f (fun _ => 0) 0 0 N) m := fun j hj => by
  by_cases q : j < N
  · rw [z_cpyZ q]; exact h j q
  · unfold va_cpy
    rw [if_neg (by omega)]; rfl
theorem z_frN {h h1 h2 : zH} {n b : Nat} {c1 c2 : va_E} (d : z_dm h n) (e1 : h1 = z_up h n c1) (e2 : h2 = z_up h1 b c2) : z_fr (fun y => y = b) h h2 := fun y c q l => by
  rw [e2, z_up_n l, e1, z_up_n (Nat.ne_of_lt (d y c q))]; exact q

set_option maxHeartbeats 1000000 in
theorem m_J4_isLatin1_0 {l : Launch} {G : zG} {h : zH} {n : Nat} {b e k : Nat} {ml : Bool} (hB : h b = some (z_sb e 0 ml k)) : z_C l G yJ4_isLatin1 1 0 0 [.ref b] h n (z_rv (.int (nI 1)) h n) := by
  refine z_start zk_J4_isLatin1 zpl_RJ4 (Nat.le_of_ble_eq_true rfl) ?_
  intro hn0 M hl hG ho hb hN hr hm hH hrm hQ
  subst hl hG
  have ho : zm_o M = RJ4 := ho
  show z_V M h n 0 0 0 [(0, .ref b)] []
  refine z_gets (i := 0) hb ho rfl (zf_RJ4_18 _) dJ4_isLatin1_0 ?_
  refine z_toI (y := nI 1) rfl ?_
  refine z_if_eqN (tgt := 17) hb dJ4_isLatin1_3 (by decide) (by omega) (fun c_3 => ?_) (fun c_3 => ?_)
  · exact absurd c_3 (by omega)
  · refine z_aload_n hb dJ4_isLatin1_6 rfl ?_
    refine z_get (k := 1) (C := RJ5) (T := TJ5) (N := 4) hb ho zc22 in_J5 (zf_RJ4_22 _) dJ4_isLatin1_7 hB (by decide) rfl ?_
    refine z_if_neN (tgt := 17) hb dJ4_isLatin1_10 (by decide) (by omega) (fun c_10 => ?_) (fun c_10 => ?_)
    · exact absurd c_10 (by omega)
    · refine z_iconst (x := nI 1) hb dJ4_isLatin1_13 (by decide) ?_
      refine z_goto (tgt := 18) hb dJ4_isLatin1_14 (by decide) ?_
      refine z_zret hb hr rfl dJ4_isLatin1_18 ?_
      rw [hQ]
      exact ⟨rfl, rfl, rfl⟩

set_option maxHeartbeats 1000000 in
theorem m_J4_length_0 {l : Launch} {G : zG} {h : zH} {n : Nat} {b e k : Nat} {ml : Bool} (hB : h b = some (z_sb e 0 ml k)) : z_C l G yJ4_length 1 0 0 [.ref b] h n (z_rv (.int (nI k)) h n) := by
  refine z_start zk_J4_length zpl_RJ4 (Nat.le_of_ble_eq_true rfl) ?_
  intro hn0 M hl hG ho hb hN hr hm hH hrm hQ
  subst hl hG
  have ho : zm_o M = RJ4 := ho
  show z_V M h n 0 0 0 [(0, .ref b)] []
  refine z_aload_n hb dJ4_length_0 rfl ?_
  refine z_get (k := 3) (C := RJ5) (T := TJ5) (N := 4) hb ho zc22 in_J5 (zf_RJ4_79 _) dJ4_length_1 hB (by decide) rfl ?_
  refine z_iret hb hr dJ4_length_4 ?_
  rw [hQ]
  exact ⟨rfl, rfl, rfl⟩

set_option maxHeartbeats 1000000 in
theorem m_J5_length_0 {l : Launch} {G : zG} {h : zH} {n : Nat} {b e k : Nat} {ml : Bool} (hB : h b = some (z_sb e 0 ml k)) : z_C l G yJ5_length 2 0 0 [.ref b] h n (z_rv (.int (nI k)) h n) := by
  refine z_start zk_J5_length zpl_RJ5 (Nat.le_of_ble_eq_true rfl) ?_
  intro hn0 M hl hG ho hb hN hr hm hH hrm hQ
  subst hl hG
  have ho : zm_o M = RJ5 := ho
  show z_V M h n 0 0 0 [(0, .ref b)] []
  refine z_aload_n hb dJ5_length_0 rfl ?_
  refine z_call1 (b' := 0) (f' := 0) (rest := []) (av := [.ref b]) (z_siteP hb ho zc22 hB q1056 q1052 q1051 q283 ⟨_, _, _, _, zk_J4_length⟩ (by decide) zl_J4_length dJ5_length_1 : z_Site M _ _ _ _ _ ([].reverse ++ .ref b :: []) [] _) zk_J4_length q100 hrm (m_J4_length_0 hB) (by omega) (by decide) (Nat.le_of_ble_eq_true rfl) (by omega) (by omega) ?_
  refine z_iret hb hr dJ5_length_4 ?_
  rw [hQ]
  exact ⟨rfl, rfl, rfl⟩

set_option maxHeartbeats 1000000 in
theorem m_J4_isLatin1_1 {l : Launch} {G : zG} {h : zH} {n : Nat} {b e k : Nat} {ml : Bool} (hB : h b = some (z_sb e 1 ml k)) : z_C l G yJ4_isLatin1 1 0 0 [.ref b] h n (z_rv (.int (nI 0)) h n) := by
  refine z_start zk_J4_isLatin1 zpl_RJ4 (Nat.le_of_ble_eq_true rfl) ?_
  intro hn0 M hl hG ho hb hN hr hm hH hrm hQ
  subst hl hG
  have ho : zm_o M = RJ4 := ho
  show z_V M h n 0 0 0 [(0, .ref b)] []
  refine z_gets (i := 0) hb ho rfl (zf_RJ4_18 _) dJ4_isLatin1_0 ?_
  refine z_toI (y := nI 1) rfl ?_
  refine z_if_eqN (tgt := 17) hb dJ4_isLatin1_3 (by decide) (by omega) (fun c_3 => ?_) (fun c_3 => ?_)
  · exact absurd c_3 (by omega)
  · refine z_aload_n hb dJ4_isLatin1_6 rfl ?_
    refine z_get (k := 1) (C := RJ5) (T := TJ5) (N := 4) hb ho zc22 in_J5 (zf_RJ4_22 _) dJ4_isLatin1_7 hB (by decide) rfl ?_
    refine z_if_neN (tgt := 17) hb dJ4_isLatin1_10 (by decide) (by omega) (fun c_10 => ?_) (fun c_10 => ?_)
    · refine z_iconst (x := nI 0) hb dJ4_isLatin1_17 (by decide) ?_
      refine z_zret hb hr rfl dJ4_isLatin1_18 ?_
      rw [hQ]
      exact ⟨rfl, rfl, rfl⟩
    · exact absurd c_10 (by omega)

set_option maxHeartbeats 1000000 in
theorem m_J4_length_1 {l : Launch} {G : zG} {h : zH} {n : Nat} {b e k : Nat} {ml : Bool} (hB : h b = some (z_sb e 1 ml k)) : z_C l G yJ4_length 1 0 0 [.ref b] h n (z_rv (.int (nI k)) h n) := by
  refine z_start zk_J4_length zpl_RJ4 (Nat.le_of_ble_eq_true rfl) ?_
  intro hn0 M hl hG ho hb hN hr hm hH hrm hQ
  subst hl hG
  have ho : zm_o M = RJ4 := ho
  show z_V M h n 0 0 0 [(0, .ref b)] []
  refine z_aload_n hb dJ4_length_0 rfl ?_
  refine z_get (k := 3) (C := RJ5) (T := TJ5) (N := 4) hb ho zc22 in_J5 (zf_RJ4_79 _) dJ4_length_1 hB (by decide) rfl ?_
  refine z_iret hb hr dJ4_length_4 ?_
  rw [hQ]
  exact ⟨rfl, rfl, rfl⟩

set_option maxHeartbeats 1000000 in
theorem m_J5_length_1 {l : Launch} {G : zG} {h : zH} {n : Nat} {b e k : Nat} {ml : Bool} (hB : h b = some (z_sb e 1 ml k)) : z_C l G yJ5_length 2 0 0 [.ref b] h n (z_rv (.int (nI k)) h n) := by
  refine z_start zk_J5_length zpl_RJ5 (Nat.le_of_ble_eq_true rfl) ?_
  intro hn0 M hl hG ho hb hN hr hm hH hrm hQ
  subst hl hG
  have ho : zm_o M = RJ5 := ho
  show z_V M h n 0 0 0 [(0, .ref b)] []
  refine z_aload_n hb dJ5_length_0 rfl ?_
  refine z_call1 (b' := 0) (f' := 0) (rest := []) (av := [.ref b]) (z_siteP hb ho zc22 hB q1056 q1052 q1051 q283 ⟨_, _, _, _, zk_J4_length⟩ (by decide) zl_J4_length dJ5_length_1 : z_Site M _ _ _ _ _ ([].reverse ++ .ref b :: []) [] _) zk_J4_length q100 hrm (m_J4_length_1 hB) (by omega) (by decide) (Nat.le_of_ble_eq_true rfl) (by omega) (by omega) ?_
  refine z_iret hb hr dJ5_length_4 ?_
  rw [hQ]
  exact ⟨rfl, rfl, rfl⟩

set_option maxHeartbeats 1000000 in
theorem m_J16_canEncode_2 {l : Launch} {G : zG} {h : zH} {n : Nat} {c : Nat} (hc16 : c < 65536) : z_C l G yJ16_canEncode_2 1 0 0 [.int (nI c)] h n (z_rv (.int (z_b (decide (c ≤ 255)))) h n) := by
  refine z_start zk_J16_canEncode_2 zpl_RJ16 (Nat.le_of_ble_eq_true rfl) ?_
  intro hn0 M hl hG ho hb hN hr hm hH hrm hQ
  subst hl hG
  have ho : zm_o M = RJ16 := ho
  show z_V M h n 0 0 0 [(0, .int (nI c))] []
  refine z_iload_n hb dJ16_canEncode_2_0 rfl ?_
  refine z_sipush (x := nI 255) hb dJ16_canEncode_2_1 (by decide) ?_
  refine z_icmp_gtN (tgt := 11) hb dJ16_canEncode_2_4 (by decide) (by omega) (by omega) (fun c_4 => ?_) (fun c_4 => ?_)
  · refine z_iconst (x := nI 0) hb dJ16_canEncode_2_11 (by decide) ?_
    refine z_zret hb hr rfl dJ16_canEncode_2_12 ?_
    rw [hQ]
    exact ⟨by rw [decide_eq_false (by omega)]; rfl, rfl, rfl⟩
  · refine z_iconst (x := nI 1) hb dJ16_canEncode_2_7 (by decide) ?_
    refine z_goto (tgt := 12) hb dJ16_canEncode_2_8 (by decide) ?_
    refine z_zret hb hr rfl dJ16_canEncode_2_12 ?_
    rw [hQ]
    exact ⟨by rw [decide_eq_true (by omega)]; rfl, rfl, rfl⟩

set_option maxHeartbeats 1000000 in
theorem m_J13_newLength_g {l : Launch} {G : zG} {h : zH} {n : Nat} {o m p : Nat} (hp : 1 ≤ max m p) (ho2 : o + max m p ≤ 1000) : z_C l G yJ13_newLength 2 0 0 [.int (nI o), .int (nI m), .int (nI p)] h n (z_rv (.int (nI (o + max m p))) h n) := by
  refine z_start zk_J13_newLength zpl_RJ13 (Nat.le_of_ble_eq_true rfl) ?_
  intro hn0 M hl hG ho hb hN hr hm hH hrm hQ
  subst hl hG
  have ho : zm_o M = RJ13 := ho
  show z_V M h n 0 0 0 [(0, .int (nI o)), (1, .int (nI m)), (2, .int (nI p))] []
  refine z_iload_n hb dJ13_newLength_0 rfl ?_
  refine z_iload_n hb dJ13_newLength_1 rfl ?_
  refine z_iload_n hb dJ13_newLength_2 rfl ?_
  refine z_mmax hb ho hrm (by omega) q498 q499 q111 q500 dJ13_newLength_3 (Nat.le_of_ble_eq_true rfl) ?_
  refine z_toI (y := nI (max m p)) (z_maxN (by omega) (by omega)) ?_
  refine z_iadd hb dJ13_newLength_6 ?_
  refine z_toI (y := nI (o + (max m p))) (nI_add o (max m p)) ?_
  refine z_istore_n (lv' := [(3, .int (nI (o + (max m p)))), (0, .int (nI o)), (1, .int (nI m)), (2, .int (nI p))]) hb dJ13_newLength_7 (by rw [hN]; decide) rfl ?_
  refine z_iconst (x := nI 0) hb dJ13_newLength_8 (by decide) ?_
  refine z_iload_n hb dJ13_newLength_9 rfl ?_
  refine z_icmp_geN (tgt := 21) hb dJ13_newLength_10 (by decide) (by omega) (by omega) (fun c_10 => ?_) (fun c_10 => ?_)
  · exact absurd c_10 (by omega)
  · refine z_iload_n hb dJ13_newLength_13 rfl ?_
    refine z_ldc hb ho q501 dJ13_newLength_14 ?_
    refine z_icmp_gt (tgt := 21) hb dJ13_newLength_16 (by decide) (fun c_16 => ?_) (fun c_16 => ?_)
    · exact absurd ((nI_ltI (a := 2147483639) (by omega) (by omega)).mp c_16) (by omega)
    · refine z_iload_n hb dJ13_newLength_19 rfl ?_
      refine z_iret hb hr dJ13_newLength_20 ?_
      rw [hQ]
      exact ⟨rfl, rfl, rfl⟩

set_option maxHeartbeats 1000000 in
theorem m_J15_copyOf_3 {l : Launch} {G : zG} {h : zH} {n : Nat} {e N m : Nat} {f : Nat → Int32} (hA : h e = some (z_ab G N f)) (he0 : z_n0 G ≤ e) (hen : e < n) (hNm : N < m) (hm9 : m < 1000) (hfb : z_fB f N) : z_C l G yJ15_copyOf_3 1 1 m [.ref e, .int (nI m)] h n (z_rv (.ref n) (z_up h n (z_ab G m (va_cpy f (fun _ => 0) 0 0 N))) (n + 1)) := by
  refine z_start zk_J15_copyOf_3 zpl_RJ15 (Nat.le_of_ble_eq_true rfl) ?_
  intro hn0 M hl hG ho hb hN hr hm hH hrm hQ
  subst hl hG
  have ho : zm_o M = RJ15 := ho
  show z_V M h n 1 m 0 [(0, .ref e), (1, .int (nI m))] []
  refine z_iload_n hb dJ15_copyOf_3_0 rfl ?_
  refine z_aload_n hb dJ15_copyOf_3_1 rfl ?_
  refine z_alen (kk := 3) hb rfl dJ15_copyOf_3_2 hA ?_
  refine z_icmp_neN (tgt := 14) hb dJ15_copyOf_3_3 (by decide) (by omega) (by omega) (fun c_3 => ?_) (fun c_3 => ?_)
  · refine z_iload_n hb dJ15_copyOf_3_14 rfl ?_
    refine z_newb (N := m) (b' := 0) (f' := m - m) hb q284 dJ15_copyOf_3_15 rfl (by omega) (by omega) (by omega) ?_
    refine z_hn (fun h_1 eh_1 => ?_)
    have eh_1 : h_1 = z_up h n (.inl ((zm_G M).2.1 3, m, .inl (fun _ => 0))) := eh_1
    have k_2 : h_1 e = some (.inl ((zm_G M).2.1 3, N, .inl f)) := z_nx eh_1 (Nat.ne_of_lt hen) hA
    refine z_astore_n (lv' := [(2, .ref n), (0, .ref e), (1, .int (nI m))]) hb dJ15_copyOf_3_17 (by rw [hN]; decide) rfl ?_
    refine z_aload_n hb dJ15_copyOf_3_18 rfl ?_
    refine z_iconst (x := nI 0) hb dJ15_copyOf_3_19 (by decide) ?_
    refine z_aload_n hb dJ15_copyOf_3_20 rfl ?_
    refine z_iconst (x := nI 0) hb dJ15_copyOf_3_21 (by decide) ?_
    refine z_aload_n hb dJ15_copyOf_3_22 rfl ?_
    refine z_alen (kk := 3) hb rfl dJ15_copyOf_3_23 k_2 ?_
    refine z_iload_n hb dJ15_copyOf_3_24 rfl ?_
    refine z_mmin hb ho hrm (by omega) q552 q553 q111 q554 dJ15_copyOf_3_25 (Nat.le_of_ble_eq_true rfl) ?_
    refine z_toI (y := nI N) (by rw [z_minN (by omega) (by omega), Nat.min_eq_left (by omega)]) ?_
    refine z_copyb hb ho hrm (by omega) q555 q557 q556 q113 dJ15_copyOf_3_28 k_2 (z_nxs eh_1) (by omega) rfl rfl rfl (by omega) (by omega) (by omega) (by omega) (fun i hi => by rw [Nat.zero_add]; exact hfb i hi) (Nat.le_of_ble_eq_true rfl) ?_
    refine z_hn (fun h_3 eh_3 => ?_)
    have eh_3 : h_3 = z_up h_1 n (.inl ((zm_G M).2.1 3, m, .inl (va_cpy f (fun _ => 0) 0 0 N))) := eh_3
    refine z_aload_n hb dJ15_copyOf_3_31 rfl ?_
    refine z_aret hb hr (Or.inr ⟨_, rfl⟩) (Or.inr ⟨_, rfl⟩) dJ15_copyOf_3_32 ?_
    rw [hQ]
    exact ⟨rfl, (by rw [eh_3, eh_1] <;> simp only [z_up_up]), rfl⟩
  · exact absurd c_3 (by omega)

set_option maxHeartbeats 1000000 in
theorem m_J4_newCapacity_0 {l : Launch} {G : zG} {h : zH} {n : Nat} {b e N k : Nat} {ml : Bool} {f : Nat → Int32} {mn : Nat} (hB : h b = some (z_sb e 0 ml k)) (hA : h e = some (z_ab G N f)) (hg : N < mn) (hmn : mn ≤ 140) : z_C l G yJ4_newCapacity 3 0 0 [.ref b, .int (nI mn)] h n (z_rv (.int (nI (N + max (mn - N) (N + 2)))) h n) := by
  refine z_start zk_J4_newCapacity zpl_RJ4 (Nat.le_of_ble_eq_true rfl) ?_
  intro hn0 M hl hG ho hb hN hr hm hH hrm hQ
  subst hl hG
  have ho : zm_o M = RJ4 := ho
  show z_V M h n 0 0 0 [(0, .ref b), (1, .int (nI mn))] []
  refine z_aload_n hb dJ4_newCapacity_0 rfl ?_
  refine z_get (k := 0) (C := RJ5) (T := TJ5) (N := 4) hb ho zc22 in_J5 (zf_RJ4_15 _) dJ4_newCapacity_1 hB (by decide) rfl ?_
  refine z_alen (kk := 3) hb rfl dJ4_newCapacity_4 hA ?_
  refine z_istore_n (lv' := [(2, .int (nI N)), (0, .ref b), (1, .int (nI mn))]) hb dJ4_newCapacity_5 (by rw [hN]; decide) rfl ?_
  refine z_iload_n hb dJ4_newCapacity_6 rfl ?_
  refine z_aload_n hb dJ4_newCapacity_7 rfl ?_
  refine z_get (k := 1) (C := RJ5) (T := TJ5) (N := 4) hb ho zc22 in_J5 (zf_RJ4_22 _) dJ4_newCapacity_8 hB (by decide) rfl ?_
  refine z_ishl hb dJ4_newCapacity_11 ?_
  refine z_toI (y := nI mn) (z_sl0 (by omega)) ?_
  refine z_istore_n (lv' := [(3, .int (nI mn)), (2, .int (nI N)), (0, .ref b), (1, .int (nI mn))]) hb dJ4_newCapacity_12 (by rw [hN]; decide) rfl ?_
  refine z_iload_n hb dJ4_newCapacity_13 rfl ?_
  refine z_iload_n hb dJ4_newCapacity_14 rfl ?_
  refine z_isub hb dJ4_newCapacity_15 ?_
  refine z_toI (y := nI (mn - N)) (pk_sub (by omega)) ?_
  refine z_istore (lv' := [(4, .int (nI (mn - N))), (3, .int (nI mn)), (2, .int (nI N)), (0, .ref b), (1, .int (nI mn))]) hb dJ4_newCapacity_16 (by rw [hN]; decide) rfl ?_
  refine z_iload_n hb dJ4_newCapacity_18 rfl ?_
  refine z_iload hb dJ4_newCapacity_19 rfl ?_
  refine z_iload_n hb dJ4_newCapacity_21 rfl ?_
  refine z_iconst (x := nI 2) hb dJ4_newCapacity_22 (by decide) ?_
  refine z_aload_n hb dJ4_newCapacity_23 rfl ?_
  refine z_get (k := 1) (C := RJ5) (T := TJ5) (N := 4) hb ho zc22 in_J5 (zf_RJ4_22 _) dJ4_newCapacity_24 hB (by decide) rfl ?_
  refine z_ishl hb dJ4_newCapacity_27 ?_
  refine z_toI (y := nI 2) (by decide) ?_
  refine z_iadd hb dJ4_newCapacity_28 ?_
  refine z_toI (y := nI (N + 2)) (nI_add N 2) ?_
  refine z_call1 (b' := 0) (f' := 0) (rest := []) (av := [.int (nI N), .int (nI (mn - N)), .int (nI (N + 2))]) (z_siteS hb ho q931 q496 q110 ⟨_, _, _, _, zk_J13_newLength⟩ zy_J13_newLength zl_J13_newLength dJ4_newCapacity_29 : z_Site M _ _ _ _ _ ([.int (nI N), .int (nI (mn - N)), .int (nI (N + 2))].reverse ++ []) [] _) zk_J13_newLength q110 hrm (m_J13_newLength_g (by omega) (by omega)) (by omega) (by decide) (Nat.le_of_ble_eq_true rfl) (by omega) (by omega) ?_
  refine z_istore (lv' := [(5, .int (nI (N + max (mn - N) (N + 2)))), (4, .int (nI (mn - N))), (3, .int (nI mn)), (2, .int (nI N)), (0, .ref b), (1, .int (nI mn))]) hb dJ4_newCapacity_32 (by rw [hN]; decide) rfl ?_
  refine z_iload hb dJ4_newCapacity_34 rfl ?_
  refine z_ldc hb ho q932 dJ4_newCapacity_36 ?_
  refine z_icmp_ne (tgt := 51) hb dJ4_newCapacity_38 (by decide) (fun c_38 => ?_) (fun c_38 => ?_)
  · refine z_iload hb dJ4_newCapacity_51 rfl ?_
    refine z_aload_n hb dJ4_newCapacity_53 rfl ?_
    refine z_get (k := 1) (C := RJ5) (T := TJ5) (N := 4) hb ho zc22 in_J5 (zf_RJ4_22 _) dJ4_newCapacity_54 hB (by decide) rfl ?_
    refine z_ishr hb dJ4_newCapacity_57 ?_
    refine z_toI (y := nI (N + max (mn - N) (N + 2))) (z_shr0 _) ?_
    refine z_iret hb hr dJ4_newCapacity_58 ?_
    rw [hQ]
    exact ⟨rfl, rfl, rfl⟩
  · exact absurd ((nI_eq (b := 2147483647) (by omega) (by omega)).mp c_38) (by omega)

set_option maxHeartbeats 1000000 in
theorem m_J4_ensureCapacity_0 {l : Launch} {G : zG} {h : zH} {n : Nat} {b e N k : Nat} {ml : Bool} {f : Nat → Int32} {mn : Nat} (hB : h b = some (z_sb e 0 ml k)) (hA : h e = some (z_ab G N f)) (hb9 : z_n0 G ≤ b) (he0 : z_n0 G ≤ e) (hmn : mn ≤ 140) (hN3 : N ≤ 300) (hev : N % 2 = 0 ∨ 0 = 0) (hfb : z_fB f N) : z_C l G yJ4_ensureCapacityInternal 4 1 300 [.ref b, .int (nI mn)] h n (z_q0 (z_ec G h n b e 0 ml k N mn f)) := by
  refine z_start zk_J4_ensureCapacityInternal zpl_RJ4 (Nat.le_of_ble_eq_true rfl) ?_
  intro hn0 M hl hG ho hb hN hr hm hH hrm hQ
  subst hl hG
  have ho : zm_o M = RJ4 := ho
  refine z_dom (fun hdm => ?_)
  have hbn := hdm _ _ hB
  have hen := hdm _ _ hA
  show z_V M h n 1 300 0 [(0, .ref b), (1, .int (nI mn))] []
  refine z_aload_n hb dJ4_ensureCapacityInternal_0 rfl ?_
  refine z_get (k := 0) (C := RJ5) (T := TJ5) (N := 4) hb ho zc22 in_J5 (zf_RJ4_15 _) dJ4_ensureCapacityInternal_1 hB (by decide) rfl ?_
  refine z_alen (kk := 3) hb rfl dJ4_ensureCapacityInternal_4 hA ?_
  refine z_aload_n hb dJ4_ensureCapacityInternal_5 rfl ?_
  refine z_get (k := 1) (C := RJ5) (T := TJ5) (N := 4) hb ho zc22 in_J5 (zf_RJ4_22 _) dJ4_ensureCapacityInternal_6 hB (by decide) rfl ?_
  refine z_ishr hb dJ4_ensureCapacityInternal_9 ?_
  refine z_toI (y := nI N) (z_shr0 _) ?_
  refine z_istore_n (lv' := [(2, .int (nI N)), (0, .ref b), (1, .int (nI mn))]) hb dJ4_ensureCapacityInternal_10 (by rw [hN]; decide) rfl ?_
  refine z_iload_n hb dJ4_ensureCapacityInternal_11 rfl ?_
  refine z_iload_n hb dJ4_ensureCapacityInternal_12 rfl ?_
  refine z_isub hb dJ4_ensureCapacityInternal_13 ?_
  refine z_if_le (tgt := 38) hb dJ4_ensureCapacityInternal_14 (by decide) (fun c_14 => ?_) (fun c_14 => ?_)
  · have hg8 := (z_sble (by omega) (by omega)).mp c_14
    refine z_vret hb hr dJ4_ensureCapacityInternal_38 ?_
    rw [hQ]
    exact ⟨rfl, e, N, f, hB, hA, he0, by omega, Nat.le_refl _, by omega, hev, fun _ _ => rfl, hfb, Or.inl rfl, z_fr_r⟩
  · have hg9 : ¬ mn ≤ N := fun q => c_14 ((z_sble (by omega) (by omega)).mpr q)
    refine z_aload_n hb dJ4_ensureCapacityInternal_17 rfl ?_
    refine z_aload_n hb dJ4_ensureCapacityInternal_18 rfl ?_
    refine z_get (k := 0) (C := RJ5) (T := TJ5) (N := 4) hb ho zc22 in_J5 (zf_RJ4_15 _) dJ4_ensureCapacityInternal_19 hB (by decide) rfl ?_
    refine z_aload_n hb dJ4_ensureCapacityInternal_22 rfl ?_
    refine z_iload_n hb dJ4_ensureCapacityInternal_23 rfl ?_
    refine z_call1 (b' := 1) (f' := 300) (rest := [.ref e, .ref b]) (av := [.ref b, .int (nI mn)]) (z_siteQ hb ho zc22 hB q927 q929 q928 q3279 ⟨_, _, _, _, zk_J4_newCapacity⟩ zy_J4_newCapacity zl_J4_newCapacity dJ4_ensureCapacityInternal_24 : z_Site M _ _ _ _ _ ([.int (nI mn)].reverse ++ .ref b :: [.ref e, .ref b]) [.ref e, .ref b] _) zk_J4_newCapacity q100 hrm (m_J4_newCapacity_0 hB hA (by omega) hmn) (by omega) (by decide) (Nat.le_of_ble_eq_true rfl) (by omega) (by omega) ?_
    refine z_aload_n hb dJ4_ensureCapacityInternal_27 rfl ?_
    refine z_get (k := 1) (C := RJ5) (T := TJ5) (N := 4) hb ho zc22 in_J5 (zf_RJ4_22 _) dJ4_ensureCapacityInternal_28 hB (by decide) rfl ?_
    refine z_ishl hb dJ4_ensureCapacityInternal_31 ?_
    refine z_toI (y := nI (N + max (mn - N) (N + 2))) (z_sl0 (by omega)) ?_
    refine z_call1 (b' := 0) (f' := 0) (rest := [.ref b]) (av := [.ref e, .int (nI (N + max (mn - N) (N + 2)))]) (z_siteS hb ho q933 q934 q112 ⟨_, _, _, _, zk_J15_copyOf_3⟩ zy_J15_copyOf_3 zl_J15_copyOf_3 dJ4_ensureCapacityInternal_32 : z_Site M _ _ _ _ _ ([.ref e, .int (nI (N + max (mn - N) (N + 2)))].reverse ++ [.ref b]) [.ref b] _) zk_J15_copyOf_3 q112 hrm (m_J15_copyOf_3 hA he0 hen (by omega) (by omega) hfb) (by omega) (by decide) (Nat.le_of_ble_eq_true rfl) (by omega) (by omega) ?_
    refine z_hn (fun h_1 eh_1 => ?_)
    have eh_1 : h_1 = z_up h n (.inl ((zm_G M).2.1 3, N + max (mn - N) (N + 2), .inl (va_cpy f (fun _ => 0) 0 0 N))) := eh_1
    have k_2 : h_1 b = some (.inr (22, [.ref e, .int (nI 0), .int (z_b ml), .int (nI k)])) := z_nx eh_1 (Nat.ne_of_lt hbn) hB
    have k_3 : h_1 e = some (.inl ((zm_G M).2.1 3, N, .inl f)) := z_nx eh_1 (Nat.ne_of_lt hen) hA
    refine z_put (k := 0) (C := RJ5) (T := TJ5) (N := 4) hb ho zc22 in_J5 tyJ5_ok nmJ5 (zf_RJ4_15 _) dJ4_ensureCapacityInternal_35 k_2 hb9 (by decide) (Or.inl rfl) rfl rfl rfl (Nat.le_of_ble_eq_true rfl) ?_
    refine z_hn (fun h_4 eh_4 => ?_)
    have eh_4 : h_4 = z_up h_1 b (.inr (22, [.ref n, .int (nI 0), .int (z_b ml), .int (nI k)])) := eh_4
    have k_5 : h_4 e = some (.inl ((zm_G M).2.1 3, N, .inl f)) := z_nx eh_4 (z_neA' k_3 k_2) k_3
    have k_6 : h_4 n = some (.inl ((zm_G M).2.1 3, N + max (mn - N) (N + 2), .inl (va_cpy f (fun _ => 0) 0 0 N))) := z_nx eh_4 (z_neA' (z_nxs eh_1) k_2) (z_nxs eh_1)
    refine z_vret hb hr dJ4_ensureCapacityInternal_38 ?_
    rw [hQ]
    exact ⟨rfl, n, _, _, (z_nxs eh_4), k_6, by omega, by omega, by omega, by omega, by omega, fun j hj => z_cpyZ hj, z_cpyfB hfb, Or.inr (Nat.le_refl _), z_frN hdm eh_1 eh_4⟩

set_option maxHeartbeats 1000000 in
theorem m_J4_newCapacity_1 {l : Launch} {G : zG} {h : zH} {n : Nat} {b e N k : Nat} {ml : Bool} {f : Nat → Int32} {mn : Nat} (hB : h b = some (z_sb e 1 ml k)) (hA : h e = some (z_ab G N f)) (hg : N < 2 * mn) (hmn : 2 * mn ≤ 140) : z_C l G yJ4_newCapacity 3 0 0 [.ref b, .int (nI mn)] h n (z_rv (.int (nI ((N + max (2 * mn - N) (N + 4)) / 2))) h n) := by
  refine z_start zk_J4_newCapacity zpl_RJ4 (Nat.le_of_ble_eq_true rfl) ?_
  intro hn0 M hl hG ho hb hN hr hm hH hrm hQ
  subst hl hG
  have ho : zm_o M = RJ4 := ho
  show z_V M h n 0 0 0 [(0, .ref b), (1, .int (nI mn))] []
  refine z_aload_n hb dJ4_newCapacity_0 rfl ?_
  refine z_get (k := 0) (C := RJ5) (T := TJ5) (N := 4) hb ho zc22 in_J5 (zf_RJ4_15 _) dJ4_newCapacity_1 hB (by decide) rfl ?_
  refine z_alen (kk := 3) hb rfl dJ4_newCapacity_4 hA ?_
  refine z_istore_n (lv' := [(2, .int (nI N)), (0, .ref b), (1, .int (nI mn))]) hb dJ4_newCapacity_5 (by rw [hN]; decide) rfl ?_
  refine z_iload_n hb dJ4_newCapacity_6 rfl ?_
  refine z_aload_n hb dJ4_newCapacity_7 rfl ?_
  refine z_get (k := 1) (C := RJ5) (T := TJ5) (N := 4) hb ho zc22 in_J5 (zf_RJ4_22 _) dJ4_newCapacity_8 hB (by decide) rfl ?_
  refine z_ishl hb dJ4_newCapacity_11 ?_
  refine z_toI (y := nI (2 * mn)) (z_sl1 (by omega)) ?_
  refine z_istore_n (lv' := [(3, .int (nI (2 * mn))), (2, .int (nI N)), (0, .ref b), (1, .int (nI mn))]) hb dJ4_newCapacity_12 (by rw [hN]; decide) rfl ?_
  refine z_iload_n hb dJ4_newCapacity_13 rfl ?_
  refine z_iload_n hb dJ4_newCapacity_14 rfl ?_
  refine z_isub hb dJ4_newCapacity_15 ?_
  refine z_toI (y := nI ((2 * mn) - N)) (pk_sub (by omega)) ?_
  refine z_istore (lv' := [(4, .int (nI ((2 * mn) - N))), (3, .int (nI (2 * mn))), (2, .int (nI N)), (0, .ref b), (1, .int (nI mn))]) hb dJ4_newCapacity_16 (by rw [hN]; decide) rfl ?_
  refine z_iload_n hb dJ4_newCapacity_18 rfl ?_
  refine z_iload hb dJ4_newCapacity_19 rfl ?_
  refine z_iload_n hb dJ4_newCapacity_21 rfl ?_
  refine z_iconst (x := nI 2) hb dJ4_newCapacity_22 (by decide) ?_
  refine z_aload_n hb dJ4_newCapacity_23 rfl ?_
  refine z_get (k := 1) (C := RJ5) (T := TJ5) (N := 4) hb ho zc22 in_J5 (zf_RJ4_22 _) dJ4_newCapacity_24 hB (by decide) rfl ?_
  refine z_ishl hb dJ4_newCapacity_27 ?_
  refine z_toI (y := nI 4) (by decide) ?_
  refine z_iadd hb dJ4_newCapacity_28 ?_
  refine z_toI (y := nI (N + 4)) (nI_add N 4) ?_
  refine z_call1 (b' := 0) (f' := 0) (rest := []) (av := [.int (nI N), .int (nI ((2 * mn) - N)), .int (nI (N + 4))]) (z_siteS hb ho q931 q496 q110 ⟨_, _, _, _, zk_J13_newLength⟩ zy_J13_newLength zl_J13_newLength dJ4_newCapacity_29 : z_Site M _ _ _ _ _ ([.int (nI N), .int (nI ((2 * mn) - N)), .int (nI (N + 4))].reverse ++ []) [] _) zk_J13_newLength q110 hrm (m_J13_newLength_g (by omega) (by omega)) (by omega) (by decide) (Nat.le_of_ble_eq_true rfl) (by omega) (by omega) ?_
  refine z_istore (lv' := [(5, .int (nI (N + max (2 * mn - N) (N + 4)))), (4, .int (nI ((2 * mn) - N))), (3, .int (nI (2 * mn))), (2, .int (nI N)), (0, .ref b), (1, .int (nI mn))]) hb dJ4_newCapacity_32 (by rw [hN]; decide) rfl ?_
  refine z_iload hb dJ4_newCapacity_34 rfl ?_
  refine z_ldc hb ho q932 dJ4_newCapacity_36 ?_
  refine z_icmp_ne (tgt := 51) hb dJ4_newCapacity_38 (by decide) (fun c_38 => ?_) (fun c_38 => ?_)
  · refine z_iload hb dJ4_newCapacity_51 rfl ?_
    refine z_aload_n hb dJ4_newCapacity_53 rfl ?_
    refine z_get (k := 1) (C := RJ5) (T := TJ5) (N := 4) hb ho zc22 in_J5 (zf_RJ4_22 _) dJ4_newCapacity_54 hB (by decide) rfl ?_
    refine z_ishr hb dJ4_newCapacity_57 ?_
    refine z_toI (y := nI ((N + max (2 * mn - N) (N + 4)) / 2)) (z_sr1 (by omega)) ?_
    refine z_iret hb hr dJ4_newCapacity_58 ?_
    rw [hQ]
    exact ⟨rfl, rfl, rfl⟩
  · exact absurd ((nI_eq (b := 2147483647) (by omega) (by omega)).mp c_38) (by omega)

set_option maxHeartbeats 1000000 in
theorem m_J4_ensureCapacity_1 {l : Launch} {G : zG} {h : zH} {n : Nat} {b e N k : Nat} {ml : Bool} {f : Nat → Int32} {mn : Nat} (hB : h b = some (z_sb e 1 ml k)) (hA : h e = some (z_ab G N f)) (hb9 : z_n0 G ≤ b) (he0 : z_n0 G ≤ e) (hmn : 2 * mn ≤ 140) (hN3 : N ≤ 600) (hev : N % 2 = 0 ∨ 1 = 0) (hfb : z_fB f N) : z_C l G yJ4_ensureCapacityInternal 4 1 300 [.ref b, .int (nI mn)] h n (z_q0 (z_ec G h n b e 1 ml k N mn f)) := by
  refine z_start zk_J4_ensureCapacityInternal zpl_RJ4 (Nat.le_of_ble_eq_true rfl) ?_
  intro hn0 M hl hG ho hb hN hr hm hH hrm hQ
  subst hl hG
  have ho : zm_o M = RJ4 := ho
  refine z_dom (fun hdm => ?_)
  have hbn := hdm _ _ hB
  have hen := hdm _ _ hA
  show z_V M h n 1 300 0 [(0, .ref b), (1, .int (nI mn))] []
  refine z_aload_n hb dJ4_ensureCapacityInternal_0 rfl ?_
  refine z_get (k := 0) (C := RJ5) (T := TJ5) (N := 4) hb ho zc22 in_J5 (zf_RJ4_15 _) dJ4_ensureCapacityInternal_1 hB (by decide) rfl ?_
  refine z_alen (kk := 3) hb rfl dJ4_ensureCapacityInternal_4 hA ?_
  refine z_aload_n hb dJ4_ensureCapacityInternal_5 rfl ?_
  refine z_get (k := 1) (C := RJ5) (T := TJ5) (N := 4) hb ho zc22 in_J5 (zf_RJ4_22 _) dJ4_ensureCapacityInternal_6 hB (by decide) rfl ?_
  refine z_ishr hb dJ4_ensureCapacityInternal_9 ?_
  refine z_toI (y := nI (N / 2)) (z_sr1 (by omega)) ?_
  refine z_istore_n (lv' := [(2, .int (nI (N / 2))), (0, .ref b), (1, .int (nI mn))]) hb dJ4_ensureCapacityInternal_10 (by rw [hN]; decide) rfl ?_
  refine z_iload_n hb dJ4_ensureCapacityInternal_11 rfl ?_
  refine z_iload_n hb dJ4_ensureCapacityInternal_12 rfl ?_
  refine z_isub hb dJ4_ensureCapacityInternal_13 ?_
  refine z_if_le (tgt := 38) hb dJ4_ensureCapacityInternal_14 (by decide) (fun c_14 => ?_) (fun c_14 => ?_)
  · have hg8 := (z_sble (by omega) (by omega)).mp c_14
    refine z_vret hb hr dJ4_ensureCapacityInternal_38 ?_
    rw [hQ]
    exact ⟨rfl, e, N, f, hB, hA, he0, by omega, Nat.le_refl _, by omega, hev, fun _ _ => rfl, hfb, Or.inl rfl, z_fr_r⟩
  · have hg9 : ¬ mn ≤ N / 2 := fun q => c_14 ((z_sble (by omega) (by omega)).mpr q)
    refine z_aload_n hb dJ4_ensureCapacityInternal_17 rfl ?_
    refine z_aload_n hb dJ4_ensureCapacityInternal_18 rfl ?_
    refine z_get (k := 0) (C := RJ5) (T := TJ5) (N := 4) hb ho zc22 in_J5 (zf_RJ4_15 _) dJ4_ensureCapacityInternal_19 hB (by decide) rfl ?_
    refine z_aload_n hb dJ4_ensureCapacityInternal_22 rfl ?_
    refine z_iload_n hb dJ4_ensureCapacityInternal_23 rfl ?_
    refine z_call1 (b' := 1) (f' := 300) (rest := [.ref e, .ref b]) (av := [.ref b, .int (nI mn)]) (z_siteQ hb ho zc22 hB q927 q929 q928 q3279 ⟨_, _, _, _, zk_J4_newCapacity⟩ zy_J4_newCapacity zl_J4_newCapacity dJ4_ensureCapacityInternal_24 : z_Site M _ _ _ _ _ ([.int (nI mn)].reverse ++ .ref b :: [.ref e, .ref b]) [.ref e, .ref b] _) zk_J4_newCapacity q100 hrm (m_J4_newCapacity_1 hB hA (by omega) hmn) (by omega) (by decide) (Nat.le_of_ble_eq_true rfl) (by omega) (by omega) ?_
    refine z_aload_n hb dJ4_ensureCapacityInternal_27 rfl ?_
    refine z_get (k := 1) (C := RJ5) (T := TJ5) (N := 4) hb ho zc22 in_J5 (zf_RJ4_22 _) dJ4_ensureCapacityInternal_28 hB (by decide) rfl ?_
    refine z_ishl hb dJ4_ensureCapacityInternal_31 ?_
    refine z_toI (y := nI (2 * ((N + max (2 * mn - N) (N + 4)) / 2))) (z_sl1 (by omega)) ?_
    refine z_call1 (b' := 0) (f' := 0) (rest := [.ref b]) (av := [.ref e, .int (nI (2 * ((N + max (2 * mn - N) (N + 4)) / 2)))]) (z_siteS hb ho q933 q934 q112 ⟨_, _, _, _, zk_J15_copyOf_3⟩ zy_J15_copyOf_3 zl_J15_copyOf_3 dJ4_ensureCapacityInternal_32 : z_Site M _ _ _ _ _ ([.ref e, .int (nI (2 * ((N + max (2 * mn - N) (N + 4)) / 2)))].reverse ++ [.ref b]) [.ref b] _) zk_J15_copyOf_3 q112 hrm (m_J15_copyOf_3 hA he0 hen (by omega) (by omega) hfb) (by omega) (by decide) (Nat.le_of_ble_eq_true rfl) (by omega) (by omega) ?_
    refine z_hn (fun h_1 eh_1 => ?_)
    have eh_1 : h_1 = z_up h n (.inl ((zm_G M).2.1 3, 2 * ((N + max (2 * mn - N) (N + 4)) / 2), .inl (va_cpy f (fun _ => 0) 0 0 N))) := eh_1
    have k_2 : h_1 b = some (.inr (22, [.ref e, .int (nI 1), .int (z_b ml), .int (nI k)])) := z_nx eh_1 (Nat.ne_of_lt hbn) hB
    have k_3 : h_1 e = some (.inl ((zm_G M).2.1 3, N, .inl f)) := z_nx eh_1 (Nat.ne_of_lt hen) hA
    refine z_put (k := 0) (C := RJ5) (T := TJ5) (N := 4) hb ho zc22 in_J5 tyJ5_ok nmJ5 (zf_RJ4_15 _) dJ4_ensureCapacityInternal_35 k_2 hb9 (by decide) (Or.inl rfl) rfl rfl rfl (Nat.le_of_ble_eq_true rfl) ?_
    refine z_hn (fun h_4 eh_4 => ?_)
    have eh_4 : h_4 = z_up h_1 b (.inr (22, [.ref n, .int (nI 1), .int (z_b ml), .int (nI k)])) := eh_4
    have k_5 : h_4 e = some (.inl ((zm_G M).2.1 3, N, .inl f)) := z_nx eh_4 (z_neA' k_3 k_2) k_3
    have k_6 : h_4 n = some (.inl ((zm_G M).2.1 3, 2 * ((N + max (2 * mn - N) (N + 4)) / 2), .inl (va_cpy f (fun _ => 0) 0 0 N))) := z_nx eh_4 (z_neA' (z_nxs eh_1) k_2) (z_nxs eh_1)
    refine z_vret hb hr dJ4_ensureCapacityInternal_38 ?_
    rw [hQ]
    exact ⟨rfl, n, _, _, (z_nxs eh_4), k_6, by omega, by omega, by omega, by omega, by omega, fun j hj => z_cpyZ hj, z_cpyfB hfb, Or.inr (Nat.le_refl _), z_frN hdm eh_1 eh_4⟩

