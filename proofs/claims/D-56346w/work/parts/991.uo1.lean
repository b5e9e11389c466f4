section ZFI
variable {M : zM} {h : zH} {n b f pc : Nat} {lv : List (Nat × Value)} {rest : List Value} {cc : ByteArray}
theorem z_nr_ref (x : Nat) : (z_nr x).isRef = true := by
  unfold z_nr
  cases Nat.beq x 0 <;> rfl
/-- the static UNASSIGNED_STACK -/
theorem z_una {G : zG} : (zSts G)[9]? = some ("java/lang/Throwable", "UNASSIGNED_STACK", "[Ljava/lang/StackTraceElement;", z_nr (G.2.2.1 1006)) := rfl
set_option maxHeartbeats 1000000 in
/-- 'fillInStackTrace()' on an exception whose field stackTrace is as new: it changes nothing -/
theorem z_fill {a : Nat} {fs : List Value} {r0 mc0 ms0 : Nat} (hb : zm_c M = cc) (ho : zm_o M = RJ9) (hrm : zm_R M = z_rm r0 mc0 ms0) (hr0 : 4 ≤ r0) (ha : h a = some (.inr (30, fs))) (h0 : z_n0 (zm_G M) ≤ a)
    (h1 : vp_V fs 1 = z_nr ((zm_G M).2.2.1 1006)) (h4 : vp_V fs 4 = .null) (hst : (rest.map fun v => v.category).sum ≤ 50) (d : decode cc pc = .ok (.invokevirtual 27, 3)) (kk : z_V M h n b f (pc + 3) lv (.ref a :: rest)) : z_V M h n b f pc lv (.ref a :: rest) := by
  intro p e s m args below meth c A H locs ls k9 j9 hR hsz hlo hlv hk9 hj9
  have hWd := A.2.2.2.2.1
  have hexec := A.1
  have hown : s.vm.findClass Bundle.tN = some m.cls := by
    have h9 := A.2.2.2.1
    rw [ho] at h9
    exact h9
  obtain ⟨cf, kf, fi, f9, a9, cS0, g1, g2, g3, g4, g5, g6, g7, -⟩ := hWd.2.2.2.2.2.1 9 _ z_una
  have hkeep : ∀ q : Nat, q < (zm_G M).2.2.2.2.size → ¬ (fun _ => False) q → s.heap[q]? = (zm_G M).2.2.2.2[q]? := fun q hq _ => A.2.2.2.2.2.2.2.2.2.2.1 q hq
  have hU : vx_Zq Bundle.tN "UNASSIGNED_STACK" Bundle.steD (fun _ => False) s s.heap := hWd.2.2.2.2.2.2.2.2.2.1.kept hkeep
  have hN : vx_Zq Bundle.tN "SUPPRESSED_SENTINEL" Bundle.listD (fun _ => False) s s.heap := hWd.2.2.2.2.2.2.2.2.2.2.kept hkeep
  have hat := vx_own (zat_X1_requireArgument args hWd) (vx_isRefq hU.1) (vx_isRefq hN.1) hU.2.word hN.2.word
  intro T hT X
  have htr : e.platform.stackTraces = false := by
    rw [X.admits.platform]
    show (zm_l M).stackTraces = false
    unfold Launch.stackTraces
    rw [A.2.2.2.2.2.2.2.2.2.2.2]
    decide +kernel
  have howns : e.platform.frameOwnsMonitors = true := by rw [X.admits.platform]
  have hfin : e.platform.finalization = false := by rw [X.admits.platform]
  have hpl : e.platform.magicAccessors = ({} : Platform).magicAccessors := by rw [X.admits.platform]
  obtain ⟨TT, Z, L, LZ, Y⟩ := ThrowableC.of_atoms (args := args) howns hfin hpl (fun x hx => hat x (by simp [Bundle.ownAtoms0, hx]))
  obtain ⟨r, e1, cell, q1, q2, q3, q4⟩ := z_rs hR hWd h0 ha
  have hr : r = (RJ25, TJ25, 6) := Option.some.inj (e1.symm.trans zc30)
  subst hr
  obtain ⟨hS, hfc, kC, hkC, hkind⟩ := hWd.1.1 30 _ zc30
  have hmon := hR.2.2.2.2 a cell h0 q1
  have eU := g1.symm.trans Y.unassigned
  have e3 : kf = TT.kT := by simpa using congrArg (fun q => q.map (fun q => q.2.1)) eU
  have e4 : f9 = TT.fUnassigned := by simpa using congrArg (fun q => q.map (fun q => q.2.2.2)) eU
  have e5 : a9 = TT.aS := Option.some.inj (g4.symm.trans (e3 ▸ L.statics))
  subst e4 e5
  have hlt9 : TT.aS < z_n0 (zm_G M) := (Array.getElem?_eq_some_iff.mp g5).1
  have hcS : T.heap[TT.aS]? = some cS0 := by rw [hT, hR.2.2.1 _ hlt9]; exact g5
  have hcell : T.heap[a]? = some cell := by rw [hT]; exact q1
  obtain ⟨c1, k1, i1, f1, hf1, hs1⟩ := hS 1 (by decide)
  obtain ⟨c4, k4, i4, f4, hf4, hs4⟩ := hS 4 (by decide)
  have eS := (show s.fieldFound? Bundle.tN "stackTrace" Bundle.steD = some (c1, k1, i1, f1) from hf1).symm.trans Y.stack
  have eS4 : f1 = TT.fStack := by simpa using congrArg (fun q => q.map (fun q => q.2.2.2)) eS
  subst eS4
  obtain ⟨u0, hu0⟩ : ∃ u0 : RefV, u0.v = z_nr ((zm_G M).2.2.1 1006) := ⟨⟨_, z_nr_ref _⟩, rfl⟩
  have hvS : cell.slots[TT.fStack.slot]? = some u0.v := by rw [hs1, q4 1 (by decide), h1, hu0]
  have hat2 : ∀ x, x ∈ Bundle.ownAtoms0 "WeirfoldLane" 3 "java/lang/IllegalArgumentException" ["java/lang/RuntimeException", "java/lang/Exception"] → x.holds args s none s [] = true := fun x hx => hat x hx
  have w431 : (Cond.selects RJ25 Bundle.tFill Bundle.tFill).holds args s none s [] = true := hWd.g args _ q431
  have w1680 : (Cond.selects RJ25 Bundle.tFill0 Bundle.tFill0).holds args s none s [] = true := hWd.g args _ q1680
  have hsel0 : selectMethod e.platform s.vm cell.cls TT.fill0 = .method TT.fill0 := by
    obtain ⟨c2, r2, m2, p1, p2, p3, p4, -⟩ := Cond.selects_spec w1680
    have z1 : c2 = cell.cls := by rw [q2]; exact Option.some.inj (p1.symm.trans hfc)
    cases Option.some.inj (p2.symm.trans (State.methodFound?_of_named Y.fill0 (by decide)))
    cases Option.some.inj (p3.symm.trans Y.fill0)
    rw [Launch.admits_selectMethod X.admits, ← z1]; exact p4
  have hselF : selectMethod e.platform s.vm cell.cls TT.fill = .method TT.fill := by
    obtain ⟨c2, r2, m2, p1, p2, p3, p4, -⟩ := Cond.selects_spec w431
    have z1 : c2 = cell.cls := by rw [q2]; exact Option.some.inj (p1.symm.trans hfc)
    cases Option.some.inj (p2.symm.trans (State.methodFound?_of_named Y.fill (by decide)))
    cases Option.some.inj (p3.symm.trans Y.fill)
    rw [Launch.admits_selectMethod X.admits, ← z1]; exact p4
  obtain ⟨ci198, i198, fB, hk198, hg198, ha198, hsB, -, hnB, htB, hffB⟩ := Cond.ownField (t := .object "java/lang/Object") Y.found L.cls (by decide +kernel) (hat2 (.fieldLink Bundle.tN 198 Bundle.tN "backtrace" "Ljava/lang/Object;") (by simp [Bundle.ownAtoms0])) (hat2 (.lays Bundle.tN Bundle.tN "backtrace" "Ljava/lang/Object;") (by simp [Bundle.ownAtoms0])) e.platform hpl
  have eB := (show s.fieldFound? Bundle.tN "backtrace" "Ljava/lang/Object;" = some (c4, k4, i4, f4) from hf4).symm.trans hffB
  have eB4 : f4 = fB := by simpa using congrArg (fun q => q.map (fun q => q.2.2.2)) eB
  subst eB4
  have hvB : cell.slots[f4.slot]? = some .null := by rw [hs4, q4 4 (by decide), h4]
  have hfull : ∀ k : Nat, k < 6 → True := fun _ _ => trivial
  obtain ⟨tyS, dS, hdS, hdnS⟩ := Cond.laysAt hfc hkC Y.stack (hWd.g args _ q1682)
  have htS : Takes s cell TT.fStack u0.v := by
    refine ⟨(Array.getElem?_eq_some_iff.mp hvS).1, ?_⟩
    rw [q2, q3]
    exact (Takes.of_laid hkC hkind tyS (by rw [Y.stackType]; exact fits_refV_array _ u0)).2
  have hknownS : cS0.vm ≠ .unknown := fun hu => by rw [hu] at g6; cases g6
  have hneS : TT.aS ≠ a := Nat.ne_of_lt (Nat.lt_of_lt_of_le hlt9 h0)
  have h6 : (zm_R M).frames = r0 := by rw [hrm]
  have h7 : (zm_R M).locals = 200 * r0 := by rw [hrm]
  have hls : ls.size = c.maxLocals := hlv.1.trans A.2.2.1.symm
  have hd : decode c.code (F0 m pc ls (.ref a :: rest)).pc = .ok (.invokevirtual 27, 3) := by rw [show c.code = cc from A.2.1.trans hb]; exact d
  have hobj : ∀ k, cell.vm ≠ .statics k := fun k hk => by rw [q3] at hk; cases hk
  have hknown : cell.vm ≠ .unknown := fun hk => by rw [q3] at hk; cases hk
  obtain ⟨vm1, X1, st1⟩ := X.invokevirtual hexec (own := Bundle.tN) (x := Bundle.tFill) hown (hat _ (by simp [Bundle.ownAtoms0, Bundle.throwableAtoms])) Y.fill (L.method L.fillAt) L.fillStatic L.cls L.notInterface (by decide) hcell hobj hselF (L.method L.fillAt) L.fillAbstract L.cls L.notInterface
    (g := F0 m pc ls (.ref a :: rest)) rfl (argsL := []) (rest := rest) (by rw [L.fillParams]; rfl) rfl hd
  obtain ⟨g, hg⟩ : ∃ g : JFrame, g = { F0 m pc ls (.ref a :: rest) with stack := rest } := ⟨_, rfl⟩
  have hgs : g.locals.size = c.maxLocals := by rw [hg]; exact hls
  have hgm : g.method = m := by rw [hg]
  have hA1 : At (T.setVm vm1) g.method c below := by rw [hgm]; exact X1.here
  have hgw : 2 * g.monitorRoom + (g.stack.map fun v => v.category).sum ≤ 50 := by rw [hg]; show 2 * 0 + (rest.map fun v => v.category).sum ≤ 50; omega
  have hgd : decode c.code g.pc = .ok (.invokevirtual 27, 3) := by rw [hg]; exact hd
  have hroom : e.platform.stackFull ((((T.setVm vm1).setTop g).threads[((T.setVm vm1).setTop g).cur]?).getD { frames := [] }) ((T.setVm vm1).setTop g).frames (1 + 2) = false := X1.notFull hgs (by omega) (by omega)
  have hnat : u0.v ≠ .null → ∀ vm2, s.WarmedH vm2 → At (fillInside ((T.setVm vm1).setVm vm2) g TT.fill a cell) TT.fill TT.codeFill below → ∀ t' : State,
      Steps p.tables e below ((fun u : State => u) (fillInside ((T.setVm vm1).setVm vm2) g TT.fill a cell) |>.setTop (fillJ TT.fill a 19 [.ref a])) t' →
      Steps p.tables e below (doInvoke e ((fillInside ((T.setVm vm1).setVm vm2) g TT.fill a cell).setTop (fillJ TT.fill a 16 [])) [] TT.fill0 #[.ref a, .int 0]).1 t' := by
    intro _ vm2 hW2 hAf t' hs
    have X2 : Stand p (zm_l M) e (zm_R M) s m args below meth c ((T.setVm vm1).setVm vm2) locs k9 j9 := X1.noted hW2
    generalize (T.setVm vm1).setVm vm2 = V at hAf hs X2 ⊢
    have htopE : (V.setCell a (cell.withEntry V.cur)).topJava?.isSome := X2.here.top
    have hfF : (fillInside V g TT.fill a cell).frames = .java (entryFrameSync TT.fill #[.ref a] 1 a) :: .java g :: V.frames.tail := frames_entered (g := g) htopE _
    have htopF : (fillInside V g TT.fill a cell).topJava?.isSome := by rw [State.topJava?_of_frames hfF]; rfl
    have hlimF : e.platform.stackLimits (fillInside V g TT.fill a cell).me = e.platform.stackLimits V.me := by
      rw [show fillInside V g TT.fill a cell = ((V.setCell a (cell.withEntry V.cur)).setTop g).pushFrame _ from rfl, State.stackLimits_pushFrame, State.stackLimits_setTop _ htopE]; rfl
    have hlen : V.frames.length = (Frame.java g :: V.frames.tail).length := by
      obtain ⟨g0, hfr⟩ := X2.frames_eq
      rw [hfr]; rfl
    have hfa := X2.framesAbove (n := 2) (by omega)
    have hsa := X2.stackAbove hgs (K := 41) (by omega)
    have hw14 : (stackUse [Frame.java (fillJ TT.fill a 16 [])]).2 = 14 := by
      rw [stackUse_java, stackUse_nil]
      simp [operandWords]
    refine L.nativeOff p htr hAf ?_ ?_ hs
    · exact (X2.warmed)
    · exact roomAbove (pl := e.platform) (u := (fillInside V g TT.fill a cell).setTop (fillJ TT.fill a 16 [])) (vars := nativeFrameWords "java/lang/Throwable" "fillInStackTrace" 2)
        (pushed := [.java (fillJ TT.fill a 16 [])]) (base := .java g :: V.frames.tail) (free := 41) (lim := e.platform.stackLimits V.me) (State.frames_setTop _ hfF) (by rw [State.stackLimits_setTop _ htopF]; exact hlimF)
        (by rw [← hlen]; simp only [List.length_cons, List.length_nil]; omega) hsa (by rw [hw14]; decide)
  have hskip : SkipFacts TT e.platform s (fun u => u) u0 (cell.withEntry (T.setVm vm1).cur) := ⟨{ ci198 := ci198, i198 := i198, fBack := f4 }, ⟨hk198, hg198, ha198, hsB⟩, hvB, fun _ _ => rfl⟩
  obtain ⟨vm3, hW3, st3⟩ := Steps.fillColdAnyV p (V := T.setVm vm1) (self := a) (g := g) hA1 hexec TT L X1.warmed (Nn := fun u => u) heapOnly_id (fun _ _ => rfl) (fun _ => rfl) (fun u x y => setCell_twice _ _ _ _) (cell := cell) (cellS := cS0) (cN := cell.withEntry (T.setVm vm1).cur) (u0 := u0)
    [] hcell hobj hknown (Or.inl (by rw [hmon])) hvS hsel0 hcS hneS hknownS (by rw [hu0]; exact g7) (fun _ hu => hu) (fun _ hu => hu) rfl rfl rfl rfl htS hgd hnat hroom hskip
  have X3 : Stand p (zm_l M) e (zm_R M) s m args below meth c (T.setVm vm3) locs k9 j9 := X.noted hW3
  obtain ⟨t, b1, b2⟩ := kk p e s m args below meth c A H locs ls k9 j9 hR hsz hlo hlv hk9 hj9 (T.setVm vm3) hT X3
  refine ⟨t, st1 t (fun acts => ?_), b2⟩
  rw [doInvoke_state]
  rw [show ({ F0 m pc ls (.ref a :: rest) with stack := rest } : JFrame) = g from hg.symm]
  refine st3 t ?_
  have hl : ((cell.withEntry (T.setVm vm1).cur).setSlot TT.fStack.slot u0.v).left = cell := by
    have h2 : (cell.withEntry (T.setVm vm1).cur).left = cell := Cell.left_withEntry _ (by rw [hmon]) (by rw [hmon])
    rw [Cell.left_setSlot, h2]
    exact Cell.setSlot_same hvS
  rw [hl]
  have hz : ((T.setVm vm1).setVm vm3).setCell a cell = T.setVm vm3 := by
    rw [State.setVm_twice]
    exact State.setCell_asItLies hcell
  show Steps p.tables e below ((((T.setVm vm1).setVm vm3).setCell a cell).setTop { g with pc := g.pc + 3, stack := .ref a :: g.stack }) t
  rw [hz, hg]
  exact b1
end ZFI

theorem z_top9 {M : zM} {h : zH} {n b f pc : Nat} {lv : List (Nat × Value)} {rest : List Value} {x y : Value} (e : x = y) (kk : z_V M h n b f pc lv (y :: rest)) : z_V M h n b f pc lv (x :: rest) := e ▸ kk
theorem z_nr_c (x : Nat) : z_nr x = .null ∨ ∃ t, z_nr x = .ref t := by
  unfold z_nr
  cases Nat.beq x 0
  · exact Or.inr ⟨_, rfl⟩
  · exact Or.inl rfl

set_option maxHeartbeats 1000000 in
theorem m_J9_init_4 {l : Launch} {G : zG} {h : zH} {n : Nat} {t c : Nat} (ht9 : h t = some (.inr (30, [.null, .null, .null, .null, .null, .int (nI 0)]))) (hnt : z_n0 G ≤ t) : z_C l G yJ9_init_4 4 0 0 [.ref t, .null, .ref c] h n (z_q0 (fun h9 n9 => n9 = n ∧ ∃ fs, h9 = z_up h t (.inr (30, fs)))) := by
  refine z_start zk_J9_init_4 zpl_RJ9 (Nat.le_of_ble_eq_true rfl) ?_
  intro hn0 M hl hG ho hb hN hr hm hH hrm hQ
  subst hl hG
  have ho : zm_o M = RJ9 := ho
  show z_V M h n 0 0 0 [(0, .ref t), (1, .null), (2, .ref c)] []
  refine z_aload_n hb dJ9_init_4_0 rfl ?_
  refine z_oinit hb ho hrm (by omega) q415 q155 q156 (by decide) dJ9_init_4_1 ?_
  refine z_aload_n hb dJ9_init_4_4 rfl ?_
  refine z_aload_n hb dJ9_init_4_5 rfl ?_
  refine z_put (k := 0) (C := RJ25) (T := TJ25) (N := 6) hb ho zc30 in_J25 tyJ25_ok nmJ25 (zf_RJ9_7 _) dJ9_init_4_6 ht9 hnt (by decide) (Or.inl rfl) rfl rfl rfl (Nat.le_of_ble_eq_true rfl) ?_
  refine z_hn (fun h_1 eh_1 => ?_)
  have eh_1 : h_1 = z_up h t (.inr (30, [.ref t, .null, .null, .null, .null, .int (nI 0)])) := eh_1
  refine z_aload_n hb dJ9_init_4_9 rfl ?_
  refine z_gets (i := 9) hb ho rfl (zf_RJ9_13 _) dJ9_init_4_10 ?_
  rcases z_nr_c ((zm_G M).2.2.1 1006) with hz9 | ⟨t9, hz9⟩
  · refine z_top9 (y := .null) hz9 ?_
    refine z_put (k := 1) (C := RJ25) (T := TJ25) (N := 6) hb ho zc30 in_J25 tyJ25_ok nmJ25 (zf_RJ9_17 _) dJ9_init_4_13 (z_nxs eh_1) hnt (by decide) (Or.inl rfl) rfl rfl rfl (Nat.le_of_ble_eq_true rfl) ?_
    refine z_hn (fun h_2 eh_2 => ?_)
    have eh_2 : h_2 = z_up h_1 t (.inr (30, [.ref t, .null, .null, .null, .null, .int (nI 0)])) := eh_2
    refine z_aload_n hb dJ9_init_4_16 rfl ?_
    refine z_getsQ hb ho (fun _ hW9 => zq_SUP hW9) q418 dJ9_init_4_17 (fun v_3 hv_3 => ?_)
    rcases hv_3 with rfl | ⟨tv_3, rfl⟩
    · refine z_put (k := 2) (C := RJ25) (T := TJ25) (N := 6) hb ho zc30 in_J25 tyJ25_ok nmJ25 (zf_RJ9_24 _) dJ9_init_4_20 (z_nxs eh_2) hnt (by decide) (Or.inl rfl) rfl rfl rfl (Nat.le_of_ble_eq_true rfl) ?_
      refine z_hn (fun h_4 eh_4 => ?_)
      have eh_4 : h_4 = z_up h_2 t (.inr (30, [.ref t, .null, .null, .null, .null, .int (nI 0)])) := eh_4
      refine z_aload_n hb dJ9_init_4_23 rfl ?_
      refine z_fill hb ho hrm (by omega) (z_nxs eh_4) hnt hz9.symm rfl (by decide) dJ9_init_4_24 ?_
      refine z_pop hb dJ9_init_4_27 rfl ?_
      refine z_aload_n hb dJ9_init_4_28 rfl ?_
      refine z_aload_nN hb dJ9_init_4_29 rfl ?_
      refine z_put (k := 3) (C := RJ25) (T := TJ25) (N := 6) hb ho zc30 in_J25 tyJ25_ok nmJ25 (zf_RJ9_31 _) dJ9_init_4_30 (z_nxs eh_4) hnt (by decide) (Or.inl rfl) rfl rfl rfl (Nat.le_of_ble_eq_true rfl) ?_
      refine z_hn (fun h_5 eh_5 => ?_)
      have eh_5 : h_5 = z_up h_4 t (.inr (30, [.ref t, .null, .null, .null, .null, .int (nI 0)])) := eh_5
      refine z_aload_n hb dJ9_init_4_33 rfl ?_
      refine z_aload_n hb dJ9_init_4_34 rfl ?_
      refine z_put (k := 0) (C := RJ25) (T := TJ25) (N := 6) hb ho zc30 in_J25 tyJ25_ok nmJ25 (zf_RJ9_7 _) dJ9_init_4_35 (z_nxs eh_5) hnt (by decide) (Or.inl rfl) rfl rfl rfl (Nat.le_of_ble_eq_true rfl) ?_
      refine z_hn (fun h_6 eh_6 => ?_)
      have eh_6 : h_6 = z_up h_5 t (.inr (30, [.ref c, .null, .null, .null, .null, .int (nI 0)])) := eh_6
      refine z_vret hb hr dJ9_init_4_38 ?_
      rw [hQ]
      exact ⟨rfl, rfl, [.ref c, .null, .null, .null, .null, .int (nI 0)], (by rw [eh_6, eh_5, eh_4, eh_2, eh_1] <;> simp only [z_up_up])⟩
    · refine z_put (k := 2) (C := RJ25) (T := TJ25) (N := 6) hb ho zc30 in_J25 tyJ25_ok nmJ25 (zf_RJ9_24 _) dJ9_init_4_20 (z_nxs eh_2) hnt (by decide) (Or.inl rfl) rfl rfl rfl (Nat.le_of_ble_eq_true rfl) ?_
      refine z_hn (fun h_7 eh_7 => ?_)
      have eh_7 : h_7 = z_up h_2 t (.inr (30, [.ref t, .null, .ref tv_3, .null, .null, .int (nI 0)])) := eh_7
      refine z_aload_n hb dJ9_init_4_23 rfl ?_
      refine z_fill hb ho hrm (by omega) (z_nxs eh_7) hnt hz9.symm rfl (by decide) dJ9_init_4_24 ?_
      refine z_pop hb dJ9_init_4_27 rfl ?_
      refine z_aload_n hb dJ9_init_4_28 rfl ?_
      refine z_aload_nN hb dJ9_init_4_29 rfl ?_
      refine z_put (k := 3) (C := RJ25) (T := TJ25) (N := 6) hb ho zc30 in_J25 tyJ25_ok nmJ25 (zf_RJ9_31 _) dJ9_init_4_30 (z_nxs eh_7) hnt (by decide) (Or.inl rfl) rfl rfl rfl (Nat.le_of_ble_eq_true rfl) ?_
      refine z_hn (fun h_8 eh_8 => ?_)
      have eh_8 : h_8 = z_up h_7 t (.inr (30, [.ref t, .null, .ref tv_3, .null, .null, .int (nI 0)])) := eh_8
      refine z_aload_n hb dJ9_init_4_33 rfl ?_
      refine z_aload_n hb dJ9_init_4_34 rfl ?_
      refine z_put (k := 0) (C := RJ25) (T := TJ25) (N := 6) hb ho zc30 in_J25 tyJ25_ok nmJ25 (zf_RJ9_7 _) dJ9_init_4_35 (z_nxs eh_8) hnt (by decide) (Or.inl rfl) rfl rfl rfl (Nat.le_of_ble_eq_true rfl) ?_
      refine z_hn (fun h_9 eh_9 => ?_)
      have eh_9 : h_9 = z_up h_8 t (.inr (30, [.ref c, .null, .ref tv_3, .null, .null, .int (nI 0)])) := eh_9
      refine z_vret hb hr dJ9_init_4_38 ?_
      rw [hQ]
      exact ⟨rfl, rfl, [.ref c, .null, .ref tv_3, .null, .null, .int (nI 0)], (by rw [eh_9, eh_8, eh_7, eh_2, eh_1] <;> simp only [z_up_up])⟩
  · refine z_top9 (y := .ref t9) hz9 ?_
    refine z_put (k := 1) (C := RJ25) (T := TJ25) (N := 6) hb ho zc30 in_J25 tyJ25_ok nmJ25 (zf_RJ9_17 _) dJ9_init_4_13 (z_nxs eh_1) hnt (by decide) (Or.inl rfl) rfl rfl rfl (Nat.le_of_ble_eq_true rfl) ?_
    refine z_hn (fun h_10 eh_10 => ?_)
    have eh_10 : h_10 = z_up h_1 t (.inr (30, [.ref t, .ref t9, .null, .null, .null, .int (nI 0)])) := eh_10
    refine z_aload_n hb dJ9_init_4_16 rfl ?_
    refine z_getsQ hb ho (fun _ hW9 => zq_SUP hW9) q418 dJ9_init_4_17 (fun v_11 hv_11 => ?_)
    rcases hv_11 with rfl | ⟨tv_11, rfl⟩
    · refine z_put (k := 2) (C := RJ25) (T := TJ25) (N := 6) hb ho zc30 in_J25 tyJ25_ok nmJ25 (zf_RJ9_24 _) dJ9_init_4_20 (z_nxs eh_10) hnt (by decide) (Or.inl rfl) rfl rfl rfl (Nat.le_of_ble_eq_true rfl) ?_
      refine z_hn (fun h_12 eh_12 => ?_)
      have eh_12 : h_12 = z_up h_10 t (.inr (30, [.ref t, .ref t9, .null, .null, .null, .int (nI 0)])) := eh_12
      refine z_aload_n hb dJ9_init_4_23 rfl ?_
      refine z_fill hb ho hrm (by omega) (z_nxs eh_12) hnt hz9.symm rfl (by decide) dJ9_init_4_24 ?_
      refine z_pop hb dJ9_init_4_27 rfl ?_
      refine z_aload_n hb dJ9_init_4_28 rfl ?_
      refine z_aload_nN hb dJ9_init_4_29 rfl ?_
      refine z_put (k := 3) (C := RJ25) (T := TJ25) (N := 6) hb ho zc30 in_J25 tyJ25_ok nmJ25 (zf_RJ9_31 _) dJ9_init_4_30 (z_nxs eh_12) hnt (by decide) (Or.inl rfl) rfl rfl rfl (Nat.le_of_ble_eq_true rfl) ?_
      refine z_hn (fun h_13 eh_13 => ?_)
      have eh_13 : h_13 = z_up h_12 t (.inr (30, [.ref t, .ref t9, .null, .null, .null, .int (nI 0)])) := eh_13
      refine z_aload_n hb dJ9_init_4_33 rfl ?_
      refine z_aload_n hb dJ9_init_4_34 rfl ?_
      refine z_put (k := 0) (C := RJ25) (T := TJ25) (N := 6) hb ho zc30 in_J25 tyJ25_ok nmJ25 (zf_RJ9_7 _) dJ9_init_4_35 (z_nxs eh_13) hnt (by decide) (Or.inl rfl) rfl rfl rfl (Nat.le_of_ble_eq_true rfl) ?_
      refine z_hn (fun h_14 eh_14 => ?_)
      have eh_14 : h_14 = z_up h_13 t (.inr (30, [.ref c, .ref t9, .null, .null, .null, .int (nI 0)])) := eh_14
      refine z_vret hb hr dJ9_init_4_38 ?_
      rw [hQ]
      exact ⟨rfl, rfl, [.ref c, .ref t9, .null, .null, .null, .int (nI 0)], (by rw [eh_14, eh_13, eh_12, eh_10, eh_1] <;> simp only [z_up_up])⟩
    · refine z_put (k := 2) (C := RJ25) (T := TJ25) (N := 6) hb ho zc30 in_J25 tyJ25_ok nmJ25 (zf_RJ9_24 _) dJ9_init_4_20 (z_nxs eh_10) hnt (by decide) (Or.inl rfl) rfl rfl rfl (Nat.le_of_ble_eq_true rfl) ?_
      refine z_hn (fun h_15 eh_15 => ?_)
      have eh_15 : h_15 = z_up h_10 t (.inr (30, [.ref t, .ref t9, .ref tv_11, .null, .null, .int (nI 0)])) := eh_15
      refine z_aload_n hb dJ9_init_4_23 rfl ?_
      refine z_fill hb ho hrm (by omega) (z_nxs eh_15) hnt hz9.symm rfl (by decide) dJ9_init_4_24 ?_
      refine z_pop hb dJ9_init_4_27 rfl ?_
      refine z_aload_n hb dJ9_init_4_28 rfl ?_
      refine z_aload_nN hb dJ9_init_4_29 rfl ?_
      refine z_put (k := 3) (C := RJ25) (T := TJ25) (N := 6) hb ho zc30 in_J25 tyJ25_ok nmJ25 (zf_RJ9_31 _) dJ9_init_4_30 (z_nxs eh_15) hnt (by decide) (Or.inl rfl) rfl rfl rfl (Nat.le_of_ble_eq_true rfl) ?_
      refine z_hn (fun h_16 eh_16 => ?_)
      have eh_16 : h_16 = z_up h_15 t (.inr (30, [.ref t, .ref t9, .ref tv_11, .null, .null, .int (nI 0)])) := eh_16
      refine z_aload_n hb dJ9_init_4_33 rfl ?_
      refine z_aload_n hb dJ9_init_4_34 rfl ?_
      refine z_put (k := 0) (C := RJ25) (T := TJ25) (N := 6) hb ho zc30 in_J25 tyJ25_ok nmJ25 (zf_RJ9_7 _) dJ9_init_4_35 (z_nxs eh_16) hnt (by decide) (Or.inl rfl) rfl rfl rfl (Nat.le_of_ble_eq_true rfl) ?_
      refine z_hn (fun h_17 eh_17 => ?_)
      have eh_17 : h_17 = z_up h_16 t (.inr (30, [.ref c, .ref t9, .ref tv_11, .null, .null, .int (nI 0)])) := eh_17
      refine z_vret hb hr dJ9_init_4_38 ?_
      rw [hQ]
      exact ⟨rfl, rfl, [.ref c, .ref t9, .ref tv_11, .null, .null, .int (nI 0)], (by rw [eh_17, eh_16, eh_15, eh_10, eh_1] <;> simp only [z_up_up])⟩

set_option maxHeartbeats 1000000 in
theorem m_J10_init_4 {l : Launch} {G : zG} {h : zH} {n : Nat} {t c : Nat} (ht9 : h t = some (.inr (30, [.null, .null, .null, .null, .null, .int (nI 0)]))) (hnt : z_n0 G ≤ t) : z_C l G yJ10_init_4 5 0 0 [.ref t, .null, .ref c] h n (z_q0 (fun h9 n9 => n9 = n ∧ ∃ fs, h9 = z_up h t (.inr (30, fs)))) := by
  refine z_start zk_J10_init_4 zpl_RJ10 (Nat.le_of_ble_eq_true rfl) ?_
  intro hn0 M hl hG ho hb hN hr hm hH hrm hQ
  subst hl hG
  have ho : zm_o M = RJ10 := ho
  show z_V M h n 0 0 0 [(0, .ref t), (1, .null), (2, .ref c)] []
  refine z_aload_n hb dJ10_init_4_0 rfl ?_
  refine z_aload_nN hb dJ10_init_4_1 rfl ?_
  refine z_aload_n hb dJ10_init_4_2 rfl ?_
  refine z_callQ0 (b' := 0) (f' := 0) (rest := []) (av := [.ref t, .null, .ref c]) (z_siteI hb ho q1695 q1696 q1697 rfl zy_J9_init_4 zl_J9_init_4 dJ10_init_4_3 : z_Site M _ _ _ _ _ ([.null, .ref c].reverse ++ .ref t :: []) [] _) zk_J9_init_4 q106 hrm (m_J9_init_4 ht9 hnt) (by omega) (by decide) (Nat.le_of_ble_eq_true rfl) (by omega) (by omega) (fun h9 n9 hq9 hn9 => ?_)
  obtain ⟨rfl, fs9, rfl⟩ := hq9
  refine z_vret hb hr dJ10_init_4_6 ?_
  rw [hQ]
  exact ⟨rfl, rfl, fs9, rfl⟩

set_option maxHeartbeats 1000000 in
theorem m_J11_init_3 {l : Launch} {G : zG} {h : zH} {n : Nat} {t c : Nat} (ht9 : h t = some (.inr (30, [.null, .null, .null, .null, .null, .int (nI 0)]))) (hnt : z_n0 G ≤ t) : z_C l G yJ11_init_3 6 0 0 [.ref t, .null, .ref c] h n (z_q0 (fun h9 n9 => n9 = n ∧ ∃ fs, h9 = z_up h t (.inr (30, fs)))) := by
  refine z_start zk_J11_init_3 zpl_RJ11 (Nat.le_of_ble_eq_true rfl) ?_
  intro hn0 M hl hG ho hb hN hr hm hH hrm hQ
  subst hl hG
  have ho : zm_o M = RJ11 := ho
  show z_V M h n 0 0 0 [(0, .ref t), (1, .null), (2, .ref c)] []
  refine z_aload_n hb dJ11_init_3_0 rfl ?_
  refine z_aload_nN hb dJ11_init_3_1 rfl ?_
  refine z_aload_n hb dJ11_init_3_2 rfl ?_
  refine z_callQ0 (b' := 0) (f' := 0) (rest := []) (av := [.ref t, .null, .ref c]) (z_siteI hb ho q1692 q1693 q1694 rfl zy_J10_init_4 zl_J10_init_4 dJ11_init_3_3 : z_Site M _ _ _ _ _ ([.null, .ref c].reverse ++ .ref t :: []) [] _) zk_J10_init_4 q107 hrm (m_J10_init_4 ht9 hnt) (by omega) (by decide) (Nat.le_of_ble_eq_true rfl) (by omega) (by omega) (fun h9 n9 hq9 hn9 => ?_)
  obtain ⟨rfl, fs9, rfl⟩ := hq9
  refine z_vret hb hr dJ11_init_3_6 ?_
  rw [hQ]
  exact ⟨rfl, rfl, fs9, rfl⟩

set_option maxHeartbeats 1000000 in
theorem m_J25_init {l : Launch} {G : zG} {h : zH} {n : Nat} {t c : Nat} (ht9 : h t = some (.inr (30, [.null, .null, .null, .null, .null, .int (nI 0)]))) (hnt : z_n0 G ≤ t) : z_C l G yJ25_init 7 0 0 [.ref t, .null, .ref c] h n (z_q0 (fun h9 n9 => n9 = n ∧ ∃ fs, h9 = z_up h t (.inr (30, fs)))) := by
  refine z_start zk_J25_init zpl_RJ25 (Nat.le_of_ble_eq_true rfl) ?_
  intro hn0 M hl hG ho hb hN hr hm hH hrm hQ
  subst hl hG
  have ho : zm_o M = RJ25 := ho
  show z_V M h n 0 0 0 [(0, .ref t), (1, .null), (2, .ref c)] []
  refine z_aload_n hb dJ25_init_0 rfl ?_
  refine z_aload_nN hb dJ25_init_1 rfl ?_
  refine z_aload_n hb dJ25_init_2 rfl ?_
  refine z_callQ0 (b' := 0) (f' := 0) (rest := []) (av := [.ref t, .null, .ref c]) (z_siteI hb ho q1689 q1690 q1691 rfl zy_J11_init_3 zl_J11_init_3 dJ25_init_3 : z_Site M _ _ _ _ _ ([.null, .ref c].reverse ++ .ref t :: []) [] _) zk_J11_init_3 q108 hrm (m_J11_init_3 ht9 hnt) (by omega) (by decide) (Nat.le_of_ble_eq_true rfl) (by omega) (by omega) (fun h9 n9 hq9 hn9 => ?_)
  obtain ⟨rfl, fs9, rfl⟩ := hq9
  refine z_vret hb hr dJ25_init_6 ?_
  rw [hQ]
  exact ⟨rfl, rfl, fs9, rfl⟩

