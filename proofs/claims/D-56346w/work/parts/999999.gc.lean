section ZGC
variable {M : zM} {h : zH} {n b f pc : Nat} {lv : List (Nat × Value)} {rest : List Value} {cc : ByteArray}
/-- Throwable.getCause, synchronized -/
def z_gcN : MethodName := ⟨"java/lang/Throwable", "getCause", "()Ljava/lang/Throwable;"⟩
theorem z_gc0 : decode prog_52_method_8_code 0 = .ok (.aload_n 0, 1) := by decide +kernel
theorem z_gc1 : decode prog_52_method_8_code 1 = .ok (.getfield 7, 3) := by decide +kernel
theorem z_gc4 : decode prog_52_method_8_code 4 = .ok (.aload_n 0, 1) := by decide +kernel
theorem z_gc5 : decode prog_52_method_8_code 5 = .ok (.if_acmp .ne 7, 3) := by decide +kernel
theorem z_gc12 : decode prog_52_method_8_code 12 = .ok (.aload_n 0, 1) := by decide +kernel
theorem z_gc13 : decode prog_52_method_8_code 13 = .ok (.getfield 7, 3) := by decide +kernel
theorem z_gc16 : decode prog_52_method_8_code 16 = .ok (.areturn, 1) := by decide +kernel
set_option maxHeartbeats 1000000 in
theorem z_getCause {a : Nat} {fs : List Value} {c0 : Value} {r0 mc0 ms0 : Nat} (S : z_Site M h n z_gcN 3 pc (.ref a :: rest) rest [.ref a]) (hrm : zm_R M = z_rm r0 mc0 ms0) (hr0 : 4 ≤ r0) (ha : h a = some (.inr (5, fs))) (h0 : z_n0 (zm_G M) ≤ a)
    (h1 : vp_V fs 0 = c0) (hc0 : c0 = .null ∨ ∃ x, c0 = .ref x ∧ x ≠ a) (hst : (rest.map fun v => v.category).sum ≤ 50) (kk : z_V M h n b f (pc + 3) lv (c0 :: rest)) : z_V M h n b f pc lv (.ref a :: rest) := by
  intro p e s m args below meth c A H locs ls k9 j9 hR hsz hlo hlv hk9 hj9 T hT X
  obtain ⟨mk, vm₁, ig, hn, hW₁, X₁, hd, hgo⟩ := S p e s m args below meth c A T locs k9 j9 ls X (by rw [hT]; exact hR)
  have hWd := A.2.2.2.2.1
  have hexec := A.1
  have howns : e.platform.frameOwnsMonitors = true := by rw [X.admits.platform]
  have hpl : e.platform.magicAccessors = ({} : Platform).magicAccessors := by rw [X.admits.platform]
  obtain ⟨methY, cY, hmY, hcY, hbY, hlY, hretY, hlkY, -, -⟩ := Cond.codeSync_spec hn (hWd.g args _ q2645)
  obtain ⟨mk', methM, hnamed, hmethM, hstM, habM⟩ := Cond.instanceMethod_spec (hWd.g args _ q2644)
  cases hn.symm.trans hnamed
  cases hmY.symm.trans hmethM
  obtain ⟨kT, hkT, hnT⟩ := className_of_methodNamed hn
  have hfT : s.vm.findClass "java/lang/Throwable" = some mk.cls := findClass_of_methodNamed hn
  obtain ⟨ci, i, fB, hk7, hg7, ha7, hs7, -, -, -, hff⟩ := Cond.ownField (t := .object "java/lang/Throwable") hfT hkT (by decide +kernel) (hWd.g args _ q450) (hWd.g args _ q402) e.platform hpl
  obtain ⟨r, e1, cell, q1, q2, q3, q4⟩ := z_rs hR hWd h0 ha
  have hr : r = (RX6, TX6, 8) := Option.some.inj (e1.symm.trans zc5)
  subst hr
  obtain ⟨hS, hfc, kC, hkC, hkind⟩ := hWd.1.1 5 _ zc5
  have hmon := hR.2.2.2.2 a cell h0 q1
  obtain ⟨c1, k1, i1, f1, hf1, hs1⟩ := hS 0 (by decide)
  have eS := (show s.fieldFound? "java/lang/Throwable" "cause" "Ljava/lang/Throwable;" = some (c1, k1, i1, f1) from hf1).symm.trans hff
  have eS4 : f1 = fB := by simpa using congrArg (fun q => q.map (fun q => q.2.2.2)) eS
  subst eS4
  have hv : cell.slots[f1.slot]? = some c0 := by rw [hs1, q4 0 (by decide), h1]
  have hobj : ∀ k, cell.vm ≠ .statics k := fun k hk => by rw [q3] at hk; cases hk
  have hknown : cell.vm ≠ .unknown := fun hk => by rw [q3] at hk; cases hk
  have hplain : ∀ k, s.vm.classes[mk.cls]? = some k → plainName k.name = true := fun k hk => by
    cases hk.symm.trans hkT
    rw [hnT]; decide +kernel
  have h6 : (zm_R M).frames = r0 := by rw [hrm]
  have h7 : (zm_R M).locals = 200 * r0 := by rw [hrm]
  have hls : ls.size = c.maxLocals := hlv.1.trans A.2.2.1.symm
  obtain ⟨g, hg⟩ : ∃ g : JFrame, g = F0 m pc ls rest := ⟨_, rfl⟩
  have hgs : g.locals.size = c.maxLocals := by rw [hg]; exact hls
  have hgm : g.method = m := by rw [hg]
  have hgw : 2 * g.monitorRoom + (g.stack.map fun v => v.category).sum ≤ 50 := by rw [hg]; show 2 * 0 + (rest.map fun v => v.category).sum ≤ 50; omega
  have hgd : decode c.code g.pc = .ok (ig, 3) := by rw [hg]; exact hd
  generalize hV : T.setVm vm₁ = V at X₁ hgo
  have hroom : e.platform.stackFull (((V.setTop g).threads[(V.setTop g).cur]?).getD { frames := [] }) (V.setTop g).frames (1 + 2) = false := X₁.notFull hgs (by omega) (by omega)
  have hA1 : At V g.method c below := by rw [hgm]; exact X₁.here
  have hWV : s.WarmedH V.vm := X₁.warmed
  have hcell : V.heap[a]? = some cell := by rw [← hV, ← q1, ← hT]; rfl
  have hlt : a < V.heap.size := (Array.getElem?_eq_some_iff.mp hcell).1
  have hAof : ∀ vm, s.WarmedH vm → At (fillInside (V.setVm vm) g mk a cell) mk cY below := fun vm hWv => by
    have := At.enter_sync (g := g) (hA1.setVm (hWV.alike.symm.trans hWv.alike)) #[.ref a] a (cell.withEntry V.cur) (hWv.methodAt hmY) hcY (hWv.plainAt (m := mk) hplain)
    rw [hlY] at this
    exact this
  have hA : At (fillInside V g mk a cell) mk cY below := hAof V.vm hWV
  have hcellU : ∀ vm, (fillInside (V.setVm vm) g mk a cell).heap[a]? = some (cell.withEntry V.cur) := fun vm => by
    show (V.heap.setIfInBounds a (cell.withEntry V.cur))[a]? = _
    simp [hlt]
  obtain ⟨vm2, hW2, st2⟩ := Steps.getfieldCold (tb := p.tables) (s₀ := s) (U := (fillInside V g mk a cell)) (f := (fillJ mk a 1 [.ref a])) (a := a) (rest := []) (cell := (cell.withEntry V.cur)) (v := c0) hA hexec (by rw [hbY]; exact z_gc1) hWV hk7 hg7 hkT ha7 hs7 rfl (hcellU V.vm) hknown hv
  obtain ⟨vm3, hW3, st3⟩ := Steps.getfieldCold (tb := p.tables) (s₀ := s) (U := (fillInside (V.setVm vm2) g mk a cell)) (f := (fillJ mk a 13 [.ref a])) (a := a) (rest := []) (cell := (cell.withEntry V.cur)) (v := c0) (hAof vm2 hW2) hexec (by rw [hbY]; exact z_gc13) hW2 hk7 hg7 hkT ha7 hs7 rfl (hcellU vm2) hknown hv
  have X3 : Stand p (zm_l M) e (zm_R M) s m args below meth c (V.setVm vm3) locs k9 j9 := X₁.noted hW3
  have hT3 : (V.setVm vm3).heap = H := by rw [← hV, ← hT]; rfl
  obtain ⟨t, b1, b2⟩ := kk p e s m args below meth c A H locs ls k9 j9 hR hsz hlo hlv hk9 hj9 (V.setVm vm3) hT3 X3
  refine ⟨t, hgo _ ?_, b2⟩
  have hargs : ([Value.ref a].toArray) = #[.ref a] := rfl
  rw [hargs, ← hg, doInvoke_enter_sync hA1.top [] (hWV.methodAt hmY) hcY hlkY hstM rfl hcell (Or.inl (by rw [hmon])) (by rw [hlY]; exact hroom)]
  rw [hlY]
  show Steps p.tables e below ((fillInside V g mk a cell).setTop (fillJ mk a 0 [])) t
  jvm_step hA [hexec, hbY, z_gc0, Value.isRef]
  refine st2 t ?_
  show Steps p.tables e below ((fillInside (V.setVm vm2) g mk a cell).setTop (fillJ mk a 4 [c0])) t
  have hc0r : c0.isRef = true := by rcases hc0 with rfl | ⟨x, rfl, -⟩ <;> rfl
  jvm_step (hAof vm2 hW2) [hexec, hbY, z_gc4, Value.isRef]
  have hstep5 : Steps p.tables e below ((fillInside (V.setVm vm2) g mk a cell).setTop (fillJ mk a 12 [])) t := by
    jvm_step (hAof vm2 hW2) [hexec, hbY, z_gc12, Value.isRef]
    refine st3 t ?_
    show Steps p.tables e below ((fillInside (V.setVm vm3) g mk a cell).setTop (fillJ mk a 16 [c0])) t
    jvm_step (hAof vm3 hW3) [hexec, hbY, z_gc16, areturn.wp_sem, hc0r, FieldType.isReference]
    refine ⟨methY, hW3.methodAt hmY, ⟨_, hretY, rfl⟩, fun acts' => ?_⟩
    have hfr : (fillInside (V.setVm vm3) g mk a cell).frames = .java (entryFrameSync mk #[.ref a] 1 a) :: .java g :: V.frames.tail :=
      frames_entered (g := g) (show ((V.setVm vm3).setCell a (cell.withEntry V.cur)).topJava?.isSome from hA1.top) _
    have hcode : (fillInside (V.setVm vm3) g mk a cell).code? g.method = some c := by
      have := (hA1.setVm (hWV.alike.symm.trans hW3.alike)).code
      rw [State.code?_eq] at this ⊢
      exact this
    rw [doReturn_leave_sync (u := fillInside (V.setVm vm3) g mk a cell) (g := g) (meth := methY) (cg := c) (ig := ig) (len := 3) (a := a) (cell := cell.withEntry V.cur)
      (f := fillJ mk a 16 []) (f₀ := entryFrameSync mk #[.ref a] 1 a) (r := V.frames.tail) acts' howns hfr (hW3.methodAt hmY) hlkY rfl rfl (hcellU vm3) rfl hcode hgd]
    rw [Cell.left_withEntry _ (by rw [hmon]) (by rw [hmon])]
    have e1 : ((fillInside (V.setVm vm3) g mk a cell).setCell a cell).setFrames (.java g :: V.frames.tail) = ((V.setVm vm3).setTop g) := by
      have q9 := setFrames_entered (g := g) (s := (V.setVm vm3).setCell a (cell.withEntry V.cur)) hA1.top (.java (entryFrameSync mk #[.ref a] 1 a))
      have q8 := congrArg (fun u : State => u.setCell a cell) q9
      have q7 : (((V.setVm vm3).setCell a (cell.withEntry V.cur)).setTop g).setCell a cell = ((((V.setVm vm3).setCell a (cell.withEntry V.cur)).setCell a cell).setTop g) := rfl
      rw [setCell_twice, State.setCell_asItLies (s := V.setVm vm3) hcell] at q7
      exact q8.trans q7
    rw [e1, State.setTop_setTop]
    rw [hg]
    exact b1
  rcases hc0 with rfl | ⟨x, rfl, hx⟩
  · jvm_step (hAof vm2 hW2) [hexec, hbY, z_gc5, if_acmp.wp_sem, Value.asRef?, if_acmp.holds]
    exact hstep5
  · jvm_step (hAof vm2 hW2) [hexec, hbY, z_gc5, if_acmp.wp_sem, Value.asRef?, if_acmp.holds, hx]
    exact hstep5
end ZGC

