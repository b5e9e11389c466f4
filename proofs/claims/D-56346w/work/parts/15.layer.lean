section ZEXC
variable {M : zM} {h : zH} {n b f pc : Nat} {lv : List (Nat × Value)} {cc : ByteArray} {own : String}
theorem z_athrow {q : Nat} {rest : List Value} (hb : zm_c M = cc) (d : decode cc pc = .ok (.athrow, 1)) (k : z_X M h n b f pc lv q) : z_V M h n b f pc lv (.ref q :: rest) :=
  fun p e s m args below meth c A H locs ls k9 j hR hsz hlo hlv hk hj => vx_athrow A.1 (A.2.1.trans hb) d (k p e s m args below meth c A H locs ls k9 j _ hR hsz hlo hlv hk hj)
/-- an entry of the handlers' table doesn't catch E at pc -/
def z_np (own E : String) (pc : Nat) (z : Nat × Nat × Nat × Nat) : Prop := ¬ (z.1 ≤ pc ∧ pc < z.2.1) ∨ (z.2.2.2 ≠ 0 ∧ ∃ nm : String, Cond.classLink own z.2.2.2 nm ∈ lw_all ∧ (E, nm) ∈ zNc)
theorem z_np_go {own E : String} {pc : Nat} {hh : List (Nat × Nat × Nat × Nat)} {G : zG} {s : State} (hW : z_Wd G s) (args : Array Value) (hp : ∀ z ∈ hh, z_np own E pc z) : ∀ z ∈ tableOf hh, covers z pc = false ∨ (z.catchType ≠ 0 ∧ ∃ nm : String, (Cond.classLink own z.catchType nm).before args s = true ∧ va_Nc E nm s) := by
  intro z hz
  obtain ⟨w, hw, rfl⟩ := List.mem_map.mp hz
  rcases hp w hw with g | ⟨g1, nm, g2, g3⟩
  · refine Or.inl ?_
    simp only [covers]
    simpa using g
  · exact Or.inr ⟨g1, nm, hW.g args _ g2, hW.2.2.2.2.2.2.1 (E, nm) g3⟩
/-- an exception that nobody catches here -/
theorem z_out {q ci : Nat} {r : vw_C} {fs : List Value} {hh : List (Nat × Nat × Nat × Nat)} (ho : zm_o M = own) (hH : zm_h M = hh) (hc : zCL[ci]? = some r) (ha : h q = some (.inr (ci, fs))) (h0 : z_n0 (zm_G M) ≤ q) (hp : ∀ z ∈ hh, z_np own r.1 pc z) (hq : zm_Q M (.threw q) h n) : z_X M h n b f pc lv q := by
  intro p e s m args below meth c A H locs ls k9 j9 rest hR hsz hlo hlv hk hj T hT X
  have hW := A.2.2.2.2.1
  have hown : s.vm.findClass own = some m.cls := by rw [← ho]; exact A.2.2.2.1
  have hlocks := A.2.2.2.2.2.2.1
  have htab : c.exceptionTable.toList = tableOf hh := by rw [← hH]; exact A.2.2.2.2.2.2.2.2.1
  have hpl : e.platform.magicAccessors = ({} : Platform).magicAccessors := by rw [X.admits.platform]
  obtain ⟨r', h1, ce, hcell, q2, hv, -⟩ := z_rs hR hW h0 ha
  have hcl : s.vm.findClass r.1 = some ce.cls := by rw [q2]; exact (hW.1.1 ci r hc).2.1
  have hpass := z_np_go (own := own) (E := r.1) (pc := pc) hW args hp
  rw [← htab] at hpass
  obtain ⟨vm', hW', X', st⟩ := X.outThrough hlocks q (g := F0 m pc ls rest) rfl rfl rfl (cell := ce) (by rw [hT]; exact hcell) (by rw [hv]; rfl)
    (by obtain ⟨k9, h9, -⟩ := Vm.findClass_spec hcl; exact ⟨k9, h9⟩) (fun z hz => by
      rcases hpass z hz with h | ⟨hz0, nm, hl1, hn1⟩
      · exact Or.inl h
      · obtain ⟨c6, hc6, hcl6⟩ := Cond.classLink_spec hown hl1 e.platform hpl
        obtain ⟨a8, b8, h1, h2, h3⟩ := hn1
        cases Option.some.inj (h1.symm.trans hcl)
        cases Option.some.inj (h2.symm.trans hc6)
        exact Or.inr ⟨hz0, _, hcl6, h3⟩)
  obtain ⟨g₀, hfr⟩ := X'.frames_eq
  have hend : Ended ((T.setVm vm').setFrames (.throwing q :: below)) below (.threw q) := State.frames_setFrames _ (State.cur_lt_of_frames hfr)
  have hn := hR.1
  subst hn
  have hheap : ((T.setVm vm').setFrames (.throwing q :: below)).heap = H := hT
  refine ⟨(T.setVm vm').setFrames (.throwing q :: below), ?_, .threw q, X'.here.running, hend, Or.inr ⟨q, rfl⟩, ⟨h, by rw [hheap]; exact hR, by rw [hheap]; exact hq⟩, locs, (X'.ends _).1, (X'.ends _).2.mono (by omega) (by omega), hlo⟩
  rw [X.pushThrowing_eq]
  exact st
/-- an exception that is caught by the entry x -/
theorem z_catch {q ci : Nat} {r : vw_C} {fs : List Value} {hh pre suf : List (Nat × Nat × Nat × Nat)} {x : Nat × Nat × Nat × Nat} {nm : String} (ho : zm_o M = own) (hH : zm_h M = hh) (hs : hh = pre ++ x :: suf) (hc : zCL[ci]? = some r) (ha : h q = some (.inr (ci, fs))) (h0 : z_n0 (zm_G M) ≤ q) (hp : ∀ z ∈ pre, z_np own r.1 pc z) (hx : x.1 ≤ pc ∧ pc < x.2.1) (hx0 : x.2.2.2 ≠ 0) (w1 : Cond.classLink own x.2.2.2 nm ∈ lw_all) (w2 : Cond.castable r.1 nm ∈ lw_tbl) (kk : z_V M h n b f x.2.2.1 lv [.ref q]) : z_X M h n b f pc lv q := by
  intro p e s m args below meth c A H locs ls k9 j9 rest hR hsz hlo hlv hk hj
  have hW := A.2.2.2.2.1
  have hown : s.vm.findClass own = some m.cls := by rw [← ho]; exact A.2.2.2.1
  have htab : c.exceptionTable.toList = tableOf hh := by rw [← hH]; exact A.2.2.2.2.2.2.2.2.1
  obtain ⟨r', h1, ce, hcell, q2, hv, -⟩ := z_rs hR hW h0 ha
  have hcl : s.vm.findClass r.1 = some ce.cls := by rw [q2]; exact (hW.1.1 ci r hc).2.1
  refine vx_catch hown (tableOf pre) ({ startPc := x.1, endPc := x.2.1, handlerPc := x.2.2.1, catchType := x.2.2.2 } : ExceptionTableEntry) (tableOf suf) ?_ (z_np_go hW args hp) ?_ hx0 (hW.g args _ w1) (hW.w w2 rfl rfl args) hcell hv hcl (kk p e s m args below meth c A H locs ls k9 j9 hR hsz hlo hlv hk hj)
  · rw [htab, hs]
    simp [tableOf]
  · simp [covers, tableOf, hx.1, hx.2]
/-- 'throw new E()' of one of the JDK's exceptions: new; dup; invokespecial; athrow (after the kit's vx_throw0) -/
theorem z_throw0 {cls : String} {names : List String} {ik ic ci b' f' : Nat} {rest : List Value} {hh : List (Nat × Nat × Nat × Nat)} {r0 mc0 ms0 : Nat} (hb : zm_c M = cc) (ho : zm_o M = own) (hH : zm_h M = hh) (hrm : zm_R M = z_rm r0 mc0 ms0) (hc : zCL[ci]? = some (cls, z_T0, 0)) (hcls : Bundle.fit cls = true) (hnames : ∀ n ∈ names, Bundle.fit n = true)
    (hk : Cond.classLink own ik cls ∈ lw_all) (hini : Cond.initialized cls ∈ lw_all) (hat : ∀ {G : zG} {s : State} (args : Array Value), z_Wd G s → ∀ w ∈ vx_at0 own ic cls names, w.before args s = true)
    (d0 : decode cc pc = .ok (.new ik, 3)) (d3 : decode cc (pc + 3) = .ok (.dup, 1)) (d4 : decode cc (pc + 4) = .ok (.invokespecial ic, 3)) (d7 : decode cc (pc + 7) = .ok (.athrow, 1))
    (hout : ∀ z ∈ hh, ¬ (z.1 ≤ pc + 7 ∧ pc + 7 < z.2.1)) (hr : names.length + 3 < r0) (hst : (rest.map fun v => v.category).sum ≤ 20) (hbb : b' + 1 ≤ b) (hff : f' + 6 ≤ f)
    (hq : zm_Q M (.threw n) (z_up h n (.inr (ci, []))) (n + 1)) : z_V M h n b f pc lv rest := by
  intro p e s m args below meth c A H locs ls k9 j9 hR hsz hlo hlv hk9 hj9 T hT X
  have hexec := A.1
  have hb9 : c.code = cc := A.2.1.trans hb
  have hWd := A.2.2.2.2.1
  have hown : s.vm.findClass own = some m.cls := by rw [← ho]; exact A.2.2.2.1
  have hlocks := A.2.2.2.2.2.2.1
  have htab : c.exceptionTable.toList = tableOf hh := by rw [← hH]; exact A.2.2.2.2.2.2.2.2.1
  have h6 : (zm_R M).frames = r0 := by rw [hrm]
  have h7 : (zm_R M).locals = 200 * r0 := by rw [hrm]
  have hsize : ls.size = c.maxLocals := hlv.1.trans A.2.2.1.symm
  have htr : e.platform.stackTraces = false := by
    rw [X.admits.platform]
    show (zm_l M).stackTraces = false
    unfold Launch.stackTraces
    rw [A.2.2.2.2.2.2.2.2.2.2.2]
    decide +kernel
  have Y := vx_rebase X (R' := { frames := (zm_R M).frames, locals := (zm_R M).locals, cells := 1, slots := 6 }) (Nat.le_refl _) (Nat.le_refl _) (by show k9 + 1 ≤ _; omega) (by show j9 + 6 ≤ _; omega)
  obtain ⟨s', hA⟩ : ∃ z, z = (T.setVm s.vm).setFrames (.invoking m args :: below) := ⟨_, rfl⟩
  rw [← hA] at Y
  have hvm : s'.vm = s.vm := by rw [hA]; rfl
  have hhp : s'.heap = H := by rw [hA]; exact hT
  have hW0 : s.WarmedH s'.vm := by rw [hvm]; exact State.WarmedH.refl s
  have hWd' : z_Wd (zm_G M) s' := hWd.warm hW0
  have hat' := hat args hWd'
  have hk' : (Cond.classLink own ik cls).before args s' = true := hWd'.g args _ hk
  have hini' : (Cond.initialized cls).before args s' = true := hWd'.g args _ hini
  have hkeep : ∀ a : Nat, a < (zm_G M).2.2.2.2.size → ¬ (fun _ => False) a → H[a]? = (zm_G M).2.2.2.2[a]? := fun a ha _ => hR.2.2.1 a ha
  have hU' : vx_Zq Bundle.tN "UNASSIGNED_STACK" Bundle.steD (fun _ => False) s' s'.heap := by rw [hhp]; exact hWd'.2.2.2.2.2.2.2.2.2.1.kept hkeep
  have hN' : vx_Zq Bundle.tN "SUPPRESSED_SENTINEL" Bundle.listD (fun _ => False) s' s'.heap := by rw [hhp]; exact hWd'.2.2.2.2.2.2.2.2.2.2.kept hkeep
  have h : ∀ w ∈ Bundle.ownAtoms0 own ic cls names, w.before args s' = true := vx_own hat' (vx_isRefq hU'.1) (vx_isRefq hN'.1) hU'.2.word hN'.2.word
  have hown' : s'.vm.findClass own = some m.cls := by rw [hvm]; exact hown
  have hins : (Cond.instantiable cls 6).before args s' = true := h _ (by simp [Bundle.ownAtoms0])
  obtain ⟨vm₁, cX, kX, hfX, hkX, -, -, X₁, st1⟩ := Y.newCold hexec (own := own) (C := cls) (index := ik) (n := 6) hown' hk' hins hini'
    (g := F0 m pc ls rest) rfl (by rw [hb9]; exact d0) (Nat.le_refl _) (Nat.le_refl _)
  generalize hT1 : (T.setVm vm₁).pushCell { cls := cX, slots := kX.instanceTypes.map defaultValue, vm := .none } = T1 at X₁ st1
  have hcat : (Value.ref T.heap.size).category = 1 := rfl
  have hcellA : T1.heap[T.heap.size]? = some (freshCell cX kX) := by rw [← hT1]; exact State.heap_pushCell_size _ _
  have d3' : decode c.code (pc + 3) = .ok (.dup, 1) := by rw [hb9]; exact d3
  have hout' : ∀ x ∈ c.exceptionTable.toList, covers x (pc + 7) = false := by
    rw [htab]
    intro z hz
    obtain ⟨w, hw, rfl⟩ := List.mem_map.mp hz
    have g := hout w hw
    simp only [covers]
    simpa using g
  obtain ⟨U, hsteps, hrun, hend, hW, hsame, ce, hce, hO⟩ := X₁.ctorThrow0 hexec htr (own := own) (cls := cls) (names := names) (ic := ic) hown' hcls hnames h (fun x hx => nomatch hx) hfX hkX hcellA (by rw [hhp, hT]; exact Nat.le_refl _)
    (g := { method := m, pc := pc + 4, locals := ls, stack := .ref T.heap.size :: .ref T.heap.size :: rest, locked := none }) rfl hsize rfl rfl (rest := rest) rfl
    (by rw [hb9]; exact d4) (by rw [hb9]; exact d7) hout' (by show names.length + 3 < (zm_R M).frames; omega) (by simp only [List.map_cons, List.sum_cons, hcat]; show _ ≤ (zm_R M).locals; omega) hlocks
  obtain ⟨f1, f2⟩ := vx_frame hsame
  rw [hhp] at f1 f2
  have hWs : s.WarmedH U.vm := State.WarmedH.trans hW0 hW
  have hcl : s.vm.findClass cls = some ce.cls := by
    have h9 := hO.cls
    rw [hvm] at h9
    exact h9
  have hsz9 : U.heap.size = n + 1 := by
    have g1 : T.heap.size < U.heap.size := (Array.getElem?_eq_some_iff.mp hce).1
    have g2 : U.heap.size ≤ s'.heap.size + (0 + 1) := hsame.2.2.1
    rw [hhp, hR.1] at g2
    rw [hT, hR.1] at g1
    omega
  have hall : s.sameButNew ({ U with vm := s.vm } : State) locs (zm_R M).cells (zm_R M).slots := by
    subst hA
    obtain ⟨e1, e2⟩ := hsame
    rw [State.setFrames_setFrames] at e1
    have h2 : (T.setVm s.vm).sameButNew ({ U with vm := s.vm } : State) [] (0 + 1) (0 + 6) := ⟨e1, e2⟩
    have h3 := X.same.trans h2
    rw [List.append_nil] at h3
    exact h3.mono (by omega) (by omega)
  have hn : T.heap.size = n := by rw [hT]; exact hR.1
  rw [hn] at hce hend
  have hR' : z_R (zm_G M) (z_up ‹zH› n (.inr (ci, []))) (n + 1) U.heap := hR.push hsz9 (fun q hq => f2 q (by rw [hR.1]; exact hq) (fun z hz => nomatch hz)) ⟨_, hc, ce, hce, Option.some.inj (hcl.symm.trans (hWd.1.1 ci _ hc).2.1), hO.vm, fun k hk => absurd hk (Nat.not_lt_zero k)⟩ (Or.inr fun c9 h9 => by cases hce.symm.trans h9; exact hO.monitor)
  refine ⟨U, ?_, .threw n, hrun, hend, Or.inr ⟨n, rfl⟩, ⟨_, by rw [hsz9]; exact hR', by rw [hsz9]; exact hq⟩, locs, hWs, hall, hlo⟩
  refine st1 _ ?_
  show Steps p.tables e below (T1.setTop { method := m, pc := pc + 3, locals := ls, stack := .ref T.heap.size :: rest, locked := none }) _
  jvm_step X₁.here [X₁.here.top, hexec, d3', Value.category]
  exact hsteps
end ZEXC
