/-- the words say: y has this code, these locals, this answer, these handlers -/
def z_code (y : MethodName) (bytes : ByteArray) (maxL : Nat) (ret : Option FieldType) (hh : List (Nat × Nat × Nat × Nat)) : Prop := (hh = [] ∧ Cond.code y bytes maxL ret ∈ lw_all) ∨ Cond.codeWith y bytes maxL ret hh ∈ lw_all
theorem z_code_spec {y : MethodName} {bytes : ByteArray} {maxL : Nat} {ret : Option FieldType} {hh : List (Nat × Nat × Nat × Nat)} (h : z_code y bytes maxL ret hh) {G : zG} {s : State} (hW : z_Wd G s) {mk : MethodId} (hn : s.methodNamed? y = some mk) :
    ∃ meth c, s.vm.method? mk = some meth ∧ meth.code = some c ∧ c.code = bytes ∧ c.maxLocals = maxL ∧ meth.sig.returnType = ret ∧ meth.locks = false ∧ c.exceptionTable.toList = tableOf hh ∧ parseMethodDescriptor y.desc = some meth.sig := by
  rcases h with ⟨h1, h2⟩ | h2
  · obtain ⟨meth, c, g1, g2, g3, g4, g5, g6, g7, g8⟩ := Cond.code_spec hn (hW.g #[] _ h2)
    refine ⟨meth, c, g1, g2, g3, g4, g5, g6, ?_, g8⟩
    rw [Array.isEmpty_iff.mp g7, h1]
    rfl
  · obtain ⟨m9, meth, c, hn9, g1, g2, g3, g4, g6, g5, g7, g8⟩ := Cond.codeWith_spec (hW.g #[] _ h2)
    cases hn.symm.trans hn9
    exact ⟨meth, c, g1, g2, g3, g4, g5, g7, by rw [← g6, table_eq], g8⟩
theorem z_code_named {y : MethodName} {bytes : ByteArray} {maxL : Nat} {ret : Option FieldType} {hh : List (Nat × Nat × Nat × Nat)} (h : z_code y bytes maxL ret hh) {G : zG} {s : State} (hW : z_Wd G s) : ∃ mk, s.methodNamed? y = some mk := by
  rcases h with ⟨h1, h2⟩ | h2
  · exact Cond.code_named (hW.g #[] _ h2)
  · obtain ⟨m9, meth, c, hn9, -⟩ := Cond.codeWith_spec (hW.g #[] _ h2)
    exact ⟨m9, hn9⟩
section ZB
variable {l : Launch} {R : Room} {p : Program} {e : Env} {below : List Frame} {s : State} {sargs : Array Value}
/-- a callee by its contract: it returns, or throws (after the library's Back.of_free) -/
theorem z_back {G : zG} {y : MethodName} {r mc ms : Nat} {av : List Value} {h0 : zH} {n : Nat} {Q : zQ} {bytes : ByteArray} {maxL len : Nat} {ret : Option FieldType} {hh : List (Nat × Nat × Nat × Nat)} (hM : z_C l G y r mc ms av h0 n Q) (hfl : l.flags = flags0) (hcode : z_code y bytes maxL ret hh) (hini : Cond.initialized y.cls ∈ lw_all)
    (hframes : r + 1 ≤ R.frames) (hlocals : 60 + (maxL + 11) + 200 * r ≤ R.locals) {m : MethodId} {meth : Method} {c : Code} {U : State} {Ls : List Loc} {c0 s0 : Nat} {g : JFrame} {ig : Instr} {mk : MethodId}
    (X : Stand p l e R s m sargs below meth c U Ls c0 s0) (hg : g.method = m) (hsize : g.locals.size = c.maxLocals) (hdg : decode c.code g.pc = .ok (ig, len)) (hW : 2 * g.monitorRoom + (g.stack.map fun v => v.category).sum ≤ 60) (hn : U.methodNamed? y = some mk) (hR : z_R G h0 n U.heap) (hWd : z_Wd G U) (h4 : c0 + mc ≤ R.cells) (h5 : s0 + ms ≤ R.slots) :
    (∃ (v : Option Value) (T' : State) (L : List Loc) (h' : zH), Stand p l e R s m sargs below meth c T' (Ls ++ L) (c0 + mc) (s0 + ms) ∧ (∀ q ∈ L, z_n0 G ≤ q.base) ∧ z_R G h' T'.heap.size T'.heap ∧ Q (.returned v) h' T'.heap.size ∧ n ≤ T'.heap.size ∧
      Steps p.tables e below (doInvoke e (U.setTop g) [] mk av.toArray).1 (T'.setTop { g with pc := g.pc + len, stack := v.toList ++ g.stack })) ∨
    (∃ (q : Addr) (T' : State) (L : List Loc) (h' : zH), Stand p l e R s m sargs below meth c T' (Ls ++ L) (c0 + mc) (s0 + ms) ∧ (∀ q ∈ L, z_n0 G ≤ q.base) ∧ z_R G h' T'.heap.size T'.heap ∧ Q (.threw q) h' T'.heap.size ∧ n ≤ T'.heap.size ∧
      Steps p.tables e below (doInvoke e (U.setTop g) [] mk av.toArray).1 ((T'.setTop g).pushFrame (.throwing q))) := by
  have h1 : (headSpec lw_all (z_rm r mc ms)).pre.before av.toArray U = true := atoms_intro fun w hw => hWd.g _ w hw
  obtain ⟨methY, cY, hmY, hcY, -, hlY, -, -, -, -⟩ := z_code_spec hcode hWd hn
  have h3 : (Cond.initialized y.cls).before av.toArray U = true := hWd.g _ _ hini
  have hPc : z_Pc G av h0 n av.toArray (U.calling g mk av.toArray) := ⟨rfl, hR, hWd.warm (U := U.calling g mk av.toArray) (State.WarmedH.refl U)⟩
  obtain ⟨kY, hkY, -⟩ := className_of_methodNamed hn
  have hinitY : kY.init = .initialized := Cond.initialized_spec (findClass_of_methodNamed hn) hkY h3
  have h : At U g.method c below := by rw [hg]; exact X.here
  have hlocals9 : 60 + (maxL + 11) + (headSpec lw_all (z_rm r mc ms)).room.locals ≤ R.locals := hlocals
  have happ : (headSpec lw_all (z_rm r mc ms)).appliesLoose y e.platform (U.calling g mk av.toArray) = true :=
    Spec.appliesLoose_calling (g := g) h hdg hn hkY hinitY
      (X.room_calling (g := g) (R' := (headSpec lw_all (z_rm r mc ms)).room) hsize hmY hcY hframes (by rw [hlY]; omega) h4 h5) h1
  obtain ⟨mid, hmid⟩ := h.above
  have hfr : (U.setTop g).frames = (.java g :: mid) ++ below := by rw [State.frames_setTop' g h.top, hmid]; rfl
  obtain ⟨o, s₂, hsteps, -, hend, hq⟩ := Steps.callFree (hM hfl) p X.admits X.cas X.clock (acts := []) hfr happ hPc trivial
  have hq' : z_E G Q mc ms av.toArray (U.calling g mk av.toArray) o s₂ := hq
  rw [State.frames_setTop' g h.top] at hend
  obtain ⟨g₀, hg0⟩ := Option.isSome_iff_exists.mp h.top
  obtain ⟨r9, hr⟩ := State.topJava?_eq_some.mp hg0
  have hr' : (({ U with heap := s₂.heap, slotsUsed := s₂.slotsUsed } : State).setVm s₂.vm).frames = .java g₀ :: r9 := hr
  obtain ⟨ho, ⟨h', hR', hQ⟩, L, hW₂, hsm, hL⟩ := hq'
  have hgrow : n ≤ s₂.heap.size := by
    have f1 := (vx_frame hsm).1
    have f2 : (U.calling g mk av.toArray).heap.size = n := hR.1
    omega
  obtain ⟨e2, q2, q3, q4, q5, q6⟩ := id hsm
  have e3 : s₂ = ({ (U.calling g mk av.toArray).setFrames s₂.frames with heap := s₂.heap, slotsUsed := s₂.slotsUsed } : State).setVm s₂.vm := by
    have : s₂ = ({ s₂ with vm := (U.calling g mk av.toArray).vm } : State).setVm s₂.vm := rfl
    rw [e2] at this
    exact this
  have hW' : U.WarmedH s₂.vm := hW₂
  have hsame : U.sameButNew ({ U with heap := s₂.heap, slotsUsed := s₂.slotsUsed } : State) L mc ms := by
    refine ⟨?_, q2, q3, q4, q5, q6⟩
    obtain ⟨t, ht, -⟩ := State.frames_cons hr
    show ({ U with heap := s₂.heap, slotsUsed := s₂.slotsUsed } : State) = { U.setFrames U.frames with heap := s₂.heap, slotsUsed := s₂.slotsUsed }
    rw [State.setFrames_self ht]
  rcases ho with ⟨v, rfl⟩ | ⟨q, rfl⟩
  · obtain ⟨c₂, i₂, len₂, hc₂, hd₂, hf₂⟩ := hend
    have hcc : c₂ = c := by
      have h1 : s₂.code? g.method = U.code? g.method := by
        rw [State.code?_eq, State.code?_eq, hW'.alike.method?]
      exact Option.some.inj (hc₂.symm.trans (h1.trans h.code))
    subst hcc
    have hlen : len₂ = len := by rw [hdg] at hd₂; cases hd₂; rfl
    subst hlen
    have hs₂ : s₂ = (({ U with heap := s₂.heap, slotsUsed := s₂.slotsUsed } : State).setVm s₂.vm).setTop { g with pc := g.pc + len₂, stack := v.toList ++ g.stack } := by
      refine e3.trans ?_
      rw [hf₂, State.calling_eq h.top, State.setFrames_setFrames, State.setTop_of_frames _ hr', hr]
      rfl
    subst hg
    refine Or.inl ⟨v, (({ U with heap := s₂.heap, slotsUsed := s₂.slotsUsed } : State).setVm s₂.vm), L, h',
      ⟨X.admits, X.cas, X.clock, X.frames, X.room, X.hears, X.method, X.code, (X.here.setHeapUsed s₂.heap s₂.slotsUsed).setVm hW'.alike, X.tail, State.WarmedH.trans X.warmed hW', X.limits, X.bytes, X.same.trans (hsame.setVm s.vm)⟩, hL, hR', hQ, hgrow, ?_⟩
    rw [← hs₂]
    exact hsteps
  · have hf₂ : s₂.frames = .throwing q :: .java g :: U.frames.tail := hend
    have hs₂ : s₂ = ((({ U with heap := s₂.heap, slotsUsed := s₂.slotsUsed } : State).setVm s₂.vm).setTop g).pushFrame (.throwing q) := by
      refine e3.trans ?_
      rw [hf₂, State.calling_eq h.top, State.setFrames_setFrames, State.pushFrame, State.frames_setTop _ hr', State.setTop_of_frames _ hr', State.setFrames_setFrames, hr]
      rfl
    subst hg
    refine Or.inr ⟨q, (({ U with heap := s₂.heap, slotsUsed := s₂.slotsUsed } : State).setVm s₂.vm), L, h',
      ⟨X.admits, X.cas, X.clock, X.frames, X.room, X.hears, X.method, X.code, (X.here.setHeapUsed s₂.heap s₂.slotsUsed).setVm hW'.alike, X.tail, State.WarmedH.trans X.warmed hW', X.limits, X.bytes, X.same.trans (hsame.setVm s.vm)⟩, hL, hR', hQ, hgrow, ?_⟩
    rw [← hs₂]
    exact hsteps
end ZB
/-- a call's instruction: it invokes y, with av, rest being left on the stack -/
def z_Site (M : zM) (h : zH) (n : Nat) (y : MethodName) (len pc : Nat) (st rest av : List Value) : Prop :=
  ∀ (p : Program) (e : Env) (s : State) (m : MethodId) (args : Array Value) (below : List Frame) (meth : Method) (c : Code), z_At M p e s m args meth c →
  ∀ (T : State) (locs : List Loc) (k j : Nat) (ls : Array Slot), Stand p (zm_l M) e (zm_R M) s m args below meth c T locs k j → z_R (zm_G M) h n T.heap →
  ∃ (mk : MethodId) (vm₁ : Vm) (ig : Instr), s.methodNamed? y = some mk ∧ s.WarmedH vm₁ ∧ Stand p (zm_l M) e (zm_R M) s m args below meth c (T.setVm vm₁) locs k j ∧ decode c.code pc = .ok (ig, len) ∧
    ∀ target, Steps p.tables e below (doInvoke e ((T.setVm vm₁).setTop (F0 m pc ls rest)) [] mk av.toArray).1 target → Steps p.tables e below (T.setTop (F0 m pc ls st)) target
section ZCALL
variable {M : zM} {h : zH} {n b f pc : Nat} {lv : List (Nat × Value)} {cc : ByteArray} {own : String}
/-- A CALL, by its site and the callee's contract -/
theorem z_call {y : MethodName} {len r r0 mc ms mc0 ms0 b' f' : Nat} {st rest av : List Value} {Q : zQ} {bytes : ByteArray} {maxL : Nat} {ret : Option FieldType} {hh : List (Nat × Nat × Nat × Nat)} (S : z_Site M h n y len pc st rest av) (hcode : z_code y bytes maxL ret hh) (hini : Cond.initialized y.cls ∈ lw_all) (hrm : zm_R M = z_rm r0 mc0 ms0) (C : z_C (zm_l M) (zm_G M) y r mc ms av h n Q)
    (hr : r < r0) (hL : maxL ≤ 120) (hst : (rest.map fun v => v.category).sum ≤ 60) (hbb : b' + mc ≤ b) (hff : f' + ms ≤ f)
    (kk : ∀ (v : Option Value) (h' : zH) (n' : Nat), Q (.returned v) h' n' → n ≤ n' → z_V M h' n' b' f' (pc + len) lv (v.toList ++ rest))
    (kx : ∀ (q : Nat) (h' : zH) (n' : Nat), Q (.threw q) h' n' → n ≤ n' → z_X M h' n' b' f' pc lv q) : z_V M h n b f pc lv st := by
  intro p e s m args below meth c A H locs ls k9 j9 hR hsz hlo hlv hk9 hj9 T hT X
  obtain ⟨mk, vm₁, ig, hn, hW₁, X₁, hd, hgo⟩ := S p e s m args below meth c A T locs k9 j9 ls X (by rw [hT]; exact hR)
  have hWd := A.2.2.2.2.1
  have h6 : (zm_R M).frames = r0 := by rw [hrm]
  have h7 : (zm_R M).locals = 200 * r0 := by rw [hrm]
  have hls : ls.size = c.maxLocals := hlv.1.trans A.2.2.1.symm
  rcases z_back C A.2.2.2.2.2.2.2.2.2.2.2 hcode hini (by omega) (by omega) X₁ (g := F0 m pc ls rest) rfl hls hd (by show 2 * 0 + (rest.map fun v => v.category).sum ≤ 60; omega) (X₁.named hn) (by show z_R _ _ _ T.heap; rw [hT]; exact hR) (hWd.warm (U := T.setVm vm₁) hW₁) (by omega) (by omega) with ⟨v, T', L, h', X', hL', hR', hQ, hg, hsteps⟩ | ⟨q, T', L, h', X', hL', hR', hQ, hg, hsteps⟩
  · obtain ⟨t, a1, b1⟩ := kk v h' _ hQ hg p e s m args below meth c A T'.heap (locs ++ L) ls (k9 + mc) (j9 + ms) hR' (by omega) (fun q hq => by
      rcases List.mem_append.mp hq with g | g
      · exact hlo q g
      · exact hL' q g) hlv (by omega) (by omega) T' rfl X'
    exact ⟨t, hgo _ (hsteps.trans a1), b1⟩
  · obtain ⟨t, a1, b1⟩ := kx q h' _ hQ hg p e s m args below meth c A T'.heap (locs ++ L) ls (k9 + mc) (j9 + ms) rest hR' (by omega) (fun q hq => by
      rcases List.mem_append.mp hq with g | g
      · exact hlo q g
      · exact hL' q g) hlv (by omega) (by omega) T' rfl X'
    exact ⟨t, (hgo _ hsteps).trans a1, b1⟩
theorem z_siteV {idx : Nat} {y : MethodName} {a ci : Nat} {fs : List Value} {r : vw_C} {As rest : List Value} (hb : zm_c M = cc) (ho : zm_o M = own) (hc : zCL[ci]? = some r) (ha : h a = some (.inr (ci, fs))) (w1 : Cond.methodLink own idx y ∈ lw_all) (w2 : Cond.instanceMethod y ∈ lw_all) (w3 : Cond.selects r.1 y y ∈ lw_all) (hcode : ∃ bytes maxL ret hh, z_code y bytes maxL ret hh) (hy : y.cls ≠ "java/lang/invoke/MethodHandle" ∧ y.cls ≠ "java/lang/invoke/VarHandle") (hlen : (parseMethodDescriptor y.desc).map (fun d => d.parameters.length) = some As.length) (d : decode cc pc = .ok (.invokevirtual idx, 3)) :
    z_Site M h n y 3 pc (As.reverse ++ .ref a :: rest) rest (.ref a :: As) := by
  intro p e s m args below meth c A T locs k j ls X hR
  have hWd := A.2.2.2.2.1
  have hown : s.vm.findClass own = some m.cls := by rw [← ho]; exact A.2.2.2.1
  have hts := hWd.g args
  have hd : decode c.code pc = .ok (.invokevirtual idx, 3) := by rw [A.2.1, hb]; exact d
  obtain ⟨mk, methM, hnamed, hmethM, hstM, habM⟩ := Cond.instanceMethod_spec (hts _ w2)
  obtain ⟨bytes, maxL, ret, hh, hcode⟩ := hcode
  obtain ⟨methM', cM, hmethM', -, -, -, -, -, -, hsigM⟩ := z_code_spec hcode hWd hnamed
  cases hmethM.symm.trans hmethM'
  obtain ⟨cell, hcell, hobj, hcls⟩ := z_rc hR hWd hc ha
  obtain ⟨c2, r2, m2, q1, q2, q3, q4, kP, hkP, hkPi⟩ := Cond.selects_spec (hts _ w3)
  cases hcls.symm.trans q1
  cases (State.methodFound?_of_named hnamed hy).symm.trans q2
  cases hnamed.symm.trans q3
  have hselP : selectMethod e.platform s.vm cell.cls mk = .method mk := by rw [Launch.admits_selectMethod X.admits]; exact q4
  have hlen' : As.length = methM.sig.parameters.length := by rw [hsigM] at hlen; exact (Option.some.inj hlen).symm
  obtain ⟨vm₁, X₁, hstep₁⟩ := X.invokevirtual A.1 hown (hts _ w1) hnamed hmethM hstM hkP hkPi hy (a := a) (cell := cell) hcell
    (fun z h => by rw [h] at hobj; cases hobj) hselP hmethM habM hkP hkPi (g := F0 m pc ls (As.reverse ++ .ref a :: rest)) rfl (argsL := As) (rest := rest) hlen' rfl hd
  exact ⟨mk, vm₁, _, hnamed, X₁.warmed, X₁, hd, fun target ht => hstep₁ _ fun acts => by rw [doInvoke_state]; exact ht⟩
theorem z_siteS {idx : Nat} {y : MethodName} {As rest : List Value} (hb : zm_c M = cc) (ho : zm_o M = own) (w1 : Cond.methodLink own idx y ∈ lw_all) (w2 : Cond.static y ∈ lw_all) (w3 : Cond.initialized y.cls ∈ lw_all) (hcode : ∃ bytes maxL ret hh, z_code y bytes maxL ret hh) (hy : y.cls ≠ "java/lang/invoke/MethodHandle" ∧ y.cls ≠ "java/lang/invoke/VarHandle") (hlen : (parseMethodDescriptor y.desc).map (fun d => d.parameters.length) = some As.length) (d : decode cc pc = .ok (.invokestatic idx, 3)) :
    z_Site M h n y 3 pc (As.reverse ++ rest) rest As := by
  intro p e s m args below meth c A T locs k j ls X hR
  have hWd := A.2.2.2.2.1
  have hown : s.vm.findClass own = some m.cls := by rw [← ho]; exact A.2.2.2.1
  have hts := hWd.g args
  have hd : decode c.code pc = .ok (.invokestatic idx, 3) := by rw [A.2.1, hb]; exact d
  obtain ⟨bytes, maxL, ret, hh, hcode⟩ := hcode
  obtain ⟨mk, hnamed⟩ := z_code_named hcode hWd
  obtain ⟨methM, cM, hmethM, -, -, -, -, -, -, hsigM⟩ := z_code_spec hcode hWd hnamed
  have hstatic : methM.isStatic = true := Cond.static_spec hnamed hmethM (hts _ w2)
  obtain ⟨kP, hkP, -⟩ := className_of_methodNamed hnamed
  have hinitP : kP.init = .initialized := Cond.initialized_spec (findClass_of_methodNamed hnamed) hkP (hts _ w3)
  have hlen' : As.length = methM.sig.parameters.length := by rw [hsigM] at hlen; exact (Option.some.inj hlen).symm
  obtain ⟨vm₁, X₁, hstep₁⟩ := X.invokestatic A.1 hown (hts _ w1) hnamed hmethM hstatic hkP hinitP hy (g := F0 m pc ls (As.reverse ++ rest)) rfl (argsL := As) (rest := rest) hlen' rfl hd
  exact ⟨mk, vm₁, _, hnamed, X₁.warmed, X₁, hd, fun target ht => hstep₁ _ fun acts => by rw [doInvoke_state]; exact ht⟩
theorem z_siteI {idx maxL a : Nat} {y : MethodName} {bytes : ByteArray} {As rest : List Value} (hb : zm_c M = cc) (ho : zm_o M = own) (w1 : Cond.methodLink own idx y ∈ lw_all) (w2 : Cond.instanceMethod y ∈ lw_all) (hcode : Cond.code y bytes maxL none ∈ lw_all) (hy1 : y.name = "<init>") (hy : y.cls ≠ "java/lang/invoke/MethodHandle" ∧ y.cls ≠ "java/lang/invoke/VarHandle") (hlen : (parseMethodDescriptor y.desc).map (fun d => d.parameters.length) = some As.length) (d : decode cc pc = .ok (.invokespecial idx, 3)) :
    z_Site M h n y 3 pc (As.reverse ++ .ref a :: rest) rest (.ref a :: As) := by
  intro p e s m args below meth c A T locs k j ls X hR
  have hWd := A.2.2.2.2.1
  have hown : s.vm.findClass own = some m.cls := by rw [← ho]; exact A.2.2.2.1
  have hts := hWd.g args
  have hd : decode c.code pc = .ok (.invokespecial idx, 3) := by rw [A.2.1, hb]; exact d
  have hpl : e.platform.magicAccessors = ({} : Platform).magicAccessors := by rw [X.admits.platform]
  have hlen' : ∀ sig, parseMethodDescriptor y.desc = some sig → As.length = sig.parameters.length := fun sig hs => by rw [hs] at hlen; exact (Option.some.inj hlen).symm
  obtain ⟨mk, methM, cM, kP, vm₁, hnamed, hmethM, hcodeM, -, hlocalsM, -, hkP, -, hW₁, hstep₁⟩ := Steps.initColdArgs (e := e) X.here A.1 X.warmed hpl hown hy1 hy (hts _ w1) (hts _ w2) (hts _ hcode) (f := F0 m pc ls (As.reverse ++ .ref a :: rest)) rfl hlen' rfl hd
  exact ⟨mk, vm₁, _, hnamed, hW₁, X.noted hW₁, hd, fun target ht => hstep₁ _ fun acts => by rw [doInvoke_state]; exact ht⟩
end ZCALL
