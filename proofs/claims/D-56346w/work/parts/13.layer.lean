section ZSITES
variable {M : zM} {h : zH} {n b f pc : Nat} {lv : List (Nat × Value)} {cc : ByteArray} {own : String}
/-- a private method of a nest mate -/
theorem z_siteVN {host : String} {idx : Nat} {y : MethodName} {a ci : Nat} {fs : List Value} {r : vw_C} {As rest : List Value} (hb : zm_c M = cc) (ho : zm_o M = own) (hc : zCL[ci]? = some r) (ha : h a = some (.inr (ci, fs))) (w1 : Cond.methodLinkNest own idx y host ∈ lw_tbl) (w2 : Cond.instanceMethod y ∈ lw_all) (w3 : Cond.selects r.1 y y ∈ lw_all) (hcode : ∃ bytes maxL ret hh, z_code y bytes maxL ret hh) (hy : y.cls ≠ "java/lang/invoke/MethodHandle" ∧ y.cls ≠ "java/lang/invoke/VarHandle") (hlen : (parseMethodDescriptor y.desc).map (fun d => d.parameters.length) = some As.length) (d : decode cc pc = .ok (.invokevirtual idx, 3)) :
    z_Site M h n y 3 pc (As.reverse ++ .ref a :: rest) rest (.ref a :: As) := by
  intro p e s m args below meth c A T locs k j ls X hR
  have hWd := A.2.2.2.2.1
  have hown : s.vm.findClass own = some m.cls := by rw [← ho]; exact A.2.2.2.1
  have hts := hWd.g args
  have hd : decode c.code pc = .ok (.invokevirtual idx, 3) := by rw [A.2.1, hb]; exact d
  obtain ⟨mk, methM, hnamed, hmethM, hstM, habM⟩ := Cond.instanceMethod_spec (hts _ w2)
  obtain ⟨bytes, maxL, ret, hh, hcode⟩ := hcode
  obtain ⟨methM', cM, hmethM', -, -, -, -, -, -, hsigM⟩ := z_code_spec hcode hWd hnamed
  cases hmethM.symm.trans hmethM'
  obtain ⟨cell, hcell, hobj, hcls⟩ := z_rc hR hWd hc ha
  obtain ⟨c2, r2, m2, q1, q2, q3, q4, kP, hkP, hkPi⟩ := Cond.selects_spec (hts _ w3)
  cases hcls.symm.trans q1
  cases (State.methodFound?_of_named hnamed hy).symm.trans q2
  cases hnamed.symm.trans q3
  have hselP : selectMethod e.platform s.vm cell.cls mk = .method mk := by rw [Launch.admits_selectMethod X.admits]; exact q4
  have hlen' : As.length = methM.sig.parameters.length := by rw [hsigM] at hlen; exact (Option.some.inj hlen).symm
  obtain ⟨vm₁, X₁, hstep₁⟩ := X.invokevirtualNest A.1 hown (hWd.w w1 rfl rfl args) hnamed hmethM hstM hkP hkPi hy (a := a) (cell := cell) hcell
    (fun z h => by rw [h] at hobj; cases hobj) hselP hmethM habM hkP hkPi (g := F0 m pc ls (As.reverse ++ .ref a :: rest)) rfl (argsL := As) (rest := rest) hlen' rfl hd
  exact ⟨mk, vm₁, _, hnamed, X₁.warmed, X₁, hd, fun target ht => hstep₁ _ fun acts => by rw [doInvoke_state]; exact ht⟩
theorem z_siteSN {host : String} {idx : Nat} {y : MethodName} {As rest : List Value} (hb : zm_c M = cc) (ho : zm_o M = own) (w1 : Cond.methodLinkNest own idx y host ∈ lw_tbl) (w2 : Cond.static y ∈ lw_all) (w3 : Cond.initialized y.cls ∈ lw_all) (hcode : ∃ bytes maxL ret hh, z_code y bytes maxL ret hh) (hy : y.cls ≠ "java/lang/invoke/MethodHandle" ∧ y.cls ≠ "java/lang/invoke/VarHandle") (hlen : (parseMethodDescriptor y.desc).map (fun d => d.parameters.length) = some As.length) (d : decode cc pc = .ok (.invokestatic idx, 3)) :
    z_Site M h n y 3 pc (As.reverse ++ rest) rest As := by
  intro p e s m args below meth c A T locs k j ls X hR
  have hWd := A.2.2.2.2.1
  have hown : s.vm.findClass own = some m.cls := by rw [← ho]; exact A.2.2.2.1
  have hts := hWd.g args
  have hd : decode c.code pc = .ok (.invokestatic idx, 3) := by rw [A.2.1, hb]; exact d
  obtain ⟨bytes, maxL, ret, hh, hcode⟩ := hcode
  obtain ⟨mk, hnamed⟩ := z_code_named hcode hWd
  obtain ⟨methM, cM, hmethM, -, -, -, -, -, -, hsigM⟩ := z_code_spec hcode hWd hnamed
  have hstatic : methM.isStatic = true := Cond.static_spec hnamed hmethM (hts _ w2)
  obtain ⟨kP, hkP, -⟩ := className_of_methodNamed hnamed
  have hinitP : kP.init = .initialized := Cond.initialized_spec (findClass_of_methodNamed hnamed) hkP (hts _ w3)
  have hlen' : As.length = methM.sig.parameters.length := by rw [hsigM] at hlen; exact (Option.some.inj hlen).symm
  obtain ⟨vm₁, X₁, hstep₁⟩ := X.invokestaticNest A.1 hown (hWd.w w1 rfl rfl args) hnamed hmethM hstatic hkP hinitP hy (g := F0 m pc ls (As.reverse ++ rest)) rfl (argsL := As) (rest := rest) hlen' rfl hd
  exact ⟨mk, vm₁, _, hnamed, X₁.warmed, X₁, hd, fun target ht => hstep₁ _ fun acts => by rw [doInvoke_state]; exact ht⟩
theorem z_siteIN {host : String} {idx maxL a : Nat} {y : MethodName} {bytes : ByteArray} {As rest : List Value} (hb : zm_c M = cc) (ho : zm_o M = own) (w1 : Cond.methodLinkNest own idx y host ∈ lw_tbl) (w2 : Cond.instanceMethod y ∈ lw_all) (hcode : Cond.code y bytes maxL none ∈ lw_all) (hy1 : y.name = "<init>") (hy : y.cls ≠ "java/lang/invoke/MethodHandle" ∧ y.cls ≠ "java/lang/invoke/VarHandle") (hlen : (parseMethodDescriptor y.desc).map (fun d => d.parameters.length) = some As.length) (d : decode cc pc = .ok (.invokespecial idx, 3)) :
    z_Site M h n y 3 pc (As.reverse ++ .ref a :: rest) rest (.ref a :: As) := by
  intro p e s m args below meth c A T locs k j ls X hR
  have hWd := A.2.2.2.2.1
  have hown : s.vm.findClass own = some m.cls := by rw [← ho]; exact A.2.2.2.1
  have hts := hWd.g args
  have hd : decode c.code pc = .ok (.invokespecial idx, 3) := by rw [A.2.1, hb]; exact d
  have hpl : e.platform.magicAccessors = ({} : Platform).magicAccessors := by rw [X.admits.platform]
  have hlen' : ∀ sig, parseMethodDescriptor y.desc = some sig → As.length = sig.parameters.length := fun sig hs => by rw [hs] at hlen; exact (Option.some.inj hlen).symm
  obtain ⟨mk, methM, cM, kP, vm₁, hnamed, hmethM, hcodeM, -, hlocalsM, -, hkP, -, hW₁, hstep₁⟩ := Steps.initColdArgsNest (e := e) X.here A.1 X.warmed hpl hown hy1 hy (hWd.w w1 rfl rfl args) (hts _ w2) (hts _ hcode) (f := F0 m pc ls (As.reverse ++ .ref a :: rest)) rfl hlen' rfl hd
  exact ⟨mk, vm₁, _, hnamed, hW₁, X.noted hW₁, hd, fun target ht => hstep₁ _ fun acts => by rw [doInvoke_state]; exact ht⟩
/-- through a class that inherits or overrides: the pool names x, the receiver's class selects y -/
theorem z_siteU {owner : String} {idx : Nat} {x y : MethodName} {a ci : Nat} {fs : List Value} {r : vw_C} {As rest : List Value} (hb : zm_c M = cc) (ho : zm_o M = own) (hc : zCL[ci]? = some r) (ha : h a = some (.inr (ci, fs))) (w1 : Cond.methodLink own idx x ∈ lw_all) (w0 : Cond.sameMethod x.cls owner x.name x.desc ∈ lw_all) (hd0 : Cond.declares ⟨owner, x.name, x.desc⟩ ∈ lw_tbl ∨ (Cond.instanceMethod ⟨owner, x.name, x.desc⟩ ∈ lw_all ∧ ∃ bytes maxL ret hh, z_code ⟨owner, x.name, x.desc⟩ bytes maxL ret hh)) (w2 : Cond.instanceMethod y ∈ lw_all) (w3 : Cond.selects r.1 x y ∈ lw_all) (howner : owner ≠ "java/lang/invoke/MethodHandle" ∧ owner ≠ "java/lang/invoke/VarHandle") (hlen : (parseMethodDescriptor x.desc).map (fun d => d.parameters.length) = some As.length) (d : decode cc pc = .ok (.invokevirtual idx, 3)) :
    z_Site M h n y 3 pc (As.reverse ++ .ref a :: rest) rest (.ref a :: As) := by
  intro p e s m args below meth c A T locs k j ls X hR
  have hWd := A.2.2.2.2.1
  have hown : s.vm.findClass own = some m.cls := by rw [← ho]; exact A.2.2.2.1
  have hts := hWd.g args
  have hd : decode c.code pc = .ok (.invokevirtual idx, 3) := by rw [A.2.1, hb]; exact d
  have hd1 : va_Decl s ⟨owner, x.name, x.desc⟩ := by
    rcases hd0 with q | ⟨q, bytes, maxL, ret, hh, hcode⟩
    · obtain ⟨r9, meth9, g1, g2, g3, g4⟩ := Cond.declares_spec (hWd.w q rfl rfl args)
      exact ⟨r9, meth9, g1, g2, g3, g4⟩
    · obtain ⟨mk, methM, hnamed, hmethM, hstM, habM⟩ := Cond.instanceMethod_spec (hts _ q)
      obtain ⟨methM', cM, hmethM', -, -, -, -, -, -, hsigM⟩ := z_code_spec hcode hWd hnamed
      cases hmethM.symm.trans hmethM'
      exact ⟨mk, methM, hnamed, hmethM, hstM, hsigM⟩
  obtain ⟨r0, r9, hn, hrm, hstR, hsigR⟩ := hd1
  obtain ⟨cn, ck, r1, hcn, hck, hni, hf, hn1⟩ := Cond.sameMethod_found (hts _ w0)
  cases hn.symm.trans hn1
  obtain ⟨mk, methM, hnamed, hmethM, -, habM⟩ := Cond.instanceMethod_spec (hts _ w2)
  obtain ⟨cell, hcell, hobj, hcls⟩ := z_rc hR hWd hc ha
  obtain ⟨c2, r2, m2, q1, q2, q3, q4, kP, hkP, hkPi⟩ := Cond.selects_spec (hts _ w3)
  cases hcls.symm.trans q1
  cases hf.symm.trans q2
  cases hnamed.symm.trans q3
  have hselP : selectMethod e.platform s.vm cell.cls r0 = .method mk := by rw [Launch.admits_selectMethod X.admits]; exact q4
  have hlen' : As.length = r9.sig.parameters.length := by rw [show parseMethodDescriptor x.desc = some r9.sig from hsigR] at hlen; exact (Option.some.inj hlen).symm
  obtain ⟨vm₁, X₁, hstep₁⟩ := X.invokevirtualUp A.1 hown (hts _ w1) (hts _ w0) howner hn hrm hstR (a := a) (cell := cell) hcell
    (fun z h => by rw [h] at hobj; cases hobj) hselP hmethM habM hkP hkPi (g := F0 m pc ls (As.reverse ++ .ref a :: rest)) rfl (argsL := As) (rest := rest) hlen' rfl hd
  exact ⟨mk, vm₁, _, hnamed, X₁.warmed, X₁, hd, fun target ht => hstep₁ _ fun acts => by rw [doInvoke_state]; exact ht⟩
end ZSITES
