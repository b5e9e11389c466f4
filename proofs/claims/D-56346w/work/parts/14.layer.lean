section ZSITES2
variable {M : zM} {h : zH} {n b f pc : Nat} {lv : List (Nat × Value)} {cc : ByteArray} {own : String}
theorem z_siteF {idx count : Nat} {x y : MethodName} {a ci : Nat} {fs : List Value} {r : vw_C} {As rest : List Value} (hb : zm_c M = cc) (ho : zm_o M = own) (hc : zCL[ci]? = some r) (ha : h a = some (.inr (ci, fs))) (w1 : Cond.methodLink own idx x ∈ lw_all) (wx : x ∈ zIf) (w3 : Cond.selects r.1 x y ∈ lw_all) (w2 : Cond.instanceMethod y ∈ lw_all) (w4 : Cond.publicMethod y ∈ lw_tbl) (w5 : Cond.unhidden r.1 x.name x.desc ∈ lw_tbl) (w6 : Cond.castable r.1 x.cls ∈ lw_tbl) (hlen : (parseMethodDescriptor x.desc).map (fun d => d.parameters.length) = some As.length) (d : decode cc pc = .ok (.invokeinterface idx count, 5)) :
    z_Site M h n y 5 pc (As.reverse ++ .ref a :: rest) rest (.ref a :: As) := by
  intro p e s m args below meth c A T locs k j ls X hR
  have hWd := A.2.2.2.2.1
  have hown : s.vm.findClass own = some m.cls := by rw [← ho]; exact A.2.2.2.1
  have hts := hWd.g args
  have hd : decode c.code pc = .ok (.invokeinterface idx count, 5) := by rw [A.2.1, hb]; exact d
  obtain ⟨hdecl, hface⟩ := hWd.2.2.1 x wx
  obtain ⟨cell, hcell, hobj, hcls⟩ := z_rc hR hWd hc ha
  obtain ⟨kB, hkB, -⟩ := Vm.findClass_spec hcls
  obtain ⟨r0, r9, hn, hrm, hstR, hsigR⟩ := Cond.declares_spec hdecl
  obtain ⟨cL, kL, r1, hcL, hkL, hiL, hfoundL, hn1⟩ := Cond.interfaceMethod_spec hface
  cases hn.symm.trans hn1
  have hr0cls : r0.cls = cL := Option.some.inj ((findClass_of_methodNamed hn).symm.trans hcL)
  obtain ⟨hnameR, hdescR⟩ := name_of_methodNamed hn hrm
  obtain ⟨mk, methM, hnamed, hmethM, -, habM⟩ := Cond.instanceMethod_spec (hts _ w2)
  obtain ⟨c2, r2, m2, q1, q2, q3, q4, -⟩ := Cond.selects_spec (hts _ w3)
  cases hcls.symm.trans q1
  cases hfoundL.symm.trans q2
  cases hnamed.symm.trans q3
  have hselP : selectMethod e.platform s.vm cell.cls r0 = .method mk := by rw [Launch.admits_selectMethod X.admits]; exact q4
  have hpubM : hasFlag methM.accessFlags Acc.public_ = true := Cond.publicMethod_spec hnamed hmethM (hWd.w w4 rfl rfl args)
  have hway : ((cell.cls :: s.vm.superclasses cell.cls).any fun k => (declaredIn s.vm r9.name r9.desc k).any fun (_, z) => z.isPrivate || z.isStatic) = false := by
    rw [hnameR, hdescR]; exact Cond.unhidden_spec hcls (hWd.w w5 rfl rfl args)
  obtain ⟨c3, t3, w7, w8, w9⟩ := Cond.castable_spec (hWd.w w6 rfl rfl args)
  cases hcls.symm.trans w7
  cases hcL.symm.trans w8
  have hlen' : As.length = r9.sig.parameters.length := by rw [hsigR] at hlen; exact (Option.some.inj hlen).symm
  obtain ⟨vm₁, X₁, hstep₁⟩ := X.invokeinterface A.1 hown (hts _ w1) hn hrm hstR (by rw [hr0cls]; exact hkL) hiL (zIf_ok x wx) (a := a) (cell := cell) (kcell := kB) hcell
    (fun z h => by rw [h] at hobj; cases hobj) hkB (by rw [hr0cls]; exact w9) hselP hmethM hway hpubM habM (g := F0 m pc ls (As.reverse ++ .ref a :: rest)) rfl (argsL := As) (rest := rest) hlen' rfl hd
  exact ⟨mk, vm₁, _, hnamed, X₁.warmed, X₁, hd, fun target ht => hstep₁ _ fun acts => by rw [doInvoke_state]; exact ht⟩
/-- Object's constructor -/
theorem z_oinit {a idx : Nat} {rest : List Value} (hb : zm_c M = cc) (ho : zm_o M = own) {r0 mc0 ms0 : Nat} (hrm : zm_R M = z_rm r0 mc0 ms0) (h1 : 1 ≤ r0) (w1 : Cond.methodLink own idx Lib.objectInit ∈ lw_all) (w2 : Cond.instanceMethod Lib.objectInit ∈ lw_all) (w3 : Cond.code Lib.objectInit ⟨#[0xb1]⟩ 1 none ∈ lw_all) (hst : (rest.map fun v => v.category).sum ≤ 100) (d : decode cc pc = .ok (.invokespecial idx, 3)) (kk : z_V M h n b f (pc + 3) lv rest) : z_V M h n b f pc lv (.ref a :: rest) := by
  intro p e s m args below meth c A H locs ls k9 j9 hR hsz hlo hlv hk9 hj9
  have hW := A.2.2.2.2.1
  have hown : s.vm.findClass own = some m.cls := by rw [← ho]; exact A.2.2.2.1
  have h6 : (zm_R M).frames = r0 := by rw [hrm]
  have h7 : (zm_R M).locals = 200 * r0 := by rw [hrm]
  exact W.objInit A.1 (A.2.1.trans hb) hown (hW.g args _ w1) (hW.g args _ w2) (hW.g args _ w3) rfl (by rw [A.2.2.1]; exact hlv.1) rfl d (by omega) (by show 2 * 0 + (rest.map fun v => v.category).sum + 12 ≤ _; omega) (kk p e s m args below meth c A H locs ls k9 j9 hR hsz hlo hlv hk9 hj9)
end ZSITES2
/-- a method's contract out of a walk from its entry -/
theorem z_start {l : Launch} {G : zG} {y : MethodName} {r mc ms : Nat} {av : List Value} {h : zH} {n : Nat} {Q : zQ} {bytes : ByteArray} {maxL : Nat} {ret : Option FieldType} {hh : List (Nat × Nat × Nat × Nat)} (hcode : z_code y bytes maxL ret hh) (hy : plainName y.cls = true) (hav : (lg_sl av).length ≤ maxL)
    (body : z_n0 G ≤ n → ∀ M : zM, zm_l M = l → zm_G M = G → zm_o M = y.cls → zm_c M = bytes → zm_n M = maxL → zm_r M = ret → zm_m M = y.name → zm_h M = hh → zm_R M = z_rm r mc ms → zm_Q M = Q → z_V M h n mc ms 0 (lv_args 0 av) []) : z_C l G y r mc ms av h n Q := by
  intro hfl
  have spec : ∀ {args : Array Value} {s : State} {m : MethodId}, (headSpec lw_all (z_rm r mc ms)).pre.before args s = true → s.methodNamed? y = some m → ∃ meth c, s.vm.method? m = some meth ∧ meth.code = some c ∧ c.code = bytes ∧ c.maxLocals = maxL ∧ meth.sig.returnType = ret ∧ meth.locks = false ∧ c.exceptionTable.toList = tableOf hh := by
    intro args s m hp hn
    have hts := atoms_spec (ws := lw_all) hp
    rcases hcode with ⟨h1, h2⟩ | h2
    · obtain ⟨meth, c, g1, g2, g3, g4, g5, g6, g7, g8⟩ := Cond.code_spec hn (hts _ h2)
      refine ⟨meth, c, g1, g2, g3, g4, g5, g6, ?_⟩
      rw [Array.isEmpty_iff.mp g7, h1]
      rfl
    · obtain ⟨m9, meth, c, hn9, g1, g2, g3, g4, g6, g5, g7, g8⟩ := Cond.codeWith_spec (hts _ h2)
      cases hn.symm.trans hn9
      exact ⟨meth, c, g1, g2, g3, g4, g5, g7, by rw [← g6, table_eq]⟩
  refine MetFree.of_bodyS (code := bytes) (maxLocals := maxL) (ret := ret) hy ?_ ?_
  · intro args s m hp hn
    obtain ⟨meth, c, g1, g2, g3, g4, g5, g6, -⟩ := spec hp hn
    exact ⟨meth, c, g1, g2, g3, g4, g5, g6⟩
  · intro p e s m args below meth c s₁ B hml hP _
    obtain ⟨rfl, hR, hWd⟩ := hP
    have hh0 : s₁.heap = s.heap := by rw [B.state]; rfl
    obtain ⟨meth9, c9, g1, g2, -, -, -, -, g7⟩ := spec B.pre B.named
    cases Option.some.inj (g1.symm.trans B.method)
    cases Option.some.inj (g2.symm.trans (Stand.of_body B).code)
    have hl := lv_entry av (n := maxL) hav
    obtain ⟨t, a1, o, b1, b2, b3⟩ := body hR.2.1 (l, G, y.cls, bytes, maxL, ret, y.name, hh, z_rm r mc ms, Q) rfl rfl rfl rfl rfl rfl rfl rfl rfl rfl p e s m av.toArray below meth c
      ⟨B.exec, B.bytes, hml, findClass_of_methodNamed B.named, hWd, B.returns, B.notSynchronized, (name_of_methodNamed B.named B.method).1, g7, by show z_n0 G ≤ _; rw [hR.1]; exact hR.2.1, hR.2.2.1, hfl⟩ s.heap [] _ 0 0 hR (Nat.le_of_eq hR.1) (fun _ h => by cases h) hl (by show 0 + mc ≤ mc; omega) (by show 0 + ms ≤ ms; omega) s₁ hh0 (Stand.of_body B)
    refine ⟨t, o, ?_, b1, b2, b3⟩
    rw [lg_entry_eq]
    exact a1
theorem W.z_mono {p : Program} {l : Launch} {e : Env} {R : Room} {s : State} {m : MethodId} {args : Array Value} {below : List Frame} {meth : Method} {c : Code} {H : Heap} {locs : List Loc} {k j : Nat} {Q Q' : State → Prop} {g : JFrame} (hq : ∀ t, Q t → Q' t) (w : W p l e R s m args below meth c H locs k j Q g) : W p l e R s m args below meth c H locs k j Q' g := by
  intro T hT X
  obtain ⟨t, a, b⟩ := w T hT X
  exact ⟨t, a, hq t b⟩
section ZRET
variable {M : zM} {h : zH} {n b f pc : Nat} {lv : List (Nat × Value)} {cc : ByteArray} {own : String}
theorem z_end {v : Option Value} {p : Program} {e : Env} {s : State} {m : MethodId} {args : Array Value} {below : List Frame} {meth : Method} {c : Code} {H : Heap} {locs : List Loc} {ls : Array Slot} {k j : Nat} {st : List Value} (hR : z_R (zm_G M) h n H) (hk : k + b ≤ (zm_R M).cells) (hj : j + f ≤ (zm_R M).slots) (hlo : ∀ q ∈ locs, z_n0 (zm_G M) ≤ q.base) (hq : zm_Q M (.returned v) h n)
    (w : W p (zm_l M) e (zm_R M) s m args below meth c H locs (zm_R M).cells (zm_R M).slots (MQ below (fun _ _ o t => o = .returned v ∧ t.heap = H) args s (zm_R M).cells (zm_R M).slots (fun a => z_n0 (zm_G M) ≤ a)) (F0 m pc ls st)) :
    W p (zm_l M) e (zm_R M) s m args below meth c H locs k j (z_MQ M below args s) (F0 m pc ls st) := by
  refine W.widen (k := (zm_R M).cells) (n := (zm_R M).slots) (by omega) (by omega) (W.z_mono ?_ w)
  rintro t ⟨o, h1, h2, ⟨rfl, hH⟩, L, ⟨-, hW, hsm⟩, hL⟩
  have hn := hR.1
  subst hn
  exact ⟨_, h1, h2, Or.inl ⟨_, rfl⟩, ⟨h, by rw [hH]; exact hR, by rw [hH]; exact hq⟩, L, hW, hsm, hL⟩
theorem z_zret {x : Int32} {ty : FieldType} (hb : zm_c M = cc) (hr : zm_r M = some ty) (hn : narrow ty (.int x) = .int x) (d : decode cc pc = .ok (.ireturn, 1)) (hq : zm_Q M (.returned (some (.int x))) h n) : z_V M h n b f pc lv [.int x] :=
  fun p e s m args below meth c A H locs ls k j hR hsz hlo hlv hk hj => z_end hR hk hj hlo hq (W.zret A.1 (A.2.1.trans hb) (A.2.2.2.2.2.1.trans hr) hn (fun t ht _ => ⟨rfl, ht⟩) hlo d A.2.2.2.2.2.2.1)
theorem z_iret {x : Int32} (hb : zm_c M = cc) (hr : zm_r M = some .int) (d : decode cc pc = .ok (.ireturn, 1)) (hq : zm_Q M (.returned (some (.int x))) h n) : z_V M h n b f pc lv [.int x] := z_zret hb hr rfl d hq
theorem z_lret {x : Int64} (hb : zm_c M = cc) (hr : zm_r M = some .long) (d : decode cc pc = .ok (.lreturn, 1)) (hq : zm_Q M (.returned (some (.long x))) h n) : z_V M h n b f pc lv [.long x] :=
  fun p e s m args below meth c A H locs ls k j hR hsz hlo hlv hk hj => z_end hR hk hj hlo hq (W.lret A.1 (A.2.1.trans hb) (A.2.2.2.2.2.1.trans hr) (fun t ht _ => ⟨rfl, ht⟩) hlo d A.2.2.2.2.2.2.1)
theorem z_vret (hb : zm_c M = cc) (hr : zm_r M = none) (d : decode cc pc = .ok (.return_, 1)) (hq : zm_Q M (.returned none) h n) : z_V M h n b f pc lv [] :=
  fun p e s m args below meth c A H locs ls k j hR hsz hlo hlv hk hj => z_end hR hk hj hlo hq (W.vret A.1 (A.2.1.trans hb) (A.2.2.2.2.2.1.trans hr) (fun t ht _ => ⟨rfl, ht⟩) hlo d A.2.2.2.2.2.2.1)
theorem z_aret {v : Value} {rt : FieldType} (hb : zm_c M = cc) (hr : zm_r M = some rt) (hrt : (∃ n, rt = .object n) ∨ ∃ t, rt = .array t) (hv : v = .null ∨ ∃ a, v = .ref a) (d : decode cc pc = .ok (.areturn, 1)) (hq : zm_Q M (.returned (some v)) h n) : z_V M h n b f pc lv [v] :=
  fun p e s m args below meth c A H locs ls k j hR hsz hlo hlv hk hj => z_end hR hk hj hlo hq (W.aret A.1 (A.2.1.trans hb) (A.2.2.2.2.2.1.trans hr) hrt hv (fun t ht _ => ⟨rfl, ht⟩) hlo d A.2.2.2.2.2.2.1)
end ZRET
