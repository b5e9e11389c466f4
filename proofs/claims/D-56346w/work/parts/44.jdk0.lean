section ZJ
variable {M : zM} {h : zH} {n b f pc : Nat} {lv : List (Nat × Value)} {rest : List Value} {cc : ByteArray} {own : String}
theorem z_ldcM {idx : Nat} (hb : zm_c M = cc) (ho : zm_o M = own) (w : Cond.classLink own idx "[Ljava/lang/Object;" ∈ lw_all) (d : decode cc pc = .ok (.ldc idx, 2)) (kk : z_V M h n b f (pc + 2) lv (.ref ((zm_G M).2.2.1 1005) :: rest)) : z_V M h n b f pc lv rest := by
  intro p e s m args below meth c A H locs ls k9 j9 hR hsz hlo hlv hk9 hj9
  have hW := A.2.2.2.2.1
  have hown : s.vm.findClass own = some m.cls := by rw [← ho]; exact A.2.2.2.1
  exact va_ldcM A.1 (A.2.1.trans hb) hown (hW.g args _ w) hW.2.2.2.2.2.2.2.2.1 d (kk p e s m args below meth c A H locs ls k9 j9 hR hsz hlo hlv hk9 hj9)
theorem z_getC {idx N a : Nat} {x : Nat → Option Nat} {r0 mc0 ms0 : Nat} (hb : zm_c M = cc) (ho : zm_o M = own) (hrm : zm_R M = z_rm r0 mc0 ms0) (hr0 : 1 ≤ r0) (w1 : Cond.methodLink own idx ⟨"java/lang/Object", "getClass", "()Ljava/lang/Class;"⟩ ∈ lw_all) (w2 : Cond.declares ⟨"java/lang/Object", "getClass", "()Ljava/lang/Class;"⟩ ∈ lw_tbl) (w3 : Cond.selects "[Ljava/lang/Object;" ⟨"java/lang/Object", "getClass", "()Ljava/lang/Class;"⟩ ⟨"java/lang/Object", "getClass", "()Ljava/lang/Class;"⟩ ∈ lw_all) (w4 : Cond.instanceMethod ⟨"java/lang/Object", "getClass", "()Ljava/lang/Class;"⟩ ∈ lw_all) (w5 : Cond.native ⟨"java/lang/Object", "getClass", "()Ljava/lang/Class;"⟩ ∈ lw_all) (d : decode cc pc = .ok (.invokevirtual idx, 3))
    (ha : h a = some (z_ao (zm_G M) N x)) (h0 : z_n0 (zm_G M) ≤ a) (hst : (rest.map fun v => v.category).sum ≤ 100) (kk : z_V M h n b f (pc + 3) lv (.ref ((zm_G M).2.2.1 1005) :: rest)) : z_V M h n b f pc lv (.ref a :: rest) := by
  intro p e s m args below meth c A H locs ls k9 j9 hR hsz hlo hlv hk9 hj9
  have hW := A.2.2.2.2.1
  have hown : s.vm.findClass own = some m.cls := by rw [← ho]; exact A.2.2.2.1
  have h6 : (zm_R M).frames = r0 := by rw [hrm]
  have h7 : (zm_R M).locals = 200 * r0 := by rw [hrm]
  have hty : zTy[5]? = some (.object "java/lang/Object") := rfl
  have hc1 : H[a]? = some (vp_cell ((zm_G M).2.1 5) (N, .inr (.inr (.inr (.inr x))))) := z_rs hR hW h0 ha
  have hA := hW.1.2 5 _ (z_tyk (G := zm_G M) hty)
  exact va_getC A.1 (A.2.1.trans hb) (A.2.2.1.trans hlv.1.symm) hown (hW.g args _ w1) (hW.w w2 rfl rfl args) (hW.g args _ w3) (hW.g args _ w4) (hW.g args _ w5) hW.2.2.2.2.2.2.2.2.1 ⟨_, hc1, rfl, va_nmO hA.2 rfl⟩ (by omega) (by omega) d (kk p e s m args below meth c A H locs ls k9 j9 hR hsz hlo hlv hk9 hj9)
theorem z_mmax {idx : Nat} {x y : Int32} {r0 mc0 ms0 : Nat} (hb : zm_c M = cc) (ho : zm_o M = own) (hrm : zm_R M = z_rm r0 mc0 ms0) (hr0 : 1 ≤ r0) (w1 : Cond.methodLink own idx Lib.Math.max.name ∈ lw_all) (w2 : Cond.static Lib.Math.max.name ∈ lw_all) (w3 : Cond.initialized "java/lang/Math" ∈ lw_all) (w4 : Cond.code Lib.Math.max.name Lib.Math.max.code 2 (some .int) ∈ lw_all) (d : decode cc pc = .ok (.invokestatic idx, 3)) (hst : (rest.map fun v => v.category).sum ≤ 100)
    (kk : z_V M h n b f (pc + 3) lv (.int (if x < y then y else x) :: rest)) : z_V M h n b f pc lv (.int y :: .int x :: rest) := by
  intro p e s m args below meth c A H locs ls k9 j9 hR hsz hlo hlv hk9 hj9
  have hW := A.2.2.2.2.1
  have hown : s.vm.findClass own = some m.cls := by rw [← ho]; exact A.2.2.2.1
  have h6 : (zm_R M).frames = r0 := by rw [hrm]
  have h7 : (zm_R M).locals = 200 * r0 := by rw [hrm]
  exact va_mmax A.1 (A.2.1.trans hb) (A.2.2.1.trans hlv.1.symm) hown (hW.g args _ w1) (hW.g args _ w2) (hW.g args _ w3) (hW.g args _ w4) (by omega) (by omega) (by omega) (by omega) d (kk p e s m args below meth c A H locs ls k9 j9 hR hsz hlo hlv hk9 hj9)
theorem z_mmin {idx : Nat} {x y : Int32} {r0 mc0 ms0 : Nat} (hb : zm_c M = cc) (ho : zm_o M = own) (hrm : zm_R M = z_rm r0 mc0 ms0) (hr0 : 1 ≤ r0) (w1 : Cond.methodLink own idx Lib.Math.min.name ∈ lw_all) (w2 : Cond.static Lib.Math.min.name ∈ lw_all) (w3 : Cond.initialized "java/lang/Math" ∈ lw_all) (w4 : Cond.code Lib.Math.min.name Lib.Math.min.code 2 (some .int) ∈ lw_all) (d : decode cc pc = .ok (.invokestatic idx, 3)) (hst : (rest.map fun v => v.category).sum ≤ 100)
    (kk : z_V M h n b f (pc + 3) lv (.int (if y < x then y else x) :: rest)) : z_V M h n b f pc lv (.int y :: .int x :: rest) := by
  intro p e s m args below meth c A H locs ls k9 j9 hR hsz hlo hlv hk9 hj9
  have hW := A.2.2.2.2.1
  have hown : s.vm.findClass own = some m.cls := by rw [← ho]; exact A.2.2.2.1
  have h6 : (zm_R M).frames = r0 := by rw [hrm]
  have h7 : (zm_R M).locals = 200 * r0 := by rw [hrm]
  exact va_mmin A.1 (A.2.1.trans hb) (A.2.2.1.trans hlv.1.symm) hown (hW.g args _ w1) (hW.g args _ w2) (hW.g args _ w3) (hW.g args _ w4) (by omega) (by omega) (by omega) (by omega) d (kk p e s m args below meth c A H locs ls k9 j9 hR hsz hlo hlv hk9 hj9)
theorem z_lmax {idx : Nat} {x y : Int64} {r0 mc0 ms0 : Nat} (hb : zm_c M = cc) (ho : zm_o M = own) (hrm : zm_R M = z_rm r0 mc0 ms0) (hr0 : 1 ≤ r0) (w1 : Cond.methodLink own idx Lib.MathLoose.max_long.x ∈ lw_all) (w2 : Cond.static Lib.MathLoose.max_long.x ∈ lw_all) (w3 : Cond.initialized "java/lang/Math" ∈ lw_all) (w4 : Cond.code Lib.MathLoose.max_long.x Lib.MathLoose.max_long.code 4 (some .long) ∈ lw_all) (d : decode cc pc = .ok (.invokestatic idx, 3)) (hst : (rest.map fun v => v.category).sum ≤ 100)
    (kk : z_V M h n b f (pc + 3) lv (.long (if y < x then x else y) :: rest)) : z_V M h n b f pc lv (.long y :: .long x :: rest) := by
  intro p e s m args below meth c A H locs ls k9 j9 hR hsz hlo hlv hk9 hj9
  have hW := A.2.2.2.2.1
  have hown : s.vm.findClass own = some m.cls := by rw [← ho]; exact A.2.2.2.1
  have h6 : (zm_R M).frames = r0 := by rw [hrm]
  have h7 : (zm_R M).locals = 200 * r0 := by rw [hrm]
  exact va_mmax_long A.1 (A.2.1.trans hb) (A.2.2.1.trans hlv.1.symm) hown (hW.g args _ w1) (hW.g args _ w2) (hW.g args _ w3) (hW.g args _ w4) (by omega) (by omega) (by omega) (by omega) d (kk p e s m args below meth c A H locs ls k9 j9 hR hsz hlo hlv hk9 hj9)
theorem z_lmin {idx : Nat} {x y : Int64} {r0 mc0 ms0 : Nat} (hb : zm_c M = cc) (ho : zm_o M = own) (hrm : zm_R M = z_rm r0 mc0 ms0) (hr0 : 1 ≤ r0) (w1 : Cond.methodLink own idx Lib.MathLoose.min_long.x ∈ lw_all) (w2 : Cond.static Lib.MathLoose.min_long.x ∈ lw_all) (w3 : Cond.initialized "java/lang/Math" ∈ lw_all) (w4 : Cond.code Lib.MathLoose.min_long.x Lib.MathLoose.min_long.code 4 (some .long) ∈ lw_all) (d : decode cc pc = .ok (.invokestatic idx, 3)) (hst : (rest.map fun v => v.category).sum ≤ 100)
    (kk : z_V M h n b f (pc + 3) lv (.long (if y < x then y else x) :: rest)) : z_V M h n b f pc lv (.long y :: .long x :: rest) := by
  intro p e s m args below meth c A H locs ls k9 j9 hR hsz hlo hlv hk9 hj9
  have hW := A.2.2.2.2.1
  have hown : s.vm.findClass own = some m.cls := by rw [← ho]; exact A.2.2.2.1
  have h6 : (zm_R M).frames = r0 := by rw [hrm]
  have h7 : (zm_R M).locals = 200 * r0 := by rw [hrm]
  exact va_mmin_long A.1 (A.2.1.trans hb) (A.2.2.1.trans hlv.1.symm) hown (hW.g args _ w1) (hW.g args _ w2) (hW.g args _ w3) (hW.g args _ w4) (by omega) (by omega) (by omega) (by omega) d (kk p e s m args below meth c A H locs ls k9 j9 hR hsz hlo hlv hk9 hj9)
end ZJ

theorem z_startF {l : Launch} {G : zG} {y : MethodName} {r mc ms : Nat} {av : List Value} {h : zH} {n : Nat} {Q : zQ} {bytes : ByteArray} {maxL : Nat} {ret : Option FieldType} {hh : List (Nat × Nat × Nat × Nat)} (hcode : z_code y bytes maxL ret hh) (hy : plainFor y = true) (hav : (lg_sl av).length ≤ maxL)
    (body : z_n0 G ≤ n → ∀ M : zM, zm_l M = l → zm_G M = G → zm_o M = y.cls → zm_c M = bytes → zm_n M = maxL → zm_r M = ret → zm_m M = y.name → zm_h M = hh → zm_R M = z_rm r mc ms → zm_Q M = Q → z_V M h n mc ms 0 (lv_args 0 av) []) : z_C l G y r mc ms av h n Q := by
  intro hfl
  have spec : ∀ {args : Array Value} {s : State} {m : MethodId}, (headSpec lw_all (z_rm r mc ms)).pre.before args s = true → s.methodNamed? y = some m → ∃ meth c, s.vm.method? m = some meth ∧ meth.code = some c ∧ c.code = bytes ∧ c.maxLocals = maxL ∧ meth.sig.returnType = ret ∧ meth.locks = false ∧ c.exceptionTable.toList = tableOf hh := by
    intro args s m hp hn
    have hts := atoms_spec (ws := lw_all) hp
    rcases hcode with ⟨h1, h2⟩ | h2
    · obtain ⟨meth, c, g1, g2, g3, g4, g5, g6, g7, g8⟩ := Cond.code_spec hn (hts _ h2)
      refine ⟨meth, c, g1, g2, g3, g4, g5, g6, ?_⟩
      rw [Array.isEmpty_iff.mp g7, h1]
      rfl
    · obtain ⟨m9, meth, c, hn9, g1, g2, g3, g4, g6, g5, g7, g8⟩ := Cond.codeWith_spec (hts _ h2)
      cases hn.symm.trans hn9
      exact ⟨meth, c, g1, g2, g3, g4, g5, g7, by rw [← g6, table_eq]⟩
  refine MetFree.of_bodySF (code := bytes) (maxLocals := maxL) (ret := ret) hy ?_ ?_
  · intro args s m hp hn
    obtain ⟨meth, c, g1, g2, g3, g4, g5, g6, -⟩ := spec hp hn
    exact ⟨meth, c, g1, g2, g3, g4, g5, g6⟩
  · intro p e s m args below meth c s₁ B hml hP _
    obtain ⟨rfl, hR, hWd⟩ := hP
    have hh0 : s₁.heap = s.heap := by rw [B.state]; rfl
    obtain ⟨meth9, c9, g1, g2, -, -, -, -, g7⟩ := spec B.pre B.named
    cases Option.some.inj (g1.symm.trans B.method)
    cases Option.some.inj (g2.symm.trans (Stand.of_body B).code)
    have hl := lv_entry av (n := maxL) hav
    obtain ⟨t, a1, o, b1, b2, b3⟩ := body hR.2.1 (l, G, y.cls, bytes, maxL, ret, y.name, hh, z_rm r mc ms, Q) rfl rfl rfl rfl rfl rfl rfl rfl rfl rfl p e s m av.toArray below meth c
      ⟨B.exec, B.bytes, hml, findClass_of_methodNamed B.named, hWd, B.returns, B.notSynchronized, (name_of_methodNamed B.named B.method).1, g7, by show z_n0 G ≤ _; rw [hR.1]; exact hR.2.1, hR.2.2.1, hfl⟩ s.heap [] _ 0 0 hR (Nat.le_of_eq hR.1) (fun _ h => by cases h) hl (by show 0 + mc ≤ mc; omega) (by show 0 + ms ≤ ms; omega) s₁ hh0 (Stand.of_body B)
    refine ⟨t, o, ?_, b1, b2, b3⟩
    rw [lg_entry_eq]
    exact a1

theorem z_toR {M : zM} {h : zH} {n b f pc z : Nat} {lv : List (Nat × Value)} {rest : List Value} {y : Option Nat} (e : y = some z) (k : z_V M h n b f pc lv (.ref z :: rest)) : z_V M h n b f pc lv (va_rf y :: rest) := by
  rw [e]; exact k
theorem z_rfv (y : Option Nat) : va_rf y = .null ∨ ∃ a, va_rf y = .ref a := by
  cases y
  · exact Or.inl rfl
  · exact Or.inr ⟨_, rfl⟩

