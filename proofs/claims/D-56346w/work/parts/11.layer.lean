section ZA
variable {M : zM} {G : zG} {h : zH} {n b f pc : Nat} {lv : List (Nat × Value)} {rest : List Value} {cc : ByteArray} {own : String}
theorem z_alen {kk N a : Nat} {x : zAr} {ty : FieldType} (hb : zm_c M = cc) (ht : zTy[kk]? = some ty) (d : decode cc pc = .ok (.arraylength, 1)) (ha : h a = some (.inl ((zm_G M).2.1 kk, N, x))) (kk9 : z_V M h n b f (pc + 1) lv (.int (nI N) :: rest)) : z_V M h n b f pc lv (.ref a :: rest) := by
  intro p e s m args below meth c A H locs ls k9 j9 hR hsz hlo hlv hk9 hj9
  obtain ⟨cell, g1, g2, g3, g4, g5, g6⟩ := z_ra hR A.2.2.2.2.1 ht ha
  exact W.alen A.1 (A.2.1.trans hb) g1 g2 g5 rfl rfl d (kk9 p e s m args below meth c A H locs ls k9 j9 hR hsz hlo hlv hk9 hj9)
theorem z_iald {N j a : Nat} {x : Nat → Int32} {i : Int32} (hb : zm_c M = cc) (d : decode cc pc = .ok (.iaload, 1)) (ha : h a = some (.inl ((zm_G M).2.1 0, N, .inl x))) (hi : i = nI j) (hj : j < N) (hN : N < 2 ^ 31) (kk9 : z_V M h n b f (pc + 1) lv (.int (x j) :: rest)) : z_V M h n b f pc lv (.int i :: .ref a :: rest) := by
  intro p e s m args below meth c A H locs ls k9 j9 hR hsz hlo hlv hk9 hj9
  obtain ⟨cell, g1, g2, g3, g4, g5, g6⟩ := z_ra (kk := 0) (ty := .int) hR A.2.2.2.2.1 rfl ha
  have hc : i.toNatClampNeg = j := by rw [hi, nI_clamp (by omega)]
  exact W.iald (v := .int (x j)) A.1 (A.2.1.trans hb) g1 g2 g3 (z_in hi hj hN g4) (by rw [hc]; exact g6 j hj) rfl rfl d (kk9 p e s m args below meth c A H locs ls k9 j9 hR hsz hlo hlv hk9 hj9)
theorem z_zald {N j a : Nat} {x : Nat → Int32} {i : Int32} (hb : zm_c M = cc) (d : decode cc pc = .ok (.baload, 1)) (ha : h a = some (.inl ((zm_G M).2.1 2, N, .inl x))) (hi : i = nI j) (hj : j < N) (hN : N < 2 ^ 31) (kk9 : z_V M h n b f (pc + 1) lv (.int (x j) :: rest)) : z_V M h n b f pc lv (.int i :: .ref a :: rest) := by
  intro p e s m args below meth c A H locs ls k9 j9 hR hsz hlo hlv hk9 hj9
  obtain ⟨cell, g1, g2, g3, g4, g5, g6⟩ := z_ra (kk := 2) (ty := .boolean) hR A.2.2.2.2.1 rfl ha
  have hc : i.toNatClampNeg = j := by rw [hi, nI_clamp (by omega)]
  exact W.zald (v := .int (x j)) A.1 (A.2.1.trans hb) g1 g2 g3 (z_in hi hj hN g4) (by rw [hc]; exact g6 j hj) rfl rfl d (kk9 p e s m args below meth c A H locs ls k9 j9 hR hsz hlo hlv hk9 hj9)
theorem z_bald {N j a : Nat} {x : Nat → Int32} {i : Int32} (hb : zm_c M = cc) (d : decode cc pc = .ok (.baload, 1)) (ha : h a = some (.inl ((zm_G M).2.1 3, N, .inl x))) (hi : i = nI j) (hj : j < N) (hN : N < 2 ^ 31) (kk9 : z_V M h n b f (pc + 1) lv (.int (x j) :: rest)) : z_V M h n b f pc lv (.int i :: .ref a :: rest) := by
  intro p e s m args below meth c A H locs ls k9 j9 hR hsz hlo hlv hk9 hj9
  obtain ⟨cell, g1, g2, g3, g4, g5, g6⟩ := z_ra (kk := 3) (ty := .byte) hR A.2.2.2.2.1 rfl ha
  have hc : i.toNatClampNeg = j := by rw [hi, nI_clamp (by omega)]
  exact W.bald (v := .int (x j)) A.1 (A.2.1.trans hb) g1 g2 g3 (z_in hi hj hN g4) (by rw [hc]; exact g6 j hj) rfl rfl d (kk9 p e s m args below meth c A H locs ls k9 j9 hR hsz hlo hlv hk9 hj9)
theorem z_lald {N j a : Nat} {x : Nat → Int64} {i : Int32} (hb : zm_c M = cc) (d : decode cc pc = .ok (.laload, 1)) (ha : h a = some (.inl ((zm_G M).2.1 1, N, .inr (.inl x)))) (hi : i = nI j) (hj : j < N) (hN : N < 2 ^ 31) (kk9 : z_V M h n b f (pc + 1) lv (.long (x j) :: rest)) : z_V M h n b f pc lv (.int i :: .ref a :: rest) := by
  intro p e s m args below meth c A H locs ls k9 j9 hR hsz hlo hlv hk9 hj9
  obtain ⟨cell, g1, g2, g3, g4, g5, g6⟩ := z_ra (kk := 1) (ty := .long) hR A.2.2.2.2.1 rfl ha
  have hc : i.toNatClampNeg = j := by rw [hi, nI_clamp (by omega)]
  exact W.lald (v := .long (x j)) A.1 (A.2.1.trans hb) g1 g2 g3 (z_in hi hj hN g4) (by rw [hc]; exact g6 j hj) rfl rfl d (kk9 p e s m args below meth c A H locs ls k9 j9 hR hsz hlo hlv hk9 hj9)
theorem z_aald {N j a : Nat} {x : Nat → Option Nat} {i : Int32} (hb : zm_c M = cc) (d : decode cc pc = .ok (.aaload, 1)) (ha : h a = some (.inl ((zm_G M).2.1 5, N, .inr (.inr (.inr (.inr x)))))) (hi : i = nI j) (hj : j < N) (hN : N < 2 ^ 31) (kk9 : z_V M h n b f (pc + 1) lv (va_rf (x j) :: rest)) : z_V M h n b f pc lv (.int i :: .ref a :: rest) := by
  intro p e s m args below meth c A H locs ls k9 j9 hR hsz hlo hlv hk9 hj9
  obtain ⟨cell, g1, g2, g3, g4, g5, g6⟩ := z_ra (kk := 5) (ty := .object "java/lang/Object") hR A.2.2.2.2.1 rfl ha
  have hc : i.toNatClampNeg = j := by rw [hi, nI_clamp (by omega)]
  exact W.aald (v := va_rf (x j)) A.1 (A.2.1.trans hb) g1 g2 rfl g3 (z_in hi hj hN g4) (by rw [hc]; exact g6 j hj) rfl rfl d (kk9 p e s m args below meth c A H locs ls k9 j9 hR hsz hlo hlv hk9 hj9)
theorem z_upd {α : Type} (mk : α → Value) (x : Nat → α) (j : Nat) (v : α) : updV (fun q => mk (x q)) j (mk v) = fun q => mk (va_up x j v q) := by
  funext q
  by_cases hq : q = j
  · subst hq; simp [updV, va_up]
  · simp [updV, va_up, hq]
theorem z_iast {N j a : Nat} {x : Nat → Int32} {i : Int32} {v : Int32} (hb : zm_c M = cc) (d : decode cc pc = .ok (.iastore, 1)) (ha : h a = some (.inl ((zm_G M).2.1 0, N, .inl x))) (h0 : z_n0 (zm_G M) ≤ a) (hi : i = nI j) (hj : j < N) (hN : N < 2 ^ 31) (kk9 : z_V M (z_up h a (.inl ((zm_G M).2.1 0, N, .inl (va_up x j v)))) n b f (pc + 1) lv rest) : z_V M h n b f pc lv (.int v :: .int i :: .ref a :: rest) := by
  intro p e s m args below meth c A H locs ls k9 j9 hR hsz hlo hlv hk9 hj9
  obtain ⟨cell, g1, g2, g3, g4, g5, g6⟩ := z_ra (kk := 0) (ty := .int) hR A.2.2.2.2.1 rfl ha
  have hc : i.toNatClampNeg = j := by rw [hi, nI_clamp (by omega)]
  have hat : H[a]? = some (vp_cell ((zm_G M).2.1 0) (N, .inl x)) := z_rs hR A.2.2.2.2.1 h0 ha
  have hcell : cell = vp_cell ((zm_G M).2.1 0) (N, .inl x) := Option.some.inj (g1.symm.trans hat)
  refine W.iast A.1 (A.2.1.trans hb) g1 g2 g3 (z_in hi hj hN g4) rfl rfl d fun H1 e1 z1 o1 => ?_
  refine kk9 p e s m args below meth c A H1 _ ls k9 j9 (hR.put h0 z1 o1 ?_) hsz (fun q hq => ?_) hlv hk9 hj9
  · show H1[a]? = some (vp_cell _ _)
    rw [e1, hcell, vp_cell_i, vp_cell_i, hc, arrV_store, z_upd (fun z => .int z)]
  · rcases List.mem_append.mp hq with g | g
    · exact hlo q g
    · rw [List.mem_singleton] at g; rw [g]; exact h0
theorem z_last {N j a : Nat} {x : Nat → Int64} {i : Int32} {v : Int64} (hb : zm_c M = cc) (d : decode cc pc = .ok (.lastore, 1)) (ha : h a = some (.inl ((zm_G M).2.1 1, N, .inr (.inl x)))) (h0 : z_n0 (zm_G M) ≤ a) (hi : i = nI j) (hj : j < N) (hN : N < 2 ^ 31) (kk9 : z_V M (z_up h a (.inl ((zm_G M).2.1 1, N, .inr (.inl (va_up x j v))))) n b f (pc + 1) lv rest) : z_V M h n b f pc lv (.long v :: .int i :: .ref a :: rest) := by
  intro p e s m args below meth c A H locs ls k9 j9 hR hsz hlo hlv hk9 hj9
  obtain ⟨cell, g1, g2, g3, g4, g5, g6⟩ := z_ra (kk := 1) (ty := .long) hR A.2.2.2.2.1 rfl ha
  have hc : i.toNatClampNeg = j := by rw [hi, nI_clamp (by omega)]
  have hat : H[a]? = some (vp_cell ((zm_G M).2.1 1) (N, .inr (.inl x))) := z_rs hR A.2.2.2.2.1 h0 ha
  have hcell : cell = vp_cell ((zm_G M).2.1 1) (N, .inr (.inl x)) := Option.some.inj (g1.symm.trans hat)
  refine W.last A.1 (A.2.1.trans hb) g1 g2 g3 (z_in hi hj hN g4) rfl rfl d fun H1 e1 z1 o1 => ?_
  refine kk9 p e s m args below meth c A H1 _ ls k9 j9 (hR.put h0 z1 o1 ?_) hsz (fun q hq => ?_) hlv hk9 hj9
  · show H1[a]? = some (vp_cell _ _)
    rw [e1, hcell, vp_cell_l, vp_cell_l, hc, arrV_store, z_upd (fun z => .long z)]
  · rcases List.mem_append.mp hq with g | g
    · exact hlo q g
    · rw [List.mem_singleton] at g; rw [g]; exact h0
theorem z_bast {N j a : Nat} {x : Nat → Int32} {i : Int32} {v : Int32} {v9 : Int32} (hb : zm_c M = cc) (d : decode cc pc = .ok (.bastore, 1)) (ha : h a = some (.inl ((zm_G M).2.1 3, N, .inl x))) (h0 : z_n0 (zm_G M) ≤ a) (hi : i = nI j) (hj : j < N) (hN : N < 2 ^ 31) (hnr : narrow .byte (.int v9) = .int v) (kk9 : z_V M (z_up h a (.inl ((zm_G M).2.1 3, N, .inl (va_up x j v)))) n b f (pc + 1) lv rest) : z_V M h n b f pc lv (.int v9 :: .int i :: .ref a :: rest) := by
  intro p e s m args below meth c A H locs ls k9 j9 hR hsz hlo hlv hk9 hj9
  obtain ⟨cell, g1, g2, g3, g4, g5, g6⟩ := z_ra (kk := 3) (ty := .byte) hR A.2.2.2.2.1 rfl ha
  have hc : i.toNatClampNeg = j := by rw [hi, nI_clamp (by omega)]
  have hat : H[a]? = some (vp_cell ((zm_G M).2.1 3) (N, .inl x)) := z_rs hR A.2.2.2.2.1 h0 ha
  have hcell : cell = vp_cell ((zm_G M).2.1 3) (N, .inl x) := Option.some.inj (g1.symm.trans hat)
  refine W.bast A.1 (A.2.1.trans hb) g1 g2 g3 (z_in hi hj hN g4) rfl rfl d fun H1 e1 z1 o1 => ?_
  refine kk9 p e s m args below meth c A H1 _ ls k9 j9 (hR.put h0 z1 o1 ?_) hsz (fun q hq => ?_) hlv hk9 hj9
  · show H1[a]? = some (vp_cell _ _)
    rw [e1, hcell, vp_cell_i, vp_cell_i, hc, hnr, arrV_store, z_upd (fun z => .int z)]
  · rcases List.mem_append.mp hq with g | g
    · exact hlo q g
    · rw [List.mem_singleton] at g; rw [g]; exact h0
theorem z_zast {N j a : Nat} {x : Nat → Int32} {i : Int32} {v : Int32} {v9 : Int32} (hb : zm_c M = cc) (d : decode cc pc = .ok (.bastore, 1)) (ha : h a = some (.inl ((zm_G M).2.1 2, N, .inl x))) (h0 : z_n0 (zm_G M) ≤ a) (hi : i = nI j) (hj : j < N) (hN : N < 2 ^ 31) (hnr : narrow .boolean (.int v9) = .int v) (kk9 : z_V M (z_up h a (.inl ((zm_G M).2.1 2, N, .inl (va_up x j v)))) n b f (pc + 1) lv rest) : z_V M h n b f pc lv (.int v9 :: .int i :: .ref a :: rest) := by
  intro p e s m args below meth c A H locs ls k9 j9 hR hsz hlo hlv hk9 hj9
  obtain ⟨cell, g1, g2, g3, g4, g5, g6⟩ := z_ra (kk := 2) (ty := .boolean) hR A.2.2.2.2.1 rfl ha
  have hc : i.toNatClampNeg = j := by rw [hi, nI_clamp (by omega)]
  have hat : H[a]? = some (vp_cell ((zm_G M).2.1 2) (N, .inl x)) := z_rs hR A.2.2.2.2.1 h0 ha
  have hcell : cell = vp_cell ((zm_G M).2.1 2) (N, .inl x) := Option.some.inj (g1.symm.trans hat)
  refine W.zast A.1 (A.2.1.trans hb) g1 g2 g3 (z_in hi hj hN g4) rfl rfl d fun H1 e1 z1 o1 => ?_
  refine kk9 p e s m args below meth c A H1 _ ls k9 j9 (hR.put h0 z1 o1 ?_) hsz (fun q hq => ?_) hlv hk9 hj9
  · show H1[a]? = some (vp_cell _ _)
    rw [e1, hcell, vp_cell_i, vp_cell_i, hc, hnr, arrV_store, z_upd (fun z => .int z)]
  · rcases List.mem_append.mp hq with g | g
    · exact hlo q g
    · rw [List.mem_singleton] at g; rw [g]; exact h0
theorem z_aast {N j a v ci : Nat} {r : vw_C} {vs : List Value} {x : Nat → Option Nat} {i : Int32} (hb : zm_c M = cc) (d : decode cc pc = .ok (.aastore, 1)) (ha : h a = some (.inl ((zm_G M).2.1 5, N, .inr (.inr (.inr (.inr x)))))) (h0 : z_n0 (zm_G M) ≤ a) (hv : h v = some (.inr (ci, vs))) (hc9 : zCL[ci]? = some r) (hca : Cond.castable r.1 "java/lang/Object" ∈ lw_tbl) (hi : i = nI j) (hj : j < N) (hN : N < 2 ^ 31) (kk9 : z_V M (z_up h a (.inl ((zm_G M).2.1 5, N, .inr (.inr (.inr (.inr (va_up x j (some v)))))))) n b f (pc + 1) lv rest) : z_V M h n b f pc lv (.ref v :: .int i :: .ref a :: rest) := by
  intro p e s m args below meth c A H locs ls k9 j9 hR hsz hlo hlv hk9 hj9
  have hW := A.2.2.2.2.1
  obtain ⟨cell, g1, g2, g3, g4, g5, g6⟩ := z_ra (kk := 5) (ty := .object "java/lang/Object") hR hW rfl ha
  have hc : i.toNatClampNeg = j := by rw [hi, nI_clamp (by omega)]
  have hat : H[a]? = some (vp_cell ((zm_G M).2.1 5) (N, .inr (.inr (.inr (.inr x))))) := z_rs hR hW h0 ha
  have hcell : cell = vp_cell ((zm_G M).2.1 5) (N, .inr (.inr (.inr (.inr x)))) := Option.some.inj (g1.symm.trans hat)
  obtain ⟨cv, v1, v2, v3⟩ := z_rc hR hW hc9 hv
  obtain ⟨kA, comp, k1, k2, k3, -⟩ := (hW.1.2 5 _ (z_tyk (G := zm_G M) (kk := 5) (ty := .object "java/lang/Object") rfl)).2
  obtain ⟨kE, hkE, -⟩ := Vm.findClass_spec k3
  obtain ⟨kv, hkv, -⟩ := Vm.findClass_spec v3
  obtain ⟨c0, t1, f1, f2, f3⟩ := Cond.castable_spec (hW.w hca rfl rfl args)
  cases v3.symm.trans f1
  cases k3.symm.trans f2
  have hcls : cell.cls = (zm_G M).2.1 5 := by rw [hcell]; rfl
  refine W.aast A.1 (A.2.1.trans hb) g1 (fun q h => by rw [hcell] at h; cases h) g3 (by rw [hcls]; exact k1) k2 rfl hkE (by
    have := z_in hi hj hN g4
    exact ⟨fun q => this (Or.inl q), Nat.not_le.mp fun q => this (Or.inr q)⟩) v1 (fun q h => by rw [h] at v2; cases v2) hkv f3 rfl rfl d fun H1 e1 z1 o1 => ?_
  refine kk9 p e s m args below meth c A H1 _ ls k9 j9 (hR.put h0 z1 o1 ?_) hsz (fun q hq => ?_) hlv hk9 hj9
  · show H1[a]? = some (vp_cell _ _)
    rw [e1, hcell, vp_cell_q, vp_cell_q, hc, arrV_store, ← z_upd (fun z => va_rf z)]
    rfl
  · rcases List.mem_append.mp hq with g | g
    · exact hlo q g
    · rw [List.mem_singleton] at g; rw [g]; exact h0
theorem z_aastN {N j a : Nat} {x : Nat → Option Nat} {i : Int32} (hb : zm_c M = cc) (d : decode cc pc = .ok (.aastore, 1)) (ha : h a = some (.inl ((zm_G M).2.1 5, N, .inr (.inr (.inr (.inr x)))))) (h0 : z_n0 (zm_G M) ≤ a) (hi : i = nI j) (hj : j < N) (hN : N < 2 ^ 31) (kk9 : z_V M (z_up h a (.inl ((zm_G M).2.1 5, N, .inr (.inr (.inr (.inr (va_up x j none))))))) n b f (pc + 1) lv rest) : z_V M h n b f pc lv (.null :: .int i :: .ref a :: rest) := by
  intro p e s m args below meth c A H locs ls k9 j9 hR hsz hlo hlv hk9 hj9
  have hW := A.2.2.2.2.1
  obtain ⟨cell, g1, g2, g3, g4, g5, g6⟩ := z_ra (kk := 5) (ty := .object "java/lang/Object") hR hW rfl ha
  have hc : i.toNatClampNeg = j := by rw [hi, nI_clamp (by omega)]
  have hat : H[a]? = some (vp_cell ((zm_G M).2.1 5) (N, .inr (.inr (.inr (.inr x))))) := z_rs hR hW h0 ha
  have hcell : cell = vp_cell ((zm_G M).2.1 5) (N, .inr (.inr (.inr (.inr x)))) := Option.some.inj (g1.symm.trans hat)
  refine va_WaastN (C := "java/lang/Object") A.1 (A.2.1.trans hb) g1 g2 g3 (z_in hi hj hN g4) rfl rfl d fun H1 e1 z1 o1 => ?_
  refine kk9 p e s m args below meth c A H1 _ ls k9 j9 (hR.put h0 z1 o1 ?_) hsz (fun q hq => ?_) hlv hk9 hj9
  · show H1[a]? = some (vp_cell _ _)
    rw [e1, hcell, vp_cell_q, vp_cell_q, hc, arrV_store, ← z_upd (fun z => va_rf z)]
    rfl
  · rcases List.mem_append.mp hq with g | g
    · exact hlo q g
    · rw [List.mem_singleton] at g; rw [g]; exact h0
theorem z_newi {N b' f' : Nat} {i : Int32} (hb : zm_c M = cc) (w : Cond.arrayClass .int ∈ lw_all) (d : decode cc pc = .ok (.newarray .int, 2)) (hi : i = nI N) (hN : N * 8 ≤ 536870912) (hbb : b' + 1 ≤ b) (hff : f' + N ≤ f)
    (kk9 : z_V M (z_up h n (.inl ((zm_G M).2.1 0, N, .inl (fun _ => 0)))) (n + 1) b' f' (pc + 2) lv (.ref n :: rest)) : z_V M h n b f pc lv (.int i :: rest) := by
  intro p e s m args below meth c A H locs ls k9 j9 hR hsz hlo hlv hk9 hj9
  have hW := A.2.2.2.2.1
  have hc : i.toNatClampNeg = N := by rw [hi, nI_clamp (by omega)]
  refine va_newaK (atype := .int) A.1 (A.2.1.trans hb) (hW.g args _ w) rfl d rfl (by rw [hi]; exact nI_pos (by omega)) hc (by show N * 4 ≤ _; omega) (by omega) (by omega) hR.1 fun H1 cA e1 z1 o1 hAr hNm => ?_
  have hcA : cA = (zm_G M).2.1 0 := Option.some.inj (hNm.symm.trans (hW.1.2 0 _ (z_tyk (G := zm_G M) (kk := 0) (ty := .int) rfl)).2)
  subst hcA
  refine kk9 p e s m args below meth c A H1 locs ls (k9 + 1) (j9 + N) (hR.push z1 o1 ?_) (by omega) hlo hlv (by omega) (by omega)
  show H1[n]? = some (vp_cell _ _)
  rw [z_cell]
  exact e1
theorem z_newl {N b' f' : Nat} {i : Int32} (hb : zm_c M = cc) (w : Cond.arrayClass .long ∈ lw_all) (d : decode cc pc = .ok (.newarray .long, 2)) (hi : i = nI N) (hN : N * 8 ≤ 536870912) (hbb : b' + 1 ≤ b) (hff : f' + N ≤ f)
    (kk9 : z_V M (z_up h n (.inl ((zm_G M).2.1 1, N, .inr (.inl (fun _ => 0))))) (n + 1) b' f' (pc + 2) lv (.ref n :: rest)) : z_V M h n b f pc lv (.int i :: rest) := by
  intro p e s m args below meth c A H locs ls k9 j9 hR hsz hlo hlv hk9 hj9
  have hW := A.2.2.2.2.1
  have hc : i.toNatClampNeg = N := by rw [hi, nI_clamp (by omega)]
  refine va_newaK (atype := .long) A.1 (A.2.1.trans hb) (hW.g args _ w) rfl d rfl (by rw [hi]; exact nI_pos (by omega)) hc (by show N * 8 ≤ _; omega) (by omega) (by omega) hR.1 fun H1 cA e1 z1 o1 hAr hNm => ?_
  have hcA : cA = (zm_G M).2.1 1 := Option.some.inj (hNm.symm.trans (hW.1.2 1 _ (z_tyk (G := zm_G M) (kk := 1) (ty := .long) rfl)).2)
  subst hcA
  refine kk9 p e s m args below meth c A H1 locs ls (k9 + 1) (j9 + N) (hR.push z1 o1 ?_) (by omega) hlo hlv (by omega) (by omega)
  show H1[n]? = some (vp_cell _ _)
  rw [z_cell]
  exact e1
theorem z_newz {N b' f' : Nat} {i : Int32} (hb : zm_c M = cc) (w : Cond.arrayClass .boolean ∈ lw_all) (d : decode cc pc = .ok (.newarray .boolean, 2)) (hi : i = nI N) (hN : N * 8 ≤ 536870912) (hbb : b' + 1 ≤ b) (hff : f' + N ≤ f)
    (kk9 : z_V M (z_up h n (.inl ((zm_G M).2.1 2, N, .inl (fun _ => 0)))) (n + 1) b' f' (pc + 2) lv (.ref n :: rest)) : z_V M h n b f pc lv (.int i :: rest) := by
  intro p e s m args below meth c A H locs ls k9 j9 hR hsz hlo hlv hk9 hj9
  have hW := A.2.2.2.2.1
  have hc : i.toNatClampNeg = N := by rw [hi, nI_clamp (by omega)]
  refine va_newaK (atype := .boolean) A.1 (A.2.1.trans hb) (hW.g args _ w) rfl d rfl (by rw [hi]; exact nI_pos (by omega)) hc (by show N * 1 ≤ _; omega) (by omega) (by omega) hR.1 fun H1 cA e1 z1 o1 hAr hNm => ?_
  have hcA : cA = (zm_G M).2.1 2 := Option.some.inj (hNm.symm.trans (hW.1.2 2 _ (z_tyk (G := zm_G M) (kk := 2) (ty := .boolean) rfl)).2)
  subst hcA
  refine kk9 p e s m args below meth c A H1 locs ls (k9 + 1) (j9 + N) (hR.push z1 o1 ?_) (by omega) hlo hlv (by omega) (by omega)
  show H1[n]? = some (vp_cell _ _)
  rw [z_cell]
  exact e1
theorem z_newb {N b' f' : Nat} {i : Int32} (hb : zm_c M = cc) (w : Cond.arrayClass .byte ∈ lw_all) (d : decode cc pc = .ok (.newarray .byte, 2)) (hi : i = nI N) (hN : N * 8 ≤ 536870912) (hbb : b' + 1 ≤ b) (hff : f' + N ≤ f)
    (kk9 : z_V M (z_up h n (.inl ((zm_G M).2.1 3, N, .inl (fun _ => 0)))) (n + 1) b' f' (pc + 2) lv (.ref n :: rest)) : z_V M h n b f pc lv (.int i :: rest) := by
  intro p e s m args below meth c A H locs ls k9 j9 hR hsz hlo hlv hk9 hj9
  have hW := A.2.2.2.2.1
  have hc : i.toNatClampNeg = N := by rw [hi, nI_clamp (by omega)]
  refine va_newaK (atype := .byte) A.1 (A.2.1.trans hb) (hW.g args _ w) rfl d rfl (by rw [hi]; exact nI_pos (by omega)) hc (by show N * 1 ≤ _; omega) (by omega) (by omega) hR.1 fun H1 cA e1 z1 o1 hAr hNm => ?_
  have hcA : cA = (zm_G M).2.1 3 := Option.some.inj (hNm.symm.trans (hW.1.2 3 _ (z_tyk (G := zm_G M) (kk := 3) (ty := .byte) rfl)).2)
  subst hcA
  refine kk9 p e s m args below meth c A H1 locs ls (k9 + 1) (j9 + N) (hR.push z1 o1 ?_) (by omega) hlo hlv (by omega) (by omega)
  show H1[n]? = some (vp_cell _ _)
  rw [z_cell]
  exact e1
theorem z_newd {N b' f' : Nat} {i : Int32} (hb : zm_c M = cc) (w : Cond.arrayClass .double ∈ lw_all) (d : decode cc pc = .ok (.newarray .double, 2)) (hi : i = nI N) (hN : N * 8 ≤ 536870912) (hbb : b' + 1 ≤ b) (hff : f' + N ≤ f)
    (kk9 : z_V M (z_up h n (.inl ((zm_G M).2.1 4, N, .inr (.inr (.inr (.inl (fun _ => 0))))))) (n + 1) b' f' (pc + 2) lv (.ref n :: rest)) : z_V M h n b f pc lv (.int i :: rest) := by
  intro p e s m args below meth c A H locs ls k9 j9 hR hsz hlo hlv hk9 hj9
  have hW := A.2.2.2.2.1
  have hc : i.toNatClampNeg = N := by rw [hi, nI_clamp (by omega)]
  refine va_newaK (atype := .double) A.1 (A.2.1.trans hb) (hW.g args _ w) rfl d rfl (by rw [hi]; exact nI_pos (by omega)) hc (by show N * 8 ≤ _; omega) (by omega) (by omega) hR.1 fun H1 cA e1 z1 o1 hAr hNm => ?_
  have hcA : cA = (zm_G M).2.1 4 := Option.some.inj (hNm.symm.trans (hW.1.2 4 _ (z_tyk (G := zm_G M) (kk := 4) (ty := .double) rfl)).2)
  subst hcA
  refine kk9 p e s m args below meth c A H1 locs ls (k9 + 1) (j9 + N) (hR.push z1 o1 ?_) (by omega) hlo hlv (by omega) (by omega)
  show H1[n]? = some (vp_cell _ _)
  rw [z_cell]
  exact e1
theorem z_anew {N b' f' idx : Nat} {i : Int32} (hb : zm_c M = cc) (ho : zm_o M = own) (w : Cond.classLink own idx "java/lang/Object" ∈ lw_all) (d : decode cc pc = .ok (.anewarray idx, 3)) (hi : i = nI N) (hN : N * 8 ≤ 536870912) (hbb : b' + 1 ≤ b) (hff : f' + N ≤ f)
    (kk9 : z_V M (z_up h n (.inl ((zm_G M).2.1 5, N, .inr (.inr (.inr (.inr (fun _ => none))))))) (n + 1) b' f' (pc + 3) lv (.ref n :: rest)) : z_V M h n b f pc lv (.int i :: rest) := by
  intro p e s m args below meth c A H locs ls k9 j9 hR hsz hlo hlv hk9 hj9
  have hW := A.2.2.2.2.1
  have hown : s.vm.findClass own = some m.cls := by rw [← ho]; exact A.2.2.2.1
  have hc : i.toNatClampNeg = N := by rw [hi, nI_clamp (by omega)]
  refine W.anew A.1 (A.2.1.trans hb) hown (hW.g args _ w) (va_AO.use hW.2.2.2.2.2.2.2.1) rfl d rfl (by rw [hi]; exact nI_pos (by omega)) (by rw [hc]; omega) (by omega) (by rw [hc]; omega) fun cA kA comp f1 f2 f3 f4 => ?_
  have hcA : cA = (zm_G M).2.1 5 := by
    obtain ⟨-, -, -, -, -, h4⟩ := (hW.1.2 5 _ (z_tyk (G := zm_G M) (kk := 5) (ty := .object "java/lang/Object") rfl)).2
    exact Option.some.inj (f1.symm.trans h4)
  subst hcA
  rw [hc]
  have hn := hR.1
  subst hn
  refine kk9 p e s m args below meth c A _ locs ls (k9 + 1) (j9 + N) (hR.push (by simp) (fun q hq => by rw [Array.getElem?_push, if_neg (Nat.ne_of_lt hq)]) ?_) (by omega) hlo hlv (by omega) (by omega)
  show (H.push _)[H.size]? = some (vp_cell _ _)
  rw [Array.getElem?_push_size, z_cell]
  have e1 := arrV_new ((zm_G M).2.1 5) N Value.null
  rw [e1]
  rfl
end ZA
