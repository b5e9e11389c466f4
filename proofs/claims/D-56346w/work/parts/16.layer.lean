theorem z_nn (z : Nat) (hz : z < 2 ^ 31) : (nI z).toInt = (((nI z).toNatClampNeg : Nat) : Int) := by rw [nI_toInt hz, nI_clamp hz]
theorem z_stretch {cs : Cell} {el : Nat → Value} {N sp n : Nat} (h : ∀ j : Nat, j < N → cs.slots[j]? = some (el j)) (hs : sp + n ≤ N) : cs.stretch sp n = (List.range n).map (fun i => el (sp + i)) := by
  unfold Cell.stretch
  apply List.map_congr_left
  intro i hi
  have hi' := List.mem_range.mp hi
  rw [Array.getD_eq_getD_getElem?, h _ (by omega)]
  rfl
theorem z_copied {α : Type} (mk : α → Value) {cs : Cell} (c1 : ClassId) {N n1 sp dp n : Nat} (f g : Nat → α) (h : ∀ j : Nat, j < N → cs.slots[j]? = some (mk (f j))) (hs : sp + n ≤ N) :
    (arrV c1 n1 (fun j => mk (g j))).storeRun dp (cs.stretch sp n) = arrV c1 n1 (fun j => mk (va_cpy f g sp dp n j)) := by
  rw [z_stretch (el := fun j => mk (f j)) h hs, Cell.storeRun, va_pairs]
  congr 1
  funext k
  simp only [va_cpy, List.length_map, List.length_range, Nat.add_zero]
  by_cases h : dp ≤ k ∧ k < dp + n
  · rw [if_pos h, if_pos h, List.getD_eq_getElem?_getD, List.getElem?_map, List.getElem?_range (by omega)]
    rfl
  · rw [if_neg h, if_neg h]
section ZC
variable {M : zM} {h : zH} {n b f pc : Nat} {lv : List (Nat × Value)} {rest : List Value} {cc : ByteArray} {own : String}
theorem z_copyi {N N1 a0 a sp dp k idx : Nat} {x y : Nat → Int32} {r0 mc0 ms0 : Nat} (hb : zm_c M = cc) (ho : zm_o M = own) (hrm : zm_R M = z_rm r0 mc0 ms0) (hr0 : 1 ≤ r0) (w1 : Cond.methodLink own idx arraycopyName ∈ lw_all) (w2 : Cond.native arraycopyName ∈ lw_all) (w3 : Cond.static arraycopyName ∈ lw_all) (w4 : Cond.initialized "java/lang/System" ∈ lw_all) (d : decode cc pc = .ok (.invokestatic idx, 3))
    (ha0 : h a0 = some (.inl ((zm_G M).2.1 0, N, .inl x))) (ha : h a = some (.inl ((zm_G M).2.1 0, N1, .inl y))) (h0 : z_n0 (zm_G M) ≤ a) {i1 i2 i3 : Int32} (e1 : i1 = nI sp) (e2 : i2 = nI dp) (e3 : i3 = nI k) (hs : sp + k ≤ N) (hd : dp + k ≤ N1) (hN : N < 2 ^ 30) (hN1 : N1 < 2 ^ 30) (hst : (rest.map fun v => v.category).sum ≤ 100)
    (kk9 : z_V M (z_up h a (.inl ((zm_G M).2.1 0, N1, .inl (va_cpy x y sp dp k)))) n b f (pc + 3) lv rest) : z_V M h n b f pc lv (.int i3 :: .int i2 :: .ref a :: .int i1 :: .ref a0 :: rest) := by
  subst e1 e2 e3
  intro p e s m args below meth c A H locs ls k9 j9 hR hsz hlo hlv hk9 hj9 T hT X
  have hW := A.2.2.2.2.1
  have hown : s.vm.findClass own = some m.cls := by rw [← ho]; exact A.2.2.2.1
  have h6 : (zm_R M).frames = r0 := by rw [hrm]
  have h7 : (zm_R M).locals = 200 * r0 := by rw [hrm]
  have hty : zTy[0]? = some (.int) := rfl
  obtain ⟨cs, g1, g2, g3, g4, g5, g6⟩ := z_ra (kk := 0) (ty := .int) hR hW hty ha0
  have hc1 : H[a]? = some (vp_cell ((zm_G M).2.1 0) (N1, .inl y)) := z_rs hR hW h0 ha
  have hA := hW.1.2 0 _ (z_tyk (G := zm_G M) hty)
  obtain ⟨hs0, q0, hq0, cm0, hkk0⟩ := g2
  obtain ⟨-, q1, hq1, cm1, hkk1⟩ := hA.1 N1 (z_el (.inl y))
  have nn : ∀ z : Nat, z < 2 ^ 31 → (nI z).toInt = (z : Int) := fun z hz => nI_toInt hz
  have cl1 : (nI sp).toNatClampNeg = sp := nI_clamp (by omega)
  have cl2 : (nI dp).toNatClampNeg = dp := nI_clamp (by omega)
  have cl3 : (nI k).toNatClampNeg = k := nI_clamp (by omega)
  have hw9 : nativeFrameWords "java/lang/System" "arraycopy" 5 ≤ 60 := by decide +kernel
  obtain ⟨vm', X', step⟩ := X.arraycopy A.1 hown (hW.g args _ w1) (hW.g args _ w2) (hW.g args _ w3) (hW.g args _ w4) (src := a0) (dst := a) (cs := cs) (cd := vp_cell ((zm_G M).2.1 0) (N1, .inl y)) (srcPos := nI sp) (destPos := nI dp) (n := nI k) (by rw [hT]; exact g1) (by rw [hT]; exact hc1)
    hs0 (fun _ h => by cases h) g3 (fun h => by cases h) hq0 hq1 hkk0 hkk1 rfl (nI_pos (by omega)) (nI_pos (by omega)) (nI_pos (by omega))
    (by rw [nn sp (by omega), nn k (by omega)]; omega)
    (by rw [nn dp (by omega), nn k (by omega)]; show ¬ _ > ((arrV _ N1 (z_el (.inl y))).slots.size : Int); rw [arrV_size]; omega)
    (fun vm₁ hal i hi => by
      rw [cl3] at hi
      have e : cs.slots.getD ((nI sp).toNatClampNeg + i) .null = .int (x (sp + i)) := by
        rw [cl1, Array.getD_eq_getD_getElem?, g6 _ (by omega)]
        rfl
      rw [e]
      exact ⟨rfl, trivial⟩)
    (g := F0 m pc ls (.int (nI k) :: .int (nI dp) :: .ref a :: .int (nI sp) :: .ref a0 :: rest)) rfl (by show ls.size = _; rw [A.2.2.1]; exact hlv.1) (rest := rest) rfl (by rw [A.2.1, hb]; exact d) (by omega) (by show 2 * 0 + (rest.map fun v => v.category).sum + (nativeFrameWords "java/lang/System" "arraycopy" 5 + 11) ≤ _; omega)
  have e1 : copied cs (vp_cell ((zm_G M).2.1 0) (N1, .inl y)) (nI sp) (nI dp) (nI k) = vp_cell ((zm_G M).2.1 0) (N1, .inl (va_cpy x y sp dp k)) := by
    unfold copied
    rw [cl1, cl2, cl3, vp_cell_i, vp_cell_i]
    exact z_copied (fun z => .int z) _ x y g6 hs
  rw [e1] at X' step
  have hl : a < H.size := (Array.getElem?_eq_some_iff.mp hc1).1
  have hheap : ((T.setVm vm').setCell a (vp_cell ((zm_G M).2.1 0) (N1, .inl (va_cpy x y sp dp k)))).heap = H.setIfInBounds a (vp_cell ((zm_G M).2.1 0) (N1, .inl (va_cpy x y sp dp k))) := by rw [← hT]; rfl
  obtain ⟨t, a1, b1⟩ := kk9 p e s m args below meth c A _ _ ls k9 j9 (hR.put h0 (by simp) (fun q hq => by simp [Array.getElem?_setIfInBounds, Ne.symm hq]) (show (H.setIfInBounds a _)[a]? = some (vp_cell _ _) by simp [Array.getElem?_setIfInBounds, hl])) hsz (fun q hq => by
      rcases List.mem_append.mp hq with h | h
      · exact hlo q h
      · obtain ⟨z, -, hz⟩ := List.mem_map.mp h
        rw [← hz]
        exact h0) hlv hk9 hj9 _ hheap X'
  exact ⟨t, step t a1, b1⟩
theorem z_copyl {N N1 a0 a sp dp k idx : Nat} {x y : Nat → Int64} {r0 mc0 ms0 : Nat} (hb : zm_c M = cc) (ho : zm_o M = own) (hrm : zm_R M = z_rm r0 mc0 ms0) (hr0 : 1 ≤ r0) (w1 : Cond.methodLink own idx arraycopyName ∈ lw_all) (w2 : Cond.native arraycopyName ∈ lw_all) (w3 : Cond.static arraycopyName ∈ lw_all) (w4 : Cond.initialized "java/lang/System" ∈ lw_all) (d : decode cc pc = .ok (.invokestatic idx, 3))
    (ha0 : h a0 = some (.inl ((zm_G M).2.1 1, N, .inr (.inl x)))) (ha : h a = some (.inl ((zm_G M).2.1 1, N1, .inr (.inl y)))) (h0 : z_n0 (zm_G M) ≤ a) {i1 i2 i3 : Int32} (e1 : i1 = nI sp) (e2 : i2 = nI dp) (e3 : i3 = nI k) (hs : sp + k ≤ N) (hd : dp + k ≤ N1) (hN : N < 2 ^ 30) (hN1 : N1 < 2 ^ 30) (hst : (rest.map fun v => v.category).sum ≤ 100)
    (kk9 : z_V M (z_up h a (.inl ((zm_G M).2.1 1, N1, .inr (.inl (va_cpy x y sp dp k))))) n b f (pc + 3) lv rest) : z_V M h n b f pc lv (.int i3 :: .int i2 :: .ref a :: .int i1 :: .ref a0 :: rest) := by
  subst e1 e2 e3
  intro p e s m args below meth c A H locs ls k9 j9 hR hsz hlo hlv hk9 hj9 T hT X
  have hW := A.2.2.2.2.1
  have hown : s.vm.findClass own = some m.cls := by rw [← ho]; exact A.2.2.2.1
  have h6 : (zm_R M).frames = r0 := by rw [hrm]
  have h7 : (zm_R M).locals = 200 * r0 := by rw [hrm]
  have hty : zTy[1]? = some (.long) := rfl
  obtain ⟨cs, g1, g2, g3, g4, g5, g6⟩ := z_ra (kk := 1) (ty := .long) hR hW hty ha0
  have hc1 : H[a]? = some (vp_cell ((zm_G M).2.1 1) (N1, .inr (.inl y))) := z_rs hR hW h0 ha
  have hA := hW.1.2 1 _ (z_tyk (G := zm_G M) hty)
  obtain ⟨hs0, q0, hq0, cm0, hkk0⟩ := g2
  obtain ⟨-, q1, hq1, cm1, hkk1⟩ := hA.1 N1 (z_el (.inr (.inl y)))
  have nn : ∀ z : Nat, z < 2 ^ 31 → (nI z).toInt = (z : Int) := fun z hz => nI_toInt hz
  have cl1 : (nI sp).toNatClampNeg = sp := nI_clamp (by omega)
  have cl2 : (nI dp).toNatClampNeg = dp := nI_clamp (by omega)
  have cl3 : (nI k).toNatClampNeg = k := nI_clamp (by omega)
  have hw9 : nativeFrameWords "java/lang/System" "arraycopy" 5 ≤ 60 := by decide +kernel
  obtain ⟨vm', X', step⟩ := X.arraycopy A.1 hown (hW.g args _ w1) (hW.g args _ w2) (hW.g args _ w3) (hW.g args _ w4) (src := a0) (dst := a) (cs := cs) (cd := vp_cell ((zm_G M).2.1 1) (N1, .inr (.inl y))) (srcPos := nI sp) (destPos := nI dp) (n := nI k) (by rw [hT]; exact g1) (by rw [hT]; exact hc1)
    hs0 (fun _ h => by cases h) g3 (fun h => by cases h) hq0 hq1 hkk0 hkk1 rfl (nI_pos (by omega)) (nI_pos (by omega)) (nI_pos (by omega))
    (by rw [nn sp (by omega), nn k (by omega)]; omega)
    (by rw [nn dp (by omega), nn k (by omega)]; show ¬ _ > ((arrV _ N1 (z_el (.inr (.inl y)))).slots.size : Int); rw [arrV_size]; omega)
    (fun vm₁ hal i hi => by
      rw [cl3] at hi
      have e : cs.slots.getD ((nI sp).toNatClampNeg + i) .null = .long (x (sp + i)) := by
        rw [cl1, Array.getD_eq_getD_getElem?, g6 _ (by omega)]
        rfl
      rw [e]
      exact ⟨rfl, trivial⟩)
    (g := F0 m pc ls (.int (nI k) :: .int (nI dp) :: .ref a :: .int (nI sp) :: .ref a0 :: rest)) rfl (by show ls.size = _; rw [A.2.2.1]; exact hlv.1) (rest := rest) rfl (by rw [A.2.1, hb]; exact d) (by omega) (by show 2 * 0 + (rest.map fun v => v.category).sum + (nativeFrameWords "java/lang/System" "arraycopy" 5 + 11) ≤ _; omega)
  have e1 : copied cs (vp_cell ((zm_G M).2.1 1) (N1, .inr (.inl y))) (nI sp) (nI dp) (nI k) = vp_cell ((zm_G M).2.1 1) (N1, .inr (.inl (va_cpy x y sp dp k))) := by
    unfold copied
    rw [cl1, cl2, cl3, vp_cell_l, vp_cell_l]
    exact z_copied (fun z => .long z) _ x y g6 hs
  rw [e1] at X' step
  have hl : a < H.size := (Array.getElem?_eq_some_iff.mp hc1).1
  have hheap : ((T.setVm vm').setCell a (vp_cell ((zm_G M).2.1 1) (N1, .inr (.inl (va_cpy x y sp dp k))))).heap = H.setIfInBounds a (vp_cell ((zm_G M).2.1 1) (N1, .inr (.inl (va_cpy x y sp dp k)))) := by rw [← hT]; rfl
  obtain ⟨t, a1, b1⟩ := kk9 p e s m args below meth c A _ _ ls k9 j9 (hR.put h0 (by simp) (fun q hq => by simp [Array.getElem?_setIfInBounds, Ne.symm hq]) (show (H.setIfInBounds a _)[a]? = some (vp_cell _ _) by simp [Array.getElem?_setIfInBounds, hl])) hsz (fun q hq => by
      rcases List.mem_append.mp hq with h | h
      · exact hlo q h
      · obtain ⟨z, -, hz⟩ := List.mem_map.mp h
        rw [← hz]
        exact h0) hlv hk9 hj9 _ hheap X'
  exact ⟨t, step t a1, b1⟩
theorem z_copyz {N N1 a0 a sp dp k idx : Nat} {x y : Nat → Int32} {r0 mc0 ms0 : Nat} (hb : zm_c M = cc) (ho : zm_o M = own) (hrm : zm_R M = z_rm r0 mc0 ms0) (hr0 : 1 ≤ r0) (w1 : Cond.methodLink own idx arraycopyName ∈ lw_all) (w2 : Cond.native arraycopyName ∈ lw_all) (w3 : Cond.static arraycopyName ∈ lw_all) (w4 : Cond.initialized "java/lang/System" ∈ lw_all) (d : decode cc pc = .ok (.invokestatic idx, 3))
    (ha0 : h a0 = some (.inl ((zm_G M).2.1 2, N, .inl x))) (ha : h a = some (.inl ((zm_G M).2.1 2, N1, .inl y))) (h0 : z_n0 (zm_G M) ≤ a) {i1 i2 i3 : Int32} (e1 : i1 = nI sp) (e2 : i2 = nI dp) (e3 : i3 = nI k) (hs : sp + k ≤ N) (hd : dp + k ≤ N1) (hN : N < 2 ^ 30) (hN1 : N1 < 2 ^ 30) (hfit : ∀ i, i < k → fits .boolean (.int (x (sp + i))) = true) (hst : (rest.map fun v => v.category).sum ≤ 100)
    (kk9 : z_V M (z_up h a (.inl ((zm_G M).2.1 2, N1, .inl (va_cpy x y sp dp k)))) n b f (pc + 3) lv rest) : z_V M h n b f pc lv (.int i3 :: .int i2 :: .ref a :: .int i1 :: .ref a0 :: rest) := by
  subst e1 e2 e3
  intro p e s m args below meth c A H locs ls k9 j9 hR hsz hlo hlv hk9 hj9 T hT X
  have hW := A.2.2.2.2.1
  have hown : s.vm.findClass own = some m.cls := by rw [← ho]; exact A.2.2.2.1
  have h6 : (zm_R M).frames = r0 := by rw [hrm]
  have h7 : (zm_R M).locals = 200 * r0 := by rw [hrm]
  have hty : zTy[2]? = some (.boolean) := rfl
  obtain ⟨cs, g1, g2, g3, g4, g5, g6⟩ := z_ra (kk := 2) (ty := .boolean) hR hW hty ha0
  have hc1 : H[a]? = some (vp_cell ((zm_G M).2.1 2) (N1, .inl y)) := z_rs hR hW h0 ha
  have hA := hW.1.2 2 _ (z_tyk (G := zm_G M) hty)
  obtain ⟨hs0, q0, hq0, cm0, hkk0⟩ := g2
  obtain ⟨-, q1, hq1, cm1, hkk1⟩ := hA.1 N1 (z_el (.inl y))
  have nn : ∀ z : Nat, z < 2 ^ 31 → (nI z).toInt = (z : Int) := fun z hz => nI_toInt hz
  have cl1 : (nI sp).toNatClampNeg = sp := nI_clamp (by omega)
  have cl2 : (nI dp).toNatClampNeg = dp := nI_clamp (by omega)
  have cl3 : (nI k).toNatClampNeg = k := nI_clamp (by omega)
  have hw9 : nativeFrameWords "java/lang/System" "arraycopy" 5 ≤ 60 := by decide +kernel
  obtain ⟨vm', X', step⟩ := X.arraycopy A.1 hown (hW.g args _ w1) (hW.g args _ w2) (hW.g args _ w3) (hW.g args _ w4) (src := a0) (dst := a) (cs := cs) (cd := vp_cell ((zm_G M).2.1 2) (N1, .inl y)) (srcPos := nI sp) (destPos := nI dp) (n := nI k) (by rw [hT]; exact g1) (by rw [hT]; exact hc1)
    hs0 (fun _ h => by cases h) g3 (fun h => by cases h) hq0 hq1 hkk0 hkk1 rfl (nI_pos (by omega)) (nI_pos (by omega)) (nI_pos (by omega))
    (by rw [nn sp (by omega), nn k (by omega)]; omega)
    (by rw [nn dp (by omega), nn k (by omega)]; show ¬ _ > ((arrV _ N1 (z_el (.inl y))).slots.size : Int); rw [arrV_size]; omega)
    (fun vm₁ hal i hi => by
      rw [cl3] at hi
      have e : cs.slots.getD ((nI sp).toNatClampNeg + i) .null = .int (x (sp + i)) := by
        rw [cl1, Array.getD_eq_getD_getElem?, g6 _ (by omega)]
        rfl
      rw [e]
      exact ⟨hfit i hi, trivial⟩)
    (g := F0 m pc ls (.int (nI k) :: .int (nI dp) :: .ref a :: .int (nI sp) :: .ref a0 :: rest)) rfl (by show ls.size = _; rw [A.2.2.1]; exact hlv.1) (rest := rest) rfl (by rw [A.2.1, hb]; exact d) (by omega) (by show 2 * 0 + (rest.map fun v => v.category).sum + (nativeFrameWords "java/lang/System" "arraycopy" 5 + 11) ≤ _; omega)
  have e1 : copied cs (vp_cell ((zm_G M).2.1 2) (N1, .inl y)) (nI sp) (nI dp) (nI k) = vp_cell ((zm_G M).2.1 2) (N1, .inl (va_cpy x y sp dp k)) := by
    unfold copied
    rw [cl1, cl2, cl3, vp_cell_i, vp_cell_i]
    exact z_copied (fun z => .int z) _ x y g6 hs
  rw [e1] at X' step
  have hl : a < H.size := (Array.getElem?_eq_some_iff.mp hc1).1
  have hheap : ((T.setVm vm').setCell a (vp_cell ((zm_G M).2.1 2) (N1, .inl (va_cpy x y sp dp k)))).heap = H.setIfInBounds a (vp_cell ((zm_G M).2.1 2) (N1, .inl (va_cpy x y sp dp k))) := by rw [← hT]; rfl
  obtain ⟨t, a1, b1⟩ := kk9 p e s m args below meth c A _ _ ls k9 j9 (hR.put h0 (by simp) (fun q hq => by simp [Array.getElem?_setIfInBounds, Ne.symm hq]) (show (H.setIfInBounds a _)[a]? = some (vp_cell _ _) by simp [Array.getElem?_setIfInBounds, hl])) hsz (fun q hq => by
      rcases List.mem_append.mp hq with h | h
      · exact hlo q h
      · obtain ⟨z, -, hz⟩ := List.mem_map.mp h
        rw [← hz]
        exact h0) hlv hk9 hj9 _ hheap X'
  exact ⟨t, step t a1, b1⟩
theorem z_copyb {N N1 a0 a sp dp k idx : Nat} {x y : Nat → Int32} {r0 mc0 ms0 : Nat} (hb : zm_c M = cc) (ho : zm_o M = own) (hrm : zm_R M = z_rm r0 mc0 ms0) (hr0 : 1 ≤ r0) (w1 : Cond.methodLink own idx arraycopyName ∈ lw_all) (w2 : Cond.native arraycopyName ∈ lw_all) (w3 : Cond.static arraycopyName ∈ lw_all) (w4 : Cond.initialized "java/lang/System" ∈ lw_all) (d : decode cc pc = .ok (.invokestatic idx, 3))
    (ha0 : h a0 = some (.inl ((zm_G M).2.1 3, N, .inl x))) (ha : h a = some (.inl ((zm_G M).2.1 3, N1, .inl y))) (h0 : z_n0 (zm_G M) ≤ a) {i1 i2 i3 : Int32} (e1 : i1 = nI sp) (e2 : i2 = nI dp) (e3 : i3 = nI k) (hs : sp + k ≤ N) (hd : dp + k ≤ N1) (hN : N < 2 ^ 30) (hN1 : N1 < 2 ^ 30) (hfit : ∀ i, i < k → fits .byte (.int (x (sp + i))) = true) (hst : (rest.map fun v => v.category).sum ≤ 100)
    (kk9 : z_V M (z_up h a (.inl ((zm_G M).2.1 3, N1, .inl (va_cpy x y sp dp k)))) n b f (pc + 3) lv rest) : z_V M h n b f pc lv (.int i3 :: .int i2 :: .ref a :: .int i1 :: .ref a0 :: rest) := by
  subst e1 e2 e3
  intro p e s m args below meth c A H locs ls k9 j9 hR hsz hlo hlv hk9 hj9 T hT X
  have hW := A.2.2.2.2.1
  have hown : s.vm.findClass own = some m.cls := by rw [← ho]; exact A.2.2.2.1
  have h6 : (zm_R M).frames = r0 := by rw [hrm]
  have h7 : (zm_R M).locals = 200 * r0 := by rw [hrm]
  have hty : zTy[3]? = some (.byte) := rfl
  obtain ⟨cs, g1, g2, g3, g4, g5, g6⟩ := z_ra (kk := 3) (ty := .byte) hR hW hty ha0
  have hc1 : H[a]? = some (vp_cell ((zm_G M).2.1 3) (N1, .inl y)) := z_rs hR hW h0 ha
  have hA := hW.1.2 3 _ (z_tyk (G := zm_G M) hty)
  obtain ⟨hs0, q0, hq0, cm0, hkk0⟩ := g2
  obtain ⟨-, q1, hq1, cm1, hkk1⟩ := hA.1 N1 (z_el (.inl y))
  have nn : ∀ z : Nat, z < 2 ^ 31 → (nI z).toInt = (z : Int) := fun z hz => nI_toInt hz
  have cl1 : (nI sp).toNatClampNeg = sp := nI_clamp (by omega)
  have cl2 : (nI dp).toNatClampNeg = dp := nI_clamp (by omega)
  have cl3 : (nI k).toNatClampNeg = k := nI_clamp (by omega)
  have hw9 : nativeFrameWords "java/lang/System" "arraycopy" 5 ≤ 60 := by decide +kernel
  obtain ⟨vm', X', step⟩ := X.arraycopy A.1 hown (hW.g args _ w1) (hW.g args _ w2) (hW.g args _ w3) (hW.g args _ w4) (src := a0) (dst := a) (cs := cs) (cd := vp_cell ((zm_G M).2.1 3) (N1, .inl y)) (srcPos := nI sp) (destPos := nI dp) (n := nI k) (by rw [hT]; exact g1) (by rw [hT]; exact hc1)
    hs0 (fun _ h => by cases h) g3 (fun h => by cases h) hq0 hq1 hkk0 hkk1 rfl (nI_pos (by omega)) (nI_pos (by omega)) (nI_pos (by omega))
    (by rw [nn sp (by omega), nn k (by omega)]; omega)
    (by rw [nn dp (by omega), nn k (by omega)]; show ¬ _ > ((arrV _ N1 (z_el (.inl y))).slots.size : Int); rw [arrV_size]; omega)
    (fun vm₁ hal i hi => by
      rw [cl3] at hi
      have e : cs.slots.getD ((nI sp).toNatClampNeg + i) .null = .int (x (sp + i)) := by
        rw [cl1, Array.getD_eq_getD_getElem?, g6 _ (by omega)]
        rfl
      rw [e]
      exact ⟨hfit i hi, trivial⟩)
    (g := F0 m pc ls (.int (nI k) :: .int (nI dp) :: .ref a :: .int (nI sp) :: .ref a0 :: rest)) rfl (by show ls.size = _; rw [A.2.2.1]; exact hlv.1) (rest := rest) rfl (by rw [A.2.1, hb]; exact d) (by omega) (by show 2 * 0 + (rest.map fun v => v.category).sum + (nativeFrameWords "java/lang/System" "arraycopy" 5 + 11) ≤ _; omega)
  have e1 : copied cs (vp_cell ((zm_G M).2.1 3) (N1, .inl y)) (nI sp) (nI dp) (nI k) = vp_cell ((zm_G M).2.1 3) (N1, .inl (va_cpy x y sp dp k)) := by
    unfold copied
    rw [cl1, cl2, cl3, vp_cell_i, vp_cell_i]
    exact z_copied (fun z => .int z) _ x y g6 hs
  rw [e1] at X' step
  have hl : a < H.size := (Array.getElem?_eq_some_iff.mp hc1).1
  have hheap : ((T.setVm vm').setCell a (vp_cell ((zm_G M).2.1 3) (N1, .inl (va_cpy x y sp dp k)))).heap = H.setIfInBounds a (vp_cell ((zm_G M).2.1 3) (N1, .inl (va_cpy x y sp dp k))) := by rw [← hT]; rfl
  obtain ⟨t, a1, b1⟩ := kk9 p e s m args below meth c A _ _ ls k9 j9 (hR.put h0 (by simp) (fun q hq => by simp [Array.getElem?_setIfInBounds, Ne.symm hq]) (show (H.setIfInBounds a _)[a]? = some (vp_cell _ _) by simp [Array.getElem?_setIfInBounds, hl])) hsz (fun q hq => by
      rcases List.mem_append.mp hq with h | h
      · exact hlo q h
      · obtain ⟨z, -, hz⟩ := List.mem_map.mp h
        rw [← hz]
        exact h0) hlv hk9 hj9 _ hheap X'
  exact ⟨t, step t a1, b1⟩
theorem z_copyo {N N1 a0 a sp dp k idx : Nat} {x y : Nat → Option Nat} {r0 mc0 ms0 : Nat} (hb : zm_c M = cc) (ho : zm_o M = own) (hrm : zm_R M = z_rm r0 mc0 ms0) (hr0 : 1 ≤ r0) (w1 : Cond.methodLink own idx arraycopyName ∈ lw_all) (w2 : Cond.native arraycopyName ∈ lw_all) (w3 : Cond.static arraycopyName ∈ lw_all) (w4 : Cond.initialized "java/lang/System" ∈ lw_all) (d : decode cc pc = .ok (.invokestatic idx, 3))
    (ha0 : h a0 = some (.inl ((zm_G M).2.1 5, N, .inr (.inr (.inr (.inr x)))))) (ha : h a = some (.inl ((zm_G M).2.1 5, N1, .inr (.inr (.inr (.inr y)))))) (h0 : z_n0 (zm_G M) ≤ a) {i1 i2 i3 : Int32} (e1 : i1 = nI sp) (e2 : i2 = nI dp) (e3 : i3 = nI k) (hs : sp + k ≤ N) (hd : dp + k ≤ N1) (hN : N < 2 ^ 30) (hN1 : N1 < 2 ^ 30) (hel : ∀ i, i < k → ∀ y : Nat, x (sp + i) = some y → ∃ (ci : Nat) (fs : List Value) (r : vw_C), h y = some (.inr (ci, fs)) ∧ zCL[ci]? = some r ∧ Cond.castable r.1 "java/lang/Object" ∈ lw_tbl) (hst : (rest.map fun v => v.category).sum ≤ 100)
    (kk9 : z_V M (z_up h a (.inl ((zm_G M).2.1 5, N1, .inr (.inr (.inr (.inr (va_cpy x y sp dp k))))))) n b f (pc + 3) lv rest) : z_V M h n b f pc lv (.int i3 :: .int i2 :: .ref a :: .int i1 :: .ref a0 :: rest) := by
  subst e1 e2 e3
  intro p e s m args below meth c A H locs ls k9 j9 hR hsz hlo hlv hk9 hj9 T hT X
  have hW := A.2.2.2.2.1
  have hown : s.vm.findClass own = some m.cls := by rw [← ho]; exact A.2.2.2.1
  have h6 : (zm_R M).frames = r0 := by rw [hrm]
  have h7 : (zm_R M).locals = 200 * r0 := by rw [hrm]
  have hty : zTy[5]? = some (.object "java/lang/Object") := rfl
  obtain ⟨cs, g1, g2, g3, g4, g5, g6⟩ := z_ra (kk := 5) (ty := .object "java/lang/Object") hR hW hty ha0
  have hc1 : H[a]? = some (vp_cell ((zm_G M).2.1 5) (N1, .inr (.inr (.inr (.inr y))))) := z_rs hR hW h0 ha
  have hA := hW.1.2 5 _ (z_tyk (G := zm_G M) hty)
  obtain ⟨hs0, q0, hq0, cm0, hkk0⟩ := g2
  obtain ⟨-, q1, hq1, cm1, hkk1⟩ := hA.1 N1 (z_el (.inr (.inr (.inr (.inr y)))))
  have nn : ∀ z : Nat, z < 2 ^ 31 → (nI z).toInt = (z : Int) := fun z hz => nI_toInt hz
  have cl1 : (nI sp).toNatClampNeg = sp := nI_clamp (by omega)
  have cl2 : (nI dp).toNatClampNeg = dp := nI_clamp (by omega)
  have cl3 : (nI k).toNatClampNeg = k := nI_clamp (by omega)
  have hw9 : nativeFrameWords "java/lang/System" "arraycopy" 5 ≤ 60 := by decide +kernel
  obtain ⟨vm', X', step⟩ := X.arraycopy A.1 hown (hW.g args _ w1) (hW.g args _ w2) (hW.g args _ w3) (hW.g args _ w4) (src := a0) (dst := a) (cs := cs) (cd := vp_cell ((zm_G M).2.1 5) (N1, .inr (.inr (.inr (.inr y))))) (srcPos := nI sp) (destPos := nI dp) (n := nI k) (by rw [hT]; exact g1) (by rw [hT]; exact hc1)
    hs0 (fun _ h => by cases h) g3 (fun h => by cases h) hq0 hq1 hkk0 hkk1 rfl (nI_pos (by omega)) (nI_pos (by omega)) (nI_pos (by omega))
    (by rw [nn sp (by omega), nn k (by omega)]; omega)
    (by rw [nn dp (by omega), nn k (by omega)]; show ¬ _ > ((arrV _ N1 (z_el (.inr (.inr (.inr (.inr y)))))).slots.size : Int); rw [arrV_size]; omega)
    (fun vm₁ hal i hi => by
      rw [cl3] at hi
      have e : cs.slots.getD ((nI sp).toNatClampNeg + i) .null = va_rf (x (sp + i)) := by
        rw [cl1, Array.getD_eq_getD_getElem?, g6 _ (by omega)]
        rfl
      rw [e]
      cases hy : x (sp + i) with
      | none => exact ⟨rfl, trivial⟩
      | some y9 =>
        obtain ⟨ci9, fs9, r9, v0, v1, v2⟩ := hel i hi y9 hy
        obtain ⟨cellV, v3, v4, v5⟩ := z_rc hR hW v1 v0
        obtain ⟨c0, t1, f1, f2, f3⟩ := Cond.castable_spec (hW.w v2 rfl rfl args)
        cases v5.symm.trans f1
        obtain ⟨kC, hkC, -⟩ := Vm.findClass_spec v5
        obtain ⟨kA, comp, r1, r2, r3, -⟩ := hA.2
        cases hq1.symm.trans r1
        cases hkk1.symm.trans r2
        cases r3.symm.trans f2
        obtain ⟨kE, hkE, -⟩ := Vm.findClass_spec r3
        obtain ⟨kC', hkC', -⟩ := hal.2.2 _ _ hkC
        obtain ⟨kE', hkE', -⟩ := hal.2.2 _ _ hkE
        refine ⟨rfl, cellV, (show T.heap[y9]? = some cellV by rw [hT]; exact v3), (fun q h => by rw [h] at v4; cases v4), ⟨kC', hkC'⟩, ?_, ?_⟩
        · exact ⟨kE', hkE'⟩
        · show vm₁.assignable _ _ = true
          rw [hal.assignable]
          exact f3)
    (g := F0 m pc ls (.int (nI k) :: .int (nI dp) :: .ref a :: .int (nI sp) :: .ref a0 :: rest)) rfl (by show ls.size = _; rw [A.2.2.1]; exact hlv.1) (rest := rest) rfl (by rw [A.2.1, hb]; exact d) (by omega) (by show 2 * 0 + (rest.map fun v => v.category).sum + (nativeFrameWords "java/lang/System" "arraycopy" 5 + 11) ≤ _; omega)
  have e1 : copied cs (vp_cell ((zm_G M).2.1 5) (N1, .inr (.inr (.inr (.inr y))))) (nI sp) (nI dp) (nI k) = vp_cell ((zm_G M).2.1 5) (N1, .inr (.inr (.inr (.inr (va_cpy x y sp dp k))))) := by
    unfold copied
    rw [cl1, cl2, cl3, vp_cell_q, vp_cell_q]
    exact z_copied (fun z => va_rf z) _ x y g6 hs
  rw [e1] at X' step
  have hl : a < H.size := (Array.getElem?_eq_some_iff.mp hc1).1
  have hheap : ((T.setVm vm').setCell a (vp_cell ((zm_G M).2.1 5) (N1, .inr (.inr (.inr (.inr (va_cpy x y sp dp k))))))).heap = H.setIfInBounds a (vp_cell ((zm_G M).2.1 5) (N1, .inr (.inr (.inr (.inr (va_cpy x y sp dp k)))))) := by rw [← hT]; rfl
  obtain ⟨t, a1, b1⟩ := kk9 p e s m args below meth c A _ _ ls k9 j9 (hR.put h0 (by simp) (fun q hq => by simp [Array.getElem?_setIfInBounds, Ne.symm hq]) (show (H.setIfInBounds a _)[a]? = some (vp_cell _ _) by simp [Array.getElem?_setIfInBounds, hl])) hsz (fun q hq => by
      rcases List.mem_append.mp hq with h | h
      · exact hlo q h
      · obtain ⟨z, -, hz⟩ := List.mem_map.mp h
        rw [← hz]
        exact h0) hlv hk9 hj9 _ hheap X'
  exact ⟨t, step t a1, b1⟩
/-- the heap as the kit's lists of cells see it: nothing that the law may write -/
theorem z_cast {a ci idx : Nat} {r : vw_C} {fs : List Value} {nm : String} (hb : zm_c M = cc) (ho : zm_o M = own) (hc : zCL[ci]? = some r) (ha : h a = some (.inr (ci, fs))) (w1 : Cond.classLink own idx nm ∈ lw_all) (w2 : nm = r.1 ∨ Cond.castable r.1 nm ∈ lw_tbl) (d : decode cc pc = .ok (.checkcast idx, 3)) (kk : z_V M h n b f (pc + 3) lv (.ref a :: rest)) : z_V M h n b f pc lv (.ref a :: rest) := by
  intro p e s m args below meth c A H locs ls k9 j9 hR hsz hlo hlv hk9 hj9
  have hW := A.2.2.2.2.1
  have hown : s.vm.findClass own = some m.cls := by rw [← ho]; exact A.2.2.2.1
  have kk' := kk p e s m args below meth c A H locs ls k9 j9 hR hsz hlo hlv hk9 hj9
  rcases w2 with q | q
  · exact va_castE A.1 (A.2.1.trans hb) hown (hW.g args _ w1) (by rw [q]; exact z_rc hR hW hc ha) d kk'
  · exact va_castY A.1 (A.2.1.trans hb) hown (hW.g args _ w1) (hW.2.1 _ q rfl) (z_rc hR hW hc ha) d kk'
theorem z_castN {idx : Nat} (hb : zm_c M = cc) (d : decode cc pc = .ok (.checkcast idx, 3)) (kk : z_V M h n b f (pc + 3) lv (.null :: rest)) : z_V M h n b f pc lv (.null :: rest) := z_go (fun A hl k => lv_castN A.1 (A.2.1.trans hb) d (k _ hl)) kk
theorem z_instY {a ci idx : Nat} {r : vw_C} {fs : List Value} {nm : String} (hb : zm_c M = cc) (ho : zm_o M = own) (hc : zCL[ci]? = some r) (ha : h a = some (.inr (ci, fs))) (w1 : Cond.classLink own idx nm ∈ lw_all) (w2 : Cond.castable r.1 nm ∈ lw_tbl) (d : decode cc pc = .ok (.instanceof idx, 3)) (kk : z_V M h n b f (pc + 3) lv (.int 1 :: rest)) : z_V M h n b f pc lv (.ref a :: rest) := by
  intro p e s m args below meth c A H locs ls k9 j9 hR hsz hlo hlv hk9 hj9
  have hW := A.2.2.2.2.1
  have hown : s.vm.findClass own = some m.cls := by rw [← ho]; exact A.2.2.2.1
  exact va_instY A.1 (A.2.1.trans hb) hown (hW.g args _ w1) (hW.2.1 _ w2 rfl) (z_rc hR hW hc ha) d (kk p e s m args below meth c A H locs ls k9 j9 hR hsz hlo hlv hk9 hj9)
/-- instanceof its own class -/
theorem z_instE {a ci idx : Nat} {r : vw_C} {fs : List Value} (hb : zm_c M = cc) (ho : zm_o M = own) (hc : zCL[ci]? = some r) (ha : h a = some (.inr (ci, fs))) (w1 : Cond.classLink own idx r.1 ∈ lw_all) (d : decode cc pc = .ok (.instanceof idx, 3)) (kk : z_V M h n b f (pc + 3) lv (.int 1 :: rest)) : z_V M h n b f pc lv (.ref a :: rest) := by
  intro p e s m args below meth c A H locs ls k9 j9 hR hsz hlo hlv hk9 hj9
  have hW := A.2.2.2.2.1
  have hown : s.vm.findClass own = some m.cls := by rw [← ho]; exact A.2.2.2.1
  exact va_instE A.1 (A.2.1.trans hb) hown (hW.g args _ w1) (z_rc hR hW hc ha) d (kk p e s m args below meth c A H locs ls k9 j9 hR hsz hlo hlv hk9 hj9)
theorem z_instNo {a ci idx : Nat} {r : vw_C} {fs : List Value} {nm : String} (hb : zm_c M = cc) (ho : zm_o M = own) (hc : zCL[ci]? = some r) (ha : h a = some (.inr (ci, fs))) (w1 : Cond.classLink own idx nm ∈ lw_all) (w2 : (r.1, nm) ∈ zNc) (d : decode cc pc = .ok (.instanceof idx, 3)) (kk : z_V M h n b f (pc + 3) lv (.int 0 :: rest)) : z_V M h n b f pc lv (.ref a :: rest) := by
  intro p e s m args below meth c A H locs ls k9 j9 hR hsz hlo hlv hk9 hj9
  have hW := A.2.2.2.2.1
  have hown : s.vm.findClass own = some m.cls := by rw [← ho]; exact A.2.2.2.1
  exact va_instNo A.1 (A.2.1.trans hb) hown (hW.g args _ w1) (hW.2.2.2.2.2.2.1 _ w2) (z_rc hR hW hc ha) d (kk p e s m args below meth c A H locs ls k9 j9 hR hsz hlo hlv hk9 hj9)
theorem z_instN {idx : Nat} (hb : zm_c M = cc) (d : decode cc pc = .ok (.instanceof idx, 3)) (kk : z_V M h n b f (pc + 3) lv (.int 0 :: rest)) : z_V M h n b f pc lv (.null :: rest) := z_go (fun A hl k => lv_instN A.1 (A.2.1.trans hb) d (k _ hl)) kk
/-- a static that the lists hold -/
theorem z_gets {i idx : Nat} {q : String × String × String × Value} (hb : zm_c M = cc) (ho : zm_o M = own) (hq : (zSts (zm_G M))[i]? = some q) (hl : z_fl own idx (q.1, q.2.1, q.2.2.1, false)) (d : decode cc pc = .ok (.getstatic idx, 3)) (kk : z_V M h n b f (pc + 3) lv (q.2.2.2 :: rest)) : z_V M h n b f pc lv rest := by
  intro p e s m args below meth c A H locs ls k9 j9 hR hsz hlo hlv hk9 hj9
  have hW := A.2.2.2.2.1
  have hown : s.vm.findClass own = some m.cls := by rw [← ho]; exact A.2.2.2.1
  obtain ⟨cf, kf, fi, f9, a9, cell, h1, h2, h3, h4, h5, h6, h7, -⟩ := hW.2.2.2.2.2.1 i q hq
  have hlt : a9 < z_n0 (zm_G M) := (Array.getElem?_eq_some_iff.mp h5).1
  obtain ⟨ref, hsame, hlk⟩ := hl
  have hi : s.fieldFound? ref q.2.1 q.2.2.1 = some (cf, kf, fi, f9) := by
    rcases hsame with g | g
    · rw [g]; exact h1
    · exact u_same (hW.g args _ g) _ h1
  have kk' := kk p e s m args below meth c A H locs ls k9 j9 hR hsz hlo hlv hk9 hj9
  rcases hlk with g | ⟨host, g⟩
  · exact W.gets A.1 (A.2.1.trans hb) hown (hW.g args _ g) hi h2 h3 h4 (by rw [hR.2.2.1 a9 hlt]; exact h5) (fun e => by rw [e] at h6; cases h6) h7 rfl d kk'
  · exact va_WgetsN A.1 (A.2.1.trans hb) hown (hW.w g rfl rfl args) hi h2 h3 h4 (by rw [hR.2.2.1 a9 hlt]; exact h5) (fun e => by rw [e] at h6; cases h6) h7 rfl d kk'
/-- Throwable's own two statics: a reference or null -/
theorem z_getsQ {C nf df : String} {idx : Nat} (hb : zm_c M = cc) (ho : zm_o M = own) (hz : ∀ s : State, z_Wd (zm_G M) s → va_Zq C nf df (fun _ => False) s (zm_G M).2.2.2.2) (hl : Cond.fieldLink own idx C nf df ∈ lw_all) (d : decode cc pc = .ok (.getstatic idx, 3)) (kk : ∀ v : Value, v = .null ∨ (∃ t, v = .ref t) → z_V M h n b f (pc + 3) lv (v :: rest)) : z_V M h n b f pc lv rest := by
  intro p e s m args below meth c A H locs ls k9 j9 hR hsz hlo hlv hk9 hj9
  have hW := A.2.2.2.2.1
  have hown : s.vm.findClass own = some m.cls := by rw [← ho]; exact A.2.2.2.1
  have key : ∀ v : Value, va_Z C nf df v (fun _ => False) s (zm_G M).2.2.2.2 → (v = .null ∨ ∃ t, v = .ref t) → W p (zm_l M) e (zm_R M) s m args below meth c H locs k9 j9 (z_MQ M below args s) (F0 m pc ls rest) := by
    intro v hv hv2
    obtain ⟨cf, kf, fi, f9, a9, cell, h1, h2, h3, h4, h5, h6, h7, -⟩ := hv
    have hlt : a9 < z_n0 (zm_G M) := (Array.getElem?_eq_some_iff.mp h5).1
    exact W.gets A.1 (A.2.1.trans hb) hown (hW.g args _ hl) h1 h2 h3 h4 (by rw [hR.2.2.1 a9 hlt]; exact h5) (fun e => by rw [e] at h6; cases h6) h7 rfl d (kk v hv2 p e s m args below meth c A H locs ls k9 j9 hR hsz hlo hlv hk9 hj9)
  rcases hz s hW with g | ⟨t, g⟩
  · exact key _ g (Or.inl rfl)
  · exact key _ g (Or.inr ⟨t, rfl⟩)
theorem z_ldcS {i idx : Nat} {q : String × Nat × String} (hb : zm_c M = cc) (ho : zm_o M = own) (hq : zStr[i]? = some q) (h1 : q.1 = own) (h2 : q.2.1 = idx) (d : decode cc pc = .ok (.ldc idx, 2)) (kk : z_V M h n b f (pc + 2) lv (.ref ((zm_G M).2.2.1 i) :: rest)) : z_V M h n b f pc lv rest := by
  intro p e s m args below meth c A H locs ls k9 j9 hR hsz hlo hlv hk9 hj9
  have hW := A.2.2.2.2.1
  have hown : s.vm.findClass own = some m.cls := by rw [← ho]; exact A.2.2.2.1
  have hv := hW.2.2.2.2.1 i q hq
  rw [h1, h2] at hv
  exact va_ldcS A.1 (A.2.1.trans hb) hown hv d (kk p e s m args below meth c A H locs ls k9 j9 hR hsz hlo hlv hk9 hj9)
theorem z_ldc {idx : Nat} {v : Int32} (hb : zm_c M = cc) (ho : zm_o M = own) (w : Cond.constant own idx v ∈ lw_all) (d : decode cc pc = .ok (.ldc idx, 2)) (kk : z_V M h n b f (pc + 2) lv (.int v :: rest)) : z_V M h n b f pc lv rest := by
  intro p e s m args below meth c A H locs ls k9 j9 hR hsz hlo hlv hk9 hj9
  have hown : s.vm.findClass own = some m.cls := by rw [← ho]; exact A.2.2.2.1
  exact lv_ldc A.1 (A.2.1.trans hb) hown (A.2.2.2.2.1.g args _ w) d (kk p e s m args below meth c A H locs ls k9 j9 hR hsz hlo hlv hk9 hj9)
theorem z_ldc2 {idx : Nat} {v : Int64} (hb : zm_c M = cc) (ho : zm_o M = own) (w : Cond.constantLong own idx v ∈ lw_all) (d : decode cc pc = .ok (.ldc2_w idx, 3)) (kk : z_V M h n b f (pc + 3) lv (.long v :: rest)) : z_V M h n b f pc lv rest := by
  intro p e s m args below meth c A H locs ls k9 j9 hR hsz hlo hlv hk9 hj9
  have hown : s.vm.findClass own = some m.cls := by rw [← ho]; exact A.2.2.2.1
  exact lv_ldc2 A.1 (A.2.1.trans hb) hown (A.2.2.2.2.1.g args _ w) d (kk p e s m args below meth c A H locs ls k9 j9 hR hsz hlo hlv hk9 hj9)
theorem z_fret {x : UInt32} (hb : zm_c M = cc) (hr : zm_r M = some .float) (d : decode cc pc = .ok (.freturn, 1)) (hq : zm_Q M (.returned (some (.float x))) h n) : z_V M h n b f pc lv [.float x] :=
  fun p e s m args below meth c A H locs ls k j hR hsz hlo hlv hk hj => z_end hR hk hj hlo hq (W.fret A.1 (A.2.1.trans hb) (A.2.2.2.2.2.1.trans hr) (fun t ht _ => ⟨rfl, ht⟩) hlo d A.2.2.2.2.2.2.1)
theorem z_dret {x : UInt64} (hb : zm_c M = cc) (hr : zm_r M = some .double) (d : decode cc pc = .ok (.dreturn, 1)) (hq : zm_Q M (.returned (some (.double x))) h n) : z_V M h n b f pc lv [.double x] :=
  fun p e s m args below meth c A H locs ls k j hR hsz hlo hlv hk hj => z_end hR hk hj hlo hq (W.dret A.1 (A.2.1.trans hb) (A.2.2.2.2.2.1.trans hr) (fun t ht _ => ⟨rfl, ht⟩) hlo d A.2.2.2.2.2.2.1)
end ZC
