section ZCLN
variable {M : zM} {h : zH} {n b f pc : Nat} {lv : List (Nat × Value)} {rest : List Value} {cc : ByteArray} {own : String}
theorem z_castB {a idx N : Nat} {x : Nat → Int32} (hb : zm_c M = cc) (ho : zm_o M = own) (ha : h a = some (z_ab (zm_G M) N x)) (h0 : z_n0 (zm_G M) ≤ a) (w1 : Cond.classLink own idx "[B" ∈ lw_all) (d : decode cc pc = .ok (.checkcast idx, 3)) (kk : z_V M h n b f (pc + 3) lv (.ref a :: rest)) : z_V M h n b f pc lv (.ref a :: rest) := by
  intro p e s m args below meth c A H locs ls k9 j9 hR hsz hlo hlv hk9 hj9
  have hW := A.2.2.2.2.1
  have hown : s.vm.findClass own = some m.cls := by rw [← ho]; exact A.2.2.2.1
  have kk' := kk p e s m args below meth c A H locs ls k9 j9 hR hsz hlo hlv hk9 hj9
  have hc1 : H[a]? = some (vp_cell ((zm_G M).2.1 3) (N, .inl x)) := z_rs hR hW h0 ha
  have hnm : s.vm.findClass "[B" = some ((zm_G M).2.1 3) := (hW.1.2 3 _ (z_tyk (G := zm_G M) (kk := 3) (ty := .byte) rfl)).2
  exact va_castE A.1 (A.2.1.trans hb) hown (hW.g args _ w1) ⟨_, hc1, rfl, hnm⟩ d kk'
theorem z_cloneb {a N idx b' f' : Nat} {x : Nat → Int32} {r0 mc0 ms0 : Nat} (hb : zm_c M = cc) (ho : zm_o M = own) (hrm : zm_R M = z_rm r0 mc0 ms0) (hr0 : 1 ≤ r0) (w1 : Cond.methodLink own idx ⟨"[B", "clone", "()Ljava/lang/Object;"⟩ ∈ lw_all) (d : decode cc pc = .ok (.invokevirtual idx, 3)) (ha : h a = some (z_ab (zm_G M) N x)) (h0 : z_n0 (zm_G M) ≤ a) (hfit : ∀ i, i < N → fits .byte (.int (x i)) = true)
    (hst : (rest.map fun v => v.category).sum ≤ 100) (hbb : b' + 1 ≤ b) (hff : f' + N ≤ f) (kk9 : z_V M (z_up h n (z_ab (zm_G M) N x)) (n + 1) b' f' (pc + 3) lv (.ref n :: rest)) : z_V M h n b f pc lv (.ref a :: rest) := by
  intro p e s m args below meth c A H locs ls k9 j9 hR hsz hlo hlv hk9 hj9 T hT X
  have hW := A.2.2.2.2.1
  have hexec := A.1
  have hown : s.vm.findClass own = some m.cls := by rw [← ho]; exact A.2.2.2.1
  have h6 : (zm_R M).frames = r0 := by rw [hrm]
  have h7 : (zm_R M).locals = 200 * r0 := by rw [hrm]
  have hc1 : H[a]? = some (vp_cell ((zm_G M).2.1 3) (N, .inl x)) := z_rs hR hW h0 ha
  have hty := hW.1.2 3 _ (z_tyk (G := zm_G M) (kk := 3) (ty := .byte) rfl)
  have hnm : s.vm.findClass "[B" = some ((zm_G M).2.1 3) := hty.2
  have hsz1 : (vp_cell ((zm_G M).2.1 3) (N, .inl x)).slots.size = N := arrV_size _ _ _
  obtain ⟨c0, t0', f1, f2, f3⟩ := Cond.castable_spec (va_Nw.use (A := args) rfl (hW.2.1 _ q941 rfl))
  cases hnm.symm.trans f1
  have hcellT : T.heap[a]? = some (vp_cell ((zm_G M).2.1 3) (N, .inl x)) := by rw [hT]; exact hc1
  obtain ⟨-, kA, hkA, comp, hkind⟩ := State.isArrayOf_alike X.warmed.alike (hty.1 0 (fun _ => .null))
  obtain ⟨-, kS, hkS, compS, hkindS⟩ := hty.1 0 (fun _ => .null)
  have hcc : c.code = cc := A.2.1.trans hb
  obtain ⟨vm', X', st⟩ := X.cloneArray hexec hown (hW.g args _ w1) (hW.g args _ q937) (hW.g args _ q938) (hW.g args _ q939) (hW.g args _ q940) (a := a) (cell := vp_cell ((zm_G M).2.1 3) (N, .inl x)) hcellT (fun k h => nomatch h) (fun h => nomatch h) hnm f2 f3
    (fun i v hv => by
      have hk' : T.vm.classes[(zm_G M).2.1 3]? = some kA := hkA
      have hv2 := va_fit (ty := .byte) (n := N) (F := fun j => Value.int (x j)) hfit i v hv
      show T.fitsSlot ((zm_G M).2.1 3) .none i v = true
      simpa [State.fitsSlot, State.slotType?, hk', hkind] using hv2)
    (g := F0 m pc ls (.ref a :: rest)) rfl (hlv.1.trans A.2.2.1.symm) rfl (by rw [hcc]; exact d) (by omega) (by show 2 * 0 + _ + 14 ≤ _; omega) (by omega) (by rw [hsz1]; omega) (hloader := Vm.clonesLoader_of_array hkS hkindS)
  have hcellE : ({ cls := (vp_cell ((zm_G M).2.1 3) (N, .inl x)).cls, slots := (vp_cell ((zm_G M).2.1 3) (N, .inl x)).slots } : Cell) = vp_cell ((zm_G M).2.1 3) (N, .inl x) := rfl
  rw [hcellE, hsz1] at X'
  have hn : H.size = n := hR.1
  have z1 : (H.push (vp_cell ((zm_G M).2.1 3) (N, .inl x))).size = n + 1 := by rw [Array.size_push, hn]
  have e1 : (H.push (vp_cell ((zm_G M).2.1 3) (N, .inl x)))[n]? = some (vp_cell ((zm_G M).2.1 3) (N, .inl x)) := by rw [← hn, Array.getElem?_push_size]
  have o1 : ∀ q : Nat, q < n → (H.push (vp_cell ((zm_G M).2.1 3) (N, .inl x)))[q]? = H[q]? := fun q hq => by rw [Array.getElem?_push, if_neg (by omega)]
  obtain ⟨t, b1, b2⟩ := kk9 p e s m args below meth c A _ locs ls (k9 + 1) (j9 + N) (hR.push z1 o1 e1) (by omega) hlo hlv (by omega) (by omega) ((T.setVm vm').pushCell (vp_cell ((zm_G M).2.1 3) (N, .inl x))) (by rw [← hT]; rfl) X'
  refine ⟨t, st t ?_, b2⟩
  rw [hcellE, hT, hn]
  exact b1
end ZCLN

