/-- an answer that is true or false -/
def z_b (c : Bool) : Int32 := bif c then 1 else 0
theorem z_b_t : z_b true = 1 := rfl
theorem z_b_f : z_b false = 0 := rfl
theorem z_bnar (c : Bool) : narrow .boolean (.int (z_b c)) = .int (z_b c) := by cases c <;> rfl
theorem z_nxs {h h2 : zH} {a : Nat} {e : va_E} (he : h2 = z_up h a e) : h2 a = some e := by rw [he]; exact z_up_s
theorem z_nx {h h2 : zH} {a b : Nat} {e e' : va_E} (he : h2 = z_up h a e) (hne : b ≠ a) (hb : h b = some e') : h2 b = some e' := by rw [he, z_up_n hne]; exact hb
theorem z_neO {h : zH} {a b c1 c2 : Nat} {fs gs : List Value} (h1 : h a = some (.inr (c1, fs))) (h2 : h b = some (.inr (c2, gs))) (hc : Nat.beq c1 c2 = false) : a ≠ b := by
  intro q
  rw [q] at h1
  have e := h1.symm.trans h2
  have e2 : c1 = c2 := by injection e with e; injection e with e; injection e
  rw [e2, Nat.beq_refl] at hc
  cases hc
theorem z_neA {h : zH} {a b : Nat} {x : Nat × List Value} {y : ClassId × vp_A} (h1 : h a = some (.inr x)) (h2 : h b = some (.inl y)) : a ≠ b := by
  intro q
  rw [q] at h1
  exact nomatch h1.symm.trans h2
theorem z_neA' {h : zH} {a b : Nat} {x : Nat × List Value} {y : ClassId × vp_A} (h1 : h a = some (.inl y)) (h2 : h b = some (.inr x)) : a ≠ b := (z_neA h2 h1).symm
/-- ends of a method: one answer, one heap -/
def z_rv (w : Value) (X : zH) (N : Nat) : zQ := fun o h' n' => o = .returned (some w) ∧ h' = X ∧ n' = N
def z_r0 (X : zH) (N : Nat) : zQ := fun o h' n' => o = .returned none ∧ h' = X ∧ n' = N
/-- it throws a new exception of the class ci, whose fields aren't told -/
def z_rx (ci : Nat) (h : zH) (n : Nat) : zQ := fun o h' n' => o = .threw n ∧ h' = z_up h n (.inr (ci, [])) ∧ n' = n + 1
def z_q1 (P : Value → zH → Nat → Prop) : zQ := fun o h' n' => ∃ w, o = .returned (some w) ∧ P w h' n'
def z_q0 (P : zH → Nat → Prop) : zQ := fun o h' n' => o = .returned none ∧ P h' n'
def z_qx (Q : zQ) (P : Nat → zH → Nat → Prop) : zQ := fun o h' n' => Q o h' n' ∨ ∃ q, o = .threw q ∧ P q h' n'
/-- it goes on where c holds, else it throws -/
def z_qc (c : Bool) (ci : Nat) (h : zH) (n : Nat) : zQ := bif c then z_r0 h n else z_rx ci h n
def z_qcv (c : Bool) (w : Value) (ci : Nat) (h : zH) (n : Nat) : zQ := bif c then z_rv w h n else z_rx ci h n
theorem z_qc_t {c : Bool} {ci : Nat} {h : zH} {n : Nat} {o : Outcome} {h' : zH} {n' : Nat} (hc : c = true) (q : z_r0 h n o h' n') : z_qc c ci h n o h' n' := by rw [hc]; exact q
theorem z_qc_f {c : Bool} {ci : Nat} {h : zH} {n : Nat} {o : Outcome} {h' : zH} {n' : Nat} (hc : c = false) (q : z_rx ci h n o h' n') : z_qc c ci h n o h' n' := by rw [hc]; exact q
theorem z_qcv_t {c : Bool} {w : Value} {ci : Nat} {h : zH} {n : Nat} {o : Outcome} {h' : zH} {n' : Nat} (hc : c = true) (q : z_rv w h n o h' n') : z_qcv c w ci h n o h' n' := by rw [hc]; exact q
theorem z_qcv_f {c : Bool} {w : Value} {ci : Nat} {h : zH} {n : Nat} {o : Outcome} {h' : zH} {n' : Nat} (hc : c = false) (q : z_rx ci h n o h' n') : z_qcv c w ci h n o h' n' := by rw [hc]; exact q
theorem z_rvb0 {c : Bool} {X : zH} {N : Nat} (hc : c = false) : z_rv (.int (z_b c)) X N (.returned (some (.int (nI 0)))) X N := by rw [hc]; exact ⟨rfl, rfl, rfl⟩
theorem z_rvb1 {c : Bool} {X : zH} {N : Nat} (hc : c = true) : z_rv (.int (z_b c)) X N (.returned (some (.int (nI 1)))) X N := by rw [hc]; exact ⟨rfl, rfl, rfl⟩
theorem z_rve {w w' : Value} {X : zH} {N : Nat} (e : w' = w) : z_rv w X N (.returned (some w')) X N := by rw [e]; exact ⟨rfl, rfl, rfl⟩
theorem z_C.mono {l : Launch} {G : zG} {y : MethodName} {r mc ms : Nat} {av : List Value} {h : zH} {n : Nat} {Q Q' : zQ} (hq : ∀ o h' n', Q o h' n' → Q' o h' n') (C : z_C l G y r mc ms av h n Q) : z_C l G y r mc ms av h n Q' := by
  intro hfl p e a1 a2 a3 s m args below b1 b2 b3 b4
  obtain ⟨k, o, t, h1, h2, h3, ⟨h', h5, h6⟩, h7⟩ := C hfl p e a1 a2 a3 s m args below b1 b2 b3 b4
  exact ⟨k, o, t, h1, h2, h3, ⟨h', h5, hq _ _ _ h6⟩, h7⟩
section ZN
variable {M : zM} {h : zH} {n b f pc : Nat} {lv : List (Nat × Value)} {rest : List Value} {cc : ByteArray} {own : String}
variable {y : MethodName} {len r r0 mc ms mc0 ms0 b' f' : Nat} {st av : List Value} {bytes : ByteArray} {maxL : Nat} {ret : Option FieldType} {hh : List (Nat × Nat × Nat × Nat)}
theorem z_call1 {w : Value} {X : zH} {N : Nat} (S : z_Site M h n y len pc st rest av) (hcode : z_code y bytes maxL ret hh) (hini : Cond.initialized y.cls ∈ lw_all) (hrm : zm_R M = z_rm r0 mc0 ms0) (C : z_C (zm_l M) (zm_G M) y r mc ms av h n (z_rv w X N)) (hr : r < r0) (hL : maxL ≤ 120) (hst : (rest.map fun v => v.category).sum ≤ 60) (hbb : b' + mc ≤ b) (hff : f' + ms ≤ f) (kk : z_V M X N b' f' (pc + len) lv (w :: rest)) : z_V M h n b f pc lv st := by
  refine z_call S hcode hini hrm C hr hL hst hbb hff ?_ ?_
  · rintro v h' n' ⟨e1, rfl, rfl⟩ -
    cases e1
    exact kk
  · rintro q h' n' ⟨e1, -⟩ -
    cases e1
theorem z_call0 {X : zH} {N : Nat} (S : z_Site M h n y len pc st rest av) (hcode : z_code y bytes maxL ret hh) (hini : Cond.initialized y.cls ∈ lw_all) (hrm : zm_R M = z_rm r0 mc0 ms0) (C : z_C (zm_l M) (zm_G M) y r mc ms av h n (z_r0 X N)) (hr : r < r0) (hL : maxL ≤ 120) (hst : (rest.map fun v => v.category).sum ≤ 60) (hbb : b' + mc ≤ b) (hff : f' + ms ≤ f) (kk : z_V M X N b' f' (pc + len) lv rest) : z_V M h n b f pc lv st := by
  refine z_call S hcode hini hrm C hr hL hst hbb hff ?_ ?_
  · rintro v h' n' ⟨e1, rfl, rfl⟩ -
    cases e1
    exact kk
  · rintro q h' n' ⟨e1, -⟩ -
    cases e1
theorem z_callX {ci : Nat} (S : z_Site M h n y len pc st rest av) (hcode : z_code y bytes maxL ret hh) (hini : Cond.initialized y.cls ∈ lw_all) (hrm : zm_R M = z_rm r0 mc0 ms0) (C : z_C (zm_l M) (zm_G M) y r mc ms av h n (z_rx ci h n)) (hr : r < r0) (hL : maxL ≤ 120) (hst : (rest.map fun v => v.category).sum ≤ 60) (hbb : b' + mc ≤ b) (hff : f' + ms ≤ f) (kx : z_X M (z_up h n (.inr (ci, []))) (n + 1) b' f' pc lv n) : z_V M h n b f pc lv st := by
  refine z_call S hcode hini hrm C hr hL hst hbb hff ?_ ?_
  · rintro v h' n' ⟨e1, -⟩ -
    cases e1
  · rintro q h' n' ⟨e1, rfl, rfl⟩ -
    cases e1
    exact kx
theorem z_callC0 {c : Bool} {ci : Nat} (S : z_Site M h n y len pc st rest av) (hcode : z_code y bytes maxL ret hh) (hini : Cond.initialized y.cls ∈ lw_all) (hrm : zm_R M = z_rm r0 mc0 ms0) (C : z_C (zm_l M) (zm_G M) y r mc ms av h n (z_qc c ci h n)) (hr : r < r0) (hL : maxL ≤ 120) (hst : (rest.map fun v => v.category).sum ≤ 60) (hbb : b' + mc ≤ b) (hff : f' + ms ≤ f) (kk : c = true → z_V M h n b' f' (pc + len) lv rest) (kx : c = false → z_X M (z_up h n (.inr (ci, []))) (n + 1) b' f' pc lv n) : z_V M h n b f pc lv st := by
  cases hc : c
  · rw [hc] at C
    exact z_callX S hcode hini hrm C hr hL hst hbb hff (kx hc)
  · rw [hc] at C
    exact z_call0 S hcode hini hrm C hr hL hst hbb hff (kk hc)
theorem z_callC1 {c : Bool} {w : Value} {ci : Nat} (S : z_Site M h n y len pc st rest av) (hcode : z_code y bytes maxL ret hh) (hini : Cond.initialized y.cls ∈ lw_all) (hrm : zm_R M = z_rm r0 mc0 ms0) (C : z_C (zm_l M) (zm_G M) y r mc ms av h n (z_qcv c w ci h n)) (hr : r < r0) (hL : maxL ≤ 120) (hst : (rest.map fun v => v.category).sum ≤ 60) (hbb : b' + mc ≤ b) (hff : f' + ms ≤ f) (kk : c = true → z_V M h n b' f' (pc + len) lv (w :: rest)) (kx : c = false → z_X M (z_up h n (.inr (ci, []))) (n + 1) b' f' pc lv n) : z_V M h n b f pc lv st := by
  cases hc : c
  · rw [hc] at C
    exact z_callX S hcode hini hrm C hr hL hst hbb hff (kx hc)
  · rw [hc] at C
    exact z_call1 S hcode hini hrm C hr hL hst hbb hff (kk hc)
theorem z_callQ1 {P : Value → zH → Nat → Prop} (S : z_Site M h n y len pc st rest av) (hcode : z_code y bytes maxL ret hh) (hini : Cond.initialized y.cls ∈ lw_all) (hrm : zm_R M = z_rm r0 mc0 ms0) (C : z_C (zm_l M) (zm_G M) y r mc ms av h n (z_q1 P)) (hr : r < r0) (hL : maxL ≤ 120) (hst : (rest.map fun v => v.category).sum ≤ 60) (hbb : b' + mc ≤ b) (hff : f' + ms ≤ f) (kk : ∀ (w : Value) (h' : zH) (n' : Nat), P w h' n' → n ≤ n' → z_V M h' n' b' f' (pc + len) lv (w :: rest)) : z_V M h n b f pc lv st := by
  refine z_call S hcode hini hrm C hr hL hst hbb hff ?_ ?_
  · rintro v h' n' ⟨w, e1, hp⟩ hn
    cases e1
    exact kk w h' n' hp hn
  · rintro q h' n' ⟨w, e1, -⟩ -
    cases e1
theorem z_callQ0 {P : zH → Nat → Prop} (S : z_Site M h n y len pc st rest av) (hcode : z_code y bytes maxL ret hh) (hini : Cond.initialized y.cls ∈ lw_all) (hrm : zm_R M = z_rm r0 mc0 ms0) (C : z_C (zm_l M) (zm_G M) y r mc ms av h n (z_q0 P)) (hr : r < r0) (hL : maxL ≤ 120) (hst : (rest.map fun v => v.category).sum ≤ 60) (hbb : b' + mc ≤ b) (hff : f' + ms ≤ f) (kk : ∀ (h' : zH) (n' : Nat), P h' n' → n ≤ n' → z_V M h' n' b' f' (pc + len) lv rest) : z_V M h n b f pc lv st := by
  refine z_call S hcode hini hrm C hr hL hst hbb hff ?_ ?_
  · rintro v h' n' ⟨e1, hp⟩ hn
    cases e1
    exact kk h' n' hp hn
  · rintro q h' n' ⟨e1, -⟩ -
    cases e1
theorem z_callQX1 {P : Value → zH → Nat → Prop} {PX : Nat → zH → Nat → Prop} (S : z_Site M h n y len pc st rest av) (hcode : z_code y bytes maxL ret hh) (hini : Cond.initialized y.cls ∈ lw_all) (hrm : zm_R M = z_rm r0 mc0 ms0) (C : z_C (zm_l M) (zm_G M) y r mc ms av h n (z_qx (z_q1 P) PX)) (hr : r < r0) (hL : maxL ≤ 120) (hst : (rest.map fun v => v.category).sum ≤ 60) (hbb : b' + mc ≤ b) (hff : f' + ms ≤ f) (kk : ∀ (w : Value) (h' : zH) (n' : Nat), P w h' n' → n ≤ n' → z_V M h' n' b' f' (pc + len) lv (w :: rest)) (kx : ∀ (q : Nat) (h' : zH) (n' : Nat), PX q h' n' → n ≤ n' → z_X M h' n' b' f' pc lv q) : z_V M h n b f pc lv st := by
  refine z_call S hcode hini hrm C hr hL hst hbb hff ?_ ?_
  · rintro v h' n' (⟨w, e1, hp⟩ | ⟨q, e1, -⟩) hn
    · cases e1
      exact kk w h' n' hp hn
    · cases e1
  · rintro q h' n' (⟨w, e1, -⟩ | ⟨q9, e1, hp⟩) hn
    · cases e1
    · cases e1
      exact kx q h' n' hp hn
theorem z_callQX0 {P : zH → Nat → Prop} {PX : Nat → zH → Nat → Prop} (S : z_Site M h n y len pc st rest av) (hcode : z_code y bytes maxL ret hh) (hini : Cond.initialized y.cls ∈ lw_all) (hrm : zm_R M = z_rm r0 mc0 ms0) (C : z_C (zm_l M) (zm_G M) y r mc ms av h n (z_qx (z_q0 P) PX)) (hr : r < r0) (hL : maxL ≤ 120) (hst : (rest.map fun v => v.category).sum ≤ 60) (hbb : b' + mc ≤ b) (hff : f' + ms ≤ f) (kk : ∀ (h' : zH) (n' : Nat), P h' n' → n ≤ n' → z_V M h' n' b' f' (pc + len) lv rest) (kx : ∀ (q : Nat) (h' : zH) (n' : Nat), PX q h' n' → n ≤ n' → z_X M h' n' b' f' pc lv q) : z_V M h n b f pc lv st := by
  refine z_call S hcode hini hrm C hr hL hst hbb hff ?_ ?_
  · rintro v h' n' (⟨e1, hp⟩ | ⟨q, e1, -⟩) hn
    · cases e1
      exact kk h' n' hp hn
    · cases e1
  · rintro q h' n' (⟨e1, -⟩ | ⟨q9, e1, hp⟩) hn
    · cases e1
    · cases e1
      exact kx q h' n' hp hn
theorem z_icmp_eqN (hb : zm_c M = cc) {a c : Nat} {off : Int} {tgt : Nat} (d : decode cc pc = .ok (.if_icmp .eq off, 3)) (ht : (pc : Int) + off = (tgt : Int)) (ha : a < 2 ^ 31) (hc : c < 2 ^ 31) (kt : a = c → z_V M h n b f tgt lv rest) (kf : ¬ a = c → z_V M h n b f (pc + 3) lv rest) : z_V M h n b f pc lv (.int (nI c) :: .int (nI a) :: rest) := z_icmp_eq hb d ht (fun q => kt ((nI_eq ha hc).mp q)) (fun q => kf (fun e => q (by rw [e])))
theorem z_icmp_neN (hb : zm_c M = cc) {a c : Nat} {off : Int} {tgt : Nat} (d : decode cc pc = .ok (.if_icmp .ne off, 3)) (ht : (pc : Int) + off = (tgt : Int)) (ha : a < 2 ^ 31) (hc : c < 2 ^ 31) (kt : ¬ a = c → z_V M h n b f tgt lv rest) (kf : a = c → z_V M h n b f (pc + 3) lv rest) : z_V M h n b f pc lv (.int (nI c) :: .int (nI a) :: rest) := z_icmp_ne hb d ht (fun q => kt (fun e => q (by rw [e]))) (fun q => kf ((nI_eq ha hc).mp q))
theorem z_icmp_ltN (hb : zm_c M = cc) {a c : Nat} {off : Int} {tgt : Nat} (d : decode cc pc = .ok (.if_icmp .lt off, 3)) (ht : (pc : Int) + off = (tgt : Int)) (ha : a < 2 ^ 31) (hc : c < 2 ^ 31) (kt : a < c → z_V M h n b f tgt lv rest) (kf : c ≤ a → z_V M h n b f (pc + 3) lv rest) : z_V M h n b f pc lv (.int (nI c) :: .int (nI a) :: rest) := z_icmp_lt hb d ht (fun q => kt ((nI_ltI ha hc).mp q)) (fun q => kf (Nat.le_of_not_lt fun e => q ((nI_ltI ha hc).mpr e)))
theorem z_icmp_geN (hb : zm_c M = cc) {a c : Nat} {off : Int} {tgt : Nat} (d : decode cc pc = .ok (.if_icmp .ge off, 3)) (ht : (pc : Int) + off = (tgt : Int)) (ha : a < 2 ^ 31) (hc : c < 2 ^ 31) (kt : c ≤ a → z_V M h n b f tgt lv rest) (kf : a < c → z_V M h n b f (pc + 3) lv rest) : z_V M h n b f pc lv (.int (nI c) :: .int (nI a) :: rest) := z_icmp_ge hb d ht (fun q => kt ((nI_leI hc ha).mp q)) (fun q => kf (Nat.lt_of_not_le fun e => q ((nI_leI hc ha).mpr e)))
theorem z_icmp_gtN (hb : zm_c M = cc) {a c : Nat} {off : Int} {tgt : Nat} (d : decode cc pc = .ok (.if_icmp .gt off, 3)) (ht : (pc : Int) + off = (tgt : Int)) (ha : a < 2 ^ 31) (hc : c < 2 ^ 31) (kt : c < a → z_V M h n b f tgt lv rest) (kf : a ≤ c → z_V M h n b f (pc + 3) lv rest) : z_V M h n b f pc lv (.int (nI c) :: .int (nI a) :: rest) := z_icmp_gt hb d ht (fun q => kt ((nI_ltI hc ha).mp q)) (fun q => kf (Nat.le_of_not_lt fun e => q ((nI_ltI hc ha).mpr e)))
theorem z_icmp_leN (hb : zm_c M = cc) {a c : Nat} {off : Int} {tgt : Nat} (d : decode cc pc = .ok (.if_icmp .le off, 3)) (ht : (pc : Int) + off = (tgt : Int)) (ha : a < 2 ^ 31) (hc : c < 2 ^ 31) (kt : a ≤ c → z_V M h n b f tgt lv rest) (kf : c < a → z_V M h n b f (pc + 3) lv rest) : z_V M h n b f pc lv (.int (nI c) :: .int (nI a) :: rest) := z_icmp_le hb d ht (fun q => kt ((nI_leI ha hc).mp q)) (fun q => kf (Nat.lt_of_not_le fun e => q ((nI_leI ha hc).mpr e)))
theorem z_lif_eq (hb : zm_c M = cc) {x y : Int64} {off : Int} {tgt : Nat} (d0 : decode cc pc = .ok (.lcmp, 1)) (d : decode cc (pc + 1) = .ok (.ifCond .eq off, 3)) (ht : ((pc + 1 : Nat) : Int) + off = (tgt : Int)) (kt : x = y → z_V M h n b f tgt lv rest) (kf : ¬ x = y → z_V M h n b f (pc + 1 + 3) lv rest) : z_V M h n b f pc lv (.long y :: .long x :: rest) := z_lcmp hb d0 (z_if_eq hb d ht (fun q => kt ((lg_cmp_eq x y).mp q)) (fun q => kf (fun e => q ((lg_cmp_eq x y).mpr e))))
theorem z_lif_ne (hb : zm_c M = cc) {x y : Int64} {off : Int} {tgt : Nat} (d0 : decode cc pc = .ok (.lcmp, 1)) (d : decode cc (pc + 1) = .ok (.ifCond .ne off, 3)) (ht : ((pc + 1 : Nat) : Int) + off = (tgt : Int)) (kt : ¬ x = y → z_V M h n b f tgt lv rest) (kf : x = y → z_V M h n b f (pc + 1 + 3) lv rest) : z_V M h n b f pc lv (.long y :: .long x :: rest) := z_lcmp hb d0 (z_if_ne hb d ht (fun q => kt (fun e => q ((lg_cmp_eq x y).mpr e))) (fun q => kf ((lg_cmp_eq x y).mp q)))
theorem z_lif_lt (hb : zm_c M = cc) {x y : Int64} {off : Int} {tgt : Nat} (d0 : decode cc pc = .ok (.lcmp, 1)) (d : decode cc (pc + 1) = .ok (.ifCond .lt off, 3)) (ht : ((pc + 1 : Nat) : Int) + off = (tgt : Int)) (kt : x < y → z_V M h n b f tgt lv rest) (kf : ¬ x < y → z_V M h n b f (pc + 1 + 3) lv rest) : z_V M h n b f pc lv (.long y :: .long x :: rest) := z_lcmp hb d0 (z_if_lt hb d ht (fun q => kt ((lg_cmp_lt x y).mp q)) (fun q => kf (fun e => q ((lg_cmp_lt x y).mpr e))))
theorem z_lif_ge (hb : zm_c M = cc) {x y : Int64} {off : Int} {tgt : Nat} (d0 : decode cc pc = .ok (.lcmp, 1)) (d : decode cc (pc + 1) = .ok (.ifCond .ge off, 3)) (ht : ((pc + 1 : Nat) : Int) + off = (tgt : Int)) (kt : y ≤ x → z_V M h n b f tgt lv rest) (kf : ¬ y ≤ x → z_V M h n b f (pc + 1 + 3) lv rest) : z_V M h n b f pc lv (.long y :: .long x :: rest) := z_lcmp hb d0 (z_if_ge hb d ht (fun q => kt ((lg_cmp_ge x y).mp q)) (fun q => kf (fun e => q ((lg_cmp_ge x y).mpr e))))
theorem z_lif_gt (hb : zm_c M = cc) {x y : Int64} {off : Int} {tgt : Nat} (d0 : decode cc pc = .ok (.lcmp, 1)) (d : decode cc (pc + 1) = .ok (.ifCond .gt off, 3)) (ht : ((pc + 1 : Nat) : Int) + off = (tgt : Int)) (kt : y < x → z_V M h n b f tgt lv rest) (kf : ¬ y < x → z_V M h n b f (pc + 1 + 3) lv rest) : z_V M h n b f pc lv (.long y :: .long x :: rest) := z_lcmp hb d0 (z_if_gt hb d ht (fun q => kt ((lg_cmp_gt x y).mp q)) (fun q => kf (fun e => q ((lg_cmp_gt x y).mpr e))))
theorem z_lif_le (hb : zm_c M = cc) {x y : Int64} {off : Int} {tgt : Nat} (d0 : decode cc pc = .ok (.lcmp, 1)) (d : decode cc (pc + 1) = .ok (.ifCond .le off, 3)) (ht : ((pc + 1 : Nat) : Int) + off = (tgt : Int)) (kt : x ≤ y → z_V M h n b f tgt lv rest) (kf : ¬ x ≤ y → z_V M h n b f (pc + 1 + 3) lv rest) : z_V M h n b f pc lv (.long y :: .long x :: rest) := z_lcmp hb d0 (z_if_le hb d ht (fun q => kt ((lg_cmp_le x y).mp q)) (fun q => kf (fun e => q ((lg_cmp_le x y).mpr e))))
theorem z_n0eq {a : Nat} (ha : a < 2 ^ 31) (q : nI a = 0) : a = 0 := (nI_eq ha (by omega)).mp (q.trans nI_0.symm)
theorem z_n0ne {a : Nat} (q : ¬ nI a = 0) : 0 < a := Nat.pos_of_ne_zero fun e => q (by rw [e]; rfl)
theorem z_n0gt {a : Nat} (ha : a < 2 ^ 31) (q : 0 < nI a) : 0 < a := (nI_ltI (by omega) ha).mp (by rw [nI_0]; exact q)
theorem z_n0le {a : Nat} (ha : a < 2 ^ 31) (q : nI a ≤ 0) : a = 0 := Nat.le_zero.mp ((nI_leI ha (by omega)).mp (by rw [nI_0]; exact q))
theorem z_n0ngt {a : Nat} (ha : a < 2 ^ 31) (q : ¬ 0 < nI a) : a = 0 := by
  rcases Nat.eq_zero_or_pos a with e | e
  · exact e
  · exact absurd (by rw [← nI_0]; exact (nI_ltI (by omega) ha).mpr e) q
theorem z_n0nle {a : Nat} (q : ¬ nI a ≤ 0) : 0 < a := Nat.pos_of_ne_zero fun e => q (by rw [e]; exact Int32.le_refl _)
theorem z_if_eqN (hb : zm_c M = cc) {a : Nat} {off : Int} {tgt : Nat} (d : decode cc pc = .ok (.ifCond .eq off, 3)) (ht : (pc : Int) + off = (tgt : Int)) (ha : a < 2 ^ 31) (kt : a = 0 → z_V M h n b f tgt lv rest) (kf : 0 < a → z_V M h n b f (pc + 3) lv rest) : z_V M h n b f pc lv (.int (nI a) :: rest) := z_if_eq hb d ht (fun q => kt (z_n0eq ha q)) (fun q => kf (z_n0ne q))
theorem z_if_neN (hb : zm_c M = cc) {a : Nat} {off : Int} {tgt : Nat} (d : decode cc pc = .ok (.ifCond .ne off, 3)) (ht : (pc : Int) + off = (tgt : Int)) (ha : a < 2 ^ 31) (kt : 0 < a → z_V M h n b f tgt lv rest) (kf : a = 0 → z_V M h n b f (pc + 3) lv rest) : z_V M h n b f pc lv (.int (nI a) :: rest) := z_if_ne hb d ht (fun q => kt (z_n0ne q)) (fun q => kf (z_n0eq ha q))
theorem z_if_gtN (hb : zm_c M = cc) {a : Nat} {off : Int} {tgt : Nat} (d : decode cc pc = .ok (.ifCond .gt off, 3)) (ht : (pc : Int) + off = (tgt : Int)) (ha : a < 2 ^ 31) (kt : 0 < a → z_V M h n b f tgt lv rest) (kf : a = 0 → z_V M h n b f (pc + 3) lv rest) : z_V M h n b f pc lv (.int (nI a) :: rest) := z_if_gt hb d ht (fun q => kt (z_n0gt ha q)) (fun q => kf (z_n0ngt ha q))
theorem z_if_leN (hb : zm_c M = cc) {a : Nat} {off : Int} {tgt : Nat} (d : decode cc pc = .ok (.ifCond .le off, 3)) (ht : (pc : Int) + off = (tgt : Int)) (ha : a < 2 ^ 31) (kt : a = 0 → z_V M h n b f tgt lv rest) (kf : 0 < a → z_V M h n b f (pc + 3) lv rest) : z_V M h n b f pc lv (.int (nI a) :: rest) := z_if_le hb d ht (fun q => kt (z_n0le ha q)) (fun q => kf (z_n0nle q))
theorem z_if_geN (hb : zm_c M = cc) {a : Nat} {off : Int} {tgt : Nat} (d : decode cc pc = .ok (.ifCond .ge off, 3)) (ht : (pc : Int) + off = (tgt : Int)) (ha : a < 2 ^ 31) (kt : z_V M h n b f tgt lv rest) : z_V M h n b f pc lv (.int (nI a) :: rest) := z_if_ge hb d ht (fun _ => kt) (fun q => absurd (nI_pos' ha) q)
theorem z_if_ltN (hb : zm_c M = cc) {a : Nat} {off : Int} {tgt : Nat} (d : decode cc pc = .ok (.ifCond .lt off, 3)) (ht : (pc : Int) + off = (tgt : Int)) (ha : a < 2 ^ 31) (kf : z_V M h n b f (pc + 3) lv rest) : z_V M h n b f pc lv (.int (nI a) :: rest) := z_if_lt hb d ht (fun q => absurd q (nI_pos ha)) (fun _ => kf)
theorem z_ifb_eq (hb : zm_c M = cc) {c : Bool} {off : Int} {tgt : Nat} (d : decode cc pc = .ok (.ifCond .eq off, 3)) (ht : (pc : Int) + off = (tgt : Int)) (kt : c = false → z_V M h n b f tgt lv rest) (kf : c = true → z_V M h n b f (pc + 3) lv rest) : z_V M h n b f pc lv (.int (z_b c) :: rest) := by
  cases c
  · exact z_if_eq hb d ht (fun _ => kt rfl) (fun q => absurd rfl q)
  · exact z_if_eq hb d ht (fun q => absurd q (by decide)) (fun _ => kf rfl)
theorem z_ifb_ne (hb : zm_c M = cc) {c : Bool} {off : Int} {tgt : Nat} (d : decode cc pc = .ok (.ifCond .ne off, 3)) (ht : (pc : Int) + off = (tgt : Int)) (kt : c = true → z_V M h n b f tgt lv rest) (kf : c = false → z_V M h n b f (pc + 3) lv rest) : z_V M h n b f pc lv (.int (z_b c) :: rest) := by
  cases c
  · exact z_if_ne hb d ht (fun q => absurd rfl q) (fun _ => kf rfl)
  · exact z_if_ne hb d ht (fun _ => kt rfl) (fun q => absurd q (by decide))
theorem z_ifb_gt (hb : zm_c M = cc) {c : Bool} {off : Int} {tgt : Nat} (d : decode cc pc = .ok (.ifCond .gt off, 3)) (ht : (pc : Int) + off = (tgt : Int)) (kt : c = true → z_V M h n b f tgt lv rest) (kf : c = false → z_V M h n b f (pc + 3) lv rest) : z_V M h n b f pc lv (.int (z_b c) :: rest) := by
  cases c
  · exact z_if_gt hb d ht (fun q => absurd q (by decide)) (fun _ => kf rfl)
  · exact z_if_gt hb d ht (fun _ => kt rfl) (fun q => absurd (by decide) q)
theorem z_ifb_le (hb : zm_c M = cc) {c : Bool} {off : Int} {tgt : Nat} (d : decode cc pc = .ok (.ifCond .le off, 3)) (ht : (pc : Int) + off = (tgt : Int)) (kt : c = false → z_V M h n b f tgt lv rest) (kf : c = true → z_V M h n b f (pc + 3) lv rest) : z_V M h n b f pc lv (.int (z_b c) :: rest) := by
  cases c
  · exact z_if_le hb d ht (fun _ => kt rfl) (fun q => absurd (by decide) q)
  · exact z_if_le hb d ht (fun q => absurd q (by decide)) (fun _ => kf rfl)
/-- the heap by another name -/
theorem z_hh {h2 : zH} {st : List Value} (hh : h = h2) (kk : z_V M h2 n b f pc lv st) : z_V M h n b f pc lv st := hh ▸ kk
theorem z_hn {e : va_E} {a : Nat} {st : List Value} (kk : ∀ h2 : zH, h2 = z_up h a e → z_V M h2 n b f pc lv st) : z_V M (z_up h a e) n b f pc lv st := kk _ rfl
theorem z_st {st st2 : List Value} (hs : st = st2) (kk : z_V M h n b f pc lv st2) : z_V M h n b f pc lv st := hs ▸ kk
theorem z_brP {c1 : Prop} {st : List Value} (k1 : c1 → z_V M h n b f pc lv st) (k2 : ¬ c1 → z_V M h n b f pc lv st) : z_V M h n b f pc lv st := by
  by_cases q : c1
  · exact k1 q
  · exact k2 q
end ZN
