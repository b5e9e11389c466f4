/-! readers: a heap that knows less stands for as much; every known cell lies below n -/
def z_ex (h h2 : zH) : Prop := ∀ a e, h a = some e → h2 a = some e
def z_dm (h : zH) (n : Nat) : Prop := ∀ a e, h a = some e → a < n
theorem z_ex_r {h : zH} : z_ex h h := fun _ _ q => q
theorem z_ex_t {h h1 h2 : zH} (a : z_ex h h1) (b : z_ex h1 h2) : z_ex h h2 := fun x e q => b x e (a x e q)
theorem z_exN {h h1 h2 : zH} {n : Nat} {c : va_E} (a : z_ex h h1) (d : z_dm h1 n) (e : h2 = z_up h1 n c) : z_ex h h2 := fun x y q => by
  have q1 := a x y q
  rw [e, z_up_n (Nat.ne_of_lt (d x y q1))]
  exact q1
theorem z_exW {h h1 h2 : zH} {n0 b : Nat} {c : va_E} (d : z_dm h n0) (hb : n0 ≤ b) (e : h2 = z_up h1 b c) (a : z_ex h h1) : z_ex h h2 := fun x y q => by
  have q1 := a x y q
  have := d x y q
  rw [e, z_up_n (by omega)]
  exact q1
def z_rn (w : Value) (X : zH) : zQ := fun o h' _ => o = .returned (some w) ∧ h' = X
def z_rn0 (X : zH) : zQ := fun o h' _ => o = .returned none ∧ h' = X
/-- throws a new exception of the class ci with fields fs -/
def z_tf (ci : Nat) (fs : List Value) (X : zH) (n : Nat) : zQ := fun o h' n' => ∃ q, o = .threw q ∧ n ≤ q ∧ q < n' ∧ h' = z_up X q (.inr (ci, fs))
theorem z_rn_e {w w' : Value} {X : zH} {N : Nat} (e : w' = w) : z_rn w X (.returned (some w')) X N := by rw [e]; exact ⟨rfl, rfl⟩
theorem z_C.rn {l : Launch} {G : zG} {y : MethodName} {r mc ms : Nat} {av : List Value} {h : zH} {n : Nat} {w : Value} {X : zH} {N : Nat} (C : z_C l G y r mc ms av h n (z_rv w X N)) : z_C l G y r mc ms av h n (z_rn w X) := C.mono fun _ _ _ q => ⟨q.1, q.2.1⟩
theorem z_C.rn0 {l : Launch} {G : zG} {y : MethodName} {r mc ms : Nat} {av : List Value} {h : zH} {n : Nat} {X : zH} {N : Nat} (C : z_C l G y r mc ms av h n (z_r0 X N)) : z_C l G y r mc ms av h n (z_rn0 X) := C.mono fun _ _ _ q => ⟨q.1, q.2.1⟩
theorem z_C.tf {l : Launch} {G : zG} {y : MethodName} {r mc ms : Nat} {av : List Value} {h : zH} {n ci : Nat} {fs : List Value} {X : zH} (C : z_C l G y r mc ms av h n (z_thr (z_up X n (.inr (ci, fs))) (n + 1) n)) : z_C l G y r mc ms av h n (z_tf ci fs X n) := C.mono fun _ _ _ q => ⟨n, q.1, Nat.le_refl _, by rw [q.2.2]; exact Nat.lt_succ_self _, q.2.1⟩
section ZR2
variable {M : zM} {h : zH} {n b f pc : Nat} {lv : List (Nat × Value)} {rest st av : List Value} {cc : ByteArray} {own : String}
variable {y : MethodName} {len r r0 mc ms mc0 ms0 b' f' : Nat} {bytes : ByteArray} {maxL : Nat} {ret : Option FieldType} {hh : List (Nat × Nat × Nat × Nat)}
theorem z_dom (k : z_dm h n → z_V M h n b f pc lv st) : z_V M h n b f pc lv st := by
  intro p e s m args below meth c hAt H locs ls k1 j1 hR hn hl hv hk hj
  exact k (fun a e he => (hR.2.2.2.1 a e he).elim (fun g => hR.1 ▸ g.lt) (fun g => Nat.lt_of_lt_of_le (hAt.2.2.2.2.1.2.2.2.1 a e g).1 hR.2.1)) p e s m args below meth c hAt H locs ls k1 j1 hR hn hl hv hk hj
theorem z_less {h' : zH} (hh : z_ex h' h) (k : z_V M h' n b f pc lv st) : z_V M h n b f pc lv st := by
  intro p e s m args below meth c hAt H locs ls k1 j1 hR hn hl hv hk hj
  exact k p e s m args below meth c hAt H locs ls k1 j1 (hR.less hh) hn hl hv hk hj
theorem z_lessX {h' : zH} {q : Nat} (hh : z_ex h' h) (k : z_X M h' n b f pc lv q) : z_X M h n b f pc lv q := by
  intro p e s m args below meth c hAt H locs ls k1 j1 rest hR hn hl hv hk hj
  exact k p e s m args below meth c hAt H locs ls k1 j1 rest (hR.less hh) hn hl hv hk hj
theorem z_domX {q : Nat} (k : z_dm h n → z_X M h n b f pc lv q) : z_X M h n b f pc lv q := by
  intro p e s m args below meth c hAt H locs ls k1 j1 rest hR hn hl hv hk hj
  exact k (fun a e he => (hR.2.2.2.1 a e he).elim (fun g => hR.1 ▸ g.lt) (fun g => Nat.lt_of_lt_of_le (hAt.2.2.2.2.1.2.2.2.1 a e g).1 hR.2.1)) p e s m args below meth c hAt H locs ls k1 j1 rest hR hn hl hv hk hj
theorem z_callN1 {w : Value} {X : zH} (S : z_Site M h n y len pc st rest av) (hcode : z_code y bytes maxL ret hh) (hini : Cond.initialized y.cls ∈ lw_all) (hrm : zm_R M = z_rm r0 mc0 ms0) (C : z_C (zm_l M) (zm_G M) y r mc ms av h n (z_rn w X)) (hr : r < r0) (hL : maxL ≤ 120) (hst : (rest.map fun v => v.category).sum ≤ 60) (hbb : b' + mc ≤ b) (hff : f' + ms ≤ f) (kk : ∀ n' : Nat, n ≤ n' → z_V M X n' b' f' (pc + len) lv (w :: rest)) : z_V M h n b f pc lv st := by
  refine z_call S hcode hini hrm C hr hL hst hbb hff ?_ ?_
  · rintro v h' n' ⟨e1, rfl⟩ hn
    cases e1
    exact kk n' hn
  · rintro q h' n' ⟨e1, -⟩ -
    cases e1
theorem z_callN0 {X : zH} (S : z_Site M h n y len pc st rest av) (hcode : z_code y bytes maxL ret hh) (hini : Cond.initialized y.cls ∈ lw_all) (hrm : zm_R M = z_rm r0 mc0 ms0) (C : z_C (zm_l M) (zm_G M) y r mc ms av h n (z_rn0 X)) (hr : r < r0) (hL : maxL ≤ 120) (hst : (rest.map fun v => v.category).sum ≤ 60) (hbb : b' + mc ≤ b) (hff : f' + ms ≤ f) (kk : ∀ n' : Nat, n ≤ n' → z_V M X n' b' f' (pc + len) lv rest) : z_V M h n b f pc lv st := by
  refine z_call S hcode hini hrm C hr hL hst hbb hff ?_ ?_
  · rintro v h' n' ⟨e1, rfl⟩ hn
    cases e1
    exact kk n' hn
  · rintro q h' n' ⟨e1, -⟩ -
    cases e1
theorem z_callTf {ci : Nat} {fs : List Value} {X : zH} (S : z_Site M h n y len pc st rest av) (hcode : z_code y bytes maxL ret hh) (hini : Cond.initialized y.cls ∈ lw_all) (hrm : zm_R M = z_rm r0 mc0 ms0) (C : z_C (zm_l M) (zm_G M) y r mc ms av h n (z_tf ci fs X n)) (hr : r < r0) (hL : maxL ≤ 120) (hst : (rest.map fun v => v.category).sum ≤ 60) (hbb : b' + mc ≤ b) (hff : f' + ms ≤ f) (kx : ∀ q n' : Nat, n ≤ q → q < n' → z_X M (z_up X q (.inr (ci, fs))) n' b' f' pc lv q) : z_V M h n b f pc lv st := by
  refine z_call S hcode hini hrm C hr hL hst hbb hff ?_ ?_
  · rintro v h' n' ⟨q, e1, -⟩ -
    cases e1
  · rintro q h' n' ⟨q1, e1, e2, e3, rfl⟩ hn
    cases e1
    exact kx q n' e2 e3
end ZR2

