/-- it throws q, the heap is X of N cells -/
def z_thr (X : zH) (N q : Nat) : zQ := fun o h' n' => o = .threw q ∧ h' = X ∧ n' = N
section ZT
variable {M : zM} {h : zH} {n b f b' f' pc len r r0 mc ms mc0 ms0 maxL : Nat} {lv : List (Nat × Value)} {rest st : List Value} {y : MethodName} {av : List Value} {bytes : ByteArray} {ret : Option FieldType} {hh : List (Nat × Nat × Nat × Nat)}
theorem z_callT {X : zH} {N q : Nat} (S : z_Site M h n y len pc st rest av) (hcode : z_code y bytes maxL ret hh) (hini : Cond.initialized y.cls ∈ lw_all) (hrm : zm_R M = z_rm r0 mc0 ms0) (C : z_C (zm_l M) (zm_G M) y r mc ms av h n (z_thr X N q)) (hr : r < r0) (hL : maxL ≤ 120) (hst : (rest.map fun v => v.category).sum ≤ 60) (hbb : b' + mc ≤ b) (hff : f' + ms ≤ f) (kx : z_X M X N b' f' pc lv q) : z_V M h n b f pc lv st := by
  refine z_call S hcode hini hrm C hr hL hst hbb hff ?_ ?_
  · rintro v h' n' ⟨e1, -⟩ hn
    cases e1
  · rintro q9 h' n' ⟨e1, e2, e3⟩ hn
    cases e1
    rw [e2, e3]
    exact kx
end ZT

set_option maxHeartbeats 1000000 in
theorem m_X1_denyUnless_t {l : Launch} {G : zG} {h : zH} {n : Nat} (nu de : Int32)  : z_C l G yX1_denyUnless 6 1 8 [.int (z_b true), .int nu, .int de] h n (z_r0 h n) := by
  refine z_start zk_X1_denyUnless zpl_RX1 (Nat.le_of_ble_eq_true rfl) ?_
  intro hn0 M hl hG ho hb hN hr hm hH hrm hQ
  subst hl hG
  have ho : zm_o M = RX1 := ho
  show z_V M h n 1 8 0 [(0, .int (z_b true)), (1, .int nu), (2, .int de)] []
  refine z_iload_n hb dX1_denyUnless_0 rfl ?_
  refine z_ifb_ne (tgt := 14) hb dX1_denyUnless_1 (by decide) (fun c_1 => ?_) (fun c_1 => ?_)
  · refine z_vret hb hr dX1_denyUnless_14 ?_
    rw [hQ]
    exact ⟨rfl, rfl, rfl⟩
  · cases c_1

set_option maxHeartbeats 1000000 in
theorem m_X1_denyUnless_f {l : Launch} {G : zG} {h : zH} {n : Nat} (nu de : Int32)  : z_C l G yX1_denyUnless 6 1 8 [.int (z_b false), .int nu, .int de] h n (z_thr (z_up h n (.inr (5, [.null, .null, .null, .null, .null, .int (nI 0), .int nu, .int de]))) (n + 1) n) := by
  refine z_start zk_X1_denyUnless zpl_RX1 (Nat.le_of_ble_eq_true rfl) ?_
  intro hn0 M hl hG ho hb hN hr hm hH hrm hQ
  subst hl hG
  have ho : zm_o M = RX1 := ho
  show z_V M h n 1 8 0 [(0, .int (z_b false)), (1, .int nu), (2, .int de)] []
  refine z_iload_n hb dX1_denyUnless_0 rfl ?_
  refine z_ifb_ne (tgt := 14) hb dX1_denyUnless_1 (by decide) (fun c_1 => ?_) (fun c_1 => ?_)
  · cases c_1
  · refine z_new (N0 := 8) (b' := 0) (f' := 0) (fs := [.null, .null, .null, .null, .null, .int (nI 0), .int (nI 0), .int (nI 0)]) (C := RX6) (T := TX6) (N := 8) hb ho zc5 in_X6 tyX6_ok q816 q1152 q121 dX1_denyUnless_4 (zdf_X6) (by omega) (by omega) ?_
    refine z_hn (fun h_1 eh_1 => ?_)
    have eh_1 : h_1 = z_up h n (.inr (5, [.null, .null, .null, .null, .null, .int (nI 0), .int (nI 0), .int (nI 0)])) := eh_1
    refine z_dup hb dX1_denyUnless_7 rfl ?_
    refine z_iload_n hb dX1_denyUnless_8 rfl ?_
    refine z_iload_n hb dX1_denyUnless_9 rfl ?_
    refine z_call0 (b' := 0) (f' := 0) (rest := [.ref n]) (av := [.ref n, .int nu, .int de]) (z_siteI hb ho q1160 q1161 q1162 rfl zy_X6_init zl_X6_init dX1_denyUnless_10 : z_Site M _ _ _ _ _ ([.int nu, .int de].reverse ++ .ref n :: [.ref n]) [.ref n] _) zk_X6_init q121 hrm (m_X6_init nu de (z_nxs eh_1) (by omega)) (by omega) (by decide) (Nat.le_of_ble_eq_true rfl) (by omega) (by omega) ?_
    refine z_hn (fun h_2 eh_2 => ?_)
    have eh_2 : h_2 = z_up h_1 n (.inr (5, [.null, .null, .null, .null, .null, .int (nI 0), .int nu, .int de])) := eh_2
    refine z_athrow hb dX1_denyUnless_13 ?_
    exact z_out ho hH zc5 (z_nxs eh_2) (by omega) (fun _ h => nomatch h) (by rw [hQ]; exact ⟨rfl, (by rw [eh_2, eh_1] <;> simp only [z_up_up]), rfl⟩)

