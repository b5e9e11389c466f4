set_option maxHeartbeats 1000000 in
theorem m_X1_undoCount {l : Launch} {G : zG} {h : zH} {n : Nat} {t pq e hd tl : Nat} {x0 x2 x3 x4 x5 x6 : Value} {f : Nat → Option Nat} (hX : h t = some (.inr (0, [x0, .ref pq, x2, x3, x4, x5, x6]))) (hO : h pq = some (.inr (21, [.ref e, .int (nI hd), .int (nI tl)]))) (hA : h e = some (z_ao G 17 f)) (ha0 : z_n0 G ≤ pq) (he0 : z_n0 G ≤ e) (hhd : hd < 17) (htl : tl < 17) : z_C l G yX1_undoCount 3 0 0 [.ref t] h n (z_rv (.int (nI ((tl + 17 - hd) % 17))) h n) := by
  refine z_start zk_X1_undoCount zpl_RX1 (Nat.le_of_ble_eq_true rfl) ?_
  intro hn0 M hl hG ho hb hN hr hm hH hrm hQ
  subst hl hG
  have ho : zm_o M = RX1 := ho
  show z_V M h n 0 0 0 [(0, .ref t)] []
  refine z_aload_n hb dX1_undoCount_0 rfl ?_
  refine z_get (k := 1) (C := RX1) (T := TX1) (N := 7) hb ho zc0 in_X1 (zf_RX1_48 _) dX1_undoCount_1 hX (by decide) rfl ?_
  refine z_call1 (b' := 0) (f' := 0) (rest := []) (av := [.ref pq]) (z_siteV hb ho zc21 hO q791 q792 q793 ⟨_, _, _, _, zk_J3_size⟩ zy_J3_size zl_J3_size dX1_undoCount_4 : z_Site M _ _ _ _ _ ([].reverse ++ .ref pq :: []) [] _) zk_J3_size q99 hrm (m_J3_size hO hA ha0 he0 hhd htl) (by omega) (by decide) (Nat.le_of_ble_eq_true rfl) (by omega) (by omega) ?_
  refine z_iret hb hr dX1_undoCount_7 ?_
  rw [hQ]
  exact ⟨rfl, rfl, rfl⟩

