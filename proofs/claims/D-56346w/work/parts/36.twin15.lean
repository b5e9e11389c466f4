def tw_pick (k : Nat) (a b c d e f : Int32) : Int32 := match k with
  | 0 => a
  | 1 => b
  | 2 => c
  | 3 => d
  | 4 => e
  | 5 => f
  | _ => nI 0
/-- the letters of the words -/
def tw_words : List (List Nat) := [[114, 111, 119], [103, 111, 110, 101], [110, 101, 120, 116], [98, 97, 115, 101], [112, 97, 105, 114], [114, 117, 110], [107, 101, 101, 112], [99, 117, 116], [114, 101, 112, 97, 105, 114]]
def tw_sp_ (kd k : Nat) : Nat := (tw_words.getD kd []).getD k 0

set_option maxHeartbeats 1000000 in
theorem m_X3_pick_0 {l : Launch} {G : zG} {h : zH} {n : Nat} (a b c d e f : Int32)  : z_C l G yX3_pick 1 0 0 [.int (nI 0), .int a, .int b, .int c, .int d, .int e, .int f] h n (z_rv (.int a) h n) := by
  refine z_start zk_X3_pick zpl_RX3 (Nat.le_of_ble_eq_true rfl) ?_
  intro hn0 M hl hG ho hb hN hr hm hH hrm hQ
  subst hl hG
  have ho : zm_o M = RX3 := ho
  show z_V M h n 0 0 0 [(0, .int (nI 0)), (1, .int a), (2, .int b), (3, .int c), (4, .int d), (5, .int e), (6, .int f)] []
  refine z_iload_n hb dX3_pick_0 rfl ?_
  refine z_tableIn (off := 39) (tgt := 40) hb dX3_pick_1 (by decide) (by decide) rfl (by decide) ?_
  refine z_iload_n hb dX3_pick_40 rfl ?_
  refine z_iret hb hr dX3_pick_41 ?_
  rw [hQ]
  exact ⟨rfl, rfl, rfl⟩

set_option maxHeartbeats 1000000 in
theorem m_X3_pick_1 {l : Launch} {G : zG} {h : zH} {n : Nat} (a b c d e f : Int32)  : z_C l G yX3_pick 1 0 0 [.int (nI 1), .int a, .int b, .int c, .int d, .int e, .int f] h n (z_rv (.int b) h n) := by
  refine z_start zk_X3_pick zpl_RX3 (Nat.le_of_ble_eq_true rfl) ?_
  intro hn0 M hl hG ho hb hN hr hm hH hrm hQ
  subst hl hG
  have ho : zm_o M = RX3 := ho
  show z_V M h n 0 0 0 [(0, .int (nI 1)), (1, .int a), (2, .int b), (3, .int c), (4, .int d), (5, .int e), (6, .int f)] []
  refine z_iload_n hb dX3_pick_0 rfl ?_
  refine z_tableIn (off := 41) (tgt := 42) hb dX3_pick_1 (by decide) (by decide) rfl (by decide) ?_
  refine z_iload_n hb dX3_pick_42 rfl ?_
  refine z_iret hb hr dX3_pick_43 ?_
  rw [hQ]
  exact ⟨rfl, rfl, rfl⟩

set_option maxHeartbeats 1000000 in
theorem m_X3_pick_2 {l : Launch} {G : zG} {h : zH} {n : Nat} (a b c d e f : Int32)  : z_C l G yX3_pick 1 0 0 [.int (nI 2), .int a, .int b, .int c, .int d, .int e, .int f] h n (z_rv (.int c) h n) := by
  refine z_start zk_X3_pick zpl_RX3 (Nat.le_of_ble_eq_true rfl) ?_
  intro hn0 M hl hG ho hb hN hr hm hH hrm hQ
  subst hl hG
  have ho : zm_o M = RX3 := ho
  show z_V M h n 0 0 0 [(0, .int (nI 2)), (1, .int a), (2, .int b), (3, .int c), (4, .int d), (5, .int e), (6, .int f)] []
  refine z_iload_n hb dX3_pick_0 rfl ?_
  refine z_tableIn (off := 43) (tgt := 44) hb dX3_pick_1 (by decide) (by decide) rfl (by decide) ?_
  refine z_iload_n hb dX3_pick_44 rfl ?_
  refine z_iret hb hr dX3_pick_45 ?_
  rw [hQ]
  exact ⟨rfl, rfl, rfl⟩

set_option maxHeartbeats 1000000 in
theorem m_X3_pick_3 {l : Launch} {G : zG} {h : zH} {n : Nat} (a b c d e f : Int32)  : z_C l G yX3_pick 1 0 0 [.int (nI 3), .int a, .int b, .int c, .int d, .int e, .int f] h n (z_rv (.int d) h n) := by
  refine z_start zk_X3_pick zpl_RX3 (Nat.le_of_ble_eq_true rfl) ?_
  intro hn0 M hl hG ho hb hN hr hm hH hrm hQ
  subst hl hG
  have ho : zm_o M = RX3 := ho
  show z_V M h n 0 0 0 [(0, .int (nI 3)), (1, .int a), (2, .int b), (3, .int c), (4, .int d), (5, .int e), (6, .int f)] []
  refine z_iload_n hb dX3_pick_0 rfl ?_
  refine z_tableIn (off := 45) (tgt := 46) hb dX3_pick_1 (by decide) (by decide) rfl (by decide) ?_
  refine z_iload hb dX3_pick_46 rfl ?_
  refine z_iret hb hr dX3_pick_48 ?_
  rw [hQ]
  exact ⟨rfl, rfl, rfl⟩

set_option maxHeartbeats 1000000 in
theorem m_X3_pick_4 {l : Launch} {G : zG} {h : zH} {n : Nat} (a b c d e f : Int32)  : z_C l G yX3_pick 1 0 0 [.int (nI 4), .int a, .int b, .int c, .int d, .int e, .int f] h n (z_rv (.int e) h n) := by
  refine z_start zk_X3_pick zpl_RX3 (Nat.le_of_ble_eq_true rfl) ?_
  intro hn0 M hl hG ho hb hN hr hm hH hrm hQ
  subst hl hG
  have ho : zm_o M = RX3 := ho
  show z_V M h n 0 0 0 [(0, .int (nI 4)), (1, .int a), (2, .int b), (3, .int c), (4, .int d), (5, .int e), (6, .int f)] []
  refine z_iload_n hb dX3_pick_0 rfl ?_
  refine z_tableIn (off := 48) (tgt := 49) hb dX3_pick_1 (by decide) (by decide) rfl (by decide) ?_
  refine z_iload hb dX3_pick_49 rfl ?_
  refine z_iret hb hr dX3_pick_51 ?_
  rw [hQ]
  exact ⟨rfl, rfl, rfl⟩

set_option maxHeartbeats 1000000 in
theorem m_X3_pick_5 {l : Launch} {G : zG} {h : zH} {n : Nat} (a b c d e f : Int32)  : z_C l G yX3_pick 1 0 0 [.int (nI 5), .int a, .int b, .int c, .int d, .int e, .int f] h n (z_rv (.int f) h n) := by
  refine z_start zk_X3_pick zpl_RX3 (Nat.le_of_ble_eq_true rfl) ?_
  intro hn0 M hl hG ho hb hN hr hm hH hrm hQ
  subst hl hG
  have ho : zm_o M = RX3 := ho
  show z_V M h n 0 0 0 [(0, .int (nI 5)), (1, .int a), (2, .int b), (3, .int c), (4, .int d), (5, .int e), (6, .int f)] []
  refine z_iload_n hb dX3_pick_0 rfl ?_
  refine z_tableIn (off := 51) (tgt := 52) hb dX3_pick_1 (by decide) (by decide) rfl (by decide) ?_
  refine z_iload hb dX3_pick_52 rfl ?_
  refine z_iret hb hr dX3_pick_54 ?_
  rw [hQ]
  exact ⟨rfl, rfl, rfl⟩

set_option maxHeartbeats 1000000 in
theorem m_X3_pick_6 {l : Launch} {G : zG} {h : zH} {n : Nat} (a b c d e f : Int32) {k : Nat} (hk : k < 100) : z_C l G yX3_pick 1 0 0 [.int (nI (k + 6)), .int a, .int b, .int c, .int d, .int e, .int f] h n (z_rv (.int (nI 0)) h n) := by
  refine z_start zk_X3_pick zpl_RX3 (Nat.le_of_ble_eq_true rfl) ?_
  intro hn0 M hl hG ho hb hN hr hm hH hrm hQ
  subst hl hG
  have ho : zm_o M = RX3 := ho
  show z_V M h n 0 0 0 [(0, .int (nI (k + 6))), (1, .int a), (2, .int b), (3, .int c), (4, .int d), (5, .int e), (6, .int f)] []
  refine z_iload_n hb dX3_pick_0 rfl ?_
  refine z_tableOut (tgt := 55) hb dX3_pick_1 (Or.inr (by rw [nI_toInt (by omega)]; omega)) (by decide) ?_
  refine z_iconst (x := nI 0) hb dX3_pick_55 (by decide) ?_
  refine z_iret hb hr dX3_pick_56 ?_
  rw [hQ]
  exact ⟨rfl, rfl, rfl⟩

theorem m_X3_pick {l : Launch} {G : zG} {h : zH} {n : Nat} (k : Nat) (a b c d e f : Int32) (hk : k < 100) : z_C l G yX3_pick 1 0 0 [.int (nI k), .int a, .int b, .int c, .int d, .int e, .int f] h n (z_rv (.int (tw_pick k a b c d e f)) h n) := by
  match k, hk with
  | 0, _ => exact m_X3_pick_0 a b c d e f
  | 1, _ => exact m_X3_pick_1 a b c d e f
  | 2, _ => exact m_X3_pick_2 a b c d e f
  | 3, _ => exact m_X3_pick_3 a b c d e f
  | 4, _ => exact m_X3_pick_4 a b c d e f
  | 5, _ => exact m_X3_pick_5 a b c d e f
  | k + 6, hk => exact m_X3_pick_6 a b c d e f (by omega)

set_option maxHeartbeats 1000000 in
theorem m_X3_spelled_0 {l : Launch} {G : zG} {h : zH} {n : Nat} (k : Nat) (hk : k < 100) : z_C l G yX3_spelled 2 0 0 [.int (nI 0), .int (nI k)] h n (z_rv (.int (nI (tw_sp_ 0 k))) h n) := by
  refine z_start zk_X3_spelled zpl_RX3 (Nat.le_of_ble_eq_true rfl) ?_
  intro hn0 M hl hG ho hb hN hr hm hH hrm hQ
  subst hl hG
  have ho : zm_o M = RX3 := ho
  show z_V M h n 0 0 0 [(0, .int (nI 0)), (1, .int (nI k))] []
  refine z_iload_n hb dX3_spelled_0 rfl ?_
  refine z_tableIn (off := 47) (tgt := 48) hb dX3_spelled_1 (by decide) (by decide) rfl (by decide) ?_
  refine z_iload_n hb dX3_spelled_48 rfl ?_
  refine z_bipush (x := nI 114) hb dX3_spelled_49 (by decide) ?_
  refine z_bipush (x := nI 111) hb dX3_spelled_51 (by decide) ?_
  refine z_bipush (x := nI 119) hb dX3_spelled_53 (by decide) ?_
  refine z_iconst (x := nI 0) hb dX3_spelled_55 (by decide) ?_
  refine z_iconst (x := nI 0) hb dX3_spelled_56 (by decide) ?_
  refine z_iconst (x := nI 0) hb dX3_spelled_57 (by decide) ?_
  refine z_call1 (b' := 0) (f' := 0) (rest := []) (av := [.int (nI k), .int (nI 114), .int (nI 111), .int (nI 119), .int (nI 0), .int (nI 0), .int (nI 0)]) (z_siteS hb ho q3208 q3209 q104 ⟨_, _, _, _, zk_X3_pick⟩ zy_X3_pick zl_X3_pick dX3_spelled_58 : z_Site M _ _ _ _ _ ([.int (nI k), .int (nI 114), .int (nI 111), .int (nI 119), .int (nI 0), .int (nI 0), .int (nI 0)].reverse ++ []) [] _) zk_X3_pick q104 hrm (m_X3_pick k (nI 114) (nI 111) (nI 119) (nI 0) (nI 0) (nI 0) (by omega)) (by omega) (by decide) (Nat.le_of_ble_eq_true rfl) (by omega) (by omega) ?_
  refine z_iret hb hr dX3_spelled_61 ?_
  rw [hQ]
  exact z_rve (by match k with
    | 0 => rfl
    | 1 => rfl
    | 2 => rfl
    | 3 => rfl
    | 4 => rfl
    | 5 => rfl
    | k + 6 => rfl)

set_option maxHeartbeats 1000000 in
theorem m_X3_spelled_1 {l : Launch} {G : zG} {h : zH} {n : Nat} (k : Nat) (hk : k < 100) : z_C l G yX3_spelled 2 0 0 [.int (nI 1), .int (nI k)] h n (z_rv (.int (nI (tw_sp_ 1 k))) h n) := by
  refine z_start zk_X3_spelled zpl_RX3 (Nat.le_of_ble_eq_true rfl) ?_
  intro hn0 M hl hG ho hb hN hr hm hH hrm hQ
  subst hl hG
  have ho : zm_o M = RX3 := ho
  show z_V M h n 0 0 0 [(0, .int (nI 1)), (1, .int (nI k))] []
  refine z_iload_n hb dX3_spelled_0 rfl ?_
  refine z_tableIn (off := 61) (tgt := 62) hb dX3_spelled_1 (by decide) (by decide) rfl (by decide) ?_
  refine z_iload_n hb dX3_spelled_62 rfl ?_
  refine z_bipush (x := nI 103) hb dX3_spelled_63 (by decide) ?_
  refine z_bipush (x := nI 111) hb dX3_spelled_65 (by decide) ?_
  refine z_bipush (x := nI 110) hb dX3_spelled_67 (by decide) ?_
  refine z_bipush (x := nI 101) hb dX3_spelled_69 (by decide) ?_
  refine z_iconst (x := nI 0) hb dX3_spelled_71 (by decide) ?_
  refine z_iconst (x := nI 0) hb dX3_spelled_72 (by decide) ?_
  refine z_call1 (b' := 0) (f' := 0) (rest := []) (av := [.int (nI k), .int (nI 103), .int (nI 111), .int (nI 110), .int (nI 101), .int (nI 0), .int (nI 0)]) (z_siteS hb ho q3208 q3209 q104 ⟨_, _, _, _, zk_X3_pick⟩ zy_X3_pick zl_X3_pick dX3_spelled_73 : z_Site M _ _ _ _ _ ([.int (nI k), .int (nI 103), .int (nI 111), .int (nI 110), .int (nI 101), .int (nI 0), .int (nI 0)].reverse ++ []) [] _) zk_X3_pick q104 hrm (m_X3_pick k (nI 103) (nI 111) (nI 110) (nI 101) (nI 0) (nI 0) (by omega)) (by omega) (by decide) (Nat.le_of_ble_eq_true rfl) (by omega) (by omega) ?_
  refine z_iret hb hr dX3_spelled_76 ?_
  rw [hQ]
  exact z_rve (by match k with
    | 0 => rfl
    | 1 => rfl
    | 2 => rfl
    | 3 => rfl
    | 4 => rfl
    | 5 => rfl
    | k + 6 => rfl)

set_option maxHeartbeats 1000000 in
theorem m_X3_spelled_2 {l : Launch} {G : zG} {h : zH} {n : Nat} (k : Nat) (hk : k < 100) : z_C l G yX3_spelled 2 0 0 [.int (nI 2), .int (nI k)] h n (z_rv (.int (nI (tw_sp_ 2 k))) h n) := by
  refine z_start zk_X3_spelled zpl_RX3 (Nat.le_of_ble_eq_true rfl) ?_
  intro hn0 M hl hG ho hb hN hr hm hH hrm hQ
  subst hl hG
  have ho : zm_o M = RX3 := ho
  show z_V M h n 0 0 0 [(0, .int (nI 2)), (1, .int (nI k))] []
  refine z_iload_n hb dX3_spelled_0 rfl ?_
  refine z_tableIn (off := 76) (tgt := 77) hb dX3_spelled_1 (by decide) (by decide) rfl (by decide) ?_
  refine z_iload_n hb dX3_spelled_77 rfl ?_
  refine z_bipush (x := nI 110) hb dX3_spelled_78 (by decide) ?_
  refine z_bipush (x := nI 101) hb dX3_spelled_80 (by decide) ?_
  refine z_bipush (x := nI 120) hb dX3_spelled_82 (by decide) ?_
  refine z_bipush (x := nI 116) hb dX3_spelled_84 (by decide) ?_
  refine z_iconst (x := nI 0) hb dX3_spelled_86 (by decide) ?_
  refine z_iconst (x := nI 0) hb dX3_spelled_87 (by decide) ?_
  refine z_call1 (b' := 0) (f' := 0) (rest := []) (av := [.int (nI k), .int (nI 110), .int (nI 101), .int (nI 120), .int (nI 116), .int (nI 0), .int (nI 0)]) (z_siteS hb ho q3208 q3209 q104 ⟨_, _, _, _, zk_X3_pick⟩ zy_X3_pick zl_X3_pick dX3_spelled_88 : z_Site M _ _ _ _ _ ([.int (nI k), .int (nI 110), .int (nI 101), .int (nI 120), .int (nI 116), .int (nI 0), .int (nI 0)].reverse ++ []) [] _) zk_X3_pick q104 hrm (m_X3_pick k (nI 110) (nI 101) (nI 120) (nI 116) (nI 0) (nI 0) (by omega)) (by omega) (by decide) (Nat.le_of_ble_eq_true rfl) (by omega) (by omega) ?_
  refine z_iret hb hr dX3_spelled_91 ?_
  rw [hQ]
  exact z_rve (by match k with
    | 0 => rfl
    | 1 => rfl
    | 2 => rfl
    | 3 => rfl
    | 4 => rfl
    | 5 => rfl
    | k + 6 => rfl)

set_option maxHeartbeats 1000000 in
theorem m_X3_spelled_3 {l : Launch} {G : zG} {h : zH} {n : Nat} (k : Nat) (hk : k < 100) : z_C l G yX3_spelled 2 0 0 [.int (nI 3), .int (nI k)] h n (z_rv (.int (nI (tw_sp_ 3 k))) h n) := by
  refine z_start zk_X3_spelled zpl_RX3 (Nat.le_of_ble_eq_true rfl) ?_
  intro hn0 M hl hG ho hb hN hr hm hH hrm hQ
  subst hl hG
  have ho : zm_o M = RX3 := ho
  show z_V M h n 0 0 0 [(0, .int (nI 3)), (1, .int (nI k))] []
  refine z_iload_n hb dX3_spelled_0 rfl ?_
  refine z_tableIn (off := 91) (tgt := 92) hb dX3_spelled_1 (by decide) (by decide) rfl (by decide) ?_
  refine z_iload_n hb dX3_spelled_92 rfl ?_
  refine z_bipush (x := nI 98) hb dX3_spelled_93 (by decide) ?_
  refine z_bipush (x := nI 97) hb dX3_spelled_95 (by decide) ?_
  refine z_bipush (x := nI 115) hb dX3_spelled_97 (by decide) ?_
  refine z_bipush (x := nI 101) hb dX3_spelled_99 (by decide) ?_
  refine z_iconst (x := nI 0) hb dX3_spelled_101 (by decide) ?_
  refine z_iconst (x := nI 0) hb dX3_spelled_102 (by decide) ?_
  refine z_call1 (b' := 0) (f' := 0) (rest := []) (av := [.int (nI k), .int (nI 98), .int (nI 97), .int (nI 115), .int (nI 101), .int (nI 0), .int (nI 0)]) (z_siteS hb ho q3208 q3209 q104 ⟨_, _, _, _, zk_X3_pick⟩ zy_X3_pick zl_X3_pick dX3_spelled_103 : z_Site M _ _ _ _ _ ([.int (nI k), .int (nI 98), .int (nI 97), .int (nI 115), .int (nI 101), .int (nI 0), .int (nI 0)].reverse ++ []) [] _) zk_X3_pick q104 hrm (m_X3_pick k (nI 98) (nI 97) (nI 115) (nI 101) (nI 0) (nI 0) (by omega)) (by omega) (by decide) (Nat.le_of_ble_eq_true rfl) (by omega) (by omega) ?_
  refine z_iret hb hr dX3_spelled_106 ?_
  rw [hQ]
  exact z_rve (by match k with
    | 0 => rfl
    | 1 => rfl
    | 2 => rfl
    | 3 => rfl
    | 4 => rfl
    | 5 => rfl
    | k + 6 => rfl)

set_option maxHeartbeats 1000000 in
theorem m_X3_spelled_4 {l : Launch} {G : zG} {h : zH} {n : Nat} (k : Nat) (hk : k < 100) : z_C l G yX3_spelled 2 0 0 [.int (nI 4), .int (nI k)] h n (z_rv (.int (nI (tw_sp_ 4 k))) h n) := by
  refine z_start zk_X3_spelled zpl_RX3 (Nat.le_of_ble_eq_true rfl) ?_
  intro hn0 M hl hG ho hb hN hr hm hH hrm hQ
  subst hl hG
  have ho : zm_o M = RX3 := ho
  show z_V M h n 0 0 0 [(0, .int (nI 4)), (1, .int (nI k))] []
  refine z_iload_n hb dX3_spelled_0 rfl ?_
  refine z_tableIn (off := 106) (tgt := 107) hb dX3_spelled_1 (by decide) (by decide) rfl (by decide) ?_
  refine z_iload_n hb dX3_spelled_107 rfl ?_
  refine z_bipush (x := nI 112) hb dX3_spelled_108 (by decide) ?_
  refine z_bipush (x := nI 97) hb dX3_spelled_110 (by decide) ?_
  refine z_bipush (x := nI 105) hb dX3_spelled_112 (by decide) ?_
  refine z_bipush (x := nI 114) hb dX3_spelled_114 (by decide) ?_
  refine z_iconst (x := nI 0) hb dX3_spelled_116 (by decide) ?_
  refine z_iconst (x := nI 0) hb dX3_spelled_117 (by decide) ?_
  refine z_call1 (b' := 0) (f' := 0) (rest := []) (av := [.int (nI k), .int (nI 112), .int (nI 97), .int (nI 105), .int (nI 114), .int (nI 0), .int (nI 0)]) (z_siteS hb ho q3208 q3209 q104 ⟨_, _, _, _, zk_X3_pick⟩ zy_X3_pick zl_X3_pick dX3_spelled_118 : z_Site M _ _ _ _ _ ([.int (nI k), .int (nI 112), .int (nI 97), .int (nI 105), .int (nI 114), .int (nI 0), .int (nI 0)].reverse ++ []) [] _) zk_X3_pick q104 hrm (m_X3_pick k (nI 112) (nI 97) (nI 105) (nI 114) (nI 0) (nI 0) (by omega)) (by omega) (by decide) (Nat.le_of_ble_eq_true rfl) (by omega) (by omega) ?_
  refine z_iret hb hr dX3_spelled_121 ?_
  rw [hQ]
  exact z_rve (by match k with
    | 0 => rfl
    | 1 => rfl
    | 2 => rfl
    | 3 => rfl
    | 4 => rfl
    | 5 => rfl
    | k + 6 => rfl)

set_option maxHeartbeats 1000000 in
theorem m_X3_spelled_5 {l : Launch} {G : zG} {h : zH} {n : Nat} (k : Nat) (hk : k < 100) : z_C l G yX3_spelled 2 0 0 [.int (nI 5), .int (nI k)] h n (z_rv (.int (nI (tw_sp_ 5 k))) h n) := by
  refine z_start zk_X3_spelled zpl_RX3 (Nat.le_of_ble_eq_true rfl) ?_
  intro hn0 M hl hG ho hb hN hr hm hH hrm hQ
  subst hl hG
  have ho : zm_o M = RX3 := ho
  show z_V M h n 0 0 0 [(0, .int (nI 5)), (1, .int (nI k))] []
  refine z_iload_n hb dX3_spelled_0 rfl ?_
  refine z_tableIn (off := 121) (tgt := 122) hb dX3_spelled_1 (by decide) (by decide) rfl (by decide) ?_
  refine z_iload_n hb dX3_spelled_122 rfl ?_
  refine z_bipush (x := nI 114) hb dX3_spelled_123 (by decide) ?_
  refine z_bipush (x := nI 117) hb dX3_spelled_125 (by decide) ?_
  refine z_bipush (x := nI 110) hb dX3_spelled_127 (by decide) ?_
  refine z_iconst (x := nI 0) hb dX3_spelled_129 (by decide) ?_
  refine z_iconst (x := nI 0) hb dX3_spelled_130 (by decide) ?_
  refine z_iconst (x := nI 0) hb dX3_spelled_131 (by decide) ?_
  refine z_call1 (b' := 0) (f' := 0) (rest := []) (av := [.int (nI k), .int (nI 114), .int (nI 117), .int (nI 110), .int (nI 0), .int (nI 0), .int (nI 0)]) (z_siteS hb ho q3208 q3209 q104 ⟨_, _, _, _, zk_X3_pick⟩ zy_X3_pick zl_X3_pick dX3_spelled_132 : z_Site M _ _ _ _ _ ([.int (nI k), .int (nI 114), .int (nI 117), .int (nI 110), .int (nI 0), .int (nI 0), .int (nI 0)].reverse ++ []) [] _) zk_X3_pick q104 hrm (m_X3_pick k (nI 114) (nI 117) (nI 110) (nI 0) (nI 0) (nI 0) (by omega)) (by omega) (by decide) (Nat.le_of_ble_eq_true rfl) (by omega) (by omega) ?_
  refine z_iret hb hr dX3_spelled_135 ?_
  rw [hQ]
  exact z_rve (by match k with
    | 0 => rfl
    | 1 => rfl
    | 2 => rfl
    | 3 => rfl
    | 4 => rfl
    | 5 => rfl
    | k + 6 => rfl)

set_option maxHeartbeats 1000000 in
theorem m_X3_spelled_6 {l : Launch} {G : zG} {h : zH} {n : Nat} (k : Nat) (hk : k < 100) : z_C l G yX3_spelled 2 0 0 [.int (nI 6), .int (nI k)] h n (z_rv (.int (nI (tw_sp_ 6 k))) h n) := by
  refine z_start zk_X3_spelled zpl_RX3 (Nat.le_of_ble_eq_true rfl) ?_
  intro hn0 M hl hG ho hb hN hr hm hH hrm hQ
  subst hl hG
  have ho : zm_o M = RX3 := ho
  show z_V M h n 0 0 0 [(0, .int (nI 6)), (1, .int (nI k))] []
  refine z_iload_n hb dX3_spelled_0 rfl ?_
  refine z_tableIn (off := 135) (tgt := 136) hb dX3_spelled_1 (by decide) (by decide) rfl (by decide) ?_
  refine z_iload_n hb dX3_spelled_136 rfl ?_
  refine z_bipush (x := nI 107) hb dX3_spelled_137 (by decide) ?_
  refine z_bipush (x := nI 101) hb dX3_spelled_139 (by decide) ?_
  refine z_bipush (x := nI 101) hb dX3_spelled_141 (by decide) ?_
  refine z_bipush (x := nI 112) hb dX3_spelled_143 (by decide) ?_
  refine z_iconst (x := nI 0) hb dX3_spelled_145 (by decide) ?_
  refine z_iconst (x := nI 0) hb dX3_spelled_146 (by decide) ?_
  refine z_call1 (b' := 0) (f' := 0) (rest := []) (av := [.int (nI k), .int (nI 107), .int (nI 101), .int (nI 101), .int (nI 112), .int (nI 0), .int (nI 0)]) (z_siteS hb ho q3208 q3209 q104 ⟨_, _, _, _, zk_X3_pick⟩ zy_X3_pick zl_X3_pick dX3_spelled_147 : z_Site M _ _ _ _ _ ([.int (nI k), .int (nI 107), .int (nI 101), .int (nI 101), .int (nI 112), .int (nI 0), .int (nI 0)].reverse ++ []) [] _) zk_X3_pick q104 hrm (m_X3_pick k (nI 107) (nI 101) (nI 101) (nI 112) (nI 0) (nI 0) (by omega)) (by omega) (by decide) (Nat.le_of_ble_eq_true rfl) (by omega) (by omega) ?_
  refine z_iret hb hr dX3_spelled_150 ?_
  rw [hQ]
  exact z_rve (by match k with
    | 0 => rfl
    | 1 => rfl
    | 2 => rfl
    | 3 => rfl
    | 4 => rfl
    | 5 => rfl
    | k + 6 => rfl)

set_option maxHeartbeats 1000000 in
theorem m_X3_spelled_7 {l : Launch} {G : zG} {h : zH} {n : Nat} (k : Nat) (hk : k < 100) : z_C l G yX3_spelled 2 0 0 [.int (nI 7), .int (nI k)] h n (z_rv (.int (nI (tw_sp_ 7 k))) h n) := by
  refine z_start zk_X3_spelled zpl_RX3 (Nat.le_of_ble_eq_true rfl) ?_
  intro hn0 M hl hG ho hb hN hr hm hH hrm hQ
  subst hl hG
  have ho : zm_o M = RX3 := ho
  show z_V M h n 0 0 0 [(0, .int (nI 7)), (1, .int (nI k))] []
  refine z_iload_n hb dX3_spelled_0 rfl ?_
  refine z_tableIn (off := 150) (tgt := 151) hb dX3_spelled_1 (by decide) (by decide) rfl (by decide) ?_
  refine z_iload_n hb dX3_spelled_151 rfl ?_
  refine z_bipush (x := nI 99) hb dX3_spelled_152 (by decide) ?_
  refine z_bipush (x := nI 117) hb dX3_spelled_154 (by decide) ?_
  refine z_bipush (x := nI 116) hb dX3_spelled_156 (by decide) ?_
  refine z_iconst (x := nI 0) hb dX3_spelled_158 (by decide) ?_
  refine z_iconst (x := nI 0) hb dX3_spelled_159 (by decide) ?_
  refine z_iconst (x := nI 0) hb dX3_spelled_160 (by decide) ?_
  refine z_call1 (b' := 0) (f' := 0) (rest := []) (av := [.int (nI k), .int (nI 99), .int (nI 117), .int (nI 116), .int (nI 0), .int (nI 0), .int (nI 0)]) (z_siteS hb ho q3208 q3209 q104 ⟨_, _, _, _, zk_X3_pick⟩ zy_X3_pick zl_X3_pick dX3_spelled_161 : z_Site M _ _ _ _ _ ([.int (nI k), .int (nI 99), .int (nI 117), .int (nI 116), .int (nI 0), .int (nI 0), .int (nI 0)].reverse ++ []) [] _) zk_X3_pick q104 hrm (m_X3_pick k (nI 99) (nI 117) (nI 116) (nI 0) (nI 0) (nI 0) (by omega)) (by omega) (by decide) (Nat.le_of_ble_eq_true rfl) (by omega) (by omega) ?_
  refine z_iret hb hr dX3_spelled_164 ?_
  rw [hQ]
  exact z_rve (by match k with
    | 0 => rfl
    | 1 => rfl
    | 2 => rfl
    | 3 => rfl
    | 4 => rfl
    | 5 => rfl
    | k + 6 => rfl)

set_option maxHeartbeats 1000000 in
theorem m_X3_spelled_8 {l : Launch} {G : zG} {h : zH} {n : Nat} (k : Nat) (hk : k < 100) : z_C l G yX3_spelled 2 0 0 [.int (nI 8), .int (nI k)] h n (z_rv (.int (nI (tw_sp_ 8 k))) h n) := by
  refine z_start zk_X3_spelled zpl_RX3 (Nat.le_of_ble_eq_true rfl) ?_
  intro hn0 M hl hG ho hb hN hr hm hH hrm hQ
  subst hl hG
  have ho : zm_o M = RX3 := ho
  show z_V M h n 0 0 0 [(0, .int (nI 8)), (1, .int (nI k))] []
  refine z_iload_n hb dX3_spelled_0 rfl ?_
  refine z_tableOut (tgt := 165) hb dX3_spelled_1 (by decide) (by decide) ?_
  refine z_iload_n hb dX3_spelled_165 rfl ?_
  refine z_bipush (x := nI 114) hb dX3_spelled_166 (by decide) ?_
  refine z_bipush (x := nI 101) hb dX3_spelled_168 (by decide) ?_
  refine z_bipush (x := nI 112) hb dX3_spelled_170 (by decide) ?_
  refine z_bipush (x := nI 97) hb dX3_spelled_172 (by decide) ?_
  refine z_bipush (x := nI 105) hb dX3_spelled_174 (by decide) ?_
  refine z_bipush (x := nI 114) hb dX3_spelled_176 (by decide) ?_
  refine z_call1 (b' := 0) (f' := 0) (rest := []) (av := [.int (nI k), .int (nI 114), .int (nI 101), .int (nI 112), .int (nI 97), .int (nI 105), .int (nI 114)]) (z_siteS hb ho q3208 q3209 q104 ⟨_, _, _, _, zk_X3_pick⟩ zy_X3_pick zl_X3_pick dX3_spelled_178 : z_Site M _ _ _ _ _ ([.int (nI k), .int (nI 114), .int (nI 101), .int (nI 112), .int (nI 97), .int (nI 105), .int (nI 114)].reverse ++ []) [] _) zk_X3_pick q104 hrm (m_X3_pick k (nI 114) (nI 101) (nI 112) (nI 97) (nI 105) (nI 114) (by omega)) (by omega) (by decide) (Nat.le_of_ble_eq_true rfl) (by omega) (by omega) ?_
  refine z_iret hb hr dX3_spelled_181 ?_
  rw [hQ]
  exact z_rve (by match k with
    | 0 => rfl
    | 1 => rfl
    | 2 => rfl
    | 3 => rfl
    | 4 => rfl
    | 5 => rfl
    | k + 6 => rfl)

theorem m_X3_spelled {l : Launch} {G : zG} {h : zH} {n : Nat} (kd k : Nat) (hkd : kd < 9) (hk : k < 100) : z_C l G yX3_spelled 2 0 0 [.int (nI kd), .int (nI k)] h n (z_rv (.int (nI (tw_sp_ kd k))) h n) := by
  match kd, hkd with
  | 0, _ => exact m_X3_spelled_0 k hk
  | 1, _ => exact m_X3_spelled_1 k hk
  | 2, _ => exact m_X3_spelled_2 k hk
  | 3, _ => exact m_X3_spelled_3 k hk
  | 4, _ => exact m_X3_spelled_4 k hk
  | 5, _ => exact m_X3_spelled_5 k hk
  | 6, _ => exact m_X3_spelled_6 k hk
  | 7, _ => exact m_X3_spelled_7 k hk
  | 8, _ => exact m_X3_spelled_8 k hk
theorem tw_sp_le {kd k : Nat} (hkd : kd < 9) : tw_sp_ kd k < 128 := by
  have : ∀ kd : Nat, kd < 9 → ∀ k : Nat, k < 7 → tw_sp_ kd k < 128 := by decide
  rcases Nat.lt_or_ge k 7 with q | q
  · exact this kd hkd k q
  · have : ∀ kd : Nat, kd < 9 → (tw_words.getD kd []).length ≤ 6 := by decide
    have h1 := this kd hkd
    unfold tw_sp_
    rw [List.getD_eq_getElem?_getD, List.getElem?_eq_none (by omega)]
    decide
theorem tw_sp_0 {kd k : Nat} (hkd : kd < 9) (hk : 6 ≤ k) : tw_sp_ kd k = 0 := by
  have : ∀ kd : Nat, kd < 9 → (tw_words.getD kd []).length ≤ 6 := by decide
  have h1 := this kd hkd
  unfold tw_sp_
  rw [List.getD_eq_getElem?_getD, List.getElem?_eq_none (by omega)]
  rfl
theorem z_bfit (c : Bool) : fits .boolean (.int (z_b c)) = true := by cases c <;> rfl
/-- reading: u is the text, T long; a state is a place, and whether a fault was seen -/
def tw_mk (u : Nat → Int32) (T : Nat) (q : Nat × Bool) : Int32 := if q.2 then -1 else if q.1 < T then u q.1 else -1
def tw_sg (u : Nat → Int32) (T : Nat) (c : Int32) (q : Nat × Bool) : Nat × Bool := if tw_mk u T q = c then (q.1 + 1, false) else (q.1, true)
def tw_isd (u : Nat → Int32) (T : Nat) (q : Nat × Bool) : Bool := decide (nI 48 ≤ tw_mk u T q ∧ tw_mk u T q ≤ nI 57)
def tw_dv (v c : Int32) : Int32 := nI 10 * v + c - nI 48
def tw_dg1 (u : Nat → Int32) (T : Nat) (q : Nat × Bool) : (Nat × Bool) × Int32 := if tw_isd u T q then ((q.1 + 1, false), tw_dv (nI 0) (u q.1)) else ((q.1, true), nI 0)
def tw_dg2 (u : Nat → Int32) (T : Nat) (q : Nat × Bool) : (Nat × Bool) × Int32 :=
  if tw_isd u T q then (if tw_isd u T (q.1 + 1, false) then ((q.1 + 2, false), tw_dv (tw_dv (nI 0) (u q.1)) (u (q.1 + 1))) else ((q.1 + 1, false), tw_dv (nI 0) (u q.1))) else ((q.1, true), nI 0)
theorem tw_mk_lt {u : Nat → Int32} {T : Nat} {q : Nat × Bool} (h : tw_mk u T q ≠ -1) : q.2 = false ∧ q.1 < T ∧ tw_mk u T q = u q.1 := by
  unfold tw_mk at h ⊢
  cases q2 : q.2
  · by_cases q1 : q.1 < T
    · exact ⟨rfl, q1, by simp [q1]⟩
    · simp [q2, q1] at h
  · simp [q2] at h
theorem tw_isd_lt {u : Nat → Int32} {T : Nat} {q : Nat × Bool} (h : tw_isd u T q = true) : q.2 = false ∧ q.1 < T ∧ tw_mk u T q = u q.1 := tw_mk_lt (by
  intro e
  unfold tw_isd at h
  rw [e] at h
  exact absurd h (by decide))

set_option maxHeartbeats 1000000 in
theorem m_X3_mark_2 {l : Launch} {G : zG} {h : zH} {n : Nat} {t : Nat} {w0 : Nat → Int32} {w1 : Nat → Int32} {w2 : Nat → Int32} {w3 : Nat → Int32} {w4 : Nat → Int32} {w5 : Nat → Int64} {w6 : Nat → Int64} {w7 : Nat → Int64} {w8 : Nat → Int64} {w9 : Nat → Int64} {w10 : Nat → Int64} {w11 : Nat → Int64} {w12 : Int32} {w13 : Int32} {w14 : Int32} {w15 : Int32} {w16 : Int32} {w17 : Int32} {w18 : Bool} {w19 : Nat → Int32} {w20 : Int32} {w21 : Nat → Int32} {w22 : Nat → Int32} {w23 : Nat → Int32} {w24 : Int32} {w25 : Int32} {w26 : Int32} {w27 : Int32} {w28 : Bool} {T : Nat} {q : Nat × Bool}  (ht : z_n0 G ≤ t) (hT : T ≤ 60) (hq : q.1 ≤ T) : z_C l G yX3_mark_2 1 0 0 [.ref t] (z_tw G t w0 w1 w2 w3 w4 w5 w6 w7 w8 w9 w10 w11 w12 w13 w14 w15 w16 w17 w18 w19 w20 w21 w22 w23 w24 (nI T) (nI q.1) w27 q.2 h) n (z_rv (.int (tw_mk w21 T q)) (z_tw G t w0 w1 w2 w3 w4 w5 w6 w7 w8 w9 w10 w11 w12 w13 w14 w15 w16 w17 w18 w19 w20 w21 w22 w23 w24 (nI T) (nI q.1) w27 q.2 h) n) := by
  refine z_start zk_X3_mark_2 zpl_RX3 (Nat.le_of_ble_eq_true rfl) ?_
  intro hn0 M hl hG ho hb hN hr hm hH hrm hQ
  subst hl hG
  have ho : zm_o M = RX3 := ho
  show z_V M (z_tw (zm_G M) t w0 w1 w2 w3 w4 w5 w6 w7 w8 w9 w10 w11 w12 w13 w14 w15 w16 w17 w18 w19 w20 w21 w22 w23 w24 (nI T) (nI q.1) w27 q.2 h) n 0 0 0 [(0, .ref t)] []
  refine z_aload_n hb dX3_mark_2_0 rfl ?_
  refine z_get (k := 28) (C := RX3) (T := TX3) (N := 29) hb ho zc2 in_X3 (zf_RX3_97 _) dX3_mark_2_1 z_tw_o (by decide) rfl ?_
  refine z_ifb_ne (tgt := 30) hb dX3_mark_2_4 (by decide) (fun c_4 => ?_) (fun c_4 => ?_)
  · refine z_iconst (x := (-1)) hb dX3_mark_2_30 (by decide) ?_
    refine z_iret hb hr dX3_mark_2_31 ?_
    rw [hQ]
    exact z_rve (by unfold tw_mk; first | rw [if_pos c_4] | (rw [if_neg (by simp [c_4])]; first | rw [if_pos (by omega)] | rw [if_neg (by omega)]))
  · refine z_aload_n hb dX3_mark_2_7 rfl ?_
    refine z_get (k := 26) (C := RX3) (T := TX3) (N := 29) hb ho zc2 in_X3 (zf_RX3_91 _) dX3_mark_2_8 z_tw_o (by decide) rfl ?_
    refine z_aload_n hb dX3_mark_2_11 rfl ?_
    refine z_get (k := 25) (C := RX3) (T := TX3) (N := 29) hb ho zc2 in_X3 (zf_RX3_88 _) dX3_mark_2_12 z_tw_o (by decide) rfl ?_
    refine z_icmp_geN (tgt := 30) hb dX3_mark_2_15 (by decide) (by omega) (by omega) (fun c_15 => ?_) (fun c_15 => ?_)
    · refine z_iconst (x := (-1)) hb dX3_mark_2_30 (by decide) ?_
      refine z_iret hb hr dX3_mark_2_31 ?_
      rw [hQ]
      exact z_rve (by unfold tw_mk; first | rw [if_pos c_4] | (rw [if_neg (by simp [c_4])]; first | rw [if_pos (by omega)] | rw [if_neg (by omega)]))
    · refine z_aload_n hb dX3_mark_2_18 rfl ?_
      refine z_get (k := 21) (C := RX3) (T := TX3) (N := 29) hb ho zc2 in_X3 (zf_RX3_76 _) dX3_mark_2_19 z_tw_o (by decide) rfl ?_
      refine z_aload_n hb dX3_mark_2_22 rfl ?_
      refine z_get (k := 26) (C := RX3) (T := TX3) (N := 29) hb ho zc2 in_X3 (zf_RX3_91 _) dX3_mark_2_23 z_tw_o (by decide) rfl ?_
      refine z_iald (j := q.1) hb dX3_mark_2_26 z_tw_r21 rfl (by omega) (by omega) ?_
      refine z_goto (tgt := 31) hb dX3_mark_2_27 (by decide) ?_
      refine z_iret hb hr dX3_mark_2_31 ?_
      rw [hQ]
      exact z_rve (by unfold tw_mk; first | rw [if_pos c_4] | (rw [if_neg (by simp [c_4])]; first | rw [if_pos (by omega)] | rw [if_neg (by omega)]))

set_option maxHeartbeats 1000000 in
theorem m_X3_sign {l : Launch} {G : zG} {h : zH} {n : Nat} {t : Nat} {w0 : Nat → Int32} {w1 : Nat → Int32} {w2 : Nat → Int32} {w3 : Nat → Int32} {w4 : Nat → Int32} {w5 : Nat → Int64} {w6 : Nat → Int64} {w7 : Nat → Int64} {w8 : Nat → Int64} {w9 : Nat → Int64} {w10 : Nat → Int64} {w11 : Nat → Int64} {w12 : Int32} {w13 : Int32} {w14 : Int32} {w15 : Int32} {w16 : Int32} {w17 : Int32} {w18 : Bool} {w19 : Nat → Int32} {w20 : Int32} {w21 : Nat → Int32} {w22 : Nat → Int32} {w23 : Nat → Int32} {w24 : Int32} {w25 : Int32} {w26 : Int32} {w27 : Int32} {w28 : Bool} {T : Nat} {q : Nat × Bool} (c : Int32)  (ht : z_n0 G ≤ t) (hT : T ≤ 60) (hq : q.1 ≤ T) (hc : c ≠ -1) : z_C l G yX3_sign 2 0 0 [.ref t, .int c] (z_tw G t w0 w1 w2 w3 w4 w5 w6 w7 w8 w9 w10 w11 w12 w13 w14 w15 w16 w17 w18 w19 w20 w21 w22 w23 w24 (nI T) (nI q.1) w27 q.2 h) n (z_r0 (z_tw G t w0 w1 w2 w3 w4 w5 w6 w7 w8 w9 w10 w11 w12 w13 w14 w15 w16 w17 w18 w19 w20 w21 w22 w23 w24 (nI T) (nI (tw_sg w21 T c q).1) w27 ((tw_sg w21 T c q).2) h) n) := by
  refine z_start zk_X3_sign zpl_RX3 (Nat.le_of_ble_eq_true rfl) ?_
  intro hn0 M hl hG ho hb hN hr hm hH hrm hQ
  subst hl hG
  have ho : zm_o M = RX3 := ho
  show z_V M (z_tw (zm_G M) t w0 w1 w2 w3 w4 w5 w6 w7 w8 w9 w10 w11 w12 w13 w14 w15 w16 w17 w18 w19 w20 w21 w22 w23 w24 (nI T) (nI q.1) w27 q.2 h) n 0 0 0 [(0, .ref t), (1, .int c)] []
  refine z_aload_n hb dX3_sign_0 rfl ?_
  refine z_dup hb dX3_sign_1 rfl ?_
  refine z_get (k := 28) (C := RX3) (T := TX3) (N := 29) hb ho zc2 in_X3 (zf_RX3_97 _) dX3_sign_2 z_tw_o (by decide) rfl ?_
  refine z_aload_n hb dX3_sign_5 rfl ?_
  refine z_call1 (b' := 0) (f' := 0) (rest := [.int (z_b q.2), .ref t]) (av := [.ref t]) (z_siteV hb ho zc2 z_tw_o q3219 q3221 qs85 ⟨_, _, _, _, zk_X3_mark_2⟩ zy_X3_mark_2 zl_X3_mark_2 dX3_sign_6 : z_Site M _ _ _ _ _ ([].reverse ++ .ref t :: [.int (z_b q.2), .ref t]) [.int (z_b q.2), .ref t] _) zk_X3_mark_2 q104 hrm (m_X3_mark_2 (w25 := 0) (w26 := 0) (w28 := false) (q := q)  ht (by omega) (by omega)) (by omega) (by decide) (Nat.le_of_ble_eq_true rfl) (by omega) (by omega) ?_
  refine z_iload_n hb dX3_sign_9 rfl ?_
  refine z_icmp_eq (tgt := 17) hb dX3_sign_10 (by decide) (fun c_10 => ?_) (fun c_10 => ?_)
  · refine z_iconst (x := nI 0) hb dX3_sign_17 (by decide) ?_
    refine z_ior hb dX3_sign_18 ?_
    refine z_toI (y := z_b (q.2 || false)) (z_b_or q.2 false) ?_
    refine z_put (k := 28) (C := RX3) (T := TX3) (N := 29) hb ho zc2 in_X3 tyX3_ok nmX3 (zf_RX3_97 _) dX3_sign_19 z_tw_o ht (by decide) (Or.inl rfl) rfl (z_bnar _) (z_bfit _) (Nat.le_of_ble_eq_true rfl) ?_
    refine z_hh z_tw_u28 ?_
    refine z_aload_n hb dX3_sign_22 rfl ?_
    refine z_dup hb dX3_sign_23 rfl ?_
    refine z_get (k := 26) (C := RX3) (T := TX3) (N := 29) hb ho zc2 in_X3 (zf_RX3_91 _) dX3_sign_24 z_tw_o (by decide) rfl ?_
    refine z_aload_n hb dX3_sign_27 rfl ?_
    refine z_get (k := 28) (C := RX3) (T := TX3) (N := 29) hb ho zc2 in_X3 (zf_RX3_97 _) dX3_sign_28 z_tw_o (by decide) rfl ?_
    refine z_ifb_eq (tgt := 38) hb dX3_sign_31 (by decide) (fun c_31 => ?_) (fun c_31 => ?_)
    · refine z_iconst (x := nI 1) hb dX3_sign_38 (by decide) ?_
      refine z_iadd hb dX3_sign_39 ?_
      refine z_toI (y := nI (q.1 + 1)) (nI_add q.1 1) ?_
      refine z_put (k := 26) (C := RX3) (T := TX3) (N := 29) hb ho zc2 in_X3 tyX3_ok nmX3 (zf_RX3_91 _) dX3_sign_40 z_tw_o ht (by decide) (Or.inl rfl) rfl rfl rfl (Nat.le_of_ble_eq_true rfl) ?_
      refine z_hh z_tw_u26 ?_
      refine z_vret hb hr dX3_sign_43 ?_
      rw [hQ]
      have e := tw_mk_lt (by rw [c_10]; exact hc)
      rw [show tw_sg w21 T c q = (q.1 + 1, q.2 || false) by rw [tw_sg, if_pos c_10, e.1]; rfl]; exact ⟨rfl, rfl, rfl⟩
    · refine z_iconst (x := nI 0) hb dX3_sign_34 (by decide) ?_
      refine z_goto (tgt := 39) hb dX3_sign_35 (by decide) ?_
      refine z_iadd hb dX3_sign_39 ?_
      refine z_toI (y := nI q.1) (nI_add q.1 0) ?_
      refine z_put (k := 26) (C := RX3) (T := TX3) (N := 29) hb ho zc2 in_X3 tyX3_ok nmX3 (zf_RX3_91 _) dX3_sign_40 z_tw_o ht (by decide) (Or.inl rfl) rfl rfl rfl (Nat.le_of_ble_eq_true rfl) ?_
      refine z_hh z_tw_u26 ?_
      refine z_vret hb hr dX3_sign_43 ?_
      rw [hQ]
      have e := tw_mk_lt (by rw [c_10]; exact hc)
      exact absurd c_31 (by rw [e.1]; decide)
  · refine z_iconst (x := nI 1) hb dX3_sign_13 (by decide) ?_
    refine z_goto (tgt := 18) hb dX3_sign_14 (by decide) ?_
    refine z_ior hb dX3_sign_18 ?_
    refine z_toI (y := z_b (q.2 || true)) (z_b_or q.2 true) ?_
    refine z_put (k := 28) (C := RX3) (T := TX3) (N := 29) hb ho zc2 in_X3 tyX3_ok nmX3 (zf_RX3_97 _) dX3_sign_19 z_tw_o ht (by decide) (Or.inl rfl) rfl (z_bnar _) (z_bfit _) (Nat.le_of_ble_eq_true rfl) ?_
    refine z_hh z_tw_u28 ?_
    refine z_aload_n hb dX3_sign_22 rfl ?_
    refine z_dup hb dX3_sign_23 rfl ?_
    refine z_get (k := 26) (C := RX3) (T := TX3) (N := 29) hb ho zc2 in_X3 (zf_RX3_91 _) dX3_sign_24 z_tw_o (by decide) rfl ?_
    refine z_aload_n hb dX3_sign_27 rfl ?_
    refine z_get (k := 28) (C := RX3) (T := TX3) (N := 29) hb ho zc2 in_X3 (zf_RX3_97 _) dX3_sign_28 z_tw_o (by decide) rfl ?_
    refine z_ifb_eq (tgt := 38) hb dX3_sign_31 (by decide) (fun c_31 => ?_) (fun c_31 => ?_)
    · refine z_iconst (x := nI 1) hb dX3_sign_38 (by decide) ?_
      refine z_iadd hb dX3_sign_39 ?_
      refine z_toI (y := nI (q.1 + 1)) (nI_add q.1 1) ?_
      refine z_put (k := 26) (C := RX3) (T := TX3) (N := 29) hb ho zc2 in_X3 tyX3_ok nmX3 (zf_RX3_91 _) dX3_sign_40 z_tw_o ht (by decide) (Or.inl rfl) rfl rfl rfl (Nat.le_of_ble_eq_true rfl) ?_
      refine z_hh z_tw_u26 ?_
      refine z_vret hb hr dX3_sign_43 ?_
      rw [hQ]
      exact absurd c_31 (by simp)
    · refine z_iconst (x := nI 0) hb dX3_sign_34 (by decide) ?_
      refine z_goto (tgt := 39) hb dX3_sign_35 (by decide) ?_
      refine z_iadd hb dX3_sign_39 ?_
      refine z_toI (y := nI q.1) (nI_add q.1 0) ?_
      refine z_put (k := 26) (C := RX3) (T := TX3) (N := 29) hb ho zc2 in_X3 tyX3_ok nmX3 (zf_RX3_91 _) dX3_sign_40 z_tw_o ht (by decide) (Or.inl rfl) rfl rfl rfl (Nat.le_of_ble_eq_true rfl) ?_
      refine z_hh z_tw_u26 ?_
      refine z_vret hb hr dX3_sign_43 ?_
      rw [hQ]
      rw [show tw_sg w21 T c q = (q.1, q.2 || true) by rw [tw_sg, if_neg c_10]; simp]; exact ⟨rfl, rfl, rfl⟩

