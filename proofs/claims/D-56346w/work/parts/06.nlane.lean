/-! WeirfoldLane -/
set_option maxRecDepth 100000
def RX1 : String := "WeirfoldLane"
def TX1 : u_T := fun k => match k with
  | 0 => ("WeirfoldLane", "lane", "LWeirfoldLane$Lane;", false)
  | 1 => ("WeirfoldLane", "past", "Ljava/util/ArrayDeque;", true)
  | 2 => ("WeirfoldLane", "buffer", "Ljava/lang/StringBuilder;", true)
  | 3 => ("WeirfoldLane", "line", "Ljava/lang/String;", false)
  | 4 => ("WeirfoldLane", "fault", "I", false)
  | 5 => ("WeirfoldLane", "denied", "LWeirfoldLane$Denial;", false)
  | _ => ("WeirfoldLane", "snapshot", "LWeirfoldLane$Lane;", false)
def tyX1 : Nat → FieldType := fun k => match k with
  | 0 => .object "WeirfoldLane$Lane"
  | 1 => .object "java/util/ArrayDeque"
  | 2 => .object "java/lang/StringBuilder"
  | 3 => .object "java/lang/String"
  | 4 => .int
  | 5 => .object "WeirfoldLane$Denial"
  | _ => .object "WeirfoldLane$Lane"
abbrev wsX10 : List Cond := u_ws RX1 TX1 7
theorem nmX1 : ∀ a, a < 7 → ∀ b, b < 7 → a ≠ b → (TX1 a).2.1 ≠ (TX1 b).2.1 := by decide +kernel
theorem tyX1_ok : ∀ k, k < 7 → parseFieldDescriptor (TX1 k).2.2.1 = some (tyX1 k) := by decide +kernel
abbrev cX1_init : ByteArray := prog_1_method_10_code
def yX1_init : MethodName := ⟨RX1, "<init>", "()V"⟩
def dkwX1_init_2 : List UInt8 := [181, 0, 65, 177]
abbrev dktX1_init_2 : List UInt8 := dkwX1_init_2 ++ []
def dkwX1_init_1 : List UInt8 := [181, 0, 48, 42, 187, 0, 52, 89, 183, 0, 54, 181, 0, 55, 42, 18, 59, 181, 0, 61, 42, 2]
abbrev dktX1_init_1 : List UInt8 := dkwX1_init_1 ++ dktX1_init_2
def dkwX1_init_0 : List UInt8 := [42, 183, 0, 35, 42, 187, 0, 38, 89, 183, 0, 40, 181, 0, 41, 42, 187, 0, 45, 89, 183, 0, 47]
abbrev dktX1_init_0 : List UInt8 := dkwX1_init_0 ++ dktX1_init_1
theorem dksX1_init_0 : cX1_init.data.toList.drop 0 = dktX1_init_0 := by decide +kernel
theorem dksX1_init_1 : cX1_init.data.toList.drop 23 = dktX1_init_1 := dk_seg dksX1_init_0 23 rfl rfl
theorem dksX1_init_2 : cX1_init.data.toList.drop 45 = dktX1_init_2 := dk_seg dksX1_init_1 22 rfl rfl
theorem dX1_init_0 : decode cX1_init 0 = .ok (.aload_n 0, 1) := dk_42 (dk_at dksX1_init_0 0 rfl rfl)
theorem dX1_init_1 : decode cX1_init 1 = .ok (.invokespecial 35, 3) := dk_183 0 35 (dk_at dksX1_init_0 1 rfl rfl)
theorem dX1_init_4 : decode cX1_init 4 = .ok (.aload_n 0, 1) := dk_42 (dk_at dksX1_init_0 4 rfl rfl)
theorem dX1_init_5 : decode cX1_init 5 = .ok (.new 38, 3) := dk_187 0 38 (dk_at dksX1_init_0 5 rfl rfl)
theorem dX1_init_8 : decode cX1_init 8 = .ok (.dup, 1) := dk_89 (dk_at dksX1_init_0 8 rfl rfl)
theorem dX1_init_9 : decode cX1_init 9 = .ok (.invokespecial 40, 3) := dk_183 0 40 (dk_at dksX1_init_0 9 rfl rfl)
theorem dX1_init_12 : decode cX1_init 12 = .ok (.putfield 41, 3) := dk_181 0 41 (dk_at dksX1_init_0 12 rfl rfl)
theorem dX1_init_15 : decode cX1_init 15 = .ok (.aload_n 0, 1) := dk_42 (dk_at dksX1_init_0 15 rfl rfl)
theorem dX1_init_16 : decode cX1_init 16 = .ok (.new 45, 3) := dk_187 0 45 (dk_at dksX1_init_0 16 rfl rfl)
theorem dX1_init_19 : decode cX1_init 19 = .ok (.dup, 1) := dk_89 (dk_at dksX1_init_0 19 rfl rfl)
theorem dX1_init_20 : decode cX1_init 20 = .ok (.invokespecial 47, 3) := dk_183 0 47 (dk_at dksX1_init_0 20 rfl rfl)
theorem dX1_init_23 : decode cX1_init 23 = .ok (.putfield 48, 3) := dk_181 0 48 (dk_at dksX1_init_1 0 rfl rfl)
theorem dX1_init_26 : decode cX1_init 26 = .ok (.aload_n 0, 1) := dk_42 (dk_at dksX1_init_1 3 rfl rfl)
theorem dX1_init_27 : decode cX1_init 27 = .ok (.new 52, 3) := dk_187 0 52 (dk_at dksX1_init_1 4 rfl rfl)
theorem dX1_init_30 : decode cX1_init 30 = .ok (.dup, 1) := dk_89 (dk_at dksX1_init_1 7 rfl rfl)
theorem dX1_init_31 : decode cX1_init 31 = .ok (.invokespecial 54, 3) := dk_183 0 54 (dk_at dksX1_init_1 8 rfl rfl)
theorem dX1_init_34 : decode cX1_init 34 = .ok (.putfield 55, 3) := dk_181 0 55 (dk_at dksX1_init_1 11 rfl rfl)
theorem dX1_init_37 : decode cX1_init 37 = .ok (.aload_n 0, 1) := dk_42 (dk_at dksX1_init_1 14 rfl rfl)
theorem dX1_init_38 : decode cX1_init 38 = .ok (.ldc 59, 2) := dk_18 59 (dk_at dksX1_init_1 15 rfl rfl)
theorem dX1_init_40 : decode cX1_init 40 = .ok (.putfield 61, 3) := dk_181 0 61 (dk_at dksX1_init_1 17 rfl rfl)
theorem dX1_init_43 : decode cX1_init 43 = .ok (.aload_n 0, 1) := dk_42 (dk_at dksX1_init_1 20 rfl rfl)
theorem dX1_init_44 : decode cX1_init 44 = .ok (.iconst (-1), 1) := dk_2 (dk_at dksX1_init_1 21 rfl rfl)
theorem dX1_init_45 : decode cX1_init 45 = .ok (.putfield 65, 3) := dk_181 0 65 (dk_at dksX1_init_2 0 rfl rfl)
theorem dX1_init_48 : decode cX1_init 48 = .ok (.return_, 1) := dk_177 (dk_at dksX1_init_2 3 rfl rfl)
abbrev cX1_today : ByteArray := prog_1_method_17_code
def yX1_today : MethodName := ⟨RX1, "today", "()I"⟩
def dkwX1_today_0 : List UInt8 := [42, 180, 0, 41, 180, 0, 120, 172]
abbrev dktX1_today_0 : List UInt8 := dkwX1_today_0 ++ []
theorem dksX1_today_0 : cX1_today.data.toList.drop 0 = dktX1_today_0 := by decide +kernel
theorem dX1_today_0 : decode cX1_today 0 = .ok (.aload_n 0, 1) := dk_42 (dk_at dksX1_today_0 0 rfl rfl)
theorem dX1_today_1 : decode cX1_today 1 = .ok (.getfield 41, 3) := dk_180 0 41 (dk_at dksX1_today_0 1 rfl rfl)
theorem dX1_today_4 : decode cX1_today 4 = .ok (.getfield 120, 3) := dk_180 0 120 (dk_at dksX1_today_0 4 rfl rfl)
theorem dX1_today_7 : decode cX1_today 7 = .ok (.ireturn, 1) := dk_172 (dk_at dksX1_today_0 7 rfl rfl)
abbrev cX1_rows : ByteArray := prog_1_method_18_code
def yX1_rows : MethodName := ⟨RX1, "rows", "()I"⟩
def dkwX1_rows_0 : List UInt8 := [42, 180, 0, 41, 180, 0, 123, 185, 0, 127, 1, 0, 172]
abbrev dktX1_rows_0 : List UInt8 := dkwX1_rows_0 ++ []
theorem dksX1_rows_0 : cX1_rows.data.toList.drop 0 = dktX1_rows_0 := by decide +kernel
theorem dX1_rows_0 : decode cX1_rows 0 = .ok (.aload_n 0, 1) := dk_42 (dk_at dksX1_rows_0 0 rfl rfl)
theorem dX1_rows_1 : decode cX1_rows 1 = .ok (.getfield 41, 3) := dk_180 0 41 (dk_at dksX1_rows_0 1 rfl rfl)
theorem dX1_rows_4 : decode cX1_rows 4 = .ok (.getfield 123, 3) := dk_180 0 123 (dk_at dksX1_rows_0 4 rfl rfl)
theorem dX1_rows_7 : decode cX1_rows 7 = .ok (.invokeinterface 127 1, 5) := by decide +kernel
theorem dX1_rows_12 : decode cX1_rows 12 = .ok (.ireturn, 1) := dk_172 (dk_at dksX1_rows_0 12 rfl rfl)
abbrev cX1_steps : ByteArray := prog_1_method_28_code
def yX1_steps : MethodName := ⟨RX1, "steps", "()I"⟩
def dkwX1_steps_0 : List UInt8 := [42, 180, 0, 41, 180, 0, 183, 185, 0, 127, 1, 0, 172]
abbrev dktX1_steps_0 : List UInt8 := dkwX1_steps_0 ++ []
theorem dksX1_steps_0 : cX1_steps.data.toList.drop 0 = dktX1_steps_0 := by decide +kernel
theorem dX1_steps_0 : decode cX1_steps 0 = .ok (.aload_n 0, 1) := dk_42 (dk_at dksX1_steps_0 0 rfl rfl)
theorem dX1_steps_1 : decode cX1_steps 1 = .ok (.getfield 41, 3) := dk_180 0 41 (dk_at dksX1_steps_0 1 rfl rfl)
theorem dX1_steps_4 : decode cX1_steps 4 = .ok (.getfield 183, 3) := dk_180 0 183 (dk_at dksX1_steps_0 4 rfl rfl)
theorem dX1_steps_7 : decode cX1_steps 7 = .ok (.invokeinterface 127 1, 5) := by decide +kernel
theorem dX1_steps_12 : decode cX1_steps 12 = .ok (.ireturn, 1) := dk_172 (dk_at dksX1_steps_0 12 rfl rfl)
abbrev cX1_stale : ByteArray := prog_1_method_36_code
def yX1_stale : MethodName := ⟨RX1, "stale", "()I"⟩
def dkwX1_stale_1 : List UInt8 := [96, 60, 132, 2, 1, 167, 255, 231, 27, 172]
abbrev dktX1_stale_1 : List UInt8 := dkwX1_stale_1 ++ []
def dkwX1_stale_0 : List UInt8 := [3, 60, 3, 61, 28, 42, 180, 0, 41, 180, 0, 120, 163, 0, 20, 27, 42, 180, 0, 41, 28, 182, 0, 222]
abbrev dktX1_stale_0 : List UInt8 := dkwX1_stale_0 ++ dktX1_stale_1
theorem dksX1_stale_0 : cX1_stale.data.toList.drop 0 = dktX1_stale_0 := by decide +kernel
theorem dksX1_stale_1 : cX1_stale.data.toList.drop 24 = dktX1_stale_1 := dk_seg dksX1_stale_0 24 rfl rfl
theorem dX1_stale_0 : decode cX1_stale 0 = .ok (.iconst 0, 1) := dk_3 (dk_at dksX1_stale_0 0 rfl rfl)
theorem dX1_stale_1 : decode cX1_stale 1 = .ok (.istore_n 1, 1) := dk_60 (dk_at dksX1_stale_0 1 rfl rfl)
theorem dX1_stale_2 : decode cX1_stale 2 = .ok (.iconst 0, 1) := dk_3 (dk_at dksX1_stale_0 2 rfl rfl)
theorem dX1_stale_3 : decode cX1_stale 3 = .ok (.istore_n 2, 1) := dk_61 (dk_at dksX1_stale_0 3 rfl rfl)
theorem dX1_stale_4 : decode cX1_stale 4 = .ok (.iload_n 2, 1) := dk_28 (dk_at dksX1_stale_0 4 rfl rfl)
theorem dX1_stale_5 : decode cX1_stale 5 = .ok (.aload_n 0, 1) := dk_42 (dk_at dksX1_stale_0 5 rfl rfl)
theorem dX1_stale_6 : decode cX1_stale 6 = .ok (.getfield 41, 3) := dk_180 0 41 (dk_at dksX1_stale_0 6 rfl rfl)
theorem dX1_stale_9 : decode cX1_stale 9 = .ok (.getfield 120, 3) := dk_180 0 120 (dk_at dksX1_stale_0 9 rfl rfl)
theorem dX1_stale_12 : decode cX1_stale 12 = .ok (.if_icmp .gt 20, 3) := dk_163 0 20 (dk_at dksX1_stale_0 12 rfl rfl)
theorem dX1_stale_15 : decode cX1_stale 15 = .ok (.iload_n 1, 1) := dk_27 (dk_at dksX1_stale_0 15 rfl rfl)
theorem dX1_stale_16 : decode cX1_stale 16 = .ok (.aload_n 0, 1) := dk_42 (dk_at dksX1_stale_0 16 rfl rfl)
theorem dX1_stale_17 : decode cX1_stale 17 = .ok (.getfield 41, 3) := dk_180 0 41 (dk_at dksX1_stale_0 17 rfl rfl)
theorem dX1_stale_20 : decode cX1_stale 20 = .ok (.iload_n 2, 1) := dk_28 (dk_at dksX1_stale_0 20 rfl rfl)
theorem dX1_stale_21 : decode cX1_stale 21 = .ok (.invokevirtual 222, 3) := dk_182 0 222 (dk_at dksX1_stale_0 21 rfl rfl)
theorem dX1_stale_24 : decode cX1_stale 24 = .ok (.iadd, 1) := dk_96 (dk_at dksX1_stale_1 0 rfl rfl)
theorem dX1_stale_25 : decode cX1_stale 25 = .ok (.istore_n 1, 1) := dk_60 (dk_at dksX1_stale_1 1 rfl rfl)
theorem dX1_stale_26 : decode cX1_stale 26 = .ok (.iinc 2 1, 3) := dk_132 2 1 (dk_at dksX1_stale_1 2 rfl rfl)
theorem dX1_stale_29 : decode cX1_stale 29 = .ok (.goto (-25), 3) := dk_167 255 231 (dk_at dksX1_stale_1 5 rfl rfl)
theorem dX1_stale_32 : decode cX1_stale 32 = .ok (.iload_n 1, 1) := dk_27 (dk_at dksX1_stale_1 8 rfl rfl)
theorem dX1_stale_33 : decode cX1_stale 33 = .ok (.ireturn, 1) := dk_172 (dk_at dksX1_stale_1 9 rfl rfl)
abbrev cX1_wrong : ByteArray := prog_1_method_38_code
def yX1_wrong : MethodName := ⟨RX1, "wrong", "()I"⟩
def dkwX1_wrong_4 : List UInt8 := [167, 255, 182, 132, 3, 1, 167, 255, 165, 28, 172]
abbrev dktX1_wrong_4 : List UInt8 := dkwX1_wrong_4 ++ []
def dkwX1_wrong_3 : List UInt8 := [192, 0, 243, 180, 0, 245, 21, 4, 47, 148, 154, 0, 7, 3, 167, 0, 4, 4, 96, 61, 132, 4, 1]
abbrev dktX1_wrong_3 : List UInt8 := dkwX1_wrong_3 ++ dktX1_wrong_4
def dkwX1_wrong_2 : List UInt8 := [185, 0, 133, 2, 0, 192, 0, 243, 180, 0, 245, 21, 4, 47, 43, 180, 0, 240, 29, 185, 0, 133, 2, 0]
abbrev dktX1_wrong_2 : List UInt8 := dkwX1_wrong_2 ++ dktX1_wrong_3
def dkwX1_wrong_1 : List UInt8 := [180, 0, 41, 180, 0, 120, 4, 96, 3, 184, 0, 236, 162, 0, 62, 28, 42, 180, 0, 41, 180, 0, 240, 29]
abbrev dktX1_wrong_1 : List UInt8 := dkwX1_wrong_1 ++ dktX1_wrong_2
def dkwX1_wrong_0 : List UInt8 := [42, 182, 0, 230, 76, 3, 61, 3, 62, 29, 42, 182, 0, 234, 162, 0, 89, 3, 54, 4, 21, 4, 42]
abbrev dktX1_wrong_0 : List UInt8 := dkwX1_wrong_0 ++ dktX1_wrong_1
theorem dksX1_wrong_0 : cX1_wrong.data.toList.drop 0 = dktX1_wrong_0 := by decide +kernel
theorem dksX1_wrong_1 : cX1_wrong.data.toList.drop 23 = dktX1_wrong_1 := dk_seg dksX1_wrong_0 23 rfl rfl
theorem dksX1_wrong_2 : cX1_wrong.data.toList.drop 47 = dktX1_wrong_2 := dk_seg dksX1_wrong_1 24 rfl rfl
theorem dksX1_wrong_3 : cX1_wrong.data.toList.drop 71 = dktX1_wrong_3 := dk_seg dksX1_wrong_2 24 rfl rfl
theorem dksX1_wrong_4 : cX1_wrong.data.toList.drop 94 = dktX1_wrong_4 := dk_seg dksX1_wrong_3 23 rfl rfl
theorem dX1_wrong_0 : decode cX1_wrong 0 = .ok (.aload_n 0, 1) := dk_42 (dk_at dksX1_wrong_0 0 rfl rfl)
theorem dX1_wrong_1 : decode cX1_wrong 1 = .ok (.invokevirtual 230, 3) := dk_182 0 230 (dk_at dksX1_wrong_0 1 rfl rfl)
theorem dX1_wrong_4 : decode cX1_wrong 4 = .ok (.astore_n 1, 1) := dk_76 (dk_at dksX1_wrong_0 4 rfl rfl)
theorem dX1_wrong_5 : decode cX1_wrong 5 = .ok (.iconst 0, 1) := dk_3 (dk_at dksX1_wrong_0 5 rfl rfl)
theorem dX1_wrong_6 : decode cX1_wrong 6 = .ok (.istore_n 2, 1) := dk_61 (dk_at dksX1_wrong_0 6 rfl rfl)
theorem dX1_wrong_7 : decode cX1_wrong 7 = .ok (.iconst 0, 1) := dk_3 (dk_at dksX1_wrong_0 7 rfl rfl)
theorem dX1_wrong_8 : decode cX1_wrong 8 = .ok (.istore_n 3, 1) := dk_62 (dk_at dksX1_wrong_0 8 rfl rfl)
theorem dX1_wrong_9 : decode cX1_wrong 9 = .ok (.iload_n 3, 1) := dk_29 (dk_at dksX1_wrong_0 9 rfl rfl)
theorem dX1_wrong_10 : decode cX1_wrong 10 = .ok (.aload_n 0, 1) := dk_42 (dk_at dksX1_wrong_0 10 rfl rfl)
theorem dX1_wrong_11 : decode cX1_wrong 11 = .ok (.invokevirtual 234, 3) := dk_182 0 234 (dk_at dksX1_wrong_0 11 rfl rfl)
theorem dX1_wrong_14 : decode cX1_wrong 14 = .ok (.if_icmp .ge 89, 3) := dk_162 0 89 (dk_at dksX1_wrong_0 14 rfl rfl)
theorem dX1_wrong_17 : decode cX1_wrong 17 = .ok (.iconst 0, 1) := dk_3 (dk_at dksX1_wrong_0 17 rfl rfl)
theorem dX1_wrong_18 : decode cX1_wrong 18 = .ok (.istore 4, 2) := dk_54 4 (dk_at dksX1_wrong_0 18 rfl rfl)
theorem dX1_wrong_20 : decode cX1_wrong 20 = .ok (.iload 4, 2) := dk_21 4 (dk_at dksX1_wrong_0 20 rfl rfl)
theorem dX1_wrong_22 : decode cX1_wrong 22 = .ok (.aload_n 0, 1) := dk_42 (dk_at dksX1_wrong_0 22 rfl rfl)
theorem dX1_wrong_23 : decode cX1_wrong 23 = .ok (.getfield 41, 3) := dk_180 0 41 (dk_at dksX1_wrong_1 0 rfl rfl)
theorem dX1_wrong_26 : decode cX1_wrong 26 = .ok (.getfield 120, 3) := dk_180 0 120 (dk_at dksX1_wrong_1 3 rfl rfl)
theorem dX1_wrong_29 : decode cX1_wrong 29 = .ok (.iconst 1, 1) := dk_4 (dk_at dksX1_wrong_1 6 rfl rfl)
theorem dX1_wrong_30 : decode cX1_wrong 30 = .ok (.iadd, 1) := dk_96 (dk_at dksX1_wrong_1 7 rfl rfl)
theorem dX1_wrong_31 : decode cX1_wrong 31 = .ok (.iconst 0, 1) := dk_3 (dk_at dksX1_wrong_1 8 rfl rfl)
theorem dX1_wrong_32 : decode cX1_wrong 32 = .ok (.invokestatic 236, 3) := dk_184 0 236 (dk_at dksX1_wrong_1 9 rfl rfl)
theorem dX1_wrong_35 : decode cX1_wrong 35 = .ok (.if_icmp .ge 62, 3) := dk_162 0 62 (dk_at dksX1_wrong_1 12 rfl rfl)
theorem dX1_wrong_38 : decode cX1_wrong 38 = .ok (.iload_n 2, 1) := dk_28 (dk_at dksX1_wrong_1 15 rfl rfl)
theorem dX1_wrong_39 : decode cX1_wrong 39 = .ok (.aload_n 0, 1) := dk_42 (dk_at dksX1_wrong_1 16 rfl rfl)
theorem dX1_wrong_40 : decode cX1_wrong 40 = .ok (.getfield 41, 3) := dk_180 0 41 (dk_at dksX1_wrong_1 17 rfl rfl)
theorem dX1_wrong_43 : decode cX1_wrong 43 = .ok (.getfield 240, 3) := dk_180 0 240 (dk_at dksX1_wrong_1 20 rfl rfl)
theorem dX1_wrong_46 : decode cX1_wrong 46 = .ok (.iload_n 3, 1) := dk_29 (dk_at dksX1_wrong_1 23 rfl rfl)
theorem dX1_wrong_47 : decode cX1_wrong 47 = .ok (.invokeinterface 133 2, 5) := by decide +kernel
theorem dX1_wrong_52 : decode cX1_wrong 52 = .ok (.checkcast 243, 3) := dk_192 0 243 (dk_at dksX1_wrong_2 5 rfl rfl)
theorem dX1_wrong_55 : decode cX1_wrong 55 = .ok (.getfield 245, 3) := dk_180 0 245 (dk_at dksX1_wrong_2 8 rfl rfl)
theorem dX1_wrong_58 : decode cX1_wrong 58 = .ok (.iload 4, 2) := dk_21 4 (dk_at dksX1_wrong_2 11 rfl rfl)
theorem dX1_wrong_60 : decode cX1_wrong 60 = .ok (.laload, 1) := dk_47 (dk_at dksX1_wrong_2 13 rfl rfl)
theorem dX1_wrong_61 : decode cX1_wrong 61 = .ok (.aload_n 1, 1) := dk_43 (dk_at dksX1_wrong_2 14 rfl rfl)
theorem dX1_wrong_62 : decode cX1_wrong 62 = .ok (.getfield 240, 3) := dk_180 0 240 (dk_at dksX1_wrong_2 15 rfl rfl)
theorem dX1_wrong_65 : decode cX1_wrong 65 = .ok (.iload_n 3, 1) := dk_29 (dk_at dksX1_wrong_2 18 rfl rfl)
theorem dX1_wrong_66 : decode cX1_wrong 66 = .ok (.invokeinterface 133 2, 5) := by decide +kernel
theorem dX1_wrong_71 : decode cX1_wrong 71 = .ok (.checkcast 243, 3) := dk_192 0 243 (dk_at dksX1_wrong_3 0 rfl rfl)
theorem dX1_wrong_74 : decode cX1_wrong 74 = .ok (.getfield 245, 3) := dk_180 0 245 (dk_at dksX1_wrong_3 3 rfl rfl)
theorem dX1_wrong_77 : decode cX1_wrong 77 = .ok (.iload 4, 2) := dk_21 4 (dk_at dksX1_wrong_3 6 rfl rfl)
theorem dX1_wrong_79 : decode cX1_wrong 79 = .ok (.laload, 1) := dk_47 (dk_at dksX1_wrong_3 8 rfl rfl)
theorem dX1_wrong_80 : decode cX1_wrong 80 = .ok (.lcmp, 1) := dk_148 (dk_at dksX1_wrong_3 9 rfl rfl)
theorem dX1_wrong_81 : decode cX1_wrong 81 = .ok (.ifCond .ne 7, 3) := dk_154 0 7 (dk_at dksX1_wrong_3 10 rfl rfl)
theorem dX1_wrong_84 : decode cX1_wrong 84 = .ok (.iconst 0, 1) := dk_3 (dk_at dksX1_wrong_3 13 rfl rfl)
theorem dX1_wrong_85 : decode cX1_wrong 85 = .ok (.goto 4, 3) := dk_167 0 4 (dk_at dksX1_wrong_3 14 rfl rfl)
theorem dX1_wrong_88 : decode cX1_wrong 88 = .ok (.iconst 1, 1) := dk_4 (dk_at dksX1_wrong_3 17 rfl rfl)
theorem dX1_wrong_89 : decode cX1_wrong 89 = .ok (.iadd, 1) := dk_96 (dk_at dksX1_wrong_3 18 rfl rfl)
theorem dX1_wrong_90 : decode cX1_wrong 90 = .ok (.istore_n 2, 1) := dk_61 (dk_at dksX1_wrong_3 19 rfl rfl)
theorem dX1_wrong_91 : decode cX1_wrong 91 = .ok (.iinc 4 1, 3) := dk_132 4 1 (dk_at dksX1_wrong_3 20 rfl rfl)
theorem dX1_wrong_94 : decode cX1_wrong 94 = .ok (.goto (-74), 3) := dk_167 255 182 (dk_at dksX1_wrong_4 0 rfl rfl)
theorem dX1_wrong_97 : decode cX1_wrong 97 = .ok (.iinc 3 1, 3) := dk_132 3 1 (dk_at dksX1_wrong_4 3 rfl rfl)
theorem dX1_wrong_100 : decode cX1_wrong 100 = .ok (.goto (-91), 3) := dk_167 255 165 (dk_at dksX1_wrong_4 6 rfl rfl)
theorem dX1_wrong_103 : decode cX1_wrong 103 = .ok (.iload_n 2, 1) := dk_28 (dk_at dksX1_wrong_4 9 rfl rfl)
theorem dX1_wrong_104 : decode cX1_wrong 104 = .ok (.ireturn, 1) := dk_172 (dk_at dksX1_wrong_4 10 rfl rfl)
abbrev cX1_renewed : ByteArray := prog_1_method_37_code
def yX1_renewed : MethodName := ⟨RX1, "renewed", "()LWeirfoldLane$Lane;"⟩
def dkwX1_renewed_3 : List UInt8 := [167, 255, 202, 43, 176]
abbrev dktX1_renewed_3 : List UInt8 := dkwX1_renewed_3 ++ []
def dkwX1_renewed_2 : List UInt8 := [185, 0, 164, 1, 0, 192, 0, 191, 58, 4, 43, 25, 4, 28, 182, 0, 226, 167, 255, 229, 132, 2, 1]
abbrev dktX1_renewed_2 : List UInt8 := dkwX1_renewed_2 ++ dktX1_renewed_3
def dkwX1_renewed_1 : List UInt8 := [163, 0, 49, 43, 180, 0, 183, 185, 0, 154, 1, 0, 78, 45, 185, 0, 158, 1, 0, 153, 0, 24, 45]
abbrev dktX1_renewed_1 : List UInt8 := dkwX1_renewed_1 ++ dktX1_renewed_2
def dkwX1_renewed_0 : List UInt8 := [187, 0, 38, 89, 42, 180, 0, 41, 183, 0, 90, 76, 3, 61, 28, 42, 180, 0, 41, 180, 0, 120]
abbrev dktX1_renewed_0 : List UInt8 := dkwX1_renewed_0 ++ dktX1_renewed_1
theorem dksX1_renewed_0 : cX1_renewed.data.toList.drop 0 = dktX1_renewed_0 := by decide +kernel
theorem dksX1_renewed_1 : cX1_renewed.data.toList.drop 22 = dktX1_renewed_1 := dk_seg dksX1_renewed_0 22 rfl rfl
theorem dksX1_renewed_2 : cX1_renewed.data.toList.drop 45 = dktX1_renewed_2 := dk_seg dksX1_renewed_1 23 rfl rfl
theorem dksX1_renewed_3 : cX1_renewed.data.toList.drop 68 = dktX1_renewed_3 := dk_seg dksX1_renewed_2 23 rfl rfl
theorem dX1_renewed_0 : decode cX1_renewed 0 = .ok (.new 38, 3) := dk_187 0 38 (dk_at dksX1_renewed_0 0 rfl rfl)
theorem dX1_renewed_3 : decode cX1_renewed 3 = .ok (.dup, 1) := dk_89 (dk_at dksX1_renewed_0 3 rfl rfl)
theorem dX1_renewed_4 : decode cX1_renewed 4 = .ok (.aload_n 0, 1) := dk_42 (dk_at dksX1_renewed_0 4 rfl rfl)
theorem dX1_renewed_5 : decode cX1_renewed 5 = .ok (.getfield 41, 3) := dk_180 0 41 (dk_at dksX1_renewed_0 5 rfl rfl)
theorem dX1_renewed_8 : decode cX1_renewed 8 = .ok (.invokespecial 90, 3) := dk_183 0 90 (dk_at dksX1_renewed_0 8 rfl rfl)
theorem dX1_renewed_11 : decode cX1_renewed 11 = .ok (.astore_n 1, 1) := dk_76 (dk_at dksX1_renewed_0 11 rfl rfl)
theorem dX1_renewed_12 : decode cX1_renewed 12 = .ok (.iconst 0, 1) := dk_3 (dk_at dksX1_renewed_0 12 rfl rfl)
theorem dX1_renewed_13 : decode cX1_renewed 13 = .ok (.istore_n 2, 1) := dk_61 (dk_at dksX1_renewed_0 13 rfl rfl)
theorem dX1_renewed_14 : decode cX1_renewed 14 = .ok (.iload_n 2, 1) := dk_28 (dk_at dksX1_renewed_0 14 rfl rfl)
theorem dX1_renewed_15 : decode cX1_renewed 15 = .ok (.aload_n 0, 1) := dk_42 (dk_at dksX1_renewed_0 15 rfl rfl)
theorem dX1_renewed_16 : decode cX1_renewed 16 = .ok (.getfield 41, 3) := dk_180 0 41 (dk_at dksX1_renewed_0 16 rfl rfl)
theorem dX1_renewed_19 : decode cX1_renewed 19 = .ok (.getfield 120, 3) := dk_180 0 120 (dk_at dksX1_renewed_0 19 rfl rfl)
theorem dX1_renewed_22 : decode cX1_renewed 22 = .ok (.if_icmp .gt 49, 3) := dk_163 0 49 (dk_at dksX1_renewed_1 0 rfl rfl)
theorem dX1_renewed_25 : decode cX1_renewed 25 = .ok (.aload_n 1, 1) := dk_43 (dk_at dksX1_renewed_1 3 rfl rfl)
theorem dX1_renewed_26 : decode cX1_renewed 26 = .ok (.getfield 183, 3) := dk_180 0 183 (dk_at dksX1_renewed_1 4 rfl rfl)
theorem dX1_renewed_29 : decode cX1_renewed 29 = .ok (.invokeinterface 154 1, 5) := by decide +kernel
theorem dX1_renewed_34 : decode cX1_renewed 34 = .ok (.astore_n 3, 1) := dk_78 (dk_at dksX1_renewed_1 12 rfl rfl)
theorem dX1_renewed_35 : decode cX1_renewed 35 = .ok (.aload_n 3, 1) := dk_45 (dk_at dksX1_renewed_1 13 rfl rfl)
theorem dX1_renewed_36 : decode cX1_renewed 36 = .ok (.invokeinterface 158 1, 5) := by decide +kernel
theorem dX1_renewed_41 : decode cX1_renewed 41 = .ok (.ifCond .eq 24, 3) := dk_153 0 24 (dk_at dksX1_renewed_1 19 rfl rfl)
theorem dX1_renewed_44 : decode cX1_renewed 44 = .ok (.aload_n 3, 1) := dk_45 (dk_at dksX1_renewed_1 22 rfl rfl)
theorem dX1_renewed_45 : decode cX1_renewed 45 = .ok (.invokeinterface 164 1, 5) := by decide +kernel
theorem dX1_renewed_50 : decode cX1_renewed 50 = .ok (.checkcast 191, 3) := dk_192 0 191 (dk_at dksX1_renewed_2 5 rfl rfl)
theorem dX1_renewed_53 : decode cX1_renewed 53 = .ok (.astore 4, 2) := dk_58 4 (dk_at dksX1_renewed_2 8 rfl rfl)
theorem dX1_renewed_55 : decode cX1_renewed 55 = .ok (.aload_n 1, 1) := dk_43 (dk_at dksX1_renewed_2 10 rfl rfl)
theorem dX1_renewed_56 : decode cX1_renewed 56 = .ok (.aload 4, 2) := dk_25 4 (dk_at dksX1_renewed_2 11 rfl rfl)
theorem dX1_renewed_58 : decode cX1_renewed 58 = .ok (.iload_n 2, 1) := dk_28 (dk_at dksX1_renewed_2 13 rfl rfl)
theorem dX1_renewed_59 : decode cX1_renewed 59 = .ok (.invokevirtual 226, 3) := dk_182 0 226 (dk_at dksX1_renewed_2 14 rfl rfl)
theorem dX1_renewed_62 : decode cX1_renewed 62 = .ok (.goto (-27), 3) := dk_167 255 229 (dk_at dksX1_renewed_2 17 rfl rfl)
theorem dX1_renewed_65 : decode cX1_renewed 65 = .ok (.iinc 2 1, 3) := dk_132 2 1 (dk_at dksX1_renewed_2 20 rfl rfl)
theorem dX1_renewed_68 : decode cX1_renewed 68 = .ok (.goto (-54), 3) := dk_167 255 202 (dk_at dksX1_renewed_3 0 rfl rfl)
theorem dX1_renewed_71 : decode cX1_renewed 71 = .ok (.aload_n 1, 1) := dk_43 (dk_at dksX1_renewed_3 3 rfl rfl)
theorem dX1_renewed_72 : decode cX1_renewed 72 = .ok (.areturn, 1) := dk_176 (dk_at dksX1_renewed_3 4 rfl rfl)
abbrev cX1_place : ByteArray := prog_1_method_9_code
def yX1_place : MethodName := ⟨RX1, "place", "(II)I"⟩
def dkwX1_place_0 : List UInt8 := [8, 26, 104, 27, 96, 172]
abbrev dktX1_place_0 : List UInt8 := dkwX1_place_0 ++ []
theorem dksX1_place_0 : cX1_place.data.toList.drop 0 = dktX1_place_0 := by decide +kernel
theorem dX1_place_0 : decode cX1_place 0 = .ok (.iconst 5, 1) := dk_8 (dk_at dksX1_place_0 0 rfl rfl)
theorem dX1_place_1 : decode cX1_place 1 = .ok (.iload_n 0, 1) := dk_26 (dk_at dksX1_place_0 1 rfl rfl)
theorem dX1_place_2 : decode cX1_place 2 = .ok (.imul, 1) := dk_104 (dk_at dksX1_place_0 2 rfl rfl)
theorem dX1_place_3 : decode cX1_place 3 = .ok (.iload_n 1, 1) := dk_27 (dk_at dksX1_place_0 3 rfl rfl)
theorem dX1_place_4 : decode cX1_place 4 = .ok (.iadd, 1) := dk_96 (dk_at dksX1_place_0 4 rfl rfl)
theorem dX1_place_5 : decode cX1_place 5 = .ok (.ireturn, 1) := dk_172 (dk_at dksX1_place_0 5 rfl rfl)
abbrev cX1_added : ByteArray := prog_1_method_49_code
def yX1_added : MethodName := ⟨RX1, "added", "()I"⟩
def dkwX1_added_0 : List UInt8 := [42, 180, 0, 41, 180, 1, 56, 172]
abbrev dktX1_added_0 : List UInt8 := dkwX1_added_0 ++ []
theorem dksX1_added_0 : cX1_added.data.toList.drop 0 = dktX1_added_0 := by decide +kernel
theorem dX1_added_0 : decode cX1_added 0 = .ok (.aload_n 0, 1) := dk_42 (dk_at dksX1_added_0 0 rfl rfl)
theorem dX1_added_1 : decode cX1_added 1 = .ok (.getfield 41, 3) := dk_180 0 41 (dk_at dksX1_added_0 1 rfl rfl)
theorem dX1_added_4 : decode cX1_added 4 = .ok (.getfield 312, 3) := dk_180 1 56 (dk_at dksX1_added_0 4 rfl rfl)
theorem dX1_added_7 : decode cX1_added 7 = .ok (.ireturn, 1) := dk_172 (dk_at dksX1_added_0 7 rfl rfl)
abbrev cX1_removed : ByteArray := prog_1_method_50_code
def yX1_removed : MethodName := ⟨RX1, "removed", "()I"⟩
def dkwX1_removed_0 : List UInt8 := [42, 180, 0, 41, 180, 1, 59, 172]
abbrev dktX1_removed_0 : List UInt8 := dkwX1_removed_0 ++ []
theorem dksX1_removed_0 : cX1_removed.data.toList.drop 0 = dktX1_removed_0 := by decide +kernel
theorem dX1_removed_0 : decode cX1_removed 0 = .ok (.aload_n 0, 1) := dk_42 (dk_at dksX1_removed_0 0 rfl rfl)
theorem dX1_removed_1 : decode cX1_removed 1 = .ok (.getfield 41, 3) := dk_180 0 41 (dk_at dksX1_removed_0 1 rfl rfl)
theorem dX1_removed_4 : decode cX1_removed 4 = .ok (.getfield 315, 3) := dk_180 1 59 (dk_at dksX1_removed_0 4 rfl rfl)
theorem dX1_removed_7 : decode cX1_removed 7 = .ok (.ireturn, 1) := dk_172 (dk_at dksX1_removed_0 7 rfl rfl)
abbrev cX1_late : ByteArray := prog_1_method_51_code
def yX1_late : MethodName := ⟨RX1, "late", "()I"⟩
def dkwX1_late_0 : List UInt8 := [42, 180, 0, 41, 180, 1, 62, 172]
abbrev dktX1_late_0 : List UInt8 := dkwX1_late_0 ++ []
theorem dksX1_late_0 : cX1_late.data.toList.drop 0 = dktX1_late_0 := by decide +kernel
theorem dX1_late_0 : decode cX1_late 0 = .ok (.aload_n 0, 1) := dk_42 (dk_at dksX1_late_0 0 rfl rfl)
theorem dX1_late_1 : decode cX1_late 1 = .ok (.getfield 41, 3) := dk_180 0 41 (dk_at dksX1_late_0 1 rfl rfl)
theorem dX1_late_4 : decode cX1_late 4 = .ok (.getfield 318, 3) := dk_180 1 62 (dk_at dksX1_late_0 4 rfl rfl)
theorem dX1_late_7 : decode cX1_late 7 = .ok (.ireturn, 1) := dk_172 (dk_at dksX1_late_0 7 rfl rfl)
abbrev cX1_repaired : ByteArray := prog_1_method_52_code
def yX1_repaired : MethodName := ⟨RX1, "repaired", "()I"⟩
def dkwX1_repaired_0 : List UInt8 := [42, 180, 0, 41, 180, 1, 65, 172]
abbrev dktX1_repaired_0 : List UInt8 := dkwX1_repaired_0 ++ []
theorem dksX1_repaired_0 : cX1_repaired.data.toList.drop 0 = dktX1_repaired_0 := by decide +kernel
theorem dX1_repaired_0 : decode cX1_repaired 0 = .ok (.aload_n 0, 1) := dk_42 (dk_at dksX1_repaired_0 0 rfl rfl)
theorem dX1_repaired_1 : decode cX1_repaired 1 = .ok (.getfield 41, 3) := dk_180 0 41 (dk_at dksX1_repaired_0 1 rfl rfl)
theorem dX1_repaired_4 : decode cX1_repaired 4 = .ok (.getfield 321, 3) := dk_180 1 65 (dk_at dksX1_repaired_0 4 rfl rfl)
theorem dX1_repaired_7 : decode cX1_repaired 7 = .ok (.ireturn, 1) := dk_172 (dk_at dksX1_repaired_0 7 rfl rfl)
abbrev cX1_undoCount : ByteArray := prog_1_method_70_code
def yX1_undoCount : MethodName := ⟨RX1, "undoCount", "()I"⟩
def dkwX1_undoCount_0 : List UInt8 := [42, 180, 0, 48, 182, 0, 69, 172]
abbrev dktX1_undoCount_0 : List UInt8 := dkwX1_undoCount_0 ++ []
theorem dksX1_undoCount_0 : cX1_undoCount.data.toList.drop 0 = dktX1_undoCount_0 := by decide +kernel
theorem dX1_undoCount_0 : decode cX1_undoCount 0 = .ok (.aload_n 0, 1) := dk_42 (dk_at dksX1_undoCount_0 0 rfl rfl)
theorem dX1_undoCount_1 : decode cX1_undoCount 1 = .ok (.getfield 48, 3) := dk_180 0 48 (dk_at dksX1_undoCount_0 1 rfl rfl)
theorem dX1_undoCount_4 : decode cX1_undoCount 4 = .ok (.invokevirtual 69, 3) := dk_182 0 69 (dk_at dksX1_undoCount_0 4 rfl rfl)
theorem dX1_undoCount_7 : decode cX1_undoCount 7 = .ok (.ireturn, 1) := dk_172 (dk_at dksX1_undoCount_0 7 rfl rfl)
abbrev cX1_saveSnapshot : ByteArray := prog_1_method_71_code
def yX1_saveSnapshot : MethodName := ⟨RX1, "saveSnapshot", "()I"⟩
def dkwX1_saveSnapshot_1 : List UInt8 := [185, 0, 127, 1, 0, 172]
abbrev dktX1_saveSnapshot_1 : List UInt8 := dkwX1_saveSnapshot_1 ++ []
def dkwX1_saveSnapshot_0 : List UInt8 := [42, 187, 0, 38, 89, 42, 180, 0, 41, 183, 0, 90, 181, 1, 183, 42, 180, 1, 183, 180, 0, 123]
abbrev dktX1_saveSnapshot_0 : List UInt8 := dkwX1_saveSnapshot_0 ++ dktX1_saveSnapshot_1
theorem dksX1_saveSnapshot_0 : cX1_saveSnapshot.data.toList.drop 0 = dktX1_saveSnapshot_0 := by decide +kernel
theorem dksX1_saveSnapshot_1 : cX1_saveSnapshot.data.toList.drop 22 = dktX1_saveSnapshot_1 := dk_seg dksX1_saveSnapshot_0 22 rfl rfl
theorem dX1_saveSnapshot_0 : decode cX1_saveSnapshot 0 = .ok (.aload_n 0, 1) := dk_42 (dk_at dksX1_saveSnapshot_0 0 rfl rfl)
theorem dX1_saveSnapshot_1 : decode cX1_saveSnapshot 1 = .ok (.new 38, 3) := dk_187 0 38 (dk_at dksX1_saveSnapshot_0 1 rfl rfl)
theorem dX1_saveSnapshot_4 : decode cX1_saveSnapshot 4 = .ok (.dup, 1) := dk_89 (dk_at dksX1_saveSnapshot_0 4 rfl rfl)
theorem dX1_saveSnapshot_5 : decode cX1_saveSnapshot 5 = .ok (.aload_n 0, 1) := dk_42 (dk_at dksX1_saveSnapshot_0 5 rfl rfl)
theorem dX1_saveSnapshot_6 : decode cX1_saveSnapshot 6 = .ok (.getfield 41, 3) := dk_180 0 41 (dk_at dksX1_saveSnapshot_0 6 rfl rfl)
theorem dX1_saveSnapshot_9 : decode cX1_saveSnapshot 9 = .ok (.invokespecial 90, 3) := dk_183 0 90 (dk_at dksX1_saveSnapshot_0 9 rfl rfl)
theorem dX1_saveSnapshot_12 : decode cX1_saveSnapshot 12 = .ok (.putfield 439, 3) := dk_181 1 183 (dk_at dksX1_saveSnapshot_0 12 rfl rfl)
theorem dX1_saveSnapshot_15 : decode cX1_saveSnapshot 15 = .ok (.aload_n 0, 1) := dk_42 (dk_at dksX1_saveSnapshot_0 15 rfl rfl)
theorem dX1_saveSnapshot_16 : decode cX1_saveSnapshot 16 = .ok (.getfield 439, 3) := dk_180 1 183 (dk_at dksX1_saveSnapshot_0 16 rfl rfl)
theorem dX1_saveSnapshot_19 : decode cX1_saveSnapshot 19 = .ok (.getfield 123, 3) := dk_180 0 123 (dk_at dksX1_saveSnapshot_0 19 rfl rfl)
theorem dX1_saveSnapshot_22 : decode cX1_saveSnapshot 22 = .ok (.invokeinterface 127 1, 5) := by decide +kernel
theorem dX1_saveSnapshot_27 : decode cX1_saveSnapshot 27 = .ok (.ireturn, 1) := dk_172 (dk_at dksX1_saveSnapshot_1 5 rfl rfl)
abbrev cX1_addRow : ByteArray := prog_1_method_14_code
def yX1_addRow : MethodName := ⟨RX1, "addRow", "(CII)I"⟩
def dkwX1_addRow_0 : List UInt8 := [42, 18, 110, 27, 28, 29, 182, 0, 112, 172]
abbrev dktX1_addRow_0 : List UInt8 := dkwX1_addRow_0 ++ []
theorem dksX1_addRow_0 : cX1_addRow.data.toList.drop 0 = dktX1_addRow_0 := by decide +kernel
theorem dX1_addRow_0 : decode cX1_addRow 0 = .ok (.aload_n 0, 1) := dk_42 (dk_at dksX1_addRow_0 0 rfl rfl)
theorem dX1_addRow_1 : decode cX1_addRow 1 = .ok (.ldc 110, 2) := dk_18 110 (dk_at dksX1_addRow_0 1 rfl rfl)
theorem dX1_addRow_3 : decode cX1_addRow 3 = .ok (.iload_n 1, 1) := dk_27 (dk_at dksX1_addRow_0 3 rfl rfl)
theorem dX1_addRow_4 : decode cX1_addRow 4 = .ok (.iload_n 2, 1) := dk_28 (dk_at dksX1_addRow_0 4 rfl rfl)
theorem dX1_addRow_5 : decode cX1_addRow 5 = .ok (.iload_n 3, 1) := dk_29 (dk_at dksX1_addRow_0 5 rfl rfl)
theorem dX1_addRow_6 : decode cX1_addRow 6 = .ok (.invokevirtual 112, 3) := dk_182 0 112 (dk_at dksX1_addRow_0 6 rfl rfl)
theorem dX1_addRow_9 : decode cX1_addRow 9 = .ok (.ireturn, 1) := dk_172 (dk_at dksX1_addRow_0 9 rfl rfl)
abbrev cX1_commit : ByteArray := prog_1_method_13_code
def yX1_commit : MethodName := ⟨RX1, "commit", "(Ljava/lang/String;CII)I"⟩
def dkwX1_commit_1 : List UInt8 := [21, 4, 183, 0, 95, 25, 5, 182, 0, 98, 182, 0, 102, 172, 58, 6, 42, 25, 6, 182, 0, 106, 191]
abbrev dktX1_commit_1 : List UInt8 := dkwX1_commit_1 ++ []
def dkwX1_commit_0 : List UInt8 := [187, 0, 38, 89, 42, 180, 0, 41, 183, 0, 90, 58, 5, 42, 25, 5, 187, 0, 93, 89, 43, 28, 29]
abbrev dktX1_commit_0 : List UInt8 := dkwX1_commit_0 ++ dktX1_commit_1
theorem dksX1_commit_0 : cX1_commit.data.toList.drop 0 = dktX1_commit_0 := by decide +kernel
theorem dksX1_commit_1 : cX1_commit.data.toList.drop 23 = dktX1_commit_1 := dk_seg dksX1_commit_0 23 rfl rfl
theorem dX1_commit_0 : decode cX1_commit 0 = .ok (.new 38, 3) := dk_187 0 38 (dk_at dksX1_commit_0 0 rfl rfl)
theorem dX1_commit_3 : decode cX1_commit 3 = .ok (.dup, 1) := dk_89 (dk_at dksX1_commit_0 3 rfl rfl)
theorem dX1_commit_4 : decode cX1_commit 4 = .ok (.aload_n 0, 1) := dk_42 (dk_at dksX1_commit_0 4 rfl rfl)
theorem dX1_commit_5 : decode cX1_commit 5 = .ok (.getfield 41, 3) := dk_180 0 41 (dk_at dksX1_commit_0 5 rfl rfl)
theorem dX1_commit_8 : decode cX1_commit 8 = .ok (.invokespecial 90, 3) := dk_183 0 90 (dk_at dksX1_commit_0 8 rfl rfl)
theorem dX1_commit_11 : decode cX1_commit 11 = .ok (.astore 5, 2) := dk_58 5 (dk_at dksX1_commit_0 11 rfl rfl)
theorem dX1_commit_13 : decode cX1_commit 13 = .ok (.aload_n 0, 1) := dk_42 (dk_at dksX1_commit_0 13 rfl rfl)
theorem dX1_commit_14 : decode cX1_commit 14 = .ok (.aload 5, 2) := dk_25 5 (dk_at dksX1_commit_0 14 rfl rfl)
theorem dX1_commit_16 : decode cX1_commit 16 = .ok (.new 93, 3) := dk_187 0 93 (dk_at dksX1_commit_0 16 rfl rfl)
theorem dX1_commit_19 : decode cX1_commit 19 = .ok (.dup, 1) := dk_89 (dk_at dksX1_commit_0 19 rfl rfl)
theorem dX1_commit_20 : decode cX1_commit 20 = .ok (.aload_n 1, 1) := dk_43 (dk_at dksX1_commit_0 20 rfl rfl)
theorem dX1_commit_21 : decode cX1_commit 21 = .ok (.iload_n 2, 1) := dk_28 (dk_at dksX1_commit_0 21 rfl rfl)
theorem dX1_commit_22 : decode cX1_commit 22 = .ok (.iload_n 3, 1) := dk_29 (dk_at dksX1_commit_0 22 rfl rfl)
theorem dX1_commit_23 : decode cX1_commit 23 = .ok (.iload 4, 2) := dk_21 4 (dk_at dksX1_commit_1 0 rfl rfl)
theorem dX1_commit_25 : decode cX1_commit 25 = .ok (.invokespecial 95, 3) := dk_183 0 95 (dk_at dksX1_commit_1 2 rfl rfl)
theorem dX1_commit_28 : decode cX1_commit 28 = .ok (.aload 5, 2) := dk_25 5 (dk_at dksX1_commit_1 5 rfl rfl)
theorem dX1_commit_30 : decode cX1_commit 30 = .ok (.invokevirtual 98, 3) := dk_182 0 98 (dk_at dksX1_commit_1 7 rfl rfl)
theorem dX1_commit_33 : decode cX1_commit 33 = .ok (.invokevirtual 102, 3) := dk_182 0 102 (dk_at dksX1_commit_1 10 rfl rfl)
theorem dX1_commit_36 : decode cX1_commit 36 = .ok (.ireturn, 1) := dk_172 (dk_at dksX1_commit_1 13 rfl rfl)
theorem dX1_commit_37 : decode cX1_commit 37 = .ok (.astore 6, 2) := dk_58 6 (dk_at dksX1_commit_1 14 rfl rfl)
theorem dX1_commit_39 : decode cX1_commit 39 = .ok (.aload_n 0, 1) := dk_42 (dk_at dksX1_commit_1 16 rfl rfl)
theorem dX1_commit_40 : decode cX1_commit 40 = .ok (.aload 6, 2) := dk_25 6 (dk_at dksX1_commit_1 17 rfl rfl)
theorem dX1_commit_42 : decode cX1_commit 42 = .ok (.invokevirtual 106, 3) := dk_182 0 106 (dk_at dksX1_commit_1 19 rfl rfl)
theorem dX1_commit_45 : decode cX1_commit 45 = .ok (.athrow, 1) := dk_191 (dk_at dksX1_commit_1 22 rfl rfl)
abbrev cX1_groupNumber : ByteArray := prog_1_method_7_code
def yX1_groupNumber : MethodName := ⟨RX1, "groupNumber", "(C)I"⟩
def dkwX1_groupNumber_0 : List UInt8 := [26, 16, 97, 16, 101, 184, 0, 26, 26, 16, 97, 100, 172]
abbrev dktX1_groupNumber_0 : List UInt8 := dkwX1_groupNumber_0 ++ []
theorem dksX1_groupNumber_0 : cX1_groupNumber.data.toList.drop 0 = dktX1_groupNumber_0 := by decide +kernel
theorem dX1_groupNumber_0 : decode cX1_groupNumber 0 = .ok (.iload_n 0, 1) := dk_26 (dk_at dksX1_groupNumber_0 0 rfl rfl)
theorem dX1_groupNumber_1 : decode cX1_groupNumber 1 = .ok (.bipush 97, 2) := dk_16 97 (dk_at dksX1_groupNumber_0 1 rfl rfl)
theorem dX1_groupNumber_3 : decode cX1_groupNumber 3 = .ok (.bipush 101, 2) := dk_16 101 (dk_at dksX1_groupNumber_0 3 rfl rfl)
theorem dX1_groupNumber_5 : decode cX1_groupNumber 5 = .ok (.invokestatic 26, 3) := dk_184 0 26 (dk_at dksX1_groupNumber_0 5 rfl rfl)
theorem dX1_groupNumber_8 : decode cX1_groupNumber 8 = .ok (.iload_n 0, 1) := dk_26 (dk_at dksX1_groupNumber_0 8 rfl rfl)
theorem dX1_groupNumber_9 : decode cX1_groupNumber 9 = .ok (.bipush 97, 2) := dk_16 97 (dk_at dksX1_groupNumber_0 9 rfl rfl)
theorem dX1_groupNumber_11 : decode cX1_groupNumber 11 = .ok (.isub, 1) := dk_100 (dk_at dksX1_groupNumber_0 11 rfl rfl)
theorem dX1_groupNumber_12 : decode cX1_groupNumber 12 = .ok (.ireturn, 1) := dk_172 (dk_at dksX1_groupNumber_0 12 rfl rfl)
abbrev cX1_requireRange : ByteArray := prog_1_method_3_code
def yX1_requireRange : MethodName := ⟨RX1, "requireRange", "(III)V"⟩
def dkwX1_requireRange_0 : List UInt8 := [26, 27, 28, 184, 0, 7, 184, 0, 13, 177]
abbrev dktX1_requireRange_0 : List UInt8 := dkwX1_requireRange_0 ++ []
theorem dksX1_requireRange_0 : cX1_requireRange.data.toList.drop 0 = dktX1_requireRange_0 := by decide +kernel
theorem dX1_requireRange_0 : decode cX1_requireRange 0 = .ok (.iload_n 0, 1) := dk_26 (dk_at dksX1_requireRange_0 0 rfl rfl)
theorem dX1_requireRange_1 : decode cX1_requireRange 1 = .ok (.iload_n 1, 1) := dk_27 (dk_at dksX1_requireRange_0 1 rfl rfl)
theorem dX1_requireRange_2 : decode cX1_requireRange 2 = .ok (.iload_n 2, 1) := dk_28 (dk_at dksX1_requireRange_0 2 rfl rfl)
theorem dX1_requireRange_3 : decode cX1_requireRange 3 = .ok (.invokestatic 7, 3) := dk_184 0 7 (dk_at dksX1_requireRange_0 3 rfl rfl)
theorem dX1_requireRange_6 : decode cX1_requireRange 6 = .ok (.invokestatic 13, 3) := dk_184 0 13 (dk_at dksX1_requireRange_0 6 rfl rfl)
theorem dX1_requireRange_9 : decode cX1_requireRange 9 = .ok (.return_, 1) := dk_177 (dk_at dksX1_requireRange_0 9 rfl rfl)
abbrev cX1_inRange : ByteArray := prog_1_method_1_code
def yX1_inRange : MethodName := ⟨RX1, "inRange", "(III)Z"⟩
def dkwX1_inRange_0 : List UInt8 := [26, 27, 161, 0, 12, 26, 28, 163, 0, 7, 4, 167, 0, 4, 3, 172]
abbrev dktX1_inRange_0 : List UInt8 := dkwX1_inRange_0 ++ []
theorem dksX1_inRange_0 : cX1_inRange.data.toList.drop 0 = dktX1_inRange_0 := by decide +kernel
theorem dX1_inRange_0 : decode cX1_inRange 0 = .ok (.iload_n 0, 1) := dk_26 (dk_at dksX1_inRange_0 0 rfl rfl)
theorem dX1_inRange_1 : decode cX1_inRange 1 = .ok (.iload_n 1, 1) := dk_27 (dk_at dksX1_inRange_0 1 rfl rfl)
theorem dX1_inRange_2 : decode cX1_inRange 2 = .ok (.if_icmp .lt 12, 3) := dk_161 0 12 (dk_at dksX1_inRange_0 2 rfl rfl)
theorem dX1_inRange_5 : decode cX1_inRange 5 = .ok (.iload_n 0, 1) := dk_26 (dk_at dksX1_inRange_0 5 rfl rfl)
theorem dX1_inRange_6 : decode cX1_inRange 6 = .ok (.iload_n 2, 1) := dk_28 (dk_at dksX1_inRange_0 6 rfl rfl)
theorem dX1_inRange_7 : decode cX1_inRange 7 = .ok (.if_icmp .gt 7, 3) := dk_163 0 7 (dk_at dksX1_inRange_0 7 rfl rfl)
theorem dX1_inRange_10 : decode cX1_inRange 10 = .ok (.iconst 1, 1) := dk_4 (dk_at dksX1_inRange_0 10 rfl rfl)
theorem dX1_inRange_11 : decode cX1_inRange 11 = .ok (.goto 4, 3) := dk_167 0 4 (dk_at dksX1_inRange_0 11 rfl rfl)
theorem dX1_inRange_14 : decode cX1_inRange 14 = .ok (.iconst 0, 1) := dk_3 (dk_at dksX1_inRange_0 14 rfl rfl)
theorem dX1_inRange_15 : decode cX1_inRange 15 = .ok (.ireturn, 1) := dk_172 (dk_at dksX1_inRange_0 15 rfl rfl)
abbrev cX1_requireArgument : ByteArray := prog_1_method_2_code
def yX1_requireArgument : MethodName := ⟨RX1, "requireArgument", "(Z)V"⟩
def dkwX1_requireArgument_0 : List UInt8 := [26, 154, 0, 11, 187, 0, 1, 89, 183, 0, 3, 191, 177]
abbrev dktX1_requireArgument_0 : List UInt8 := dkwX1_requireArgument_0 ++ []
theorem dksX1_requireArgument_0 : cX1_requireArgument.data.toList.drop 0 = dktX1_requireArgument_0 := by decide +kernel
theorem dX1_requireArgument_0 : decode cX1_requireArgument 0 = .ok (.iload_n 0, 1) := dk_26 (dk_at dksX1_requireArgument_0 0 rfl rfl)
theorem dX1_requireArgument_1 : decode cX1_requireArgument 1 = .ok (.ifCond .ne 11, 3) := dk_154 0 11 (dk_at dksX1_requireArgument_0 1 rfl rfl)
theorem dX1_requireArgument_4 : decode cX1_requireArgument 4 = .ok (.new 1, 3) := dk_187 0 1 (dk_at dksX1_requireArgument_0 4 rfl rfl)
theorem dX1_requireArgument_7 : decode cX1_requireArgument 7 = .ok (.dup, 1) := dk_89 (dk_at dksX1_requireArgument_0 7 rfl rfl)
theorem dX1_requireArgument_8 : decode cX1_requireArgument 8 = .ok (.invokespecial 3, 3) := dk_183 0 3 (dk_at dksX1_requireArgument_0 8 rfl rfl)
theorem dX1_requireArgument_11 : decode cX1_requireArgument 11 = .ok (.athrow, 1) := dk_191 (dk_at dksX1_requireArgument_0 11 rfl rfl)
theorem dX1_requireArgument_12 : decode cX1_requireArgument 12 = .ok (.return_, 1) := dk_177 (dk_at dksX1_requireArgument_0 12 rfl rfl)
abbrev cX1_denyUnless : ByteArray := prog_1_method_8_code
def yX1_denyUnless : MethodName := ⟨RX1, "denyUnless", "(ZII)V"⟩
def dkwX1_denyUnless_0 : List UInt8 := [26, 154, 0, 13, 187, 0, 30, 89, 27, 28, 183, 0, 32, 191, 177]
abbrev dktX1_denyUnless_0 : List UInt8 := dkwX1_denyUnless_0 ++ []
theorem dksX1_denyUnless_0 : cX1_denyUnless.data.toList.drop 0 = dktX1_denyUnless_0 := by decide +kernel
theorem dX1_denyUnless_0 : decode cX1_denyUnless 0 = .ok (.iload_n 0, 1) := dk_26 (dk_at dksX1_denyUnless_0 0 rfl rfl)
theorem dX1_denyUnless_1 : decode cX1_denyUnless 1 = .ok (.ifCond .ne 13, 3) := dk_154 0 13 (dk_at dksX1_denyUnless_0 1 rfl rfl)
theorem dX1_denyUnless_4 : decode cX1_denyUnless 4 = .ok (.new 30, 3) := dk_187 0 30 (dk_at dksX1_denyUnless_0 4 rfl rfl)
theorem dX1_denyUnless_7 : decode cX1_denyUnless 7 = .ok (.dup, 1) := dk_89 (dk_at dksX1_denyUnless_0 7 rfl rfl)
theorem dX1_denyUnless_8 : decode cX1_denyUnless 8 = .ok (.iload_n 1, 1) := dk_27 (dk_at dksX1_denyUnless_0 8 rfl rfl)
theorem dX1_denyUnless_9 : decode cX1_denyUnless 9 = .ok (.iload_n 2, 1) := dk_28 (dk_at dksX1_denyUnless_0 9 rfl rfl)
theorem dX1_denyUnless_10 : decode cX1_denyUnless 10 = .ok (.invokespecial 32, 3) := dk_183 0 32 (dk_at dksX1_denyUnless_0 10 rfl rfl)
theorem dX1_denyUnless_13 : decode cX1_denyUnless 13 = .ok (.athrow, 1) := dk_191 (dk_at dksX1_denyUnless_0 13 rfl rfl)
theorem dX1_denyUnless_14 : decode cX1_denyUnless 14 = .ok (.return_, 1) := dk_177 (dk_at dksX1_denyUnless_0 14 rfl rfl)
abbrev cX1_requireElement : ByteArray := prog_1_method_5_code
def yX1_requireElement : MethodName := ⟨RX1, "requireElement", "(Z)V"⟩
def dkwX1_requireElement_0 : List UInt8 := [26, 154, 0, 11, 187, 0, 20, 89, 183, 0, 22, 191, 177]
abbrev dktX1_requireElement_0 : List UInt8 := dkwX1_requireElement_0 ++ []
theorem dksX1_requireElement_0 : cX1_requireElement.data.toList.drop 0 = dktX1_requireElement_0 := by decide +kernel
theorem dX1_requireElement_0 : decode cX1_requireElement 0 = .ok (.iload_n 0, 1) := dk_26 (dk_at dksX1_requireElement_0 0 rfl rfl)
theorem dX1_requireElement_1 : decode cX1_requireElement 1 = .ok (.ifCond .ne 11, 3) := dk_154 0 11 (dk_at dksX1_requireElement_0 1 rfl rfl)
theorem dX1_requireElement_4 : decode cX1_requireElement 4 = .ok (.new 20, 3) := dk_187 0 20 (dk_at dksX1_requireElement_0 4 rfl rfl)
theorem dX1_requireElement_7 : decode cX1_requireElement 7 = .ok (.dup, 1) := dk_89 (dk_at dksX1_requireElement_0 7 rfl rfl)
theorem dX1_requireElement_8 : decode cX1_requireElement 8 = .ok (.invokespecial 22, 3) := dk_183 0 22 (dk_at dksX1_requireElement_0 8 rfl rfl)
theorem dX1_requireElement_11 : decode cX1_requireElement 11 = .ok (.athrow, 1) := dk_191 (dk_at dksX1_requireElement_0 11 rfl rfl)
theorem dX1_requireElement_12 : decode cX1_requireElement 12 = .ok (.return_, 1) := dk_177 (dk_at dksX1_requireElement_0 12 rfl rfl)
abbrev cX1_requireIndex : ByteArray := prog_1_method_4_code
def yX1_requireIndex : MethodName := ⟨RX1, "requireIndex", "(II)V"⟩
def dkwX1_requireIndex_0 : List UInt8 := [26, 3, 27, 4, 100, 184, 0, 7, 154, 0, 11, 187, 0, 17, 89, 183, 0, 19, 191, 177]
abbrev dktX1_requireIndex_0 : List UInt8 := dkwX1_requireIndex_0 ++ []
theorem dksX1_requireIndex_0 : cX1_requireIndex.data.toList.drop 0 = dktX1_requireIndex_0 := by decide +kernel
theorem dX1_requireIndex_0 : decode cX1_requireIndex 0 = .ok (.iload_n 0, 1) := dk_26 (dk_at dksX1_requireIndex_0 0 rfl rfl)
theorem dX1_requireIndex_1 : decode cX1_requireIndex 1 = .ok (.iconst 0, 1) := dk_3 (dk_at dksX1_requireIndex_0 1 rfl rfl)
theorem dX1_requireIndex_2 : decode cX1_requireIndex 2 = .ok (.iload_n 1, 1) := dk_27 (dk_at dksX1_requireIndex_0 2 rfl rfl)
theorem dX1_requireIndex_3 : decode cX1_requireIndex 3 = .ok (.iconst 1, 1) := dk_4 (dk_at dksX1_requireIndex_0 3 rfl rfl)
theorem dX1_requireIndex_4 : decode cX1_requireIndex 4 = .ok (.isub, 1) := dk_100 (dk_at dksX1_requireIndex_0 4 rfl rfl)
theorem dX1_requireIndex_5 : decode cX1_requireIndex 5 = .ok (.invokestatic 7, 3) := dk_184 0 7 (dk_at dksX1_requireIndex_0 5 rfl rfl)
theorem dX1_requireIndex_8 : decode cX1_requireIndex 8 = .ok (.ifCond .ne 11, 3) := dk_154 0 11 (dk_at dksX1_requireIndex_0 8 rfl rfl)
theorem dX1_requireIndex_11 : decode cX1_requireIndex 11 = .ok (.new 17, 3) := dk_187 0 17 (dk_at dksX1_requireIndex_0 11 rfl rfl)
theorem dX1_requireIndex_14 : decode cX1_requireIndex 14 = .ok (.dup, 1) := dk_89 (dk_at dksX1_requireIndex_0 14 rfl rfl)
theorem dX1_requireIndex_15 : decode cX1_requireIndex 15 = .ok (.invokespecial 19, 3) := dk_183 0 19 (dk_at dksX1_requireIndex_0 15 rfl rfl)
theorem dX1_requireIndex_18 : decode cX1_requireIndex 18 = .ok (.athrow, 1) := dk_191 (dk_at dksX1_requireIndex_0 18 rfl rfl)
theorem dX1_requireIndex_19 : decode cX1_requireIndex 19 = .ok (.return_, 1) := dk_177 (dk_at dksX1_requireIndex_0 19 rfl rfl)
abbrev cX1_replaceBy : ByteArray := prog_1_method_11_code
def yX1_replaceBy : MethodName := ⟨RX1, "replaceBy", "(LWeirfoldLane$Lane;I)I"⟩
def dkwX1_replaceBy_1 : List UInt8 := [180, 0, 48, 42, 180, 0, 41, 182, 0, 77, 42, 43, 181, 0, 41, 28, 172]
abbrev dktX1_replaceBy_1 : List UInt8 := dkwX1_replaceBy_1 ++ []
def dkwX1_replaceBy_0 : List UInt8 := [42, 180, 0, 48, 182, 0, 69, 16, 8, 160, 0, 14, 42, 180, 0, 48, 182, 0, 73, 192, 0, 38, 78, 42]
abbrev dktX1_replaceBy_0 : List UInt8 := dkwX1_replaceBy_0 ++ dktX1_replaceBy_1
theorem dksX1_replaceBy_0 : cX1_replaceBy.data.toList.drop 0 = dktX1_replaceBy_0 := by decide +kernel
theorem dksX1_replaceBy_1 : cX1_replaceBy.data.toList.drop 24 = dktX1_replaceBy_1 := dk_seg dksX1_replaceBy_0 24 rfl rfl
theorem dX1_replaceBy_0 : decode cX1_replaceBy 0 = .ok (.aload_n 0, 1) := dk_42 (dk_at dksX1_replaceBy_0 0 rfl rfl)
theorem dX1_replaceBy_1 : decode cX1_replaceBy 1 = .ok (.getfield 48, 3) := dk_180 0 48 (dk_at dksX1_replaceBy_0 1 rfl rfl)
theorem dX1_replaceBy_4 : decode cX1_replaceBy 4 = .ok (.invokevirtual 69, 3) := dk_182 0 69 (dk_at dksX1_replaceBy_0 4 rfl rfl)
theorem dX1_replaceBy_7 : decode cX1_replaceBy 7 = .ok (.bipush 8, 2) := dk_16 8 (dk_at dksX1_replaceBy_0 7 rfl rfl)
theorem dX1_replaceBy_9 : decode cX1_replaceBy 9 = .ok (.if_icmp .ne 14, 3) := dk_160 0 14 (dk_at dksX1_replaceBy_0 9 rfl rfl)
theorem dX1_replaceBy_12 : decode cX1_replaceBy 12 = .ok (.aload_n 0, 1) := dk_42 (dk_at dksX1_replaceBy_0 12 rfl rfl)
theorem dX1_replaceBy_13 : decode cX1_replaceBy 13 = .ok (.getfield 48, 3) := dk_180 0 48 (dk_at dksX1_replaceBy_0 13 rfl rfl)
theorem dX1_replaceBy_16 : decode cX1_replaceBy 16 = .ok (.invokevirtual 73, 3) := dk_182 0 73 (dk_at dksX1_replaceBy_0 16 rfl rfl)
theorem dX1_replaceBy_19 : decode cX1_replaceBy 19 = .ok (.checkcast 38, 3) := dk_192 0 38 (dk_at dksX1_replaceBy_0 19 rfl rfl)
theorem dX1_replaceBy_22 : decode cX1_replaceBy 22 = .ok (.astore_n 3, 1) := dk_78 (dk_at dksX1_replaceBy_0 22 rfl rfl)
theorem dX1_replaceBy_23 : decode cX1_replaceBy 23 = .ok (.aload_n 0, 1) := dk_42 (dk_at dksX1_replaceBy_0 23 rfl rfl)
theorem dX1_replaceBy_24 : decode cX1_replaceBy 24 = .ok (.getfield 48, 3) := dk_180 0 48 (dk_at dksX1_replaceBy_1 0 rfl rfl)
theorem dX1_replaceBy_27 : decode cX1_replaceBy 27 = .ok (.aload_n 0, 1) := dk_42 (dk_at dksX1_replaceBy_1 3 rfl rfl)
theorem dX1_replaceBy_28 : decode cX1_replaceBy 28 = .ok (.getfield 41, 3) := dk_180 0 41 (dk_at dksX1_replaceBy_1 4 rfl rfl)
theorem dX1_replaceBy_31 : decode cX1_replaceBy 31 = .ok (.invokevirtual 77, 3) := dk_182 0 77 (dk_at dksX1_replaceBy_1 7 rfl rfl)
theorem dX1_replaceBy_34 : decode cX1_replaceBy 34 = .ok (.aload_n 0, 1) := dk_42 (dk_at dksX1_replaceBy_1 10 rfl rfl)
theorem dX1_replaceBy_35 : decode cX1_replaceBy 35 = .ok (.aload_n 1, 1) := dk_43 (dk_at dksX1_replaceBy_1 11 rfl rfl)
theorem dX1_replaceBy_36 : decode cX1_replaceBy 36 = .ok (.putfield 41, 3) := dk_181 0 41 (dk_at dksX1_replaceBy_1 12 rfl rfl)
theorem dX1_replaceBy_39 : decode cX1_replaceBy 39 = .ok (.iload_n 2, 1) := dk_28 (dk_at dksX1_replaceBy_1 15 rfl rfl)
theorem dX1_replaceBy_40 : decode cX1_replaceBy 40 = .ok (.ireturn, 1) := dk_172 (dk_at dksX1_replaceBy_1 16 rfl rfl)
abbrev cX1_deny : ByteArray := prog_1_method_12_code
def yX1_deny : MethodName := ⟨RX1, "deny", "(LWeirfoldLane$Denial;)Ljava/lang/UnsupportedOperationException;"⟩
def dkwX1_deny_0 : List UInt8 := [42, 43, 181, 0, 81, 187, 0, 85, 89, 1, 43, 183, 0, 87, 176]
abbrev dktX1_deny_0 : List UInt8 := dkwX1_deny_0 ++ []
theorem dksX1_deny_0 : cX1_deny.data.toList.drop 0 = dktX1_deny_0 := by decide +kernel
theorem dX1_deny_0 : decode cX1_deny 0 = .ok (.aload_n 0, 1) := dk_42 (dk_at dksX1_deny_0 0 rfl rfl)
theorem dX1_deny_1 : decode cX1_deny 1 = .ok (.aload_n 1, 1) := dk_43 (dk_at dksX1_deny_0 1 rfl rfl)
theorem dX1_deny_2 : decode cX1_deny 2 = .ok (.putfield 81, 3) := dk_181 0 81 (dk_at dksX1_deny_0 2 rfl rfl)
theorem dX1_deny_5 : decode cX1_deny 5 = .ok (.new 85, 3) := dk_187 0 85 (dk_at dksX1_deny_0 5 rfl rfl)
theorem dX1_deny_8 : decode cX1_deny 8 = .ok (.dup, 1) := dk_89 (dk_at dksX1_deny_0 8 rfl rfl)
theorem dX1_deny_9 : decode cX1_deny 9 = .ok (.aconst_null, 1) := dk_1 (dk_at dksX1_deny_0 9 rfl rfl)
theorem dX1_deny_10 : decode cX1_deny 10 = .ok (.aload_n 1, 1) := dk_43 (dk_at dksX1_deny_0 10 rfl rfl)
theorem dX1_deny_11 : decode cX1_deny 11 = .ok (.invokespecial 87, 3) := dk_183 0 87 (dk_at dksX1_deny_0 11 rfl rfl)
theorem dX1_deny_14 : decode cX1_deny 14 = .ok (.areturn, 1) := dk_176 (dk_at dksX1_deny_0 14 rfl rfl)
abbrev cX1_removeRow : ByteArray := prog_1_method_15_code
def yX1_removeRow : MethodName := ⟨RX1, "removeRow", "(I)I"⟩
def dkwX1_removeRow_0 : List UInt8 := [42, 18, 116, 16, 32, 27, 3, 182, 0, 112, 172]
abbrev dktX1_removeRow_0 : List UInt8 := dkwX1_removeRow_0 ++ []
theorem dksX1_removeRow_0 : cX1_removeRow.data.toList.drop 0 = dktX1_removeRow_0 := by decide +kernel
theorem dX1_removeRow_0 : decode cX1_removeRow 0 = .ok (.aload_n 0, 1) := dk_42 (dk_at dksX1_removeRow_0 0 rfl rfl)
theorem dX1_removeRow_1 : decode cX1_removeRow 1 = .ok (.ldc 116, 2) := dk_18 116 (dk_at dksX1_removeRow_0 1 rfl rfl)
theorem dX1_removeRow_3 : decode cX1_removeRow 3 = .ok (.bipush 32, 2) := dk_16 32 (dk_at dksX1_removeRow_0 3 rfl rfl)
theorem dX1_removeRow_5 : decode cX1_removeRow 5 = .ok (.iload_n 1, 1) := dk_27 (dk_at dksX1_removeRow_0 5 rfl rfl)
theorem dX1_removeRow_6 : decode cX1_removeRow 6 = .ok (.iconst 0, 1) := dk_3 (dk_at dksX1_removeRow_0 6 rfl rfl)
theorem dX1_removeRow_7 : decode cX1_removeRow 7 = .ok (.invokevirtual 112, 3) := dk_182 0 112 (dk_at dksX1_removeRow_0 7 rfl rfl)
theorem dX1_removeRow_10 : decode cX1_removeRow 10 = .ok (.ireturn, 1) := dk_172 (dk_at dksX1_removeRow_0 10 rfl rfl)
abbrev cX1_beginDay : ByteArray := prog_1_method_16_code
def yX1_beginDay : MethodName := ⟨RX1, "beginDay", "()I"⟩
def dkwX1_beginDay_0 : List UInt8 := [42, 18, 118, 16, 32, 3, 3, 182, 0, 112, 172]
abbrev dktX1_beginDay_0 : List UInt8 := dkwX1_beginDay_0 ++ []
theorem dksX1_beginDay_0 : cX1_beginDay.data.toList.drop 0 = dktX1_beginDay_0 := by decide +kernel
theorem dX1_beginDay_0 : decode cX1_beginDay 0 = .ok (.aload_n 0, 1) := dk_42 (dk_at dksX1_beginDay_0 0 rfl rfl)
theorem dX1_beginDay_1 : decode cX1_beginDay 1 = .ok (.ldc 118, 2) := dk_18 118 (dk_at dksX1_beginDay_0 1 rfl rfl)
theorem dX1_beginDay_3 : decode cX1_beginDay 3 = .ok (.bipush 32, 2) := dk_16 32 (dk_at dksX1_beginDay_0 3 rfl rfl)
theorem dX1_beginDay_5 : decode cX1_beginDay 5 = .ok (.iconst 0, 1) := dk_3 (dk_at dksX1_beginDay_0 5 rfl rfl)
theorem dX1_beginDay_6 : decode cX1_beginDay 6 = .ok (.iconst 0, 1) := dk_3 (dk_at dksX1_beginDay_0 6 rfl rfl)
theorem dX1_beginDay_7 : decode cX1_beginDay 7 = .ok (.invokevirtual 112, 3) := dk_182 0 112 (dk_at dksX1_beginDay_0 7 rfl rfl)
theorem dX1_beginDay_10 : decode cX1_beginDay 10 = .ok (.ireturn, 1) := dk_172 (dk_at dksX1_beginDay_0 10 rfl rfl)
abbrev cX1_rowAt : ByteArray := prog_1_method_19_code
def yX1_rowAt : MethodName := ⟨RX1, "rowAt", "(I)I"⟩
def dkwX1_rowAt_1 : List UInt8 := [180, 0, 41, 180, 0, 123, 27, 185, 0, 133, 2, 0, 192, 0, 137, 180, 0, 139, 172]
abbrev dktX1_rowAt_1 : List UInt8 := dkwX1_rowAt_1 ++ []
def dkwX1_rowAt_0 : List UInt8 := [27, 3, 42, 180, 0, 41, 180, 0, 123, 185, 0, 127, 1, 0, 4, 100, 184, 0, 7, 184, 0, 130, 42]
abbrev dktX1_rowAt_0 : List UInt8 := dkwX1_rowAt_0 ++ dktX1_rowAt_1
theorem dksX1_rowAt_0 : cX1_rowAt.data.toList.drop 0 = dktX1_rowAt_0 := by decide +kernel
theorem dksX1_rowAt_1 : cX1_rowAt.data.toList.drop 23 = dktX1_rowAt_1 := dk_seg dksX1_rowAt_0 23 rfl rfl
theorem dX1_rowAt_0 : decode cX1_rowAt 0 = .ok (.iload_n 1, 1) := dk_27 (dk_at dksX1_rowAt_0 0 rfl rfl)
theorem dX1_rowAt_1 : decode cX1_rowAt 1 = .ok (.iconst 0, 1) := dk_3 (dk_at dksX1_rowAt_0 1 rfl rfl)
theorem dX1_rowAt_2 : decode cX1_rowAt 2 = .ok (.aload_n 0, 1) := dk_42 (dk_at dksX1_rowAt_0 2 rfl rfl)
theorem dX1_rowAt_3 : decode cX1_rowAt 3 = .ok (.getfield 41, 3) := dk_180 0 41 (dk_at dksX1_rowAt_0 3 rfl rfl)
theorem dX1_rowAt_6 : decode cX1_rowAt 6 = .ok (.getfield 123, 3) := dk_180 0 123 (dk_at dksX1_rowAt_0 6 rfl rfl)
theorem dX1_rowAt_9 : decode cX1_rowAt 9 = .ok (.invokeinterface 127 1, 5) := by decide +kernel
theorem dX1_rowAt_14 : decode cX1_rowAt 14 = .ok (.iconst 1, 1) := dk_4 (dk_at dksX1_rowAt_0 14 rfl rfl)
theorem dX1_rowAt_15 : decode cX1_rowAt 15 = .ok (.isub, 1) := dk_100 (dk_at dksX1_rowAt_0 15 rfl rfl)
theorem dX1_rowAt_16 : decode cX1_rowAt 16 = .ok (.invokestatic 7, 3) := dk_184 0 7 (dk_at dksX1_rowAt_0 16 rfl rfl)
theorem dX1_rowAt_19 : decode cX1_rowAt 19 = .ok (.invokestatic 130, 3) := dk_184 0 130 (dk_at dksX1_rowAt_0 19 rfl rfl)
theorem dX1_rowAt_22 : decode cX1_rowAt 22 = .ok (.aload_n 0, 1) := dk_42 (dk_at dksX1_rowAt_0 22 rfl rfl)
theorem dX1_rowAt_23 : decode cX1_rowAt 23 = .ok (.getfield 41, 3) := dk_180 0 41 (dk_at dksX1_rowAt_1 0 rfl rfl)
theorem dX1_rowAt_26 : decode cX1_rowAt 26 = .ok (.getfield 123, 3) := dk_180 0 123 (dk_at dksX1_rowAt_1 3 rfl rfl)
theorem dX1_rowAt_29 : decode cX1_rowAt 29 = .ok (.iload_n 1, 1) := dk_27 (dk_at dksX1_rowAt_1 6 rfl rfl)
theorem dX1_rowAt_30 : decode cX1_rowAt 30 = .ok (.invokeinterface 133 2, 5) := by decide +kernel
theorem dX1_rowAt_35 : decode cX1_rowAt 35 = .ok (.checkcast 137, 3) := dk_192 0 137 (dk_at dksX1_rowAt_1 12 rfl rfl)
theorem dX1_rowAt_38 : decode cX1_rowAt 38 = .ok (.getfield 139, 3) := dk_180 0 139 (dk_at dksX1_rowAt_1 15 rfl rfl)
theorem dX1_rowAt_41 : decode cX1_rowAt 41 = .ok (.ireturn, 1) := dk_172 (dk_at dksX1_rowAt_1 18 rfl rfl)
abbrev cX1_dayOf : ByteArray := prog_1_method_20_code
def yX1_dayOf : MethodName := ⟨RX1, "dayOf", "(I)I"⟩
def dkwX1_dayOf_0 : List UInt8 := [42, 180, 0, 41, 27, 182, 0, 142, 180, 0, 145, 172]
abbrev dktX1_dayOf_0 : List UInt8 := dkwX1_dayOf_0 ++ []
theorem dksX1_dayOf_0 : cX1_dayOf.data.toList.drop 0 = dktX1_dayOf_0 := by decide +kernel
theorem dX1_dayOf_0 : decode cX1_dayOf 0 = .ok (.aload_n 0, 1) := dk_42 (dk_at dksX1_dayOf_0 0 rfl rfl)
theorem dX1_dayOf_1 : decode cX1_dayOf 1 = .ok (.getfield 41, 3) := dk_180 0 41 (dk_at dksX1_dayOf_0 1 rfl rfl)
theorem dX1_dayOf_4 : decode cX1_dayOf 4 = .ok (.iload_n 1, 1) := dk_27 (dk_at dksX1_dayOf_0 4 rfl rfl)
theorem dX1_dayOf_5 : decode cX1_dayOf 5 = .ok (.invokevirtual 142, 3) := dk_182 0 142 (dk_at dksX1_dayOf_0 5 rfl rfl)
theorem dX1_dayOf_8 : decode cX1_dayOf 8 = .ok (.getfield 145, 3) := dk_180 0 145 (dk_at dksX1_dayOf_0 8 rfl rfl)
theorem dX1_dayOf_11 : decode cX1_dayOf 11 = .ok (.ireturn, 1) := dk_172 (dk_at dksX1_dayOf_0 11 rfl rfl)
abbrev cX1_groupOf : ByteArray := prog_1_method_21_code
def yX1_groupOf : MethodName := ⟨RX1, "groupOf", "(I)C"⟩
def dkwX1_groupOf_0 : List UInt8 := [16, 97, 42, 180, 0, 41, 27, 182, 0, 142, 180, 0, 148, 96, 146, 172]
abbrev dktX1_groupOf_0 : List UInt8 := dkwX1_groupOf_0 ++ []
theorem dksX1_groupOf_0 : cX1_groupOf.data.toList.drop 0 = dktX1_groupOf_0 := by decide +kernel
theorem dX1_groupOf_0 : decode cX1_groupOf 0 = .ok (.bipush 97, 2) := dk_16 97 (dk_at dksX1_groupOf_0 0 rfl rfl)
theorem dX1_groupOf_2 : decode cX1_groupOf 2 = .ok (.aload_n 0, 1) := dk_42 (dk_at dksX1_groupOf_0 2 rfl rfl)
theorem dX1_groupOf_3 : decode cX1_groupOf 3 = .ok (.getfield 41, 3) := dk_180 0 41 (dk_at dksX1_groupOf_0 3 rfl rfl)
theorem dX1_groupOf_6 : decode cX1_groupOf 6 = .ok (.iload_n 1, 1) := dk_27 (dk_at dksX1_groupOf_0 6 rfl rfl)
theorem dX1_groupOf_7 : decode cX1_groupOf 7 = .ok (.invokevirtual 142, 3) := dk_182 0 142 (dk_at dksX1_groupOf_0 7 rfl rfl)
theorem dX1_groupOf_10 : decode cX1_groupOf 10 = .ok (.getfield 148, 3) := dk_180 0 148 (dk_at dksX1_groupOf_0 10 rfl rfl)
theorem dX1_groupOf_13 : decode cX1_groupOf 13 = .ok (.iadd, 1) := dk_96 (dk_at dksX1_groupOf_0 13 rfl rfl)
theorem dX1_groupOf_14 : decode cX1_groupOf 14 = .ok (.i2c, 1) := dk_146 (dk_at dksX1_groupOf_0 14 rfl rfl)
theorem dX1_groupOf_15 : decode cX1_groupOf 15 = .ok (.ireturn, 1) := dk_172 (dk_at dksX1_groupOf_0 15 rfl rfl)
abbrev cX1_rowByAmount : ByteArray := prog_1_method_22_code
def yX1_rowByAmount : MethodName := ⟨RX1, "rowByAmount", "(I)I"⟩
def dkwX1_rowByAmount_5 : List UInt8 := [184, 0, 130, 44, 27, 185, 0, 133, 2, 0, 192, 0, 137, 180, 0, 139, 172]
abbrev dktX1_rowByAmount_5 : List UInt8 := dkwX1_rowByAmount_5 ++ []
def dkwX1_rowByAmount_4 : List UInt8 := [25, 4, 185, 0, 169, 3, 0, 167, 255, 183, 27, 3, 44, 185, 0, 127, 1, 0, 4, 100, 184, 0, 7]
abbrev dktX1_rowByAmount_4 : List UInt8 := dkwX1_rowByAmount_4 ++ dktX1_rowByAmount_5
def dkwX1_rowByAmount_3 : List UInt8 := [185, 0, 133, 2, 0, 192, 0, 137, 180, 0, 166, 164, 0, 9, 132, 5, 255, 167, 255, 224, 44, 21, 5]
abbrev dktX1_rowByAmount_3 : List UInt8 := dkwX1_rowByAmount_3 ++ dktX1_rowByAmount_4
def dkwX1_rowByAmount_2 : List UInt8 := [185, 0, 127, 1, 0, 54, 5, 21, 5, 158, 0, 33, 25, 4, 180, 0, 166, 44, 21, 5, 4, 100]
abbrev dktX1_rowByAmount_2 : List UInt8 := dkwX1_rowByAmount_2 ++ dktX1_rowByAmount_3
def dkwX1_rowByAmount_1 : List UInt8 := [185, 0, 158, 1, 0, 153, 0, 70, 45, 185, 0, 164, 1, 0, 192, 0, 137, 58, 4, 44]
abbrev dktX1_rowByAmount_1 : List UInt8 := dkwX1_rowByAmount_1 ++ dktX1_rowByAmount_2
def dkwX1_rowByAmount_0 : List UInt8 := [187, 0, 151, 89, 183, 0, 153, 77, 42, 180, 0, 41, 180, 0, 123, 185, 0, 154, 1, 0, 78, 45]
abbrev dktX1_rowByAmount_0 : List UInt8 := dkwX1_rowByAmount_0 ++ dktX1_rowByAmount_1
theorem dksX1_rowByAmount_0 : cX1_rowByAmount.data.toList.drop 0 = dktX1_rowByAmount_0 := by decide +kernel
theorem dksX1_rowByAmount_1 : cX1_rowByAmount.data.toList.drop 22 = dktX1_rowByAmount_1 := dk_seg dksX1_rowByAmount_0 22 rfl rfl
theorem dksX1_rowByAmount_2 : cX1_rowByAmount.data.toList.drop 42 = dktX1_rowByAmount_2 := dk_seg dksX1_rowByAmount_1 20 rfl rfl
theorem dksX1_rowByAmount_3 : cX1_rowByAmount.data.toList.drop 64 = dktX1_rowByAmount_3 := dk_seg dksX1_rowByAmount_2 22 rfl rfl
theorem dksX1_rowByAmount_4 : cX1_rowByAmount.data.toList.drop 87 = dktX1_rowByAmount_4 := dk_seg dksX1_rowByAmount_3 23 rfl rfl
theorem dksX1_rowByAmount_5 : cX1_rowByAmount.data.toList.drop 110 = dktX1_rowByAmount_5 := dk_seg dksX1_rowByAmount_4 23 rfl rfl
theorem dX1_rowByAmount_0 : decode cX1_rowByAmount 0 = .ok (.new 151, 3) := dk_187 0 151 (dk_at dksX1_rowByAmount_0 0 rfl rfl)
theorem dX1_rowByAmount_3 : decode cX1_rowByAmount 3 = .ok (.dup, 1) := dk_89 (dk_at dksX1_rowByAmount_0 3 rfl rfl)
theorem dX1_rowByAmount_4 : decode cX1_rowByAmount 4 = .ok (.invokespecial 153, 3) := dk_183 0 153 (dk_at dksX1_rowByAmount_0 4 rfl rfl)
theorem dX1_rowByAmount_7 : decode cX1_rowByAmount 7 = .ok (.astore_n 2, 1) := dk_77 (dk_at dksX1_rowByAmount_0 7 rfl rfl)
theorem dX1_rowByAmount_8 : decode cX1_rowByAmount 8 = .ok (.aload_n 0, 1) := dk_42 (dk_at dksX1_rowByAmount_0 8 rfl rfl)
theorem dX1_rowByAmount_9 : decode cX1_rowByAmount 9 = .ok (.getfield 41, 3) := dk_180 0 41 (dk_at dksX1_rowByAmount_0 9 rfl rfl)
theorem dX1_rowByAmount_12 : decode cX1_rowByAmount 12 = .ok (.getfield 123, 3) := dk_180 0 123 (dk_at dksX1_rowByAmount_0 12 rfl rfl)
theorem dX1_rowByAmount_15 : decode cX1_rowByAmount 15 = .ok (.invokeinterface 154 1, 5) := by decide +kernel
theorem dX1_rowByAmount_20 : decode cX1_rowByAmount 20 = .ok (.astore_n 3, 1) := dk_78 (dk_at dksX1_rowByAmount_0 20 rfl rfl)
theorem dX1_rowByAmount_21 : decode cX1_rowByAmount 21 = .ok (.aload_n 3, 1) := dk_45 (dk_at dksX1_rowByAmount_0 21 rfl rfl)
theorem dX1_rowByAmount_22 : decode cX1_rowByAmount 22 = .ok (.invokeinterface 158 1, 5) := by decide +kernel
theorem dX1_rowByAmount_27 : decode cX1_rowByAmount 27 = .ok (.ifCond .eq 70, 3) := dk_153 0 70 (dk_at dksX1_rowByAmount_1 5 rfl rfl)
theorem dX1_rowByAmount_30 : decode cX1_rowByAmount 30 = .ok (.aload_n 3, 1) := dk_45 (dk_at dksX1_rowByAmount_1 8 rfl rfl)
theorem dX1_rowByAmount_31 : decode cX1_rowByAmount 31 = .ok (.invokeinterface 164 1, 5) := by decide +kernel
theorem dX1_rowByAmount_36 : decode cX1_rowByAmount 36 = .ok (.checkcast 137, 3) := dk_192 0 137 (dk_at dksX1_rowByAmount_1 14 rfl rfl)
theorem dX1_rowByAmount_39 : decode cX1_rowByAmount 39 = .ok (.astore 4, 2) := dk_58 4 (dk_at dksX1_rowByAmount_1 17 rfl rfl)
theorem dX1_rowByAmount_41 : decode cX1_rowByAmount 41 = .ok (.aload_n 2, 1) := dk_44 (dk_at dksX1_rowByAmount_1 19 rfl rfl)
theorem dX1_rowByAmount_42 : decode cX1_rowByAmount 42 = .ok (.invokeinterface 127 1, 5) := by decide +kernel
theorem dX1_rowByAmount_47 : decode cX1_rowByAmount 47 = .ok (.istore 5, 2) := dk_54 5 (dk_at dksX1_rowByAmount_2 5 rfl rfl)
theorem dX1_rowByAmount_49 : decode cX1_rowByAmount 49 = .ok (.iload 5, 2) := dk_21 5 (dk_at dksX1_rowByAmount_2 7 rfl rfl)
theorem dX1_rowByAmount_51 : decode cX1_rowByAmount 51 = .ok (.ifCond .le 33, 3) := dk_158 0 33 (dk_at dksX1_rowByAmount_2 9 rfl rfl)
theorem dX1_rowByAmount_54 : decode cX1_rowByAmount 54 = .ok (.aload 4, 2) := dk_25 4 (dk_at dksX1_rowByAmount_2 12 rfl rfl)
theorem dX1_rowByAmount_56 : decode cX1_rowByAmount 56 = .ok (.getfield 166, 3) := dk_180 0 166 (dk_at dksX1_rowByAmount_2 14 rfl rfl)
theorem dX1_rowByAmount_59 : decode cX1_rowByAmount 59 = .ok (.aload_n 2, 1) := dk_44 (dk_at dksX1_rowByAmount_2 17 rfl rfl)
theorem dX1_rowByAmount_60 : decode cX1_rowByAmount 60 = .ok (.iload 5, 2) := dk_21 5 (dk_at dksX1_rowByAmount_2 18 rfl rfl)
theorem dX1_rowByAmount_62 : decode cX1_rowByAmount 62 = .ok (.iconst 1, 1) := dk_4 (dk_at dksX1_rowByAmount_2 20 rfl rfl)
theorem dX1_rowByAmount_63 : decode cX1_rowByAmount 63 = .ok (.isub, 1) := dk_100 (dk_at dksX1_rowByAmount_2 21 rfl rfl)
theorem dX1_rowByAmount_64 : decode cX1_rowByAmount 64 = .ok (.invokeinterface 133 2, 5) := by decide +kernel
theorem dX1_rowByAmount_69 : decode cX1_rowByAmount 69 = .ok (.checkcast 137, 3) := dk_192 0 137 (dk_at dksX1_rowByAmount_3 5 rfl rfl)
theorem dX1_rowByAmount_72 : decode cX1_rowByAmount 72 = .ok (.getfield 166, 3) := dk_180 0 166 (dk_at dksX1_rowByAmount_3 8 rfl rfl)
theorem dX1_rowByAmount_75 : decode cX1_rowByAmount 75 = .ok (.if_icmp .le 9, 3) := dk_164 0 9 (dk_at dksX1_rowByAmount_3 11 rfl rfl)
theorem dX1_rowByAmount_78 : decode cX1_rowByAmount 78 = .ok (.iinc 5 (-1), 3) := dk_132 5 255 (dk_at dksX1_rowByAmount_3 14 rfl rfl)
theorem dX1_rowByAmount_81 : decode cX1_rowByAmount 81 = .ok (.goto (-32), 3) := dk_167 255 224 (dk_at dksX1_rowByAmount_3 17 rfl rfl)
theorem dX1_rowByAmount_84 : decode cX1_rowByAmount 84 = .ok (.aload_n 2, 1) := dk_44 (dk_at dksX1_rowByAmount_3 20 rfl rfl)
theorem dX1_rowByAmount_85 : decode cX1_rowByAmount 85 = .ok (.iload 5, 2) := dk_21 5 (dk_at dksX1_rowByAmount_3 21 rfl rfl)
theorem dX1_rowByAmount_87 : decode cX1_rowByAmount 87 = .ok (.aload 4, 2) := dk_25 4 (dk_at dksX1_rowByAmount_4 0 rfl rfl)
theorem dX1_rowByAmount_89 : decode cX1_rowByAmount 89 = .ok (.invokeinterface 169 3, 5) := by decide +kernel
theorem dX1_rowByAmount_94 : decode cX1_rowByAmount 94 = .ok (.goto (-73), 3) := dk_167 255 183 (dk_at dksX1_rowByAmount_4 7 rfl rfl)
theorem dX1_rowByAmount_97 : decode cX1_rowByAmount 97 = .ok (.iload_n 1, 1) := dk_27 (dk_at dksX1_rowByAmount_4 10 rfl rfl)
theorem dX1_rowByAmount_98 : decode cX1_rowByAmount 98 = .ok (.iconst 0, 1) := dk_3 (dk_at dksX1_rowByAmount_4 11 rfl rfl)
theorem dX1_rowByAmount_99 : decode cX1_rowByAmount 99 = .ok (.aload_n 2, 1) := dk_44 (dk_at dksX1_rowByAmount_4 12 rfl rfl)
theorem dX1_rowByAmount_100 : decode cX1_rowByAmount 100 = .ok (.invokeinterface 127 1, 5) := by decide +kernel
theorem dX1_rowByAmount_105 : decode cX1_rowByAmount 105 = .ok (.iconst 1, 1) := dk_4 (dk_at dksX1_rowByAmount_4 18 rfl rfl)
theorem dX1_rowByAmount_106 : decode cX1_rowByAmount 106 = .ok (.isub, 1) := dk_100 (dk_at dksX1_rowByAmount_4 19 rfl rfl)
theorem dX1_rowByAmount_107 : decode cX1_rowByAmount 107 = .ok (.invokestatic 7, 3) := dk_184 0 7 (dk_at dksX1_rowByAmount_4 20 rfl rfl)
theorem dX1_rowByAmount_110 : decode cX1_rowByAmount 110 = .ok (.invokestatic 130, 3) := dk_184 0 130 (dk_at dksX1_rowByAmount_5 0 rfl rfl)
theorem dX1_rowByAmount_113 : decode cX1_rowByAmount 113 = .ok (.aload_n 2, 1) := dk_44 (dk_at dksX1_rowByAmount_5 3 rfl rfl)
theorem dX1_rowByAmount_114 : decode cX1_rowByAmount 114 = .ok (.iload_n 1, 1) := dk_27 (dk_at dksX1_rowByAmount_5 4 rfl rfl)
theorem dX1_rowByAmount_115 : decode cX1_rowByAmount 115 = .ok (.invokeinterface 133 2, 5) := by decide +kernel
theorem dX1_rowByAmount_120 : decode cX1_rowByAmount 120 = .ok (.checkcast 137, 3) := dk_192 0 137 (dk_at dksX1_rowByAmount_5 10 rfl rfl)
theorem dX1_rowByAmount_123 : decode cX1_rowByAmount 123 = .ok (.getfield 139, 3) := dk_180 0 139 (dk_at dksX1_rowByAmount_5 13 rfl rfl)
theorem dX1_rowByAmount_126 : decode cX1_rowByAmount 126 = .ok (.ireturn, 1) := dk_172 (dk_at dksX1_rowByAmount_5 16 rfl rfl)
abbrev cX1_addBase : ByteArray := prog_1_method_23_code
def yX1_addBase : MethodName := ⟨RX1, "addBase", "(CI)I"⟩
def dkwX1_addBase_0 : List UInt8 := [42, 18, 173, 27, 28, 3, 182, 0, 112, 172]
abbrev dktX1_addBase_0 : List UInt8 := dkwX1_addBase_0 ++ []
theorem dksX1_addBase_0 : cX1_addBase.data.toList.drop 0 = dktX1_addBase_0 := by decide +kernel
theorem dX1_addBase_0 : decode cX1_addBase 0 = .ok (.aload_n 0, 1) := dk_42 (dk_at dksX1_addBase_0 0 rfl rfl)
theorem dX1_addBase_1 : decode cX1_addBase 1 = .ok (.ldc 173, 2) := dk_18 173 (dk_at dksX1_addBase_0 1 rfl rfl)
theorem dX1_addBase_3 : decode cX1_addBase 3 = .ok (.iload_n 1, 1) := dk_27 (dk_at dksX1_addBase_0 3 rfl rfl)
theorem dX1_addBase_4 : decode cX1_addBase 4 = .ok (.iload_n 2, 1) := dk_28 (dk_at dksX1_addBase_0 4 rfl rfl)
theorem dX1_addBase_5 : decode cX1_addBase 5 = .ok (.iconst 0, 1) := dk_3 (dk_at dksX1_addBase_0 5 rfl rfl)
theorem dX1_addBase_6 : decode cX1_addBase 6 = .ok (.invokevirtual 112, 3) := dk_182 0 112 (dk_at dksX1_addBase_0 6 rfl rfl)
theorem dX1_addBase_9 : decode cX1_addBase 9 = .ok (.ireturn, 1) := dk_172 (dk_at dksX1_addBase_0 9 rfl rfl)
abbrev cX1_addPair : ByteArray := prog_1_method_24_code
def yX1_addPair : MethodName := ⟨RX1, "addPair", "(CII)I"⟩
def dkwX1_addPair_0 : List UInt8 := [42, 18, 175, 27, 28, 29, 182, 0, 112, 172]
abbrev dktX1_addPair_0 : List UInt8 := dkwX1_addPair_0 ++ []
theorem dksX1_addPair_0 : cX1_addPair.data.toList.drop 0 = dktX1_addPair_0 := by decide +kernel
theorem dX1_addPair_0 : decode cX1_addPair 0 = .ok (.aload_n 0, 1) := dk_42 (dk_at dksX1_addPair_0 0 rfl rfl)
theorem dX1_addPair_1 : decode cX1_addPair 1 = .ok (.ldc 175, 2) := dk_18 175 (dk_at dksX1_addPair_0 1 rfl rfl)
theorem dX1_addPair_3 : decode cX1_addPair 3 = .ok (.iload_n 1, 1) := dk_27 (dk_at dksX1_addPair_0 3 rfl rfl)
theorem dX1_addPair_4 : decode cX1_addPair 4 = .ok (.iload_n 2, 1) := dk_28 (dk_at dksX1_addPair_0 4 rfl rfl)
theorem dX1_addPair_5 : decode cX1_addPair 5 = .ok (.iload_n 3, 1) := dk_29 (dk_at dksX1_addPair_0 5 rfl rfl)
theorem dX1_addPair_6 : decode cX1_addPair 6 = .ok (.invokevirtual 112, 3) := dk_182 0 112 (dk_at dksX1_addPair_0 6 rfl rfl)
theorem dX1_addPair_9 : decode cX1_addPair 9 = .ok (.ireturn, 1) := dk_172 (dk_at dksX1_addPair_0 9 rfl rfl)
abbrev cX1_addRunning : ByteArray := prog_1_method_25_code
def yX1_addRunning : MethodName := ⟨RX1, "addRunning", "(I)I"⟩
def dkwX1_addRunning_0 : List UInt8 := [42, 18, 177, 16, 32, 27, 3, 182, 0, 112, 172]
abbrev dktX1_addRunning_0 : List UInt8 := dkwX1_addRunning_0 ++ []
theorem dksX1_addRunning_0 : cX1_addRunning.data.toList.drop 0 = dktX1_addRunning_0 := by decide +kernel
theorem dX1_addRunning_0 : decode cX1_addRunning 0 = .ok (.aload_n 0, 1) := dk_42 (dk_at dksX1_addRunning_0 0 rfl rfl)
theorem dX1_addRunning_1 : decode cX1_addRunning 1 = .ok (.ldc 177, 2) := dk_18 177 (dk_at dksX1_addRunning_0 1 rfl rfl)
theorem dX1_addRunning_3 : decode cX1_addRunning 3 = .ok (.bipush 32, 2) := dk_16 32 (dk_at dksX1_addRunning_0 3 rfl rfl)
theorem dX1_addRunning_5 : decode cX1_addRunning 5 = .ok (.iload_n 1, 1) := dk_27 (dk_at dksX1_addRunning_0 5 rfl rfl)
theorem dX1_addRunning_6 : decode cX1_addRunning 6 = .ok (.iconst 0, 1) := dk_3 (dk_at dksX1_addRunning_0 6 rfl rfl)
theorem dX1_addRunning_7 : decode cX1_addRunning 7 = .ok (.invokevirtual 112, 3) := dk_182 0 112 (dk_at dksX1_addRunning_0 7 rfl rfl)
theorem dX1_addRunning_10 : decode cX1_addRunning 10 = .ok (.ireturn, 1) := dk_172 (dk_at dksX1_addRunning_0 10 rfl rfl)
abbrev cX1_addBounded : ByteArray := prog_1_method_26_code
def yX1_addBounded : MethodName := ⟨RX1, "addBounded", "(II)I"⟩
def dkwX1_addBounded_0 : List UInt8 := [42, 18, 179, 16, 32, 27, 28, 182, 0, 112, 172]
abbrev dktX1_addBounded_0 : List UInt8 := dkwX1_addBounded_0 ++ []
theorem dksX1_addBounded_0 : cX1_addBounded.data.toList.drop 0 = dktX1_addBounded_0 := by decide +kernel
theorem dX1_addBounded_0 : decode cX1_addBounded 0 = .ok (.aload_n 0, 1) := dk_42 (dk_at dksX1_addBounded_0 0 rfl rfl)
theorem dX1_addBounded_1 : decode cX1_addBounded 1 = .ok (.ldc 179, 2) := dk_18 179 (dk_at dksX1_addBounded_0 1 rfl rfl)
theorem dX1_addBounded_3 : decode cX1_addBounded 3 = .ok (.bipush 32, 2) := dk_16 32 (dk_at dksX1_addBounded_0 3 rfl rfl)
theorem dX1_addBounded_5 : decode cX1_addBounded 5 = .ok (.iload_n 1, 1) := dk_27 (dk_at dksX1_addBounded_0 5 rfl rfl)
theorem dX1_addBounded_6 : decode cX1_addBounded 6 = .ok (.iload_n 2, 1) := dk_28 (dk_at dksX1_addBounded_0 6 rfl rfl)
theorem dX1_addBounded_7 : decode cX1_addBounded 7 = .ok (.invokevirtual 112, 3) := dk_182 0 112 (dk_at dksX1_addBounded_0 7 rfl rfl)
theorem dX1_addBounded_10 : decode cX1_addBounded 10 = .ok (.ireturn, 1) := dk_172 (dk_at dksX1_addBounded_0 10 rfl rfl)
abbrev cX1_removeStep : ByteArray := prog_1_method_27_code
def yX1_removeStep : MethodName := ⟨RX1, "removeStep", "(I)I"⟩
def dkwX1_removeStep_0 : List UInt8 := [42, 18, 181, 16, 32, 27, 3, 182, 0, 112, 172]
abbrev dktX1_removeStep_0 : List UInt8 := dkwX1_removeStep_0 ++ []
theorem dksX1_removeStep_0 : cX1_removeStep.data.toList.drop 0 = dktX1_removeStep_0 := by decide +kernel
theorem dX1_removeStep_0 : decode cX1_removeStep 0 = .ok (.aload_n 0, 1) := dk_42 (dk_at dksX1_removeStep_0 0 rfl rfl)
theorem dX1_removeStep_1 : decode cX1_removeStep 1 = .ok (.ldc 181, 2) := dk_18 181 (dk_at dksX1_removeStep_0 1 rfl rfl)
theorem dX1_removeStep_3 : decode cX1_removeStep 3 = .ok (.bipush 32, 2) := dk_16 32 (dk_at dksX1_removeStep_0 3 rfl rfl)
theorem dX1_removeStep_5 : decode cX1_removeStep 5 = .ok (.iload_n 1, 1) := dk_27 (dk_at dksX1_removeStep_0 5 rfl rfl)
theorem dX1_removeStep_6 : decode cX1_removeStep 6 = .ok (.iconst 0, 1) := dk_3 (dk_at dksX1_removeStep_0 6 rfl rfl)
theorem dX1_removeStep_7 : decode cX1_removeStep 7 = .ok (.invokevirtual 112, 3) := dk_182 0 112 (dk_at dksX1_removeStep_0 7 rfl rfl)
theorem dX1_removeStep_10 : decode cX1_removeStep 10 = .ok (.ireturn, 1) := dk_172 (dk_at dksX1_removeStep_0 10 rfl rfl)
abbrev cX1_kind : ByteArray := prog_1_method_29_code
def yX1_kind : MethodName := ⟨RX1, "kind", "(I)C"⟩
def dkwX1_kind_0 : List UInt8 := [42, 180, 0, 41, 27, 182, 0, 186, 182, 0, 190, 172]
abbrev dktX1_kind_0 : List UInt8 := dkwX1_kind_0 ++ []
theorem dksX1_kind_0 : cX1_kind.data.toList.drop 0 = dktX1_kind_0 := by decide +kernel
theorem dX1_kind_0 : decode cX1_kind 0 = .ok (.aload_n 0, 1) := dk_42 (dk_at dksX1_kind_0 0 rfl rfl)
theorem dX1_kind_1 : decode cX1_kind 1 = .ok (.getfield 41, 3) := dk_180 0 41 (dk_at dksX1_kind_0 1 rfl rfl)
theorem dX1_kind_4 : decode cX1_kind 4 = .ok (.iload_n 1, 1) := dk_27 (dk_at dksX1_kind_0 4 rfl rfl)
theorem dX1_kind_5 : decode cX1_kind 5 = .ok (.invokevirtual 186, 3) := dk_182 0 186 (dk_at dksX1_kind_0 5 rfl rfl)
theorem dX1_kind_8 : decode cX1_kind 8 = .ok (.invokevirtual 190, 3) := dk_182 0 190 (dk_at dksX1_kind_0 8 rfl rfl)
theorem dX1_kind_11 : decode cX1_kind 11 = .ok (.ireturn, 1) := dk_172 (dk_at dksX1_kind_0 11 rfl rfl)
abbrev cX1_dependsOn : ByteArray := prog_1_method_30_code
def yX1_dependsOn : MethodName := ⟨RX1, "dependsOn", "(II)Z"⟩
def dkwX1_dependsOn_1 : List UInt8 := [180, 0, 183, 182, 0, 196, 172]
abbrev dktX1_dependsOn_1 : List UInt8 := dkwX1_dependsOn_1 ++ []
def dkwX1_dependsOn_0 : List UInt8 := [42, 180, 0, 41, 27, 182, 0, 186, 78, 45, 42, 180, 0, 41, 28, 182, 0, 186, 42, 180, 0, 41]
abbrev dktX1_dependsOn_0 : List UInt8 := dkwX1_dependsOn_0 ++ dktX1_dependsOn_1
theorem dksX1_dependsOn_0 : cX1_dependsOn.data.toList.drop 0 = dktX1_dependsOn_0 := by decide +kernel
theorem dksX1_dependsOn_1 : cX1_dependsOn.data.toList.drop 22 = dktX1_dependsOn_1 := dk_seg dksX1_dependsOn_0 22 rfl rfl
theorem dX1_dependsOn_0 : decode cX1_dependsOn 0 = .ok (.aload_n 0, 1) := dk_42 (dk_at dksX1_dependsOn_0 0 rfl rfl)
theorem dX1_dependsOn_1 : decode cX1_dependsOn 1 = .ok (.getfield 41, 3) := dk_180 0 41 (dk_at dksX1_dependsOn_0 1 rfl rfl)
theorem dX1_dependsOn_4 : decode cX1_dependsOn 4 = .ok (.iload_n 1, 1) := dk_27 (dk_at dksX1_dependsOn_0 4 rfl rfl)
theorem dX1_dependsOn_5 : decode cX1_dependsOn 5 = .ok (.invokevirtual 186, 3) := dk_182 0 186 (dk_at dksX1_dependsOn_0 5 rfl rfl)
theorem dX1_dependsOn_8 : decode cX1_dependsOn 8 = .ok (.astore_n 3, 1) := dk_78 (dk_at dksX1_dependsOn_0 8 rfl rfl)
theorem dX1_dependsOn_9 : decode cX1_dependsOn 9 = .ok (.aload_n 3, 1) := dk_45 (dk_at dksX1_dependsOn_0 9 rfl rfl)
theorem dX1_dependsOn_10 : decode cX1_dependsOn 10 = .ok (.aload_n 0, 1) := dk_42 (dk_at dksX1_dependsOn_0 10 rfl rfl)
theorem dX1_dependsOn_11 : decode cX1_dependsOn 11 = .ok (.getfield 41, 3) := dk_180 0 41 (dk_at dksX1_dependsOn_0 11 rfl rfl)
theorem dX1_dependsOn_14 : decode cX1_dependsOn 14 = .ok (.iload_n 2, 1) := dk_28 (dk_at dksX1_dependsOn_0 14 rfl rfl)
theorem dX1_dependsOn_15 : decode cX1_dependsOn 15 = .ok (.invokevirtual 186, 3) := dk_182 0 186 (dk_at dksX1_dependsOn_0 15 rfl rfl)
theorem dX1_dependsOn_18 : decode cX1_dependsOn 18 = .ok (.aload_n 0, 1) := dk_42 (dk_at dksX1_dependsOn_0 18 rfl rfl)
theorem dX1_dependsOn_19 : decode cX1_dependsOn 19 = .ok (.getfield 41, 3) := dk_180 0 41 (dk_at dksX1_dependsOn_0 19 rfl rfl)
theorem dX1_dependsOn_22 : decode cX1_dependsOn 22 = .ok (.getfield 183, 3) := dk_180 0 183 (dk_at dksX1_dependsOn_1 0 rfl rfl)
theorem dX1_dependsOn_25 : decode cX1_dependsOn 25 = .ok (.invokevirtual 196, 3) := dk_182 0 196 (dk_at dksX1_dependsOn_1 3 rfl rfl)
theorem dX1_dependsOn_28 : decode cX1_dependsOn 28 = .ok (.ireturn, 1) := dk_172 (dk_at dksX1_dependsOn_1 6 rfl rfl)
abbrev cX1_level : ByteArray := prog_1_method_31_code
def yX1_level : MethodName := ⟨RX1, "level", "(I)I"⟩
def dkwX1_level_0 : List UInt8 := [42, 180, 0, 41, 27, 182, 0, 186, 182, 0, 200, 172]
abbrev dktX1_level_0 : List UInt8 := dkwX1_level_0 ++ []
theorem dksX1_level_0 : cX1_level.data.toList.drop 0 = dktX1_level_0 := by decide +kernel
theorem dX1_level_0 : decode cX1_level 0 = .ok (.aload_n 0, 1) := dk_42 (dk_at dksX1_level_0 0 rfl rfl)
theorem dX1_level_1 : decode cX1_level 1 = .ok (.getfield 41, 3) := dk_180 0 41 (dk_at dksX1_level_0 1 rfl rfl)
theorem dX1_level_4 : decode cX1_level 4 = .ok (.iload_n 1, 1) := dk_27 (dk_at dksX1_level_0 4 rfl rfl)
theorem dX1_level_5 : decode cX1_level 5 = .ok (.invokevirtual 186, 3) := dk_182 0 186 (dk_at dksX1_level_0 5 rfl rfl)
theorem dX1_level_8 : decode cX1_level 8 = .ok (.invokevirtual 200, 3) := dk_182 0 200 (dk_at dksX1_level_0 8 rfl rfl)
theorem dX1_level_11 : decode cX1_level 11 = .ok (.ireturn, 1) := dk_172 (dk_at dksX1_level_0 11 rfl rfl)
abbrev cX1_value : ByteArray := prog_1_method_32_code
def yX1_value : MethodName := ⟨RX1, "value", "(IIC)J"⟩
def dkwX1_value_1 : List UInt8 := [28, 29, 184, 0, 207, 182, 0, 211, 173]
abbrev dktX1_value_1 : List UInt8 := dkwX1_value_1 ++ []
def dkwX1_value_0 : List UInt8 := [42, 180, 0, 41, 27, 182, 0, 186, 58, 4, 42, 180, 0, 41, 28, 182, 0, 203, 42, 180, 0, 41, 25, 4]
abbrev dktX1_value_0 : List UInt8 := dkwX1_value_0 ++ dktX1_value_1
theorem dksX1_value_0 : cX1_value.data.toList.drop 0 = dktX1_value_0 := by decide +kernel
theorem dksX1_value_1 : cX1_value.data.toList.drop 24 = dktX1_value_1 := dk_seg dksX1_value_0 24 rfl rfl
theorem dX1_value_0 : decode cX1_value 0 = .ok (.aload_n 0, 1) := dk_42 (dk_at dksX1_value_0 0 rfl rfl)
theorem dX1_value_1 : decode cX1_value 1 = .ok (.getfield 41, 3) := dk_180 0 41 (dk_at dksX1_value_0 1 rfl rfl)
theorem dX1_value_4 : decode cX1_value 4 = .ok (.iload_n 1, 1) := dk_27 (dk_at dksX1_value_0 4 rfl rfl)
theorem dX1_value_5 : decode cX1_value 5 = .ok (.invokevirtual 186, 3) := dk_182 0 186 (dk_at dksX1_value_0 5 rfl rfl)
theorem dX1_value_8 : decode cX1_value 8 = .ok (.astore 4, 2) := dk_58 4 (dk_at dksX1_value_0 8 rfl rfl)
theorem dX1_value_10 : decode cX1_value 10 = .ok (.aload_n 0, 1) := dk_42 (dk_at dksX1_value_0 10 rfl rfl)
theorem dX1_value_11 : decode cX1_value 11 = .ok (.getfield 41, 3) := dk_180 0 41 (dk_at dksX1_value_0 11 rfl rfl)
theorem dX1_value_14 : decode cX1_value 14 = .ok (.iload_n 2, 1) := dk_28 (dk_at dksX1_value_0 14 rfl rfl)
theorem dX1_value_15 : decode cX1_value 15 = .ok (.invokevirtual 203, 3) := dk_182 0 203 (dk_at dksX1_value_0 15 rfl rfl)
theorem dX1_value_18 : decode cX1_value 18 = .ok (.aload_n 0, 1) := dk_42 (dk_at dksX1_value_0 18 rfl rfl)
theorem dX1_value_19 : decode cX1_value 19 = .ok (.getfield 41, 3) := dk_180 0 41 (dk_at dksX1_value_0 19 rfl rfl)
theorem dX1_value_22 : decode cX1_value 22 = .ok (.aload 4, 2) := dk_25 4 (dk_at dksX1_value_0 22 rfl rfl)
theorem dX1_value_24 : decode cX1_value 24 = .ok (.iload_n 2, 1) := dk_28 (dk_at dksX1_value_1 0 rfl rfl)
theorem dX1_value_25 : decode cX1_value 25 = .ok (.iload_n 3, 1) := dk_29 (dk_at dksX1_value_1 1 rfl rfl)
theorem dX1_value_26 : decode cX1_value 26 = .ok (.invokestatic 207, 3) := dk_184 0 207 (dk_at dksX1_value_1 2 rfl rfl)
theorem dX1_value_29 : decode cX1_value 29 = .ok (.invokevirtual 211, 3) := dk_182 0 211 (dk_at dksX1_value_1 5 rfl rfl)
theorem dX1_value_32 : decode cX1_value 32 = .ok (.lreturn, 1) := dk_173 (dk_at dksX1_value_1 8 rfl rfl)
abbrev cX1_valueAnew : ByteArray := prog_1_method_33_code
def yX1_valueAnew : MethodName := ⟨RX1, "valueAnew", "(IIC)J"⟩
def dkwX1_valueAnew_1 : List UInt8 := [180, 0, 41, 183, 0, 216, 25, 4, 28, 29, 184, 0, 207, 182, 0, 217, 173]
abbrev dktX1_valueAnew_1 : List UInt8 := dkwX1_valueAnew_1 ++ []
def dkwX1_valueAnew_0 : List UInt8 := [42, 180, 0, 41, 27, 182, 0, 186, 58, 4, 42, 180, 0, 41, 28, 182, 0, 203, 187, 0, 214, 89, 42]
abbrev dktX1_valueAnew_0 : List UInt8 := dkwX1_valueAnew_0 ++ dktX1_valueAnew_1
theorem dksX1_valueAnew_0 : cX1_valueAnew.data.toList.drop 0 = dktX1_valueAnew_0 := by decide +kernel
theorem dksX1_valueAnew_1 : cX1_valueAnew.data.toList.drop 23 = dktX1_valueAnew_1 := dk_seg dksX1_valueAnew_0 23 rfl rfl
theorem dX1_valueAnew_0 : decode cX1_valueAnew 0 = .ok (.aload_n 0, 1) := dk_42 (dk_at dksX1_valueAnew_0 0 rfl rfl)
theorem dX1_valueAnew_1 : decode cX1_valueAnew 1 = .ok (.getfield 41, 3) := dk_180 0 41 (dk_at dksX1_valueAnew_0 1 rfl rfl)
theorem dX1_valueAnew_4 : decode cX1_valueAnew 4 = .ok (.iload_n 1, 1) := dk_27 (dk_at dksX1_valueAnew_0 4 rfl rfl)
theorem dX1_valueAnew_5 : decode cX1_valueAnew 5 = .ok (.invokevirtual 186, 3) := dk_182 0 186 (dk_at dksX1_valueAnew_0 5 rfl rfl)
theorem dX1_valueAnew_8 : decode cX1_valueAnew 8 = .ok (.astore 4, 2) := dk_58 4 (dk_at dksX1_valueAnew_0 8 rfl rfl)
theorem dX1_valueAnew_10 : decode cX1_valueAnew 10 = .ok (.aload_n 0, 1) := dk_42 (dk_at dksX1_valueAnew_0 10 rfl rfl)
theorem dX1_valueAnew_11 : decode cX1_valueAnew 11 = .ok (.getfield 41, 3) := dk_180 0 41 (dk_at dksX1_valueAnew_0 11 rfl rfl)
theorem dX1_valueAnew_14 : decode cX1_valueAnew 14 = .ok (.iload_n 2, 1) := dk_28 (dk_at dksX1_valueAnew_0 14 rfl rfl)
theorem dX1_valueAnew_15 : decode cX1_valueAnew 15 = .ok (.invokevirtual 203, 3) := dk_182 0 203 (dk_at dksX1_valueAnew_0 15 rfl rfl)
theorem dX1_valueAnew_18 : decode cX1_valueAnew 18 = .ok (.new 214, 3) := dk_187 0 214 (dk_at dksX1_valueAnew_0 18 rfl rfl)
theorem dX1_valueAnew_21 : decode cX1_valueAnew 21 = .ok (.dup, 1) := dk_89 (dk_at dksX1_valueAnew_0 21 rfl rfl)
theorem dX1_valueAnew_22 : decode cX1_valueAnew 22 = .ok (.aload_n 0, 1) := dk_42 (dk_at dksX1_valueAnew_0 22 rfl rfl)
theorem dX1_valueAnew_23 : decode cX1_valueAnew 23 = .ok (.getfield 41, 3) := dk_180 0 41 (dk_at dksX1_valueAnew_1 0 rfl rfl)
theorem dX1_valueAnew_26 : decode cX1_valueAnew 26 = .ok (.invokespecial 216, 3) := dk_183 0 216 (dk_at dksX1_valueAnew_1 3 rfl rfl)
theorem dX1_valueAnew_29 : decode cX1_valueAnew 29 = .ok (.aload 4, 2) := dk_25 4 (dk_at dksX1_valueAnew_1 6 rfl rfl)
theorem dX1_valueAnew_31 : decode cX1_valueAnew 31 = .ok (.iload_n 2, 1) := dk_28 (dk_at dksX1_valueAnew_1 8 rfl rfl)
theorem dX1_valueAnew_32 : decode cX1_valueAnew 32 = .ok (.iload_n 3, 1) := dk_29 (dk_at dksX1_valueAnew_1 9 rfl rfl)
theorem dX1_valueAnew_33 : decode cX1_valueAnew 33 = .ok (.invokestatic 207, 3) := dk_184 0 207 (dk_at dksX1_valueAnew_1 10 rfl rfl)
theorem dX1_valueAnew_36 : decode cX1_valueAnew 36 = .ok (.invokevirtual 217, 3) := dk_182 0 217 (dk_at dksX1_valueAnew_1 13 rfl rfl)
theorem dX1_valueAnew_39 : decode cX1_valueAnew 39 = .ok (.lreturn, 1) := dk_173 (dk_at dksX1_valueAnew_1 16 rfl rfl)
abbrev cX1_total : ByteArray := prog_1_method_34_code
def yX1_total : MethodName := ⟨RX1, "total", "(II)J"⟩
def dkwX1_total_2 : List UInt8 := [132, 6, 1, 167, 255, 231, 22, 4, 173]
abbrev dktX1_total_2 : List UInt8 := dkwX1_total_2 ++ []
def dkwX1_total_1 : List UInt8 := [21, 6, 8, 162, 0, 25, 22, 4, 42, 180, 0, 41, 45, 28, 21, 6, 182, 0, 211, 97, 55, 4]
abbrev dktX1_total_1 : List UInt8 := dkwX1_total_1 ++ dktX1_total_2
def dkwX1_total_0 : List UInt8 := [42, 180, 0, 41, 27, 182, 0, 186, 78, 42, 180, 0, 41, 28, 182, 0, 203, 9, 55, 4, 3, 54, 6]
abbrev dktX1_total_0 : List UInt8 := dkwX1_total_0 ++ dktX1_total_1
theorem dksX1_total_0 : cX1_total.data.toList.drop 0 = dktX1_total_0 := by decide +kernel
theorem dksX1_total_1 : cX1_total.data.toList.drop 23 = dktX1_total_1 := dk_seg dksX1_total_0 23 rfl rfl
theorem dksX1_total_2 : cX1_total.data.toList.drop 45 = dktX1_total_2 := dk_seg dksX1_total_1 22 rfl rfl
theorem dX1_total_0 : decode cX1_total 0 = .ok (.aload_n 0, 1) := dk_42 (dk_at dksX1_total_0 0 rfl rfl)
theorem dX1_total_1 : decode cX1_total 1 = .ok (.getfield 41, 3) := dk_180 0 41 (dk_at dksX1_total_0 1 rfl rfl)
theorem dX1_total_4 : decode cX1_total 4 = .ok (.iload_n 1, 1) := dk_27 (dk_at dksX1_total_0 4 rfl rfl)
theorem dX1_total_5 : decode cX1_total 5 = .ok (.invokevirtual 186, 3) := dk_182 0 186 (dk_at dksX1_total_0 5 rfl rfl)
theorem dX1_total_8 : decode cX1_total 8 = .ok (.astore_n 3, 1) := dk_78 (dk_at dksX1_total_0 8 rfl rfl)
theorem dX1_total_9 : decode cX1_total 9 = .ok (.aload_n 0, 1) := dk_42 (dk_at dksX1_total_0 9 rfl rfl)
theorem dX1_total_10 : decode cX1_total 10 = .ok (.getfield 41, 3) := dk_180 0 41 (dk_at dksX1_total_0 10 rfl rfl)
theorem dX1_total_13 : decode cX1_total 13 = .ok (.iload_n 2, 1) := dk_28 (dk_at dksX1_total_0 13 rfl rfl)
theorem dX1_total_14 : decode cX1_total 14 = .ok (.invokevirtual 203, 3) := dk_182 0 203 (dk_at dksX1_total_0 14 rfl rfl)
theorem dX1_total_17 : decode cX1_total 17 = .ok (.lconst 0, 1) := dk_9 (dk_at dksX1_total_0 17 rfl rfl)
theorem dX1_total_18 : decode cX1_total 18 = .ok (.lstore 4, 2) := dk_55 4 (dk_at dksX1_total_0 18 rfl rfl)
theorem dX1_total_20 : decode cX1_total 20 = .ok (.iconst 0, 1) := dk_3 (dk_at dksX1_total_0 20 rfl rfl)
theorem dX1_total_21 : decode cX1_total 21 = .ok (.istore 6, 2) := dk_54 6 (dk_at dksX1_total_0 21 rfl rfl)
theorem dX1_total_23 : decode cX1_total 23 = .ok (.iload 6, 2) := dk_21 6 (dk_at dksX1_total_1 0 rfl rfl)
theorem dX1_total_25 : decode cX1_total 25 = .ok (.iconst 5, 1) := dk_8 (dk_at dksX1_total_1 2 rfl rfl)
theorem dX1_total_26 : decode cX1_total 26 = .ok (.if_icmp .ge 25, 3) := dk_162 0 25 (dk_at dksX1_total_1 3 rfl rfl)
theorem dX1_total_29 : decode cX1_total 29 = .ok (.lload 4, 2) := dk_22 4 (dk_at dksX1_total_1 6 rfl rfl)
theorem dX1_total_31 : decode cX1_total 31 = .ok (.aload_n 0, 1) := dk_42 (dk_at dksX1_total_1 8 rfl rfl)
theorem dX1_total_32 : decode cX1_total 32 = .ok (.getfield 41, 3) := dk_180 0 41 (dk_at dksX1_total_1 9 rfl rfl)
theorem dX1_total_35 : decode cX1_total 35 = .ok (.aload_n 3, 1) := dk_45 (dk_at dksX1_total_1 12 rfl rfl)
theorem dX1_total_36 : decode cX1_total 36 = .ok (.iload_n 2, 1) := dk_28 (dk_at dksX1_total_1 13 rfl rfl)
theorem dX1_total_37 : decode cX1_total 37 = .ok (.iload 6, 2) := dk_21 6 (dk_at dksX1_total_1 14 rfl rfl)
theorem dX1_total_39 : decode cX1_total 39 = .ok (.invokevirtual 211, 3) := dk_182 0 211 (dk_at dksX1_total_1 16 rfl rfl)
theorem dX1_total_42 : decode cX1_total 42 = .ok (.ladd, 1) := dk_97 (dk_at dksX1_total_1 19 rfl rfl)
theorem dX1_total_43 : decode cX1_total 43 = .ok (.lstore 4, 2) := dk_55 4 (dk_at dksX1_total_1 20 rfl rfl)
theorem dX1_total_45 : decode cX1_total 45 = .ok (.iinc 6 1, 3) := dk_132 6 1 (dk_at dksX1_total_2 0 rfl rfl)
theorem dX1_total_48 : decode cX1_total 48 = .ok (.goto (-25), 3) := dk_167 255 231 (dk_at dksX1_total_2 3 rfl rfl)
theorem dX1_total_51 : decode cX1_total 51 = .ok (.lload 4, 2) := dk_22 4 (dk_at dksX1_total_2 6 rfl rfl)
theorem dX1_total_53 : decode cX1_total 53 = .ok (.lreturn, 1) := dk_173 (dk_at dksX1_total_2 8 rfl rfl)
abbrev cX1_isStale : ByteArray := prog_1_method_35_code
def yX1_isStale : MethodName := ⟨RX1, "isStale", "(II)Z"⟩
def dkwX1_isStale_1 : List UInt8 := [182, 0, 218, 172]
abbrev dktX1_isStale_1 : List UInt8 := dkwX1_isStale_1 ++ []
def dkwX1_isStale_0 : List UInt8 := [42, 180, 0, 41, 27, 182, 0, 186, 78, 42, 180, 0, 41, 28, 182, 0, 203, 42, 180, 0, 41, 45, 28]
abbrev dktX1_isStale_0 : List UInt8 := dkwX1_isStale_0 ++ dktX1_isStale_1
theorem dksX1_isStale_0 : cX1_isStale.data.toList.drop 0 = dktX1_isStale_0 := by decide +kernel
theorem dksX1_isStale_1 : cX1_isStale.data.toList.drop 23 = dktX1_isStale_1 := dk_seg dksX1_isStale_0 23 rfl rfl
theorem dX1_isStale_0 : decode cX1_isStale 0 = .ok (.aload_n 0, 1) := dk_42 (dk_at dksX1_isStale_0 0 rfl rfl)
theorem dX1_isStale_1 : decode cX1_isStale 1 = .ok (.getfield 41, 3) := dk_180 0 41 (dk_at dksX1_isStale_0 1 rfl rfl)
theorem dX1_isStale_4 : decode cX1_isStale 4 = .ok (.iload_n 1, 1) := dk_27 (dk_at dksX1_isStale_0 4 rfl rfl)
theorem dX1_isStale_5 : decode cX1_isStale 5 = .ok (.invokevirtual 186, 3) := dk_182 0 186 (dk_at dksX1_isStale_0 5 rfl rfl)
theorem dX1_isStale_8 : decode cX1_isStale 8 = .ok (.astore_n 3, 1) := dk_78 (dk_at dksX1_isStale_0 8 rfl rfl)
theorem dX1_isStale_9 : decode cX1_isStale 9 = .ok (.aload_n 0, 1) := dk_42 (dk_at dksX1_isStale_0 9 rfl rfl)
theorem dX1_isStale_10 : decode cX1_isStale 10 = .ok (.getfield 41, 3) := dk_180 0 41 (dk_at dksX1_isStale_0 10 rfl rfl)
theorem dX1_isStale_13 : decode cX1_isStale 13 = .ok (.iload_n 2, 1) := dk_28 (dk_at dksX1_isStale_0 13 rfl rfl)
theorem dX1_isStale_14 : decode cX1_isStale 14 = .ok (.invokevirtual 203, 3) := dk_182 0 203 (dk_at dksX1_isStale_0 14 rfl rfl)
theorem dX1_isStale_17 : decode cX1_isStale 17 = .ok (.aload_n 0, 1) := dk_42 (dk_at dksX1_isStale_0 17 rfl rfl)
theorem dX1_isStale_18 : decode cX1_isStale 18 = .ok (.getfield 41, 3) := dk_180 0 41 (dk_at dksX1_isStale_0 18 rfl rfl)
theorem dX1_isStale_21 : decode cX1_isStale 21 = .ok (.aload_n 3, 1) := dk_45 (dk_at dksX1_isStale_0 21 rfl rfl)
theorem dX1_isStale_22 : decode cX1_isStale 22 = .ok (.iload_n 2, 1) := dk_28 (dk_at dksX1_isStale_0 22 rfl rfl)
theorem dX1_isStale_23 : decode cX1_isStale 23 = .ok (.invokevirtual 218, 3) := dk_182 0 218 (dk_at dksX1_isStale_1 0 rfl rfl)
theorem dX1_isStale_26 : decode cX1_isStale 26 = .ok (.ireturn, 1) := dk_172 (dk_at dksX1_isStale_1 3 rfl rfl)
abbrev cX1_repair : ByteArray := prog_1_method_39_code
def yX1_repair : MethodName := ⟨RX1, "repair", "(I)I"⟩
def dkwX1_repair_0 : List UInt8 := [42, 18, 249, 16, 32, 27, 3, 182, 0, 112, 172]
abbrev dktX1_repair_0 : List UInt8 := dkwX1_repair_0 ++ []
theorem dksX1_repair_0 : cX1_repair.data.toList.drop 0 = dktX1_repair_0 := by decide +kernel
theorem dX1_repair_0 : decode cX1_repair 0 = .ok (.aload_n 0, 1) := dk_42 (dk_at dksX1_repair_0 0 rfl rfl)
theorem dX1_repair_1 : decode cX1_repair 1 = .ok (.ldc 249, 2) := dk_18 249 (dk_at dksX1_repair_0 1 rfl rfl)
theorem dX1_repair_3 : decode cX1_repair 3 = .ok (.bipush 32, 2) := dk_16 32 (dk_at dksX1_repair_0 3 rfl rfl)
theorem dX1_repair_5 : decode cX1_repair 5 = .ok (.iload_n 1, 1) := dk_27 (dk_at dksX1_repair_0 5 rfl rfl)
theorem dX1_repair_6 : decode cX1_repair 6 = .ok (.iconst 0, 1) := dk_3 (dk_at dksX1_repair_0 6 rfl rfl)
theorem dX1_repair_7 : decode cX1_repair 7 = .ok (.invokevirtual 112, 3) := dk_182 0 112 (dk_at dksX1_repair_0 7 rfl rfl)
theorem dX1_repair_10 : decode cX1_repair 10 = .ok (.ireturn, 1) := dk_172 (dk_at dksX1_repair_0 10 rfl rfl)
abbrev cX1_rowsBehind : ByteArray := prog_1_method_40_code
def yX1_rowsBehind : MethodName := ⟨RX1, "rowsBehind", "(IIC)I"⟩
def dkwX1_rowsBehind_1 : List UInt8 := [180, 0, 123, 28, 29, 184, 0, 207, 182, 0, 251, 184, 0, 255, 172]
abbrev dktX1_rowsBehind_1 : List UInt8 := dkwX1_rowsBehind_1 ++ []
def dkwX1_rowsBehind_0 : List UInt8 := [42, 180, 0, 41, 27, 182, 0, 186, 58, 4, 42, 180, 0, 41, 28, 182, 0, 203, 25, 4, 42, 180, 0, 41]
abbrev dktX1_rowsBehind_0 : List UInt8 := dkwX1_rowsBehind_0 ++ dktX1_rowsBehind_1
theorem dksX1_rowsBehind_0 : cX1_rowsBehind.data.toList.drop 0 = dktX1_rowsBehind_0 := by decide +kernel
theorem dksX1_rowsBehind_1 : cX1_rowsBehind.data.toList.drop 24 = dktX1_rowsBehind_1 := dk_seg dksX1_rowsBehind_0 24 rfl rfl
theorem dX1_rowsBehind_0 : decode cX1_rowsBehind 0 = .ok (.aload_n 0, 1) := dk_42 (dk_at dksX1_rowsBehind_0 0 rfl rfl)
theorem dX1_rowsBehind_1 : decode cX1_rowsBehind 1 = .ok (.getfield 41, 3) := dk_180 0 41 (dk_at dksX1_rowsBehind_0 1 rfl rfl)
theorem dX1_rowsBehind_4 : decode cX1_rowsBehind 4 = .ok (.iload_n 1, 1) := dk_27 (dk_at dksX1_rowsBehind_0 4 rfl rfl)
theorem dX1_rowsBehind_5 : decode cX1_rowsBehind 5 = .ok (.invokevirtual 186, 3) := dk_182 0 186 (dk_at dksX1_rowsBehind_0 5 rfl rfl)
theorem dX1_rowsBehind_8 : decode cX1_rowsBehind 8 = .ok (.astore 4, 2) := dk_58 4 (dk_at dksX1_rowsBehind_0 8 rfl rfl)
theorem dX1_rowsBehind_10 : decode cX1_rowsBehind 10 = .ok (.aload_n 0, 1) := dk_42 (dk_at dksX1_rowsBehind_0 10 rfl rfl)
theorem dX1_rowsBehind_11 : decode cX1_rowsBehind 11 = .ok (.getfield 41, 3) := dk_180 0 41 (dk_at dksX1_rowsBehind_0 11 rfl rfl)
theorem dX1_rowsBehind_14 : decode cX1_rowsBehind 14 = .ok (.iload_n 2, 1) := dk_28 (dk_at dksX1_rowsBehind_0 14 rfl rfl)
theorem dX1_rowsBehind_15 : decode cX1_rowsBehind 15 = .ok (.invokevirtual 203, 3) := dk_182 0 203 (dk_at dksX1_rowsBehind_0 15 rfl rfl)
theorem dX1_rowsBehind_18 : decode cX1_rowsBehind 18 = .ok (.aload 4, 2) := dk_25 4 (dk_at dksX1_rowsBehind_0 18 rfl rfl)
theorem dX1_rowsBehind_20 : decode cX1_rowsBehind 20 = .ok (.aload_n 0, 1) := dk_42 (dk_at dksX1_rowsBehind_0 20 rfl rfl)
theorem dX1_rowsBehind_21 : decode cX1_rowsBehind 21 = .ok (.getfield 41, 3) := dk_180 0 41 (dk_at dksX1_rowsBehind_0 21 rfl rfl)
theorem dX1_rowsBehind_24 : decode cX1_rowsBehind 24 = .ok (.getfield 123, 3) := dk_180 0 123 (dk_at dksX1_rowsBehind_1 0 rfl rfl)
theorem dX1_rowsBehind_27 : decode cX1_rowsBehind 27 = .ok (.iload_n 2, 1) := dk_28 (dk_at dksX1_rowsBehind_1 3 rfl rfl)
theorem dX1_rowsBehind_28 : decode cX1_rowsBehind 28 = .ok (.iload_n 3, 1) := dk_29 (dk_at dksX1_rowsBehind_1 4 rfl rfl)
theorem dX1_rowsBehind_29 : decode cX1_rowsBehind 29 = .ok (.invokestatic 207, 3) := dk_184 0 207 (dk_at dksX1_rowsBehind_1 5 rfl rfl)
theorem dX1_rowsBehind_32 : decode cX1_rowsBehind 32 = .ok (.invokevirtual 251, 3) := dk_182 0 251 (dk_at dksX1_rowsBehind_1 8 rfl rfl)
theorem dX1_rowsBehind_35 : decode cX1_rowsBehind 35 = .ok (.invokestatic 255, 3) := dk_184 0 255 (dk_at dksX1_rowsBehind_1 11 rfl rfl)
theorem dX1_rowsBehind_38 : decode cX1_rowsBehind 38 = .ok (.ireturn, 1) := dk_172 (dk_at dksX1_rowsBehind_1 14 rfl rfl)
abbrev cX1_rowsBehindByMarking : ByteArray := prog_1_method_41_code
def yX1_rowsBehindByMarking : MethodName := ⟨RX1, "rowsBehindByMarking", "(IIC)I"⟩
def dkwX1_rowsBehindByMarking_5 : List UInt8 := [54, 6, 167, 255, 180, 21, 6, 172]
abbrev dktX1_rowsBehindByMarking_5 : List UInt8 := dkwX1_rowsBehindByMarking_5 ++ []
def dkwX1_rowsBehindByMarking_4 : List UInt8 := [153, 0, 7, 4, 167, 0, 4, 3, 54, 9, 21, 6, 21, 9, 153, 0, 7, 4, 167, 0, 4, 3, 96]
abbrev dktX1_rowsBehindByMarking_4 : List UInt8 := dkwX1_rowsBehindByMarking_4 ++ dktX1_rowsBehindByMarking_5
def dkwX1_rowsBehindByMarking_3 : List UInt8 := [160, 0, 29, 187, 1, 5, 89, 42, 180, 0, 41, 25, 8, 183, 1, 7, 25, 4, 28, 182, 1, 10]
abbrev dktX1_rowsBehindByMarking_3 : List UInt8 := dkwX1_rowsBehindByMarking_3 ++ dktX1_rowsBehindByMarking_4
def dkwX1_rowsBehindByMarking_2 : List UInt8 := [153, 0, 72, 25, 7, 185, 0, 164, 1, 0, 192, 0, 137, 58, 8, 25, 8, 180, 0, 148, 21, 5]
abbrev dktX1_rowsBehindByMarking_2 : List UInt8 := dkwX1_rowsBehindByMarking_2 ++ dktX1_rowsBehindByMarking_3
def dkwX1_rowsBehindByMarking_1 : List UInt8 := [3, 54, 6, 42, 180, 0, 41, 180, 0, 123, 185, 0, 154, 1, 0, 58, 7, 25, 7, 185, 0, 158, 1, 0]
abbrev dktX1_rowsBehindByMarking_1 : List UInt8 := dkwX1_rowsBehindByMarking_1 ++ dktX1_rowsBehindByMarking_2
def dkwX1_rowsBehindByMarking_0 : List UInt8 := [42, 180, 0, 41, 27, 182, 0, 186, 58, 4, 42, 180, 0, 41, 28, 182, 0, 203, 29, 184, 0, 207, 54, 5]
abbrev dktX1_rowsBehindByMarking_0 : List UInt8 := dkwX1_rowsBehindByMarking_0 ++ dktX1_rowsBehindByMarking_1
theorem dksX1_rowsBehindByMarking_0 : cX1_rowsBehindByMarking.data.toList.drop 0 = dktX1_rowsBehindByMarking_0 := by decide +kernel
theorem dksX1_rowsBehindByMarking_1 : cX1_rowsBehindByMarking.data.toList.drop 24 = dktX1_rowsBehindByMarking_1 := dk_seg dksX1_rowsBehindByMarking_0 24 rfl rfl
theorem dksX1_rowsBehindByMarking_2 : cX1_rowsBehindByMarking.data.toList.drop 48 = dktX1_rowsBehindByMarking_2 := dk_seg dksX1_rowsBehindByMarking_1 24 rfl rfl
theorem dksX1_rowsBehindByMarking_3 : cX1_rowsBehindByMarking.data.toList.drop 70 = dktX1_rowsBehindByMarking_3 := dk_seg dksX1_rowsBehindByMarking_2 22 rfl rfl
theorem dksX1_rowsBehindByMarking_4 : cX1_rowsBehindByMarking.data.toList.drop 92 = dktX1_rowsBehindByMarking_4 := dk_seg dksX1_rowsBehindByMarking_3 22 rfl rfl
theorem dksX1_rowsBehindByMarking_5 : cX1_rowsBehindByMarking.data.toList.drop 115 = dktX1_rowsBehindByMarking_5 := dk_seg dksX1_rowsBehindByMarking_4 23 rfl rfl
theorem dX1_rowsBehindByMarking_0 : decode cX1_rowsBehindByMarking 0 = .ok (.aload_n 0, 1) := dk_42 (dk_at dksX1_rowsBehindByMarking_0 0 rfl rfl)
theorem dX1_rowsBehindByMarking_1 : decode cX1_rowsBehindByMarking 1 = .ok (.getfield 41, 3) := dk_180 0 41 (dk_at dksX1_rowsBehindByMarking_0 1 rfl rfl)
theorem dX1_rowsBehindByMarking_4 : decode cX1_rowsBehindByMarking 4 = .ok (.iload_n 1, 1) := dk_27 (dk_at dksX1_rowsBehindByMarking_0 4 rfl rfl)
theorem dX1_rowsBehindByMarking_5 : decode cX1_rowsBehindByMarking 5 = .ok (.invokevirtual 186, 3) := dk_182 0 186 (dk_at dksX1_rowsBehindByMarking_0 5 rfl rfl)
theorem dX1_rowsBehindByMarking_8 : decode cX1_rowsBehindByMarking 8 = .ok (.astore 4, 2) := dk_58 4 (dk_at dksX1_rowsBehindByMarking_0 8 rfl rfl)
theorem dX1_rowsBehindByMarking_10 : decode cX1_rowsBehindByMarking 10 = .ok (.aload_n 0, 1) := dk_42 (dk_at dksX1_rowsBehindByMarking_0 10 rfl rfl)
theorem dX1_rowsBehindByMarking_11 : decode cX1_rowsBehindByMarking 11 = .ok (.getfield 41, 3) := dk_180 0 41 (dk_at dksX1_rowsBehindByMarking_0 11 rfl rfl)
theorem dX1_rowsBehindByMarking_14 : decode cX1_rowsBehindByMarking 14 = .ok (.iload_n 2, 1) := dk_28 (dk_at dksX1_rowsBehindByMarking_0 14 rfl rfl)
theorem dX1_rowsBehindByMarking_15 : decode cX1_rowsBehindByMarking 15 = .ok (.invokevirtual 203, 3) := dk_182 0 203 (dk_at dksX1_rowsBehindByMarking_0 15 rfl rfl)
theorem dX1_rowsBehindByMarking_18 : decode cX1_rowsBehindByMarking 18 = .ok (.iload_n 3, 1) := dk_29 (dk_at dksX1_rowsBehindByMarking_0 18 rfl rfl)
theorem dX1_rowsBehindByMarking_19 : decode cX1_rowsBehindByMarking 19 = .ok (.invokestatic 207, 3) := dk_184 0 207 (dk_at dksX1_rowsBehindByMarking_0 19 rfl rfl)
theorem dX1_rowsBehindByMarking_22 : decode cX1_rowsBehindByMarking 22 = .ok (.istore 5, 2) := dk_54 5 (dk_at dksX1_rowsBehindByMarking_0 22 rfl rfl)
theorem dX1_rowsBehindByMarking_24 : decode cX1_rowsBehindByMarking 24 = .ok (.iconst 0, 1) := dk_3 (dk_at dksX1_rowsBehindByMarking_1 0 rfl rfl)
theorem dX1_rowsBehindByMarking_25 : decode cX1_rowsBehindByMarking 25 = .ok (.istore 6, 2) := dk_54 6 (dk_at dksX1_rowsBehindByMarking_1 1 rfl rfl)
theorem dX1_rowsBehindByMarking_27 : decode cX1_rowsBehindByMarking 27 = .ok (.aload_n 0, 1) := dk_42 (dk_at dksX1_rowsBehindByMarking_1 3 rfl rfl)
theorem dX1_rowsBehindByMarking_28 : decode cX1_rowsBehindByMarking 28 = .ok (.getfield 41, 3) := dk_180 0 41 (dk_at dksX1_rowsBehindByMarking_1 4 rfl rfl)
theorem dX1_rowsBehindByMarking_31 : decode cX1_rowsBehindByMarking 31 = .ok (.getfield 123, 3) := dk_180 0 123 (dk_at dksX1_rowsBehindByMarking_1 7 rfl rfl)
theorem dX1_rowsBehindByMarking_34 : decode cX1_rowsBehindByMarking 34 = .ok (.invokeinterface 154 1, 5) := by decide +kernel
theorem dX1_rowsBehindByMarking_39 : decode cX1_rowsBehindByMarking 39 = .ok (.astore 7, 2) := dk_58 7 (dk_at dksX1_rowsBehindByMarking_1 15 rfl rfl)
theorem dX1_rowsBehindByMarking_41 : decode cX1_rowsBehindByMarking 41 = .ok (.aload 7, 2) := dk_25 7 (dk_at dksX1_rowsBehindByMarking_1 17 rfl rfl)
theorem dX1_rowsBehindByMarking_43 : decode cX1_rowsBehindByMarking 43 = .ok (.invokeinterface 158 1, 5) := by decide +kernel
theorem dX1_rowsBehindByMarking_48 : decode cX1_rowsBehindByMarking 48 = .ok (.ifCond .eq 72, 3) := dk_153 0 72 (dk_at dksX1_rowsBehindByMarking_2 0 rfl rfl)
theorem dX1_rowsBehindByMarking_51 : decode cX1_rowsBehindByMarking 51 = .ok (.aload 7, 2) := dk_25 7 (dk_at dksX1_rowsBehindByMarking_2 3 rfl rfl)
theorem dX1_rowsBehindByMarking_53 : decode cX1_rowsBehindByMarking 53 = .ok (.invokeinterface 164 1, 5) := by decide +kernel
theorem dX1_rowsBehindByMarking_58 : decode cX1_rowsBehindByMarking 58 = .ok (.checkcast 137, 3) := dk_192 0 137 (dk_at dksX1_rowsBehindByMarking_2 10 rfl rfl)
theorem dX1_rowsBehindByMarking_61 : decode cX1_rowsBehindByMarking 61 = .ok (.astore 8, 2) := dk_58 8 (dk_at dksX1_rowsBehindByMarking_2 13 rfl rfl)
theorem dX1_rowsBehindByMarking_63 : decode cX1_rowsBehindByMarking 63 = .ok (.aload 8, 2) := dk_25 8 (dk_at dksX1_rowsBehindByMarking_2 15 rfl rfl)
theorem dX1_rowsBehindByMarking_65 : decode cX1_rowsBehindByMarking 65 = .ok (.getfield 148, 3) := dk_180 0 148 (dk_at dksX1_rowsBehindByMarking_2 17 rfl rfl)
theorem dX1_rowsBehindByMarking_68 : decode cX1_rowsBehindByMarking 68 = .ok (.iload 5, 2) := dk_21 5 (dk_at dksX1_rowsBehindByMarking_2 20 rfl rfl)
theorem dX1_rowsBehindByMarking_70 : decode cX1_rowsBehindByMarking 70 = .ok (.if_icmp .ne 29, 3) := dk_160 0 29 (dk_at dksX1_rowsBehindByMarking_3 0 rfl rfl)
theorem dX1_rowsBehindByMarking_73 : decode cX1_rowsBehindByMarking 73 = .ok (.new 261, 3) := dk_187 1 5 (dk_at dksX1_rowsBehindByMarking_3 3 rfl rfl)
theorem dX1_rowsBehindByMarking_76 : decode cX1_rowsBehindByMarking 76 = .ok (.dup, 1) := dk_89 (dk_at dksX1_rowsBehindByMarking_3 6 rfl rfl)
theorem dX1_rowsBehindByMarking_77 : decode cX1_rowsBehindByMarking 77 = .ok (.aload_n 0, 1) := dk_42 (dk_at dksX1_rowsBehindByMarking_3 7 rfl rfl)
theorem dX1_rowsBehindByMarking_78 : decode cX1_rowsBehindByMarking 78 = .ok (.getfield 41, 3) := dk_180 0 41 (dk_at dksX1_rowsBehindByMarking_3 8 rfl rfl)
theorem dX1_rowsBehindByMarking_81 : decode cX1_rowsBehindByMarking 81 = .ok (.aload 8, 2) := dk_25 8 (dk_at dksX1_rowsBehindByMarking_3 11 rfl rfl)
theorem dX1_rowsBehindByMarking_83 : decode cX1_rowsBehindByMarking 83 = .ok (.invokespecial 263, 3) := dk_183 1 7 (dk_at dksX1_rowsBehindByMarking_3 13 rfl rfl)
theorem dX1_rowsBehindByMarking_86 : decode cX1_rowsBehindByMarking 86 = .ok (.aload 4, 2) := dk_25 4 (dk_at dksX1_rowsBehindByMarking_3 16 rfl rfl)
theorem dX1_rowsBehindByMarking_88 : decode cX1_rowsBehindByMarking 88 = .ok (.iload_n 2, 1) := dk_28 (dk_at dksX1_rowsBehindByMarking_3 18 rfl rfl)
theorem dX1_rowsBehindByMarking_89 : decode cX1_rowsBehindByMarking 89 = .ok (.invokevirtual 266, 3) := dk_182 1 10 (dk_at dksX1_rowsBehindByMarking_3 19 rfl rfl)
theorem dX1_rowsBehindByMarking_92 : decode cX1_rowsBehindByMarking 92 = .ok (.ifCond .eq 7, 3) := dk_153 0 7 (dk_at dksX1_rowsBehindByMarking_4 0 rfl rfl)
theorem dX1_rowsBehindByMarking_95 : decode cX1_rowsBehindByMarking 95 = .ok (.iconst 1, 1) := dk_4 (dk_at dksX1_rowsBehindByMarking_4 3 rfl rfl)
theorem dX1_rowsBehindByMarking_96 : decode cX1_rowsBehindByMarking 96 = .ok (.goto 4, 3) := dk_167 0 4 (dk_at dksX1_rowsBehindByMarking_4 4 rfl rfl)
theorem dX1_rowsBehindByMarking_99 : decode cX1_rowsBehindByMarking 99 = .ok (.iconst 0, 1) := dk_3 (dk_at dksX1_rowsBehindByMarking_4 7 rfl rfl)
theorem dX1_rowsBehindByMarking_100 : decode cX1_rowsBehindByMarking 100 = .ok (.istore 9, 2) := dk_54 9 (dk_at dksX1_rowsBehindByMarking_4 8 rfl rfl)
theorem dX1_rowsBehindByMarking_102 : decode cX1_rowsBehindByMarking 102 = .ok (.iload 6, 2) := dk_21 6 (dk_at dksX1_rowsBehindByMarking_4 10 rfl rfl)
theorem dX1_rowsBehindByMarking_104 : decode cX1_rowsBehindByMarking 104 = .ok (.iload 9, 2) := dk_21 9 (dk_at dksX1_rowsBehindByMarking_4 12 rfl rfl)
theorem dX1_rowsBehindByMarking_106 : decode cX1_rowsBehindByMarking 106 = .ok (.ifCond .eq 7, 3) := dk_153 0 7 (dk_at dksX1_rowsBehindByMarking_4 14 rfl rfl)
theorem dX1_rowsBehindByMarking_109 : decode cX1_rowsBehindByMarking 109 = .ok (.iconst 1, 1) := dk_4 (dk_at dksX1_rowsBehindByMarking_4 17 rfl rfl)
theorem dX1_rowsBehindByMarking_110 : decode cX1_rowsBehindByMarking 110 = .ok (.goto 4, 3) := dk_167 0 4 (dk_at dksX1_rowsBehindByMarking_4 18 rfl rfl)
theorem dX1_rowsBehindByMarking_113 : decode cX1_rowsBehindByMarking 113 = .ok (.iconst 0, 1) := dk_3 (dk_at dksX1_rowsBehindByMarking_4 21 rfl rfl)
theorem dX1_rowsBehindByMarking_114 : decode cX1_rowsBehindByMarking 114 = .ok (.iadd, 1) := dk_96 (dk_at dksX1_rowsBehindByMarking_4 22 rfl rfl)
theorem dX1_rowsBehindByMarking_115 : decode cX1_rowsBehindByMarking 115 = .ok (.istore 6, 2) := dk_54 6 (dk_at dksX1_rowsBehindByMarking_5 0 rfl rfl)
theorem dX1_rowsBehindByMarking_117 : decode cX1_rowsBehindByMarking 117 = .ok (.goto (-76), 3) := dk_167 255 180 (dk_at dksX1_rowsBehindByMarking_5 2 rfl rfl)
theorem dX1_rowsBehindByMarking_120 : decode cX1_rowsBehindByMarking 120 = .ok (.iload 6, 2) := dk_21 6 (dk_at dksX1_rowsBehindByMarking_5 5 rfl rfl)
theorem dX1_rowsBehindByMarking_122 : decode cX1_rowsBehindByMarking 122 = .ok (.ireturn, 1) := dk_172 (dk_at dksX1_rowsBehindByMarking_5 7 rfl rfl)
abbrev cX1_reach : ByteArray := prog_1_method_42_code
def yX1_reach : MethodName := ⟨RX1, "reach", "(I)I"⟩
def dkwX1_reach_0 : List UInt8 := [187, 1, 5, 89, 42, 180, 0, 41, 42, 180, 0, 41, 27, 182, 0, 142, 183, 1, 7, 182, 1, 13, 172]
abbrev dktX1_reach_0 : List UInt8 := dkwX1_reach_0 ++ []
theorem dksX1_reach_0 : cX1_reach.data.toList.drop 0 = dktX1_reach_0 := by decide +kernel
theorem dX1_reach_0 : decode cX1_reach 0 = .ok (.new 261, 3) := dk_187 1 5 (dk_at dksX1_reach_0 0 rfl rfl)
theorem dX1_reach_3 : decode cX1_reach 3 = .ok (.dup, 1) := dk_89 (dk_at dksX1_reach_0 3 rfl rfl)
theorem dX1_reach_4 : decode cX1_reach 4 = .ok (.aload_n 0, 1) := dk_42 (dk_at dksX1_reach_0 4 rfl rfl)
theorem dX1_reach_5 : decode cX1_reach 5 = .ok (.getfield 41, 3) := dk_180 0 41 (dk_at dksX1_reach_0 5 rfl rfl)
theorem dX1_reach_8 : decode cX1_reach 8 = .ok (.aload_n 0, 1) := dk_42 (dk_at dksX1_reach_0 8 rfl rfl)
theorem dX1_reach_9 : decode cX1_reach 9 = .ok (.getfield 41, 3) := dk_180 0 41 (dk_at dksX1_reach_0 9 rfl rfl)
theorem dX1_reach_12 : decode cX1_reach 12 = .ok (.iload_n 1, 1) := dk_27 (dk_at dksX1_reach_0 12 rfl rfl)
theorem dX1_reach_13 : decode cX1_reach 13 = .ok (.invokevirtual 142, 3) := dk_182 0 142 (dk_at dksX1_reach_0 13 rfl rfl)
theorem dX1_reach_16 : decode cX1_reach 16 = .ok (.invokespecial 263, 3) := dk_183 1 7 (dk_at dksX1_reach_0 16 rfl rfl)
theorem dX1_reach_19 : decode cX1_reach 19 = .ok (.invokevirtual 269, 3) := dk_182 1 13 (dk_at dksX1_reach_0 19 rfl rfl)
theorem dX1_reach_22 : decode cX1_reach 22 = .ok (.ireturn, 1) := dk_172 (dk_at dksX1_reach_0 22 rfl rfl)
abbrev cX1_cost : ByteArray := prog_1_method_44_code
def yX1_cost : MethodName := ⟨RX1, "cost", "(II)J"⟩
def dkwX1_cost_1 : List UInt8 := [42, 180, 0, 41, 183, 1, 21, 58, 4, 25, 4, 28, 182, 1, 22, 55, 5, 25, 4, 45, 182, 1, 26, 173]
abbrev dktX1_cost_1 : List UInt8 := dkwX1_cost_1 ++ []
def dkwX1_cost_0 : List UInt8 := [42, 180, 0, 41, 27, 182, 0, 186, 78, 28, 3, 42, 182, 1, 16, 4, 100, 184, 0, 26, 187, 1, 19, 89]
abbrev dktX1_cost_0 : List UInt8 := dkwX1_cost_0 ++ dktX1_cost_1
theorem dksX1_cost_0 : cX1_cost.data.toList.drop 0 = dktX1_cost_0 := by decide +kernel
theorem dksX1_cost_1 : cX1_cost.data.toList.drop 24 = dktX1_cost_1 := dk_seg dksX1_cost_0 24 rfl rfl
theorem dX1_cost_0 : decode cX1_cost 0 = .ok (.aload_n 0, 1) := dk_42 (dk_at dksX1_cost_0 0 rfl rfl)
theorem dX1_cost_1 : decode cX1_cost 1 = .ok (.getfield 41, 3) := dk_180 0 41 (dk_at dksX1_cost_0 1 rfl rfl)
theorem dX1_cost_4 : decode cX1_cost 4 = .ok (.iload_n 1, 1) := dk_27 (dk_at dksX1_cost_0 4 rfl rfl)
theorem dX1_cost_5 : decode cX1_cost 5 = .ok (.invokevirtual 186, 3) := dk_182 0 186 (dk_at dksX1_cost_0 5 rfl rfl)
theorem dX1_cost_8 : decode cX1_cost 8 = .ok (.astore_n 3, 1) := dk_78 (dk_at dksX1_cost_0 8 rfl rfl)
theorem dX1_cost_9 : decode cX1_cost 9 = .ok (.iload_n 2, 1) := dk_28 (dk_at dksX1_cost_0 9 rfl rfl)
theorem dX1_cost_10 : decode cX1_cost 10 = .ok (.iconst 0, 1) := dk_3 (dk_at dksX1_cost_0 10 rfl rfl)
theorem dX1_cost_11 : decode cX1_cost 11 = .ok (.aload_n 0, 1) := dk_42 (dk_at dksX1_cost_0 11 rfl rfl)
theorem dX1_cost_12 : decode cX1_cost 12 = .ok (.invokevirtual 272, 3) := dk_182 1 16 (dk_at dksX1_cost_0 12 rfl rfl)
theorem dX1_cost_15 : decode cX1_cost 15 = .ok (.iconst 1, 1) := dk_4 (dk_at dksX1_cost_0 15 rfl rfl)
theorem dX1_cost_16 : decode cX1_cost 16 = .ok (.isub, 1) := dk_100 (dk_at dksX1_cost_0 16 rfl rfl)
theorem dX1_cost_17 : decode cX1_cost 17 = .ok (.invokestatic 26, 3) := dk_184 0 26 (dk_at dksX1_cost_0 17 rfl rfl)
theorem dX1_cost_20 : decode cX1_cost 20 = .ok (.new 275, 3) := dk_187 1 19 (dk_at dksX1_cost_0 20 rfl rfl)
theorem dX1_cost_23 : decode cX1_cost 23 = .ok (.dup, 1) := dk_89 (dk_at dksX1_cost_0 23 rfl rfl)
theorem dX1_cost_24 : decode cX1_cost 24 = .ok (.aload_n 0, 1) := dk_42 (dk_at dksX1_cost_1 0 rfl rfl)
theorem dX1_cost_25 : decode cX1_cost 25 = .ok (.getfield 41, 3) := dk_180 0 41 (dk_at dksX1_cost_1 1 rfl rfl)
theorem dX1_cost_28 : decode cX1_cost 28 = .ok (.invokespecial 277, 3) := dk_183 1 21 (dk_at dksX1_cost_1 4 rfl rfl)
theorem dX1_cost_31 : decode cX1_cost 31 = .ok (.astore 4, 2) := dk_58 4 (dk_at dksX1_cost_1 7 rfl rfl)
theorem dX1_cost_33 : decode cX1_cost 33 = .ok (.aload 4, 2) := dk_25 4 (dk_at dksX1_cost_1 9 rfl rfl)
theorem dX1_cost_35 : decode cX1_cost 35 = .ok (.iload_n 2, 1) := dk_28 (dk_at dksX1_cost_1 11 rfl rfl)
theorem dX1_cost_36 : decode cX1_cost 36 = .ok (.invokevirtual 278, 3) := dk_182 1 22 (dk_at dksX1_cost_1 12 rfl rfl)
theorem dX1_cost_39 : decode cX1_cost 39 = .ok (.lstore 5, 2) := dk_55 5 (dk_at dksX1_cost_1 15 rfl rfl)
theorem dX1_cost_41 : decode cX1_cost 41 = .ok (.aload 4, 2) := dk_25 4 (dk_at dksX1_cost_1 17 rfl rfl)
theorem dX1_cost_43 : decode cX1_cost 43 = .ok (.aload_n 3, 1) := dk_45 (dk_at dksX1_cost_1 19 rfl rfl)
theorem dX1_cost_44 : decode cX1_cost 44 = .ok (.invokevirtual 282, 3) := dk_182 1 26 (dk_at dksX1_cost_1 20 rfl rfl)
theorem dX1_cost_47 : decode cX1_cost 47 = .ok (.lreturn, 1) := dk_173 (dk_at dksX1_cost_1 23 rfl rfl)
abbrev cX1_plans : ByteArray := prog_1_method_43_code
def yX1_plans : MethodName := ⟨RX1, "plans", "()I"⟩
def dkwX1_plans_0 : List UInt8 := [4, 42, 182, 0, 234, 120, 172]
abbrev dktX1_plans_0 : List UInt8 := dkwX1_plans_0 ++ []
theorem dksX1_plans_0 : cX1_plans.data.toList.drop 0 = dktX1_plans_0 := by decide +kernel
theorem dX1_plans_0 : decode cX1_plans 0 = .ok (.iconst 1, 1) := dk_4 (dk_at dksX1_plans_0 0 rfl rfl)
theorem dX1_plans_1 : decode cX1_plans 1 = .ok (.aload_n 0, 1) := dk_42 (dk_at dksX1_plans_0 1 rfl rfl)
theorem dX1_plans_2 : decode cX1_plans 2 = .ok (.invokevirtual 234, 3) := dk_182 0 234 (dk_at dksX1_plans_0 2 rfl rfl)
theorem dX1_plans_5 : decode cX1_plans 5 = .ok (.ishl, 1) := dk_120 (dk_at dksX1_plans_0 5 rfl rfl)
theorem dX1_plans_6 : decode cX1_plans 6 = .ok (.ireturn, 1) := dk_172 (dk_at dksX1_plans_0 6 rfl rfl)
abbrev cX1_bestPlan : ByteArray := prog_1_method_46_code
def yX1_bestPlan : MethodName := ⟨RX1, "bestPlan", "(I)I"⟩
def dkwX1_bestPlan_3 : List UInt8 := [167, 0, 4, 29, 62, 22, 4, 22, 7, 184, 1, 37, 55, 4, 132, 6, 1, 167, 255, 198, 29, 172]
abbrev dktX1_bestPlan_3 : List UInt8 := dkwX1_bestPlan_3 ++ []
def dkwX1_bestPlan_2 : List UInt8 := [21, 6, 182, 1, 22, 167, 0, 5, 22, 4, 55, 7, 22, 7, 22, 4, 148, 156, 0, 8, 21, 6]
abbrev dktX1_bestPlan_2 : List UInt8 := dkwX1_bestPlan_2 ++ dktX1_bestPlan_3
def dkwX1_bestPlan_1 : List UInt8 := [55, 4, 4, 54, 6, 21, 6, 42, 182, 1, 16, 162, 0, 55, 21, 6, 184, 1, 33, 27, 163, 0, 12, 44]
abbrev dktX1_bestPlan_1 : List UInt8 := dkwX1_bestPlan_1 ++ dktX1_bestPlan_2
def dkwX1_bestPlan_0 : List UInt8 := [27, 184, 1, 30, 187, 1, 19, 89, 42, 180, 0, 41, 183, 1, 21, 77, 3, 62, 44, 3, 182, 1, 22]
abbrev dktX1_bestPlan_0 : List UInt8 := dkwX1_bestPlan_0 ++ dktX1_bestPlan_1
theorem dksX1_bestPlan_0 : cX1_bestPlan.data.toList.drop 0 = dktX1_bestPlan_0 := by decide +kernel
theorem dksX1_bestPlan_1 : cX1_bestPlan.data.toList.drop 23 = dktX1_bestPlan_1 := dk_seg dksX1_bestPlan_0 23 rfl rfl
theorem dksX1_bestPlan_2 : cX1_bestPlan.data.toList.drop 47 = dktX1_bestPlan_2 := dk_seg dksX1_bestPlan_1 24 rfl rfl
theorem dksX1_bestPlan_3 : cX1_bestPlan.data.toList.drop 69 = dktX1_bestPlan_3 := dk_seg dksX1_bestPlan_2 22 rfl rfl
theorem dX1_bestPlan_0 : decode cX1_bestPlan 0 = .ok (.iload_n 1, 1) := dk_27 (dk_at dksX1_bestPlan_0 0 rfl rfl)
theorem dX1_bestPlan_1 : decode cX1_bestPlan 1 = .ok (.invokestatic 286, 3) := dk_184 1 30 (dk_at dksX1_bestPlan_0 1 rfl rfl)
theorem dX1_bestPlan_4 : decode cX1_bestPlan 4 = .ok (.new 275, 3) := dk_187 1 19 (dk_at dksX1_bestPlan_0 4 rfl rfl)
theorem dX1_bestPlan_7 : decode cX1_bestPlan 7 = .ok (.dup, 1) := dk_89 (dk_at dksX1_bestPlan_0 7 rfl rfl)
theorem dX1_bestPlan_8 : decode cX1_bestPlan 8 = .ok (.aload_n 0, 1) := dk_42 (dk_at dksX1_bestPlan_0 8 rfl rfl)
theorem dX1_bestPlan_9 : decode cX1_bestPlan 9 = .ok (.getfield 41, 3) := dk_180 0 41 (dk_at dksX1_bestPlan_0 9 rfl rfl)
theorem dX1_bestPlan_12 : decode cX1_bestPlan 12 = .ok (.invokespecial 277, 3) := dk_183 1 21 (dk_at dksX1_bestPlan_0 12 rfl rfl)
theorem dX1_bestPlan_15 : decode cX1_bestPlan 15 = .ok (.astore_n 2, 1) := dk_77 (dk_at dksX1_bestPlan_0 15 rfl rfl)
theorem dX1_bestPlan_16 : decode cX1_bestPlan 16 = .ok (.iconst 0, 1) := dk_3 (dk_at dksX1_bestPlan_0 16 rfl rfl)
theorem dX1_bestPlan_17 : decode cX1_bestPlan 17 = .ok (.istore_n 3, 1) := dk_62 (dk_at dksX1_bestPlan_0 17 rfl rfl)
theorem dX1_bestPlan_18 : decode cX1_bestPlan 18 = .ok (.aload_n 2, 1) := dk_44 (dk_at dksX1_bestPlan_0 18 rfl rfl)
theorem dX1_bestPlan_19 : decode cX1_bestPlan 19 = .ok (.iconst 0, 1) := dk_3 (dk_at dksX1_bestPlan_0 19 rfl rfl)
theorem dX1_bestPlan_20 : decode cX1_bestPlan 20 = .ok (.invokevirtual 278, 3) := dk_182 1 22 (dk_at dksX1_bestPlan_0 20 rfl rfl)
theorem dX1_bestPlan_23 : decode cX1_bestPlan 23 = .ok (.lstore 4, 2) := dk_55 4 (dk_at dksX1_bestPlan_1 0 rfl rfl)
theorem dX1_bestPlan_25 : decode cX1_bestPlan 25 = .ok (.iconst 1, 1) := dk_4 (dk_at dksX1_bestPlan_1 2 rfl rfl)
theorem dX1_bestPlan_26 : decode cX1_bestPlan 26 = .ok (.istore 6, 2) := dk_54 6 (dk_at dksX1_bestPlan_1 3 rfl rfl)
theorem dX1_bestPlan_28 : decode cX1_bestPlan 28 = .ok (.iload 6, 2) := dk_21 6 (dk_at dksX1_bestPlan_1 5 rfl rfl)
theorem dX1_bestPlan_30 : decode cX1_bestPlan 30 = .ok (.aload_n 0, 1) := dk_42 (dk_at dksX1_bestPlan_1 7 rfl rfl)
theorem dX1_bestPlan_31 : decode cX1_bestPlan 31 = .ok (.invokevirtual 272, 3) := dk_182 1 16 (dk_at dksX1_bestPlan_1 8 rfl rfl)
theorem dX1_bestPlan_34 : decode cX1_bestPlan 34 = .ok (.if_icmp .ge 55, 3) := dk_162 0 55 (dk_at dksX1_bestPlan_1 11 rfl rfl)
theorem dX1_bestPlan_37 : decode cX1_bestPlan 37 = .ok (.iload 6, 2) := dk_21 6 (dk_at dksX1_bestPlan_1 14 rfl rfl)
theorem dX1_bestPlan_39 : decode cX1_bestPlan 39 = .ok (.invokestatic 289, 3) := dk_184 1 33 (dk_at dksX1_bestPlan_1 16 rfl rfl)
theorem dX1_bestPlan_42 : decode cX1_bestPlan 42 = .ok (.iload_n 1, 1) := dk_27 (dk_at dksX1_bestPlan_1 19 rfl rfl)
theorem dX1_bestPlan_43 : decode cX1_bestPlan 43 = .ok (.if_icmp .gt 12, 3) := dk_163 0 12 (dk_at dksX1_bestPlan_1 20 rfl rfl)
theorem dX1_bestPlan_46 : decode cX1_bestPlan 46 = .ok (.aload_n 2, 1) := dk_44 (dk_at dksX1_bestPlan_1 23 rfl rfl)
theorem dX1_bestPlan_47 : decode cX1_bestPlan 47 = .ok (.iload 6, 2) := dk_21 6 (dk_at dksX1_bestPlan_2 0 rfl rfl)
theorem dX1_bestPlan_49 : decode cX1_bestPlan 49 = .ok (.invokevirtual 278, 3) := dk_182 1 22 (dk_at dksX1_bestPlan_2 2 rfl rfl)
theorem dX1_bestPlan_52 : decode cX1_bestPlan 52 = .ok (.goto 5, 3) := dk_167 0 5 (dk_at dksX1_bestPlan_2 5 rfl rfl)
theorem dX1_bestPlan_55 : decode cX1_bestPlan 55 = .ok (.lload 4, 2) := dk_22 4 (dk_at dksX1_bestPlan_2 8 rfl rfl)
theorem dX1_bestPlan_57 : decode cX1_bestPlan 57 = .ok (.lstore 7, 2) := dk_55 7 (dk_at dksX1_bestPlan_2 10 rfl rfl)
theorem dX1_bestPlan_59 : decode cX1_bestPlan 59 = .ok (.lload 7, 2) := dk_22 7 (dk_at dksX1_bestPlan_2 12 rfl rfl)
theorem dX1_bestPlan_61 : decode cX1_bestPlan 61 = .ok (.lload 4, 2) := dk_22 4 (dk_at dksX1_bestPlan_2 14 rfl rfl)
theorem dX1_bestPlan_63 : decode cX1_bestPlan 63 = .ok (.lcmp, 1) := dk_148 (dk_at dksX1_bestPlan_2 16 rfl rfl)
theorem dX1_bestPlan_64 : decode cX1_bestPlan 64 = .ok (.ifCond .ge 8, 3) := dk_156 0 8 (dk_at dksX1_bestPlan_2 17 rfl rfl)
theorem dX1_bestPlan_67 : decode cX1_bestPlan 67 = .ok (.iload 6, 2) := dk_21 6 (dk_at dksX1_bestPlan_2 20 rfl rfl)
theorem dX1_bestPlan_69 : decode cX1_bestPlan 69 = .ok (.goto 4, 3) := dk_167 0 4 (dk_at dksX1_bestPlan_3 0 rfl rfl)
theorem dX1_bestPlan_72 : decode cX1_bestPlan 72 = .ok (.iload_n 3, 1) := dk_29 (dk_at dksX1_bestPlan_3 3 rfl rfl)
theorem dX1_bestPlan_73 : decode cX1_bestPlan 73 = .ok (.istore_n 3, 1) := dk_62 (dk_at dksX1_bestPlan_3 4 rfl rfl)
theorem dX1_bestPlan_74 : decode cX1_bestPlan 74 = .ok (.lload 4, 2) := dk_22 4 (dk_at dksX1_bestPlan_3 5 rfl rfl)
theorem dX1_bestPlan_76 : decode cX1_bestPlan 76 = .ok (.lload 7, 2) := dk_22 7 (dk_at dksX1_bestPlan_3 7 rfl rfl)
theorem dX1_bestPlan_78 : decode cX1_bestPlan 78 = .ok (.invokestatic 293, 3) := dk_184 1 37 (dk_at dksX1_bestPlan_3 9 rfl rfl)
theorem dX1_bestPlan_81 : decode cX1_bestPlan 81 = .ok (.lstore 4, 2) := dk_55 4 (dk_at dksX1_bestPlan_3 12 rfl rfl)
theorem dX1_bestPlan_83 : decode cX1_bestPlan 83 = .ok (.iinc 6 1, 3) := dk_132 6 1 (dk_at dksX1_bestPlan_3 14 rfl rfl)
theorem dX1_bestPlan_86 : decode cX1_bestPlan 86 = .ok (.goto (-58), 3) := dk_167 255 198 (dk_at dksX1_bestPlan_3 17 rfl rfl)
theorem dX1_bestPlan_89 : decode cX1_bestPlan 89 = .ok (.iload_n 3, 1) := dk_29 (dk_at dksX1_bestPlan_3 20 rfl rfl)
theorem dX1_bestPlan_90 : decode cX1_bestPlan 90 = .ok (.ireturn, 1) := dk_172 (dk_at dksX1_bestPlan_3 21 rfl rfl)
abbrev cX1_requireSize : ByteArray := prog_1_method_45_code
def yX1_requireSize : MethodName := ⟨RX1, "requireSize", "(I)V"⟩
def dkwX1_requireSize_0 : List UInt8 := [26, 3, 16, 8, 184, 0, 26, 177]
abbrev dktX1_requireSize_0 : List UInt8 := dkwX1_requireSize_0 ++ []
theorem dksX1_requireSize_0 : cX1_requireSize.data.toList.drop 0 = dktX1_requireSize_0 := by decide +kernel
theorem dX1_requireSize_0 : decode cX1_requireSize 0 = .ok (.iload_n 0, 1) := dk_26 (dk_at dksX1_requireSize_0 0 rfl rfl)
theorem dX1_requireSize_1 : decode cX1_requireSize 1 = .ok (.iconst 0, 1) := dk_3 (dk_at dksX1_requireSize_0 1 rfl rfl)
theorem dX1_requireSize_2 : decode cX1_requireSize 2 = .ok (.bipush 8, 2) := dk_16 8 (dk_at dksX1_requireSize_0 2 rfl rfl)
theorem dX1_requireSize_4 : decode cX1_requireSize 4 = .ok (.invokestatic 26, 3) := dk_184 0 26 (dk_at dksX1_requireSize_0 4 rfl rfl)
theorem dX1_requireSize_7 : decode cX1_requireSize 7 = .ok (.return_, 1) := dk_177 (dk_at dksX1_requireSize_0 7 rfl rfl)
abbrev cX1_bestPlanByDeciding : ByteArray := prog_1_method_47_code
def yX1_bestPlanByDeciding : MethodName := ⟨RX1, "bestPlanByDeciding", "(I)I"⟩
def dkwX1_bestPlanByDeciding_1 : List UInt8 := [44, 180, 1, 50, 172]
abbrev dktX1_bestPlanByDeciding_1 : List UInt8 := dkwX1_bestPlanByDeciding_1 ++ []
def dkwX1_bestPlanByDeciding_0 : List UInt8 := [27, 184, 1, 30, 187, 1, 43, 89, 42, 180, 0, 41, 183, 1, 45, 77, 44, 3, 3, 9, 27, 182, 1, 46]
abbrev dktX1_bestPlanByDeciding_0 : List UInt8 := dkwX1_bestPlanByDeciding_0 ++ dktX1_bestPlanByDeciding_1
theorem dksX1_bestPlanByDeciding_0 : cX1_bestPlanByDeciding.data.toList.drop 0 = dktX1_bestPlanByDeciding_0 := by decide +kernel
theorem dksX1_bestPlanByDeciding_1 : cX1_bestPlanByDeciding.data.toList.drop 24 = dktX1_bestPlanByDeciding_1 := dk_seg dksX1_bestPlanByDeciding_0 24 rfl rfl
theorem dX1_bestPlanByDeciding_0 : decode cX1_bestPlanByDeciding 0 = .ok (.iload_n 1, 1) := dk_27 (dk_at dksX1_bestPlanByDeciding_0 0 rfl rfl)
theorem dX1_bestPlanByDeciding_1 : decode cX1_bestPlanByDeciding 1 = .ok (.invokestatic 286, 3) := dk_184 1 30 (dk_at dksX1_bestPlanByDeciding_0 1 rfl rfl)
theorem dX1_bestPlanByDeciding_4 : decode cX1_bestPlanByDeciding 4 = .ok (.new 299, 3) := dk_187 1 43 (dk_at dksX1_bestPlanByDeciding_0 4 rfl rfl)
theorem dX1_bestPlanByDeciding_7 : decode cX1_bestPlanByDeciding 7 = .ok (.dup, 1) := dk_89 (dk_at dksX1_bestPlanByDeciding_0 7 rfl rfl)
theorem dX1_bestPlanByDeciding_8 : decode cX1_bestPlanByDeciding 8 = .ok (.aload_n 0, 1) := dk_42 (dk_at dksX1_bestPlanByDeciding_0 8 rfl rfl)
theorem dX1_bestPlanByDeciding_9 : decode cX1_bestPlanByDeciding 9 = .ok (.getfield 41, 3) := dk_180 0 41 (dk_at dksX1_bestPlanByDeciding_0 9 rfl rfl)
theorem dX1_bestPlanByDeciding_12 : decode cX1_bestPlanByDeciding 12 = .ok (.invokespecial 301, 3) := dk_183 1 45 (dk_at dksX1_bestPlanByDeciding_0 12 rfl rfl)
theorem dX1_bestPlanByDeciding_15 : decode cX1_bestPlanByDeciding 15 = .ok (.astore_n 2, 1) := dk_77 (dk_at dksX1_bestPlanByDeciding_0 15 rfl rfl)
theorem dX1_bestPlanByDeciding_16 : decode cX1_bestPlanByDeciding 16 = .ok (.aload_n 2, 1) := dk_44 (dk_at dksX1_bestPlanByDeciding_0 16 rfl rfl)
theorem dX1_bestPlanByDeciding_17 : decode cX1_bestPlanByDeciding 17 = .ok (.iconst 0, 1) := dk_3 (dk_at dksX1_bestPlanByDeciding_0 17 rfl rfl)
theorem dX1_bestPlanByDeciding_18 : decode cX1_bestPlanByDeciding 18 = .ok (.iconst 0, 1) := dk_3 (dk_at dksX1_bestPlanByDeciding_0 18 rfl rfl)
theorem dX1_bestPlanByDeciding_19 : decode cX1_bestPlanByDeciding 19 = .ok (.lconst 0, 1) := dk_9 (dk_at dksX1_bestPlanByDeciding_0 19 rfl rfl)
theorem dX1_bestPlanByDeciding_20 : decode cX1_bestPlanByDeciding 20 = .ok (.iload_n 1, 1) := dk_27 (dk_at dksX1_bestPlanByDeciding_0 20 rfl rfl)
theorem dX1_bestPlanByDeciding_21 : decode cX1_bestPlanByDeciding 21 = .ok (.invokevirtual 302, 3) := dk_182 1 46 (dk_at dksX1_bestPlanByDeciding_0 21 rfl rfl)
theorem dX1_bestPlanByDeciding_24 : decode cX1_bestPlanByDeciding 24 = .ok (.aload_n 2, 1) := dk_44 (dk_at dksX1_bestPlanByDeciding_1 0 rfl rfl)
theorem dX1_bestPlanByDeciding_25 : decode cX1_bestPlanByDeciding 25 = .ok (.getfield 306, 3) := dk_180 1 50 (dk_at dksX1_bestPlanByDeciding_1 1 rfl rfl)
theorem dX1_bestPlanByDeciding_28 : decode cX1_bestPlanByDeciding 28 = .ok (.ireturn, 1) := dk_172 (dk_at dksX1_bestPlanByDeciding_1 4 rfl rfl)
abbrev cX1_bestCost : ByteArray := prog_1_method_48_code
def yX1_bestCost : MethodName := ⟨RX1, "bestCost", "(I)J"⟩
def dkwX1_bestCost_0 : List UInt8 := [187, 1, 19, 89, 42, 180, 0, 41, 183, 1, 21, 42, 27, 182, 1, 53, 182, 1, 22, 173]
abbrev dktX1_bestCost_0 : List UInt8 := dkwX1_bestCost_0 ++ []
theorem dksX1_bestCost_0 : cX1_bestCost.data.toList.drop 0 = dktX1_bestCost_0 := by decide +kernel
theorem dX1_bestCost_0 : decode cX1_bestCost 0 = .ok (.new 275, 3) := dk_187 1 19 (dk_at dksX1_bestCost_0 0 rfl rfl)
theorem dX1_bestCost_3 : decode cX1_bestCost 3 = .ok (.dup, 1) := dk_89 (dk_at dksX1_bestCost_0 3 rfl rfl)
theorem dX1_bestCost_4 : decode cX1_bestCost 4 = .ok (.aload_n 0, 1) := dk_42 (dk_at dksX1_bestCost_0 4 rfl rfl)
theorem dX1_bestCost_5 : decode cX1_bestCost 5 = .ok (.getfield 41, 3) := dk_180 0 41 (dk_at dksX1_bestCost_0 5 rfl rfl)
theorem dX1_bestCost_8 : decode cX1_bestCost 8 = .ok (.invokespecial 277, 3) := dk_183 1 21 (dk_at dksX1_bestCost_0 8 rfl rfl)
theorem dX1_bestCost_11 : decode cX1_bestCost 11 = .ok (.aload_n 0, 1) := dk_42 (dk_at dksX1_bestCost_0 11 rfl rfl)
theorem dX1_bestCost_12 : decode cX1_bestCost 12 = .ok (.iload_n 1, 1) := dk_27 (dk_at dksX1_bestCost_0 12 rfl rfl)
theorem dX1_bestCost_13 : decode cX1_bestCost 13 = .ok (.invokevirtual 309, 3) := dk_182 1 53 (dk_at dksX1_bestCost_0 13 rfl rfl)
theorem dX1_bestCost_16 : decode cX1_bestCost 16 = .ok (.invokevirtual 278, 3) := dk_182 1 22 (dk_at dksX1_bestCost_0 16 rfl rfl)
theorem dX1_bestCost_19 : decode cX1_bestCost 19 = .ok (.lreturn, 1) := dk_173 (dk_at dksX1_bestCost_0 19 rfl rfl)
abbrev cX1_meanAmount : ByteArray := prog_1_method_54_code
def yX1_meanAmount : MethodName := ⟨RX1, "meanAmount", "()D"⟩
def dkwX1_meanAmount_2 : List UInt8 := [60, 167, 255, 230, 27, 135, 42, 182, 1, 71, 135, 111, 175]
abbrev dktX1_meanAmount_2 : List UInt8 := dkwX1_meanAmount_2 ++ []
def dkwX1_meanAmount_1 : List UInt8 := [185, 0, 158, 1, 0, 153, 0, 23, 44, 185, 0, 164, 1, 0, 192, 0, 137, 78, 27, 45, 180, 0, 166, 96]
abbrev dktX1_meanAmount_1 : List UInt8 := dkwX1_meanAmount_1 ++ dktX1_meanAmount_2
def dkwX1_meanAmount_0 : List UInt8 := [42, 182, 1, 71, 184, 1, 73, 3, 60, 42, 180, 0, 41, 180, 0, 123, 185, 0, 154, 1, 0, 77, 44]
abbrev dktX1_meanAmount_0 : List UInt8 := dkwX1_meanAmount_0 ++ dktX1_meanAmount_1
theorem dksX1_meanAmount_0 : cX1_meanAmount.data.toList.drop 0 = dktX1_meanAmount_0 := by decide +kernel
theorem dksX1_meanAmount_1 : cX1_meanAmount.data.toList.drop 23 = dktX1_meanAmount_1 := dk_seg dksX1_meanAmount_0 23 rfl rfl
theorem dksX1_meanAmount_2 : cX1_meanAmount.data.toList.drop 47 = dktX1_meanAmount_2 := dk_seg dksX1_meanAmount_1 24 rfl rfl
theorem dX1_meanAmount_0 : decode cX1_meanAmount 0 = .ok (.aload_n 0, 1) := dk_42 (dk_at dksX1_meanAmount_0 0 rfl rfl)
theorem dX1_meanAmount_1 : decode cX1_meanAmount 1 = .ok (.invokevirtual 327, 3) := dk_182 1 71 (dk_at dksX1_meanAmount_0 1 rfl rfl)
theorem dX1_meanAmount_4 : decode cX1_meanAmount 4 = .ok (.invokestatic 329, 3) := dk_184 1 73 (dk_at dksX1_meanAmount_0 4 rfl rfl)
theorem dX1_meanAmount_7 : decode cX1_meanAmount 7 = .ok (.iconst 0, 1) := dk_3 (dk_at dksX1_meanAmount_0 7 rfl rfl)
theorem dX1_meanAmount_8 : decode cX1_meanAmount 8 = .ok (.istore_n 1, 1) := dk_60 (dk_at dksX1_meanAmount_0 8 rfl rfl)
theorem dX1_meanAmount_9 : decode cX1_meanAmount 9 = .ok (.aload_n 0, 1) := dk_42 (dk_at dksX1_meanAmount_0 9 rfl rfl)
theorem dX1_meanAmount_10 : decode cX1_meanAmount 10 = .ok (.getfield 41, 3) := dk_180 0 41 (dk_at dksX1_meanAmount_0 10 rfl rfl)
theorem dX1_meanAmount_13 : decode cX1_meanAmount 13 = .ok (.getfield 123, 3) := dk_180 0 123 (dk_at dksX1_meanAmount_0 13 rfl rfl)
theorem dX1_meanAmount_16 : decode cX1_meanAmount 16 = .ok (.invokeinterface 154 1, 5) := by decide +kernel
theorem dX1_meanAmount_21 : decode cX1_meanAmount 21 = .ok (.astore_n 2, 1) := dk_77 (dk_at dksX1_meanAmount_0 21 rfl rfl)
theorem dX1_meanAmount_22 : decode cX1_meanAmount 22 = .ok (.aload_n 2, 1) := dk_44 (dk_at dksX1_meanAmount_0 22 rfl rfl)
theorem dX1_meanAmount_23 : decode cX1_meanAmount 23 = .ok (.invokeinterface 158 1, 5) := by decide +kernel
theorem dX1_meanAmount_28 : decode cX1_meanAmount 28 = .ok (.ifCond .eq 23, 3) := dk_153 0 23 (dk_at dksX1_meanAmount_1 5 rfl rfl)
theorem dX1_meanAmount_31 : decode cX1_meanAmount 31 = .ok (.aload_n 2, 1) := dk_44 (dk_at dksX1_meanAmount_1 8 rfl rfl)
theorem dX1_meanAmount_32 : decode cX1_meanAmount 32 = .ok (.invokeinterface 164 1, 5) := by decide +kernel
theorem dX1_meanAmount_37 : decode cX1_meanAmount 37 = .ok (.checkcast 137, 3) := dk_192 0 137 (dk_at dksX1_meanAmount_1 14 rfl rfl)
theorem dX1_meanAmount_40 : decode cX1_meanAmount 40 = .ok (.astore_n 3, 1) := dk_78 (dk_at dksX1_meanAmount_1 17 rfl rfl)
theorem dX1_meanAmount_41 : decode cX1_meanAmount 41 = .ok (.iload_n 1, 1) := dk_27 (dk_at dksX1_meanAmount_1 18 rfl rfl)
theorem dX1_meanAmount_42 : decode cX1_meanAmount 42 = .ok (.aload_n 3, 1) := dk_45 (dk_at dksX1_meanAmount_1 19 rfl rfl)
theorem dX1_meanAmount_43 : decode cX1_meanAmount 43 = .ok (.getfield 166, 3) := dk_180 0 166 (dk_at dksX1_meanAmount_1 20 rfl rfl)
theorem dX1_meanAmount_46 : decode cX1_meanAmount 46 = .ok (.iadd, 1) := dk_96 (dk_at dksX1_meanAmount_1 23 rfl rfl)
theorem dX1_meanAmount_47 : decode cX1_meanAmount 47 = .ok (.istore_n 1, 1) := dk_60 (dk_at dksX1_meanAmount_2 0 rfl rfl)
theorem dX1_meanAmount_48 : decode cX1_meanAmount 48 = .ok (.goto (-26), 3) := dk_167 255 230 (dk_at dksX1_meanAmount_2 1 rfl rfl)
theorem dX1_meanAmount_51 : decode cX1_meanAmount 51 = .ok (.iload_n 1, 1) := dk_27 (dk_at dksX1_meanAmount_2 4 rfl rfl)
theorem dX1_meanAmount_52 : decode cX1_meanAmount 52 = .ok (.i2d, 1) := dk_135 (dk_at dksX1_meanAmount_2 5 rfl rfl)
theorem dX1_meanAmount_53 : decode cX1_meanAmount 53 = .ok (.aload_n 0, 1) := dk_42 (dk_at dksX1_meanAmount_2 6 rfl rfl)
theorem dX1_meanAmount_54 : decode cX1_meanAmount 54 = .ok (.invokevirtual 327, 3) := dk_182 1 71 (dk_at dksX1_meanAmount_2 7 rfl rfl)
theorem dX1_meanAmount_57 : decode cX1_meanAmount 57 = .ok (.i2d, 1) := dk_135 (dk_at dksX1_meanAmount_2 10 rfl rfl)
theorem dX1_meanAmount_58 : decode cX1_meanAmount 58 = .ok (.ddiv, 1) := dk_111 (dk_at dksX1_meanAmount_2 11 rfl rfl)
theorem dX1_meanAmount_59 : decode cX1_meanAmount 59 = .ok (.dreturn, 1) := dk_175 (dk_at dksX1_meanAmount_2 12 rfl rfl)
abbrev cX1_requireDivisor : ByteArray := prog_1_method_53_code
def yX1_requireDivisor : MethodName := ⟨RX1, "requireDivisor", "(I)V"⟩
def dkwX1_requireDivisor_0 : List UInt8 := [26, 154, 0, 11, 187, 1, 68, 89, 183, 1, 70, 191, 177]
abbrev dktX1_requireDivisor_0 : List UInt8 := dkwX1_requireDivisor_0 ++ []
theorem dksX1_requireDivisor_0 : cX1_requireDivisor.data.toList.drop 0 = dktX1_requireDivisor_0 := by decide +kernel
theorem dX1_requireDivisor_0 : decode cX1_requireDivisor 0 = .ok (.iload_n 0, 1) := dk_26 (dk_at dksX1_requireDivisor_0 0 rfl rfl)
theorem dX1_requireDivisor_1 : decode cX1_requireDivisor 1 = .ok (.ifCond .ne 11, 3) := dk_154 0 11 (dk_at dksX1_requireDivisor_0 1 rfl rfl)
theorem dX1_requireDivisor_4 : decode cX1_requireDivisor 4 = .ok (.new 324, 3) := dk_187 1 68 (dk_at dksX1_requireDivisor_0 4 rfl rfl)
theorem dX1_requireDivisor_7 : decode cX1_requireDivisor 7 = .ok (.dup, 1) := dk_89 (dk_at dksX1_requireDivisor_0 7 rfl rfl)
theorem dX1_requireDivisor_8 : decode cX1_requireDivisor 8 = .ok (.invokespecial 326, 3) := dk_183 1 70 (dk_at dksX1_requireDivisor_0 8 rfl rfl)
theorem dX1_requireDivisor_11 : decode cX1_requireDivisor 11 = .ok (.athrow, 1) := dk_191 (dk_at dksX1_requireDivisor_0 11 rfl rfl)
theorem dX1_requireDivisor_12 : decode cX1_requireDivisor 12 = .ok (.return_, 1) := dk_177 (dk_at dksX1_requireDivisor_0 12 rfl rfl)
abbrev cX1_staleShare : ByteArray := prog_1_method_55_code
def yX1_staleShare : MethodName := ⟨RX1, "staleShare", "()F"⟩
def dkwX1_staleShare_1 : List UInt8 := [27, 134, 110, 174]
abbrev dktX1_staleShare_1 : List UInt8 := dkwX1_staleShare_1 ++ []
def dkwX1_staleShare_0 : List UInt8 := [42, 182, 0, 234, 42, 180, 0, 41, 180, 0, 120, 4, 96, 104, 60, 27, 184, 1, 73, 42, 182, 1, 76, 134]
abbrev dktX1_staleShare_0 : List UInt8 := dkwX1_staleShare_0 ++ dktX1_staleShare_1
theorem dksX1_staleShare_0 : cX1_staleShare.data.toList.drop 0 = dktX1_staleShare_0 := by decide +kernel
theorem dksX1_staleShare_1 : cX1_staleShare.data.toList.drop 24 = dktX1_staleShare_1 := dk_seg dksX1_staleShare_0 24 rfl rfl
theorem dX1_staleShare_0 : decode cX1_staleShare 0 = .ok (.aload_n 0, 1) := dk_42 (dk_at dksX1_staleShare_0 0 rfl rfl)
theorem dX1_staleShare_1 : decode cX1_staleShare 1 = .ok (.invokevirtual 234, 3) := dk_182 0 234 (dk_at dksX1_staleShare_0 1 rfl rfl)
theorem dX1_staleShare_4 : decode cX1_staleShare 4 = .ok (.aload_n 0, 1) := dk_42 (dk_at dksX1_staleShare_0 4 rfl rfl)
theorem dX1_staleShare_5 : decode cX1_staleShare 5 = .ok (.getfield 41, 3) := dk_180 0 41 (dk_at dksX1_staleShare_0 5 rfl rfl)
theorem dX1_staleShare_8 : decode cX1_staleShare 8 = .ok (.getfield 120, 3) := dk_180 0 120 (dk_at dksX1_staleShare_0 8 rfl rfl)
theorem dX1_staleShare_11 : decode cX1_staleShare 11 = .ok (.iconst 1, 1) := dk_4 (dk_at dksX1_staleShare_0 11 rfl rfl)
theorem dX1_staleShare_12 : decode cX1_staleShare 12 = .ok (.iadd, 1) := dk_96 (dk_at dksX1_staleShare_0 12 rfl rfl)
theorem dX1_staleShare_13 : decode cX1_staleShare 13 = .ok (.imul, 1) := dk_104 (dk_at dksX1_staleShare_0 13 rfl rfl)
theorem dX1_staleShare_14 : decode cX1_staleShare 14 = .ok (.istore_n 1, 1) := dk_60 (dk_at dksX1_staleShare_0 14 rfl rfl)
theorem dX1_staleShare_15 : decode cX1_staleShare 15 = .ok (.iload_n 1, 1) := dk_27 (dk_at dksX1_staleShare_0 15 rfl rfl)
theorem dX1_staleShare_16 : decode cX1_staleShare 16 = .ok (.invokestatic 329, 3) := dk_184 1 73 (dk_at dksX1_staleShare_0 16 rfl rfl)
theorem dX1_staleShare_19 : decode cX1_staleShare 19 = .ok (.aload_n 0, 1) := dk_42 (dk_at dksX1_staleShare_0 19 rfl rfl)
theorem dX1_staleShare_20 : decode cX1_staleShare 20 = .ok (.invokevirtual 332, 3) := dk_182 1 76 (dk_at dksX1_staleShare_0 20 rfl rfl)
theorem dX1_staleShare_23 : decode cX1_staleShare 23 = .ok (.i2f, 1) := dk_134 (dk_at dksX1_staleShare_0 23 rfl rfl)
theorem dX1_staleShare_24 : decode cX1_staleShare 24 = .ok (.iload_n 1, 1) := dk_27 (dk_at dksX1_staleShare_1 0 rfl rfl)
theorem dX1_staleShare_25 : decode cX1_staleShare 25 = .ok (.i2f, 1) := dk_134 (dk_at dksX1_staleShare_1 1 rfl rfl)
theorem dX1_staleShare_26 : decode cX1_staleShare 26 = .ok (.fdiv, 1) := dk_110 (dk_at dksX1_staleShare_1 2 rfl rfl)
theorem dX1_staleShare_27 : decode cX1_staleShare 27 = .ok (.freturn, 1) := dk_174 (dk_at dksX1_staleShare_1 3 rfl rfl)
abbrev cX1_feed : ByteArray := prog_1_method_56_code
def yX1_feed : MethodName := ⟨RX1, "feed", "(C)I"⟩
def dkwX1_feed_1 : List UInt8 := [27, 182, 1, 85, 87, 42, 180, 0, 55, 182, 1, 79, 172]
abbrev dktX1_feed_1 : List UInt8 := dkwX1_feed_1 ++ []
def dkwX1_feed_0 : List UInt8 := [42, 180, 0, 55, 182, 1, 79, 16, 60, 162, 0, 7, 4, 167, 0, 4, 3, 184, 1, 82, 42, 180, 0, 55]
abbrev dktX1_feed_0 : List UInt8 := dkwX1_feed_0 ++ dktX1_feed_1
theorem dksX1_feed_0 : cX1_feed.data.toList.drop 0 = dktX1_feed_0 := by decide +kernel
theorem dksX1_feed_1 : cX1_feed.data.toList.drop 24 = dktX1_feed_1 := dk_seg dksX1_feed_0 24 rfl rfl
theorem dX1_feed_0 : decode cX1_feed 0 = .ok (.aload_n 0, 1) := dk_42 (dk_at dksX1_feed_0 0 rfl rfl)
theorem dX1_feed_1 : decode cX1_feed 1 = .ok (.getfield 55, 3) := dk_180 0 55 (dk_at dksX1_feed_0 1 rfl rfl)
theorem dX1_feed_4 : decode cX1_feed 4 = .ok (.invokevirtual 335, 3) := dk_182 1 79 (dk_at dksX1_feed_0 4 rfl rfl)
theorem dX1_feed_7 : decode cX1_feed 7 = .ok (.bipush 60, 2) := dk_16 60 (dk_at dksX1_feed_0 7 rfl rfl)
theorem dX1_feed_9 : decode cX1_feed 9 = .ok (.if_icmp .ge 7, 3) := dk_162 0 7 (dk_at dksX1_feed_0 9 rfl rfl)
theorem dX1_feed_12 : decode cX1_feed 12 = .ok (.iconst 1, 1) := dk_4 (dk_at dksX1_feed_0 12 rfl rfl)
theorem dX1_feed_13 : decode cX1_feed 13 = .ok (.goto 4, 3) := dk_167 0 4 (dk_at dksX1_feed_0 13 rfl rfl)
theorem dX1_feed_16 : decode cX1_feed 16 = .ok (.iconst 0, 1) := dk_3 (dk_at dksX1_feed_0 16 rfl rfl)
theorem dX1_feed_17 : decode cX1_feed 17 = .ok (.invokestatic 338, 3) := dk_184 1 82 (dk_at dksX1_feed_0 17 rfl rfl)
theorem dX1_feed_20 : decode cX1_feed 20 = .ok (.aload_n 0, 1) := dk_42 (dk_at dksX1_feed_0 20 rfl rfl)
theorem dX1_feed_21 : decode cX1_feed 21 = .ok (.getfield 55, 3) := dk_180 0 55 (dk_at dksX1_feed_0 21 rfl rfl)
theorem dX1_feed_24 : decode cX1_feed 24 = .ok (.iload_n 1, 1) := dk_27 (dk_at dksX1_feed_1 0 rfl rfl)
theorem dX1_feed_25 : decode cX1_feed 25 = .ok (.invokevirtual 341, 3) := dk_182 1 85 (dk_at dksX1_feed_1 1 rfl rfl)
theorem dX1_feed_28 : decode cX1_feed 28 = .ok (.pop, 1) := dk_87 (dk_at dksX1_feed_1 4 rfl rfl)
theorem dX1_feed_29 : decode cX1_feed 29 = .ok (.aload_n 0, 1) := dk_42 (dk_at dksX1_feed_1 5 rfl rfl)
theorem dX1_feed_30 : decode cX1_feed 30 = .ok (.getfield 55, 3) := dk_180 0 55 (dk_at dksX1_feed_1 6 rfl rfl)
theorem dX1_feed_33 : decode cX1_feed 33 = .ok (.invokevirtual 335, 3) := dk_182 1 79 (dk_at dksX1_feed_1 9 rfl rfl)
theorem dX1_feed_36 : decode cX1_feed 36 = .ok (.ireturn, 1) := dk_172 (dk_at dksX1_feed_1 12 rfl rfl)
abbrev cX1_requireState : ByteArray := prog_1_method_6_code
def yX1_requireState : MethodName := ⟨RX1, "requireState", "(Z)V"⟩
def dkwX1_requireState_0 : List UInt8 := [26, 154, 0, 11, 187, 0, 23, 89, 183, 0, 25, 191, 177]
abbrev dktX1_requireState_0 : List UInt8 := dkwX1_requireState_0 ++ []
theorem dksX1_requireState_0 : cX1_requireState.data.toList.drop 0 = dktX1_requireState_0 := by decide +kernel
theorem dX1_requireState_0 : decode cX1_requireState 0 = .ok (.iload_n 0, 1) := dk_26 (dk_at dksX1_requireState_0 0 rfl rfl)
theorem dX1_requireState_1 : decode cX1_requireState 1 = .ok (.ifCond .ne 11, 3) := dk_154 0 11 (dk_at dksX1_requireState_0 1 rfl rfl)
theorem dX1_requireState_4 : decode cX1_requireState 4 = .ok (.new 23, 3) := dk_187 0 23 (dk_at dksX1_requireState_0 4 rfl rfl)
theorem dX1_requireState_7 : decode cX1_requireState 7 = .ok (.dup, 1) := dk_89 (dk_at dksX1_requireState_0 7 rfl rfl)
theorem dX1_requireState_8 : decode cX1_requireState 8 = .ok (.invokespecial 25, 3) := dk_183 0 25 (dk_at dksX1_requireState_0 8 rfl rfl)
theorem dX1_requireState_11 : decode cX1_requireState 11 = .ok (.athrow, 1) := dk_191 (dk_at dksX1_requireState_0 11 rfl rfl)
theorem dX1_requireState_12 : decode cX1_requireState 12 = .ok (.return_, 1) := dk_177 (dk_at dksX1_requireState_0 12 rfl rfl)
abbrev cX1_execute : ByteArray := prog_1_method_60_code
def yX1_execute : MethodName := ⟨RX1, "execute", "()I"⟩
def dkwX1_execute_2 : List UInt8 := [182, 1, 128, 192, 0, 128, 185, 0, 127, 1, 0, 182, 0, 102, 172]
abbrev dktX1_execute_2 : List UInt8 := dkwX1_execute_2 ++ []
def dkwX1_execute_1 : List UInt8 := [43, 182, 1, 128, 192, 0, 128, 44, 184, 1, 130, 167, 0, 10, 78, 42, 45, 182, 0, 106, 191, 42, 44, 43]
abbrev dktX1_execute_1 : List UInt8 := dkwX1_execute_1 ++ dktX1_execute_2
def dkwX1_execute_0 : List UInt8 := [42, 182, 1, 122, 76, 43, 182, 1, 125, 184, 0, 13, 187, 0, 38, 89, 42, 180, 0, 41, 183, 0, 90, 77]
abbrev dktX1_execute_0 : List UInt8 := dkwX1_execute_0 ++ dktX1_execute_1
theorem dksX1_execute_0 : cX1_execute.data.toList.drop 0 = dktX1_execute_0 := by decide +kernel
theorem dksX1_execute_1 : cX1_execute.data.toList.drop 24 = dktX1_execute_1 := dk_seg dksX1_execute_0 24 rfl rfl
theorem dksX1_execute_2 : cX1_execute.data.toList.drop 48 = dktX1_execute_2 := dk_seg dksX1_execute_1 24 rfl rfl
theorem dX1_execute_0 : decode cX1_execute 0 = .ok (.aload_n 0, 1) := dk_42 (dk_at dksX1_execute_0 0 rfl rfl)
theorem dX1_execute_1 : decode cX1_execute 1 = .ok (.invokevirtual 378, 3) := dk_182 1 122 (dk_at dksX1_execute_0 1 rfl rfl)
theorem dX1_execute_4 : decode cX1_execute 4 = .ok (.astore_n 1, 1) := dk_76 (dk_at dksX1_execute_0 4 rfl rfl)
theorem dX1_execute_5 : decode cX1_execute 5 = .ok (.aload_n 1, 1) := dk_43 (dk_at dksX1_execute_0 5 rfl rfl)
theorem dX1_execute_6 : decode cX1_execute 6 = .ok (.invokevirtual 381, 3) := dk_182 1 125 (dk_at dksX1_execute_0 6 rfl rfl)
theorem dX1_execute_9 : decode cX1_execute 9 = .ok (.invokestatic 13, 3) := dk_184 0 13 (dk_at dksX1_execute_0 9 rfl rfl)
theorem dX1_execute_12 : decode cX1_execute 12 = .ok (.new 38, 3) := dk_187 0 38 (dk_at dksX1_execute_0 12 rfl rfl)
theorem dX1_execute_15 : decode cX1_execute 15 = .ok (.dup, 1) := dk_89 (dk_at dksX1_execute_0 15 rfl rfl)
theorem dX1_execute_16 : decode cX1_execute 16 = .ok (.aload_n 0, 1) := dk_42 (dk_at dksX1_execute_0 16 rfl rfl)
theorem dX1_execute_17 : decode cX1_execute 17 = .ok (.getfield 41, 3) := dk_180 0 41 (dk_at dksX1_execute_0 17 rfl rfl)
theorem dX1_execute_20 : decode cX1_execute 20 = .ok (.invokespecial 90, 3) := dk_183 0 90 (dk_at dksX1_execute_0 20 rfl rfl)
theorem dX1_execute_23 : decode cX1_execute 23 = .ok (.astore_n 2, 1) := dk_77 (dk_at dksX1_execute_0 23 rfl rfl)
theorem dX1_execute_24 : decode cX1_execute 24 = .ok (.aload_n 1, 1) := dk_43 (dk_at dksX1_execute_1 0 rfl rfl)
theorem dX1_execute_25 : decode cX1_execute 25 = .ok (.invokevirtual 384, 3) := dk_182 1 128 (dk_at dksX1_execute_1 1 rfl rfl)
theorem dX1_execute_28 : decode cX1_execute 28 = .ok (.checkcast 128, 3) := dk_192 0 128 (dk_at dksX1_execute_1 4 rfl rfl)
theorem dX1_execute_31 : decode cX1_execute 31 = .ok (.aload_n 2, 1) := dk_44 (dk_at dksX1_execute_1 7 rfl rfl)
theorem dX1_execute_32 : decode cX1_execute 32 = .ok (.invokestatic 386, 3) := dk_184 1 130 (dk_at dksX1_execute_1 8 rfl rfl)
theorem dX1_execute_35 : decode cX1_execute 35 = .ok (.goto 10, 3) := dk_167 0 10 (dk_at dksX1_execute_1 11 rfl rfl)
theorem dX1_execute_38 : decode cX1_execute 38 = .ok (.astore_n 3, 1) := dk_78 (dk_at dksX1_execute_1 14 rfl rfl)
theorem dX1_execute_39 : decode cX1_execute 39 = .ok (.aload_n 0, 1) := dk_42 (dk_at dksX1_execute_1 15 rfl rfl)
theorem dX1_execute_40 : decode cX1_execute 40 = .ok (.aload_n 3, 1) := dk_45 (dk_at dksX1_execute_1 16 rfl rfl)
theorem dX1_execute_41 : decode cX1_execute 41 = .ok (.invokevirtual 106, 3) := dk_182 0 106 (dk_at dksX1_execute_1 17 rfl rfl)
theorem dX1_execute_44 : decode cX1_execute 44 = .ok (.athrow, 1) := dk_191 (dk_at dksX1_execute_1 20 rfl rfl)
theorem dX1_execute_45 : decode cX1_execute 45 = .ok (.aload_n 0, 1) := dk_42 (dk_at dksX1_execute_1 21 rfl rfl)
theorem dX1_execute_46 : decode cX1_execute 46 = .ok (.aload_n 2, 1) := dk_44 (dk_at dksX1_execute_1 22 rfl rfl)
theorem dX1_execute_47 : decode cX1_execute 47 = .ok (.aload_n 1, 1) := dk_43 (dk_at dksX1_execute_1 23 rfl rfl)
theorem dX1_execute_48 : decode cX1_execute 48 = .ok (.invokevirtual 384, 3) := dk_182 1 128 (dk_at dksX1_execute_2 0 rfl rfl)
theorem dX1_execute_51 : decode cX1_execute 51 = .ok (.checkcast 128, 3) := dk_192 0 128 (dk_at dksX1_execute_2 3 rfl rfl)
theorem dX1_execute_54 : decode cX1_execute 54 = .ok (.invokeinterface 127 1, 5) := by decide +kernel
theorem dX1_execute_59 : decode cX1_execute 59 = .ok (.invokevirtual 102, 3) := dk_182 0 102 (dk_at dksX1_execute_2 11 rfl rfl)
theorem dX1_execute_62 : decode cX1_execute 62 = .ok (.ireturn, 1) := dk_172 (dk_at dksX1_execute_2 14 rfl rfl)
abbrev cX1_parse : ByteArray := prog_1_method_57_code
def yX1_parse : MethodName := ⟨RX1, "parse", "()Ljava/util/Optional;"⟩
def dkwX1_parse_2 : List UInt8 := [78, 42, 180, 0, 55, 3, 182, 1, 103, 45, 191]
abbrev dktX1_parse_2 : List UInt8 := dkwX1_parse_2 ++ []
def dkwX1_parse_1 : List UInt8 := [176, 76, 42, 43, 180, 1, 108, 181, 0, 65, 184, 1, 111, 77, 42, 180, 0, 55, 3, 182, 1, 103, 44, 176]
abbrev dktX1_parse_1 : List UInt8 := dkwX1_parse_1 ++ dktX1_parse_2
def dkwX1_parse_0 : List UInt8 := [187, 1, 89, 89, 42, 183, 1, 91, 182, 1, 94, 184, 1, 98, 76, 42, 180, 0, 55, 3, 182, 1, 103, 43]
abbrev dktX1_parse_0 : List UInt8 := dkwX1_parse_0 ++ dktX1_parse_1
theorem dksX1_parse_0 : cX1_parse.data.toList.drop 0 = dktX1_parse_0 := by decide +kernel
theorem dksX1_parse_1 : cX1_parse.data.toList.drop 24 = dktX1_parse_1 := dk_seg dksX1_parse_0 24 rfl rfl
theorem dksX1_parse_2 : cX1_parse.data.toList.drop 48 = dktX1_parse_2 := dk_seg dksX1_parse_1 24 rfl rfl
theorem dX1_parse_0 : decode cX1_parse 0 = .ok (.new 345, 3) := dk_187 1 89 (dk_at dksX1_parse_0 0 rfl rfl)
theorem dX1_parse_3 : decode cX1_parse 3 = .ok (.dup, 1) := dk_89 (dk_at dksX1_parse_0 3 rfl rfl)
theorem dX1_parse_4 : decode cX1_parse 4 = .ok (.aload_n 0, 1) := dk_42 (dk_at dksX1_parse_0 4 rfl rfl)
theorem dX1_parse_5 : decode cX1_parse 5 = .ok (.invokespecial 347, 3) := dk_183 1 91 (dk_at dksX1_parse_0 5 rfl rfl)
theorem dX1_parse_8 : decode cX1_parse 8 = .ok (.invokevirtual 350, 3) := dk_182 1 94 (dk_at dksX1_parse_0 8 rfl rfl)
theorem dX1_parse_11 : decode cX1_parse 11 = .ok (.invokestatic 354, 3) := dk_184 1 98 (dk_at dksX1_parse_0 11 rfl rfl)
theorem dX1_parse_14 : decode cX1_parse 14 = .ok (.astore_n 1, 1) := dk_76 (dk_at dksX1_parse_0 14 rfl rfl)
theorem dX1_parse_15 : decode cX1_parse 15 = .ok (.aload_n 0, 1) := dk_42 (dk_at dksX1_parse_0 15 rfl rfl)
theorem dX1_parse_16 : decode cX1_parse 16 = .ok (.getfield 55, 3) := dk_180 0 55 (dk_at dksX1_parse_0 16 rfl rfl)
theorem dX1_parse_19 : decode cX1_parse 19 = .ok (.iconst 0, 1) := dk_3 (dk_at dksX1_parse_0 19 rfl rfl)
theorem dX1_parse_20 : decode cX1_parse 20 = .ok (.invokevirtual 359, 3) := dk_182 1 103 (dk_at dksX1_parse_0 20 rfl rfl)
theorem dX1_parse_23 : decode cX1_parse 23 = .ok (.aload_n 1, 1) := dk_43 (dk_at dksX1_parse_0 23 rfl rfl)
theorem dX1_parse_24 : decode cX1_parse 24 = .ok (.areturn, 1) := dk_176 (dk_at dksX1_parse_1 0 rfl rfl)
theorem dX1_parse_25 : decode cX1_parse 25 = .ok (.astore_n 1, 1) := dk_76 (dk_at dksX1_parse_1 1 rfl rfl)
theorem dX1_parse_26 : decode cX1_parse 26 = .ok (.aload_n 0, 1) := dk_42 (dk_at dksX1_parse_1 2 rfl rfl)
theorem dX1_parse_27 : decode cX1_parse 27 = .ok (.aload_n 1, 1) := dk_43 (dk_at dksX1_parse_1 3 rfl rfl)
theorem dX1_parse_28 : decode cX1_parse 28 = .ok (.getfield 364, 3) := dk_180 1 108 (dk_at dksX1_parse_1 4 rfl rfl)
theorem dX1_parse_31 : decode cX1_parse 31 = .ok (.putfield 65, 3) := dk_181 0 65 (dk_at dksX1_parse_1 7 rfl rfl)
theorem dX1_parse_34 : decode cX1_parse 34 = .ok (.invokestatic 367, 3) := dk_184 1 111 (dk_at dksX1_parse_1 10 rfl rfl)
theorem dX1_parse_37 : decode cX1_parse 37 = .ok (.astore_n 2, 1) := dk_77 (dk_at dksX1_parse_1 13 rfl rfl)
theorem dX1_parse_38 : decode cX1_parse 38 = .ok (.aload_n 0, 1) := dk_42 (dk_at dksX1_parse_1 14 rfl rfl)
theorem dX1_parse_39 : decode cX1_parse 39 = .ok (.getfield 55, 3) := dk_180 0 55 (dk_at dksX1_parse_1 15 rfl rfl)
theorem dX1_parse_42 : decode cX1_parse 42 = .ok (.iconst 0, 1) := dk_3 (dk_at dksX1_parse_1 18 rfl rfl)
theorem dX1_parse_43 : decode cX1_parse 43 = .ok (.invokevirtual 359, 3) := dk_182 1 103 (dk_at dksX1_parse_1 19 rfl rfl)
theorem dX1_parse_46 : decode cX1_parse 46 = .ok (.aload_n 2, 1) := dk_44 (dk_at dksX1_parse_1 22 rfl rfl)
theorem dX1_parse_47 : decode cX1_parse 47 = .ok (.areturn, 1) := dk_176 (dk_at dksX1_parse_1 23 rfl rfl)
theorem dX1_parse_48 : decode cX1_parse 48 = .ok (.astore_n 3, 1) := dk_78 (dk_at dksX1_parse_2 0 rfl rfl)
theorem dX1_parse_49 : decode cX1_parse 49 = .ok (.aload_n 0, 1) := dk_42 (dk_at dksX1_parse_2 1 rfl rfl)
theorem dX1_parse_50 : decode cX1_parse 50 = .ok (.getfield 55, 3) := dk_180 0 55 (dk_at dksX1_parse_2 2 rfl rfl)
theorem dX1_parse_53 : decode cX1_parse 53 = .ok (.iconst 0, 1) := dk_3 (dk_at dksX1_parse_2 5 rfl rfl)
theorem dX1_parse_54 : decode cX1_parse 54 = .ok (.invokevirtual 359, 3) := dk_182 1 103 (dk_at dksX1_parse_2 6 rfl rfl)
theorem dX1_parse_57 : decode cX1_parse 57 = .ok (.aload_n 3, 1) := dk_45 (dk_at dksX1_parse_2 9 rfl rfl)
theorem dX1_parse_58 : decode cX1_parse 58 = .ok (.athrow, 1) := dk_191 (dk_at dksX1_parse_2 10 rfl rfl)
abbrev cX1_applyAll : ByteArray := prog_1_method_59_code
def yX1_applyAll : MethodName := ⟨RX1, "applyAll", "(Ljava/util/List;LWeirfoldLane$Lane;)V"⟩
def dkwX1_applyAll_2 : List UInt8 := [25, 5, 183, 1, 119, 191, 132, 2, 1, 167, 255, 208, 177]
abbrev dktX1_applyAll_2 : List UInt8 := dkwX1_applyAll_2 ++ []
def dkwX1_applyAll_1 : List UInt8 := [192, 0, 93, 58, 4, 25, 4, 43, 184, 1, 115, 54, 5, 167, 0, 17, 58, 5, 187, 0, 30, 89, 8, 28]
abbrev dktX1_applyAll_1 : List UInt8 := dkwX1_applyAll_1 ++ dktX1_applyAll_2
def dkwX1_applyAll_0 : List UInt8 := [3, 61, 42, 185, 0, 154, 1, 0, 78, 45, 185, 0, 158, 1, 0, 153, 0, 45, 45, 185, 0, 164, 1, 0]
abbrev dktX1_applyAll_0 : List UInt8 := dkwX1_applyAll_0 ++ dktX1_applyAll_1
theorem dksX1_applyAll_0 : cX1_applyAll.data.toList.drop 0 = dktX1_applyAll_0 := by decide +kernel
theorem dksX1_applyAll_1 : cX1_applyAll.data.toList.drop 24 = dktX1_applyAll_1 := dk_seg dksX1_applyAll_0 24 rfl rfl
theorem dksX1_applyAll_2 : cX1_applyAll.data.toList.drop 48 = dktX1_applyAll_2 := dk_seg dksX1_applyAll_1 24 rfl rfl
theorem dX1_applyAll_0 : decode cX1_applyAll 0 = .ok (.iconst 0, 1) := dk_3 (dk_at dksX1_applyAll_0 0 rfl rfl)
theorem dX1_applyAll_1 : decode cX1_applyAll 1 = .ok (.istore_n 2, 1) := dk_61 (dk_at dksX1_applyAll_0 1 rfl rfl)
theorem dX1_applyAll_2 : decode cX1_applyAll 2 = .ok (.aload_n 0, 1) := dk_42 (dk_at dksX1_applyAll_0 2 rfl rfl)
theorem dX1_applyAll_3 : decode cX1_applyAll 3 = .ok (.invokeinterface 154 1, 5) := by decide +kernel
theorem dX1_applyAll_8 : decode cX1_applyAll 8 = .ok (.astore_n 3, 1) := dk_78 (dk_at dksX1_applyAll_0 8 rfl rfl)
theorem dX1_applyAll_9 : decode cX1_applyAll 9 = .ok (.aload_n 3, 1) := dk_45 (dk_at dksX1_applyAll_0 9 rfl rfl)
theorem dX1_applyAll_10 : decode cX1_applyAll 10 = .ok (.invokeinterface 158 1, 5) := by decide +kernel
theorem dX1_applyAll_15 : decode cX1_applyAll 15 = .ok (.ifCond .eq 45, 3) := dk_153 0 45 (dk_at dksX1_applyAll_0 15 rfl rfl)
theorem dX1_applyAll_18 : decode cX1_applyAll 18 = .ok (.aload_n 3, 1) := dk_45 (dk_at dksX1_applyAll_0 18 rfl rfl)
theorem dX1_applyAll_19 : decode cX1_applyAll 19 = .ok (.invokeinterface 164 1, 5) := by decide +kernel
theorem dX1_applyAll_24 : decode cX1_applyAll 24 = .ok (.checkcast 93, 3) := dk_192 0 93 (dk_at dksX1_applyAll_1 0 rfl rfl)
theorem dX1_applyAll_27 : decode cX1_applyAll 27 = .ok (.astore 4, 2) := dk_58 4 (dk_at dksX1_applyAll_1 3 rfl rfl)
theorem dX1_applyAll_29 : decode cX1_applyAll 29 = .ok (.aload 4, 2) := dk_25 4 (dk_at dksX1_applyAll_1 5 rfl rfl)
theorem dX1_applyAll_31 : decode cX1_applyAll 31 = .ok (.aload_n 1, 1) := dk_43 (dk_at dksX1_applyAll_1 7 rfl rfl)
theorem dX1_applyAll_32 : decode cX1_applyAll 32 = .ok (.invokestatic 371, 3) := dk_184 1 115 (dk_at dksX1_applyAll_1 8 rfl rfl)
theorem dX1_applyAll_35 : decode cX1_applyAll 35 = .ok (.istore 5, 2) := dk_54 5 (dk_at dksX1_applyAll_1 11 rfl rfl)
theorem dX1_applyAll_37 : decode cX1_applyAll 37 = .ok (.goto 17, 3) := dk_167 0 17 (dk_at dksX1_applyAll_1 13 rfl rfl)
theorem dX1_applyAll_40 : decode cX1_applyAll 40 = .ok (.astore 5, 2) := dk_58 5 (dk_at dksX1_applyAll_1 16 rfl rfl)
theorem dX1_applyAll_42 : decode cX1_applyAll 42 = .ok (.new 30, 3) := dk_187 0 30 (dk_at dksX1_applyAll_1 18 rfl rfl)
theorem dX1_applyAll_45 : decode cX1_applyAll 45 = .ok (.dup, 1) := dk_89 (dk_at dksX1_applyAll_1 21 rfl rfl)
theorem dX1_applyAll_46 : decode cX1_applyAll 46 = .ok (.iconst 5, 1) := dk_8 (dk_at dksX1_applyAll_1 22 rfl rfl)
theorem dX1_applyAll_47 : decode cX1_applyAll 47 = .ok (.iload_n 2, 1) := dk_28 (dk_at dksX1_applyAll_1 23 rfl rfl)
theorem dX1_applyAll_48 : decode cX1_applyAll 48 = .ok (.aload 5, 2) := dk_25 5 (dk_at dksX1_applyAll_2 0 rfl rfl)
theorem dX1_applyAll_50 : decode cX1_applyAll 50 = .ok (.invokespecial 375, 3) := dk_183 1 119 (dk_at dksX1_applyAll_2 2 rfl rfl)
theorem dX1_applyAll_53 : decode cX1_applyAll 53 = .ok (.athrow, 1) := dk_191 (dk_at dksX1_applyAll_2 5 rfl rfl)
theorem dX1_applyAll_54 : decode cX1_applyAll 54 = .ok (.iinc 2 1, 3) := dk_132 2 1 (dk_at dksX1_applyAll_2 6 rfl rfl)
theorem dX1_applyAll_57 : decode cX1_applyAll 57 = .ok (.goto (-48), 3) := dk_167 255 208 (dk_at dksX1_applyAll_2 9 rfl rfl)
theorem dX1_applyAll_60 : decode cX1_applyAll 60 = .ok (.return_, 1) := dk_177 (dk_at dksX1_applyAll_2 12 rfl rfl)
abbrev cX1_applyCommand : ByteArray := prog_1_method_58_code
def yX1_applyCommand : MethodName := ⟨RX1, "applyCommand", "(LWeirfoldLane$Change;LWeirfoldLane$Lane;)I"⟩
def dkwX1_applyCommand_0 : List UInt8 := [42, 43, 182, 0, 98, 172, 77, 187, 0, 30, 89, 16, 6, 3, 183, 0, 32, 191]
abbrev dktX1_applyCommand_0 : List UInt8 := dkwX1_applyCommand_0 ++ []
theorem dksX1_applyCommand_0 : cX1_applyCommand.data.toList.drop 0 = dktX1_applyCommand_0 := by decide +kernel
theorem dX1_applyCommand_0 : decode cX1_applyCommand 0 = .ok (.aload_n 0, 1) := dk_42 (dk_at dksX1_applyCommand_0 0 rfl rfl)
theorem dX1_applyCommand_1 : decode cX1_applyCommand 1 = .ok (.aload_n 1, 1) := dk_43 (dk_at dksX1_applyCommand_0 1 rfl rfl)
theorem dX1_applyCommand_2 : decode cX1_applyCommand 2 = .ok (.invokevirtual 98, 3) := dk_182 0 98 (dk_at dksX1_applyCommand_0 2 rfl rfl)
theorem dX1_applyCommand_5 : decode cX1_applyCommand 5 = .ok (.ireturn, 1) := dk_172 (dk_at dksX1_applyCommand_0 5 rfl rfl)
theorem dX1_applyCommand_6 : decode cX1_applyCommand 6 = .ok (.astore_n 2, 1) := dk_77 (dk_at dksX1_applyCommand_0 6 rfl rfl)
theorem dX1_applyCommand_7 : decode cX1_applyCommand 7 = .ok (.new 30, 3) := dk_187 0 30 (dk_at dksX1_applyCommand_0 7 rfl rfl)
theorem dX1_applyCommand_10 : decode cX1_applyCommand 10 = .ok (.dup, 1) := dk_89 (dk_at dksX1_applyCommand_0 10 rfl rfl)
theorem dX1_applyCommand_11 : decode cX1_applyCommand 11 = .ok (.bipush 6, 2) := dk_16 6 (dk_at dksX1_applyCommand_0 11 rfl rfl)
theorem dX1_applyCommand_13 : decode cX1_applyCommand 13 = .ok (.iconst 0, 1) := dk_3 (dk_at dksX1_applyCommand_0 13 rfl rfl)
theorem dX1_applyCommand_14 : decode cX1_applyCommand 14 = .ok (.invokespecial 32, 3) := dk_183 0 32 (dk_at dksX1_applyCommand_0 14 rfl rfl)
theorem dX1_applyCommand_17 : decode cX1_applyCommand 17 = .ok (.athrow, 1) := dk_191 (dk_at dksX1_applyCommand_0 17 rfl rfl)
abbrev cX1_faultPosition : ByteArray := prog_1_method_61_code
def yX1_faultPosition : MethodName := ⟨RX1, "faultPosition", "()I"⟩
def dkwX1_faultPosition_0 : List UInt8 := [42, 180, 0, 65, 2, 159, 0, 7, 4, 167, 0, 4, 3, 184, 0, 130, 42, 180, 0, 65, 172]
abbrev dktX1_faultPosition_0 : List UInt8 := dkwX1_faultPosition_0 ++ []
theorem dksX1_faultPosition_0 : cX1_faultPosition.data.toList.drop 0 = dktX1_faultPosition_0 := by decide +kernel
theorem dX1_faultPosition_0 : decode cX1_faultPosition 0 = .ok (.aload_n 0, 1) := dk_42 (dk_at dksX1_faultPosition_0 0 rfl rfl)
theorem dX1_faultPosition_1 : decode cX1_faultPosition 1 = .ok (.getfield 65, 3) := dk_180 0 65 (dk_at dksX1_faultPosition_0 1 rfl rfl)
theorem dX1_faultPosition_4 : decode cX1_faultPosition 4 = .ok (.iconst (-1), 1) := dk_2 (dk_at dksX1_faultPosition_0 4 rfl rfl)
theorem dX1_faultPosition_5 : decode cX1_faultPosition 5 = .ok (.if_icmp .eq 7, 3) := dk_159 0 7 (dk_at dksX1_faultPosition_0 5 rfl rfl)
theorem dX1_faultPosition_8 : decode cX1_faultPosition 8 = .ok (.iconst 1, 1) := dk_4 (dk_at dksX1_faultPosition_0 8 rfl rfl)
theorem dX1_faultPosition_9 : decode cX1_faultPosition 9 = .ok (.goto 4, 3) := dk_167 0 4 (dk_at dksX1_faultPosition_0 9 rfl rfl)
theorem dX1_faultPosition_12 : decode cX1_faultPosition 12 = .ok (.iconst 0, 1) := dk_3 (dk_at dksX1_faultPosition_0 12 rfl rfl)
theorem dX1_faultPosition_13 : decode cX1_faultPosition 13 = .ok (.invokestatic 130, 3) := dk_184 0 130 (dk_at dksX1_faultPosition_0 13 rfl rfl)
theorem dX1_faultPosition_16 : decode cX1_faultPosition 16 = .ok (.aload_n 0, 1) := dk_42 (dk_at dksX1_faultPosition_0 16 rfl rfl)
theorem dX1_faultPosition_17 : decode cX1_faultPosition 17 = .ok (.getfield 65, 3) := dk_180 0 65 (dk_at dksX1_faultPosition_0 17 rfl rfl)
theorem dX1_faultPosition_20 : decode cX1_faultPosition 20 = .ok (.ireturn, 1) := dk_172 (dk_at dksX1_faultPosition_0 20 rfl rfl)
abbrev cX1_writeStep : ByteArray := prog_1_method_62_code
def yX1_writeStep : MethodName := ⟨RX1, "writeStep", "(I)I"⟩
def dkwX1_writeStep_2 : List UInt8 := [182, 1, 149, 172]
abbrev dktX1_writeStep_2 : List UInt8 := dkwX1_writeStep_2 ++ []
def dkwX1_writeStep_1 : List UInt8 := [182, 0, 186, 42, 180, 0, 41, 182, 1, 142, 182, 1, 139, 182, 1, 145, 181, 0, 61, 42, 180, 0, 61]
abbrev dktX1_writeStep_1 : List UInt8 := dkwX1_writeStep_1 ++ dktX1_writeStep_2
def dkwX1_writeStep_0 : List UInt8 := [42, 187, 0, 52, 89, 183, 0, 54, 27, 182, 1, 134, 19, 1, 137, 182, 1, 139, 42, 180, 0, 41, 27]
abbrev dktX1_writeStep_0 : List UInt8 := dkwX1_writeStep_0 ++ dktX1_writeStep_1
theorem dksX1_writeStep_0 : cX1_writeStep.data.toList.drop 0 = dktX1_writeStep_0 := by decide +kernel
theorem dksX1_writeStep_1 : cX1_writeStep.data.toList.drop 23 = dktX1_writeStep_1 := dk_seg dksX1_writeStep_0 23 rfl rfl
theorem dksX1_writeStep_2 : cX1_writeStep.data.toList.drop 46 = dktX1_writeStep_2 := dk_seg dksX1_writeStep_1 23 rfl rfl
theorem dX1_writeStep_0 : decode cX1_writeStep 0 = .ok (.aload_n 0, 1) := dk_42 (dk_at dksX1_writeStep_0 0 rfl rfl)
theorem dX1_writeStep_1 : decode cX1_writeStep 1 = .ok (.new 52, 3) := dk_187 0 52 (dk_at dksX1_writeStep_0 1 rfl rfl)
theorem dX1_writeStep_4 : decode cX1_writeStep 4 = .ok (.dup, 1) := dk_89 (dk_at dksX1_writeStep_0 4 rfl rfl)
theorem dX1_writeStep_5 : decode cX1_writeStep 5 = .ok (.invokespecial 54, 3) := dk_183 0 54 (dk_at dksX1_writeStep_0 5 rfl rfl)
theorem dX1_writeStep_8 : decode cX1_writeStep 8 = .ok (.iload_n 1, 1) := dk_27 (dk_at dksX1_writeStep_0 8 rfl rfl)
theorem dX1_writeStep_9 : decode cX1_writeStep 9 = .ok (.invokevirtual 390, 3) := dk_182 1 134 (dk_at dksX1_writeStep_0 9 rfl rfl)
theorem dX1_writeStep_12 : decode cX1_writeStep 12 = .ok (.ldc_w 393, 3) := dk_19 1 137 (dk_at dksX1_writeStep_0 12 rfl rfl)
theorem dX1_writeStep_15 : decode cX1_writeStep 15 = .ok (.invokevirtual 395, 3) := dk_182 1 139 (dk_at dksX1_writeStep_0 15 rfl rfl)
theorem dX1_writeStep_18 : decode cX1_writeStep 18 = .ok (.aload_n 0, 1) := dk_42 (dk_at dksX1_writeStep_0 18 rfl rfl)
theorem dX1_writeStep_19 : decode cX1_writeStep 19 = .ok (.getfield 41, 3) := dk_180 0 41 (dk_at dksX1_writeStep_0 19 rfl rfl)
theorem dX1_writeStep_22 : decode cX1_writeStep 22 = .ok (.iload_n 1, 1) := dk_27 (dk_at dksX1_writeStep_0 22 rfl rfl)
theorem dX1_writeStep_23 : decode cX1_writeStep 23 = .ok (.invokevirtual 186, 3) := dk_182 0 186 (dk_at dksX1_writeStep_1 0 rfl rfl)
theorem dX1_writeStep_26 : decode cX1_writeStep 26 = .ok (.aload_n 0, 1) := dk_42 (dk_at dksX1_writeStep_1 3 rfl rfl)
theorem dX1_writeStep_27 : decode cX1_writeStep 27 = .ok (.getfield 41, 3) := dk_180 0 41 (dk_at dksX1_writeStep_1 4 rfl rfl)
theorem dX1_writeStep_30 : decode cX1_writeStep 30 = .ok (.invokevirtual 398, 3) := dk_182 1 142 (dk_at dksX1_writeStep_1 7 rfl rfl)
theorem dX1_writeStep_33 : decode cX1_writeStep 33 = .ok (.invokevirtual 395, 3) := dk_182 1 139 (dk_at dksX1_writeStep_1 10 rfl rfl)
theorem dX1_writeStep_36 : decode cX1_writeStep 36 = .ok (.invokevirtual 401, 3) := dk_182 1 145 (dk_at dksX1_writeStep_1 13 rfl rfl)
theorem dX1_writeStep_39 : decode cX1_writeStep 39 = .ok (.putfield 61, 3) := dk_181 0 61 (dk_at dksX1_writeStep_1 16 rfl rfl)
theorem dX1_writeStep_42 : decode cX1_writeStep 42 = .ok (.aload_n 0, 1) := dk_42 (dk_at dksX1_writeStep_1 19 rfl rfl)
theorem dX1_writeStep_43 : decode cX1_writeStep 43 = .ok (.getfield 61, 3) := dk_180 0 61 (dk_at dksX1_writeStep_1 20 rfl rfl)
theorem dX1_writeStep_46 : decode cX1_writeStep 46 = .ok (.invokevirtual 405, 3) := dk_182 1 149 (dk_at dksX1_writeStep_2 0 rfl rfl)
theorem dX1_writeStep_49 : decode cX1_writeStep 49 = .ok (.ireturn, 1) := dk_172 (dk_at dksX1_writeStep_2 3 rfl rfl)
abbrev cX1_writePartition : ByteArray := prog_1_method_63_code
def yX1_writePartition : MethodName := ⟨RX1, "writePartition", "(II)I"⟩
def dkwX1_writePartition_4 : List UInt8 := [18, 59, 182, 1, 139, 87, 42, 25, 4, 182, 1, 145, 181, 0, 61, 42, 180, 0, 61, 182, 1, 149, 172]
abbrev dktX1_writePartition_4 : List UInt8 := dkwX1_writePartition_4 ++ []
def dkwX1_writePartition_3 : List UInt8 := [167, 255, 214, 25, 4, 42, 180, 0, 41, 45, 28, 182, 0, 218, 153, 0, 9, 19, 1, 157, 167, 0, 5]
abbrev dktX1_writePartition_3 : List UInt8 := dkwX1_writePartition_3 ++ dktX1_writePartition_4
def dkwX1_writePartition_2 : List UInt8 := [19, 1, 152, 182, 1, 139, 42, 180, 0, 41, 45, 28, 21, 5, 182, 0, 211, 182, 1, 154, 87, 132, 5, 1]
abbrev dktX1_writePartition_2 : List UInt8 := dkwX1_writePartition_2 ++ dktX1_writePartition_3
def dkwX1_writePartition_1 : List UInt8 := [58, 4, 3, 54, 5, 21, 5, 8, 162, 0, 42, 25, 4, 21, 5, 154, 0, 8, 18, 59, 167, 0, 6]
abbrev dktX1_writePartition_1 : List UInt8 := dkwX1_writePartition_1 ++ dktX1_writePartition_2
def dkwX1_writePartition_0 : List UInt8 := [42, 180, 0, 41, 27, 182, 0, 186, 78, 42, 180, 0, 41, 28, 182, 0, 203, 187, 0, 52, 89, 183, 0, 54]
abbrev dktX1_writePartition_0 : List UInt8 := dkwX1_writePartition_0 ++ dktX1_writePartition_1
theorem dksX1_writePartition_0 : cX1_writePartition.data.toList.drop 0 = dktX1_writePartition_0 := by decide +kernel
theorem dksX1_writePartition_1 : cX1_writePartition.data.toList.drop 24 = dktX1_writePartition_1 := dk_seg dksX1_writePartition_0 24 rfl rfl
theorem dksX1_writePartition_2 : cX1_writePartition.data.toList.drop 47 = dktX1_writePartition_2 := dk_seg dksX1_writePartition_1 23 rfl rfl
theorem dksX1_writePartition_3 : cX1_writePartition.data.toList.drop 71 = dktX1_writePartition_3 := dk_seg dksX1_writePartition_2 24 rfl rfl
theorem dksX1_writePartition_4 : cX1_writePartition.data.toList.drop 94 = dktX1_writePartition_4 := dk_seg dksX1_writePartition_3 23 rfl rfl
theorem dX1_writePartition_0 : decode cX1_writePartition 0 = .ok (.aload_n 0, 1) := dk_42 (dk_at dksX1_writePartition_0 0 rfl rfl)
theorem dX1_writePartition_1 : decode cX1_writePartition 1 = .ok (.getfield 41, 3) := dk_180 0 41 (dk_at dksX1_writePartition_0 1 rfl rfl)
theorem dX1_writePartition_4 : decode cX1_writePartition 4 = .ok (.iload_n 1, 1) := dk_27 (dk_at dksX1_writePartition_0 4 rfl rfl)
theorem dX1_writePartition_5 : decode cX1_writePartition 5 = .ok (.invokevirtual 186, 3) := dk_182 0 186 (dk_at dksX1_writePartition_0 5 rfl rfl)
theorem dX1_writePartition_8 : decode cX1_writePartition 8 = .ok (.astore_n 3, 1) := dk_78 (dk_at dksX1_writePartition_0 8 rfl rfl)
theorem dX1_writePartition_9 : decode cX1_writePartition 9 = .ok (.aload_n 0, 1) := dk_42 (dk_at dksX1_writePartition_0 9 rfl rfl)
theorem dX1_writePartition_10 : decode cX1_writePartition 10 = .ok (.getfield 41, 3) := dk_180 0 41 (dk_at dksX1_writePartition_0 10 rfl rfl)
theorem dX1_writePartition_13 : decode cX1_writePartition 13 = .ok (.iload_n 2, 1) := dk_28 (dk_at dksX1_writePartition_0 13 rfl rfl)
theorem dX1_writePartition_14 : decode cX1_writePartition 14 = .ok (.invokevirtual 203, 3) := dk_182 0 203 (dk_at dksX1_writePartition_0 14 rfl rfl)
theorem dX1_writePartition_17 : decode cX1_writePartition 17 = .ok (.new 52, 3) := dk_187 0 52 (dk_at dksX1_writePartition_0 17 rfl rfl)
theorem dX1_writePartition_20 : decode cX1_writePartition 20 = .ok (.dup, 1) := dk_89 (dk_at dksX1_writePartition_0 20 rfl rfl)
theorem dX1_writePartition_21 : decode cX1_writePartition 21 = .ok (.invokespecial 54, 3) := dk_183 0 54 (dk_at dksX1_writePartition_0 21 rfl rfl)
theorem dX1_writePartition_24 : decode cX1_writePartition 24 = .ok (.astore 4, 2) := dk_58 4 (dk_at dksX1_writePartition_1 0 rfl rfl)
theorem dX1_writePartition_26 : decode cX1_writePartition 26 = .ok (.iconst 0, 1) := dk_3 (dk_at dksX1_writePartition_1 2 rfl rfl)
theorem dX1_writePartition_27 : decode cX1_writePartition 27 = .ok (.istore 5, 2) := dk_54 5 (dk_at dksX1_writePartition_1 3 rfl rfl)
theorem dX1_writePartition_29 : decode cX1_writePartition 29 = .ok (.iload 5, 2) := dk_21 5 (dk_at dksX1_writePartition_1 5 rfl rfl)
theorem dX1_writePartition_31 : decode cX1_writePartition 31 = .ok (.iconst 5, 1) := dk_8 (dk_at dksX1_writePartition_1 7 rfl rfl)
theorem dX1_writePartition_32 : decode cX1_writePartition 32 = .ok (.if_icmp .ge 42, 3) := dk_162 0 42 (dk_at dksX1_writePartition_1 8 rfl rfl)
theorem dX1_writePartition_35 : decode cX1_writePartition 35 = .ok (.aload 4, 2) := dk_25 4 (dk_at dksX1_writePartition_1 11 rfl rfl)
theorem dX1_writePartition_37 : decode cX1_writePartition 37 = .ok (.iload 5, 2) := dk_21 5 (dk_at dksX1_writePartition_1 13 rfl rfl)
theorem dX1_writePartition_39 : decode cX1_writePartition 39 = .ok (.ifCond .ne 8, 3) := dk_154 0 8 (dk_at dksX1_writePartition_1 15 rfl rfl)
theorem dX1_writePartition_42 : decode cX1_writePartition 42 = .ok (.ldc 59, 2) := dk_18 59 (dk_at dksX1_writePartition_1 18 rfl rfl)
theorem dX1_writePartition_44 : decode cX1_writePartition 44 = .ok (.goto 6, 3) := dk_167 0 6 (dk_at dksX1_writePartition_1 20 rfl rfl)
theorem dX1_writePartition_47 : decode cX1_writePartition 47 = .ok (.ldc_w 408, 3) := dk_19 1 152 (dk_at dksX1_writePartition_2 0 rfl rfl)
theorem dX1_writePartition_50 : decode cX1_writePartition 50 = .ok (.invokevirtual 395, 3) := dk_182 1 139 (dk_at dksX1_writePartition_2 3 rfl rfl)
theorem dX1_writePartition_53 : decode cX1_writePartition 53 = .ok (.aload_n 0, 1) := dk_42 (dk_at dksX1_writePartition_2 6 rfl rfl)
theorem dX1_writePartition_54 : decode cX1_writePartition 54 = .ok (.getfield 41, 3) := dk_180 0 41 (dk_at dksX1_writePartition_2 7 rfl rfl)
theorem dX1_writePartition_57 : decode cX1_writePartition 57 = .ok (.aload_n 3, 1) := dk_45 (dk_at dksX1_writePartition_2 10 rfl rfl)
theorem dX1_writePartition_58 : decode cX1_writePartition 58 = .ok (.iload_n 2, 1) := dk_28 (dk_at dksX1_writePartition_2 11 rfl rfl)
theorem dX1_writePartition_59 : decode cX1_writePartition 59 = .ok (.iload 5, 2) := dk_21 5 (dk_at dksX1_writePartition_2 12 rfl rfl)
theorem dX1_writePartition_61 : decode cX1_writePartition 61 = .ok (.invokevirtual 211, 3) := dk_182 0 211 (dk_at dksX1_writePartition_2 14 rfl rfl)
theorem dX1_writePartition_64 : decode cX1_writePartition 64 = .ok (.invokevirtual 410, 3) := dk_182 1 154 (dk_at dksX1_writePartition_2 17 rfl rfl)
theorem dX1_writePartition_67 : decode cX1_writePartition 67 = .ok (.pop, 1) := dk_87 (dk_at dksX1_writePartition_2 20 rfl rfl)
theorem dX1_writePartition_68 : decode cX1_writePartition 68 = .ok (.iinc 5 1, 3) := dk_132 5 1 (dk_at dksX1_writePartition_2 21 rfl rfl)
theorem dX1_writePartition_71 : decode cX1_writePartition 71 = .ok (.goto (-42), 3) := dk_167 255 214 (dk_at dksX1_writePartition_3 0 rfl rfl)
theorem dX1_writePartition_74 : decode cX1_writePartition 74 = .ok (.aload 4, 2) := dk_25 4 (dk_at dksX1_writePartition_3 3 rfl rfl)
theorem dX1_writePartition_76 : decode cX1_writePartition 76 = .ok (.aload_n 0, 1) := dk_42 (dk_at dksX1_writePartition_3 5 rfl rfl)
theorem dX1_writePartition_77 : decode cX1_writePartition 77 = .ok (.getfield 41, 3) := dk_180 0 41 (dk_at dksX1_writePartition_3 6 rfl rfl)
theorem dX1_writePartition_80 : decode cX1_writePartition 80 = .ok (.aload_n 3, 1) := dk_45 (dk_at dksX1_writePartition_3 9 rfl rfl)
theorem dX1_writePartition_81 : decode cX1_writePartition 81 = .ok (.iload_n 2, 1) := dk_28 (dk_at dksX1_writePartition_3 10 rfl rfl)
theorem dX1_writePartition_82 : decode cX1_writePartition 82 = .ok (.invokevirtual 218, 3) := dk_182 0 218 (dk_at dksX1_writePartition_3 11 rfl rfl)
theorem dX1_writePartition_85 : decode cX1_writePartition 85 = .ok (.ifCond .eq 9, 3) := dk_153 0 9 (dk_at dksX1_writePartition_3 14 rfl rfl)
theorem dX1_writePartition_88 : decode cX1_writePartition 88 = .ok (.ldc_w 413, 3) := dk_19 1 157 (dk_at dksX1_writePartition_3 17 rfl rfl)
theorem dX1_writePartition_91 : decode cX1_writePartition 91 = .ok (.goto 5, 3) := dk_167 0 5 (dk_at dksX1_writePartition_3 20 rfl rfl)
theorem dX1_writePartition_94 : decode cX1_writePartition 94 = .ok (.ldc 59, 2) := dk_18 59 (dk_at dksX1_writePartition_4 0 rfl rfl)
theorem dX1_writePartition_96 : decode cX1_writePartition 96 = .ok (.invokevirtual 395, 3) := dk_182 1 139 (dk_at dksX1_writePartition_4 2 rfl rfl)
theorem dX1_writePartition_99 : decode cX1_writePartition 99 = .ok (.pop, 1) := dk_87 (dk_at dksX1_writePartition_4 5 rfl rfl)
theorem dX1_writePartition_100 : decode cX1_writePartition 100 = .ok (.aload_n 0, 1) := dk_42 (dk_at dksX1_writePartition_4 6 rfl rfl)
theorem dX1_writePartition_101 : decode cX1_writePartition 101 = .ok (.aload 4, 2) := dk_25 4 (dk_at dksX1_writePartition_4 7 rfl rfl)
theorem dX1_writePartition_103 : decode cX1_writePartition 103 = .ok (.invokevirtual 401, 3) := dk_182 1 145 (dk_at dksX1_writePartition_4 9 rfl rfl)
theorem dX1_writePartition_106 : decode cX1_writePartition 106 = .ok (.putfield 61, 3) := dk_181 0 61 (dk_at dksX1_writePartition_4 12 rfl rfl)
theorem dX1_writePartition_109 : decode cX1_writePartition 109 = .ok (.aload_n 0, 1) := dk_42 (dk_at dksX1_writePartition_4 15 rfl rfl)
theorem dX1_writePartition_110 : decode cX1_writePartition 110 = .ok (.getfield 61, 3) := dk_180 0 61 (dk_at dksX1_writePartition_4 16 rfl rfl)
theorem dX1_writePartition_113 : decode cX1_writePartition 113 = .ok (.invokevirtual 405, 3) := dk_182 1 149 (dk_at dksX1_writePartition_4 19 rfl rfl)
theorem dX1_writePartition_116 : decode cX1_writePartition 116 = .ok (.ireturn, 1) := dk_172 (dk_at dksX1_writePartition_4 22 rfl rfl)
abbrev cX1_lineCharacter : ByteArray := prog_1_method_64_code
def yX1_lineCharacter : MethodName := ⟨RX1, "lineCharacter", "(I)C"⟩
def dkwX1_lineCharacter_0 : List UInt8 := [27, 42, 180, 0, 61, 182, 1, 149, 184, 1, 159, 42, 180, 0, 61, 27, 182, 1, 162, 172]
abbrev dktX1_lineCharacter_0 : List UInt8 := dkwX1_lineCharacter_0 ++ []
theorem dksX1_lineCharacter_0 : cX1_lineCharacter.data.toList.drop 0 = dktX1_lineCharacter_0 := by decide +kernel
theorem dX1_lineCharacter_0 : decode cX1_lineCharacter 0 = .ok (.iload_n 1, 1) := dk_27 (dk_at dksX1_lineCharacter_0 0 rfl rfl)
theorem dX1_lineCharacter_1 : decode cX1_lineCharacter 1 = .ok (.aload_n 0, 1) := dk_42 (dk_at dksX1_lineCharacter_0 1 rfl rfl)
theorem dX1_lineCharacter_2 : decode cX1_lineCharacter 2 = .ok (.getfield 61, 3) := dk_180 0 61 (dk_at dksX1_lineCharacter_0 2 rfl rfl)
theorem dX1_lineCharacter_5 : decode cX1_lineCharacter 5 = .ok (.invokevirtual 405, 3) := dk_182 1 149 (dk_at dksX1_lineCharacter_0 5 rfl rfl)
theorem dX1_lineCharacter_8 : decode cX1_lineCharacter 8 = .ok (.invokestatic 415, 3) := dk_184 1 159 (dk_at dksX1_lineCharacter_0 8 rfl rfl)
theorem dX1_lineCharacter_11 : decode cX1_lineCharacter 11 = .ok (.aload_n 0, 1) := dk_42 (dk_at dksX1_lineCharacter_0 11 rfl rfl)
theorem dX1_lineCharacter_12 : decode cX1_lineCharacter 12 = .ok (.getfield 61, 3) := dk_180 0 61 (dk_at dksX1_lineCharacter_0 12 rfl rfl)
theorem dX1_lineCharacter_15 : decode cX1_lineCharacter 15 = .ok (.iload_n 1, 1) := dk_27 (dk_at dksX1_lineCharacter_0 15 rfl rfl)
theorem dX1_lineCharacter_16 : decode cX1_lineCharacter 16 = .ok (.invokevirtual 418, 3) := dk_182 1 162 (dk_at dksX1_lineCharacter_0 16 rfl rfl)
theorem dX1_lineCharacter_19 : decode cX1_lineCharacter 19 = .ok (.ireturn, 1) := dk_172 (dk_at dksX1_lineCharacter_0 19 rfl rfl)
abbrev cX1_denial : ByteArray := prog_1_method_66_code
def yX1_denial : MethodName := ⟨RX1, "denial", "()I"⟩
def dkwX1_denial_0 : List UInt8 := [42, 182, 1, 166, 180, 1, 170, 172]
abbrev dktX1_denial_0 : List UInt8 := dkwX1_denial_0 ++ []
theorem dksX1_denial_0 : cX1_denial.data.toList.drop 0 = dktX1_denial_0 := by decide +kernel
theorem dX1_denial_0 : decode cX1_denial 0 = .ok (.aload_n 0, 1) := dk_42 (dk_at dksX1_denial_0 0 rfl rfl)
theorem dX1_denial_1 : decode cX1_denial 1 = .ok (.invokevirtual 422, 3) := dk_182 1 166 (dk_at dksX1_denial_0 1 rfl rfl)
theorem dX1_denial_4 : decode cX1_denial 4 = .ok (.getfield 426, 3) := dk_180 1 170 (dk_at dksX1_denial_0 4 rfl rfl)
theorem dX1_denial_7 : decode cX1_denial 7 = .ok (.ireturn, 1) := dk_172 (dk_at dksX1_denial_0 7 rfl rfl)
abbrev cX1_latestDenial : ByteArray := prog_1_method_65_code
def yX1_latestDenial : MethodName := ⟨RX1, "latestDenial", "()LWeirfoldLane$Denial;"⟩
def dkwX1_latestDenial_0 : List UInt8 := [42, 180, 0, 81, 198, 0, 7, 4, 167, 0, 4, 3, 184, 0, 130, 42, 180, 0, 81, 176]
abbrev dktX1_latestDenial_0 : List UInt8 := dkwX1_latestDenial_0 ++ []
theorem dksX1_latestDenial_0 : cX1_latestDenial.data.toList.drop 0 = dktX1_latestDenial_0 := by decide +kernel
theorem dX1_latestDenial_0 : decode cX1_latestDenial 0 = .ok (.aload_n 0, 1) := dk_42 (dk_at dksX1_latestDenial_0 0 rfl rfl)
theorem dX1_latestDenial_1 : decode cX1_latestDenial 1 = .ok (.getfield 81, 3) := dk_180 0 81 (dk_at dksX1_latestDenial_0 1 rfl rfl)
theorem dX1_latestDenial_4 : decode cX1_latestDenial 4 = .ok (.ifnull 7, 3) := dk_198 0 7 (dk_at dksX1_latestDenial_0 4 rfl rfl)
theorem dX1_latestDenial_7 : decode cX1_latestDenial 7 = .ok (.iconst 1, 1) := dk_4 (dk_at dksX1_latestDenial_0 7 rfl rfl)
theorem dX1_latestDenial_8 : decode cX1_latestDenial 8 = .ok (.goto 4, 3) := dk_167 0 4 (dk_at dksX1_latestDenial_0 8 rfl rfl)
theorem dX1_latestDenial_11 : decode cX1_latestDenial 11 = .ok (.iconst 0, 1) := dk_3 (dk_at dksX1_latestDenial_0 11 rfl rfl)
theorem dX1_latestDenial_12 : decode cX1_latestDenial 12 = .ok (.invokestatic 130, 3) := dk_184 0 130 (dk_at dksX1_latestDenial_0 12 rfl rfl)
theorem dX1_latestDenial_15 : decode cX1_latestDenial 15 = .ok (.aload_n 0, 1) := dk_42 (dk_at dksX1_latestDenial_0 15 rfl rfl)
theorem dX1_latestDenial_16 : decode cX1_latestDenial 16 = .ok (.getfield 81, 3) := dk_180 0 81 (dk_at dksX1_latestDenial_0 16 rfl rfl)
theorem dX1_latestDenial_19 : decode cX1_latestDenial 19 = .ok (.areturn, 1) := dk_176 (dk_at dksX1_latestDenial_0 19 rfl rfl)
abbrev cX1_denialDetail : ByteArray := prog_1_method_67_code
def yX1_denialDetail : MethodName := ⟨RX1, "denialDetail", "()I"⟩
def dkwX1_denialDetail_0 : List UInt8 := [42, 182, 1, 166, 180, 1, 171, 172]
abbrev dktX1_denialDetail_0 : List UInt8 := dkwX1_denialDetail_0 ++ []
theorem dksX1_denialDetail_0 : cX1_denialDetail.data.toList.drop 0 = dktX1_denialDetail_0 := by decide +kernel
theorem dX1_denialDetail_0 : decode cX1_denialDetail 0 = .ok (.aload_n 0, 1) := dk_42 (dk_at dksX1_denialDetail_0 0 rfl rfl)
theorem dX1_denialDetail_1 : decode cX1_denialDetail 1 = .ok (.invokevirtual 422, 3) := dk_182 1 166 (dk_at dksX1_denialDetail_0 1 rfl rfl)
theorem dX1_denialDetail_4 : decode cX1_denialDetail 4 = .ok (.getfield 427, 3) := dk_180 1 171 (dk_at dksX1_denialDetail_0 4 rfl rfl)
theorem dX1_denialDetail_7 : decode cX1_denialDetail 7 = .ok (.ireturn, 1) := dk_172 (dk_at dksX1_denialDetail_0 7 rfl rfl)
abbrev cX1_denialCause : ByteArray := prog_1_method_68_code
def yX1_denialCause : MethodName := ⟨RX1, "denialCause", "()I"⟩
def dkwX1_denialCause_1 : List UInt8 := [180, 1, 170, 172]
abbrev dktX1_denialCause_1 : List UInt8 := dkwX1_denialCause_1 ++ []
def dkwX1_denialCause_0 : List UInt8 := [42, 182, 1, 166, 182, 1, 174, 76, 43, 182, 1, 125, 184, 0, 130, 43, 182, 1, 128, 192, 0, 30]
abbrev dktX1_denialCause_0 : List UInt8 := dkwX1_denialCause_0 ++ dktX1_denialCause_1
theorem dksX1_denialCause_0 : cX1_denialCause.data.toList.drop 0 = dktX1_denialCause_0 := by decide +kernel
theorem dksX1_denialCause_1 : cX1_denialCause.data.toList.drop 22 = dktX1_denialCause_1 := dk_seg dksX1_denialCause_0 22 rfl rfl
theorem dX1_denialCause_0 : decode cX1_denialCause 0 = .ok (.aload_n 0, 1) := dk_42 (dk_at dksX1_denialCause_0 0 rfl rfl)
theorem dX1_denialCause_1 : decode cX1_denialCause 1 = .ok (.invokevirtual 422, 3) := dk_182 1 166 (dk_at dksX1_denialCause_0 1 rfl rfl)
theorem dX1_denialCause_4 : decode cX1_denialCause 4 = .ok (.invokevirtual 430, 3) := dk_182 1 174 (dk_at dksX1_denialCause_0 4 rfl rfl)
theorem dX1_denialCause_7 : decode cX1_denialCause 7 = .ok (.astore_n 1, 1) := dk_76 (dk_at dksX1_denialCause_0 7 rfl rfl)
theorem dX1_denialCause_8 : decode cX1_denialCause 8 = .ok (.aload_n 1, 1) := dk_43 (dk_at dksX1_denialCause_0 8 rfl rfl)
theorem dX1_denialCause_9 : decode cX1_denialCause 9 = .ok (.invokevirtual 381, 3) := dk_182 1 125 (dk_at dksX1_denialCause_0 9 rfl rfl)
theorem dX1_denialCause_12 : decode cX1_denialCause 12 = .ok (.invokestatic 130, 3) := dk_184 0 130 (dk_at dksX1_denialCause_0 12 rfl rfl)
theorem dX1_denialCause_15 : decode cX1_denialCause 15 = .ok (.aload_n 1, 1) := dk_43 (dk_at dksX1_denialCause_0 15 rfl rfl)
theorem dX1_denialCause_16 : decode cX1_denialCause 16 = .ok (.invokevirtual 384, 3) := dk_182 1 128 (dk_at dksX1_denialCause_0 16 rfl rfl)
theorem dX1_denialCause_19 : decode cX1_denialCause 19 = .ok (.checkcast 30, 3) := dk_192 0 30 (dk_at dksX1_denialCause_0 19 rfl rfl)
theorem dX1_denialCause_22 : decode cX1_denialCause 22 = .ok (.getfield 426, 3) := dk_180 1 170 (dk_at dksX1_denialCause_1 0 rfl rfl)
theorem dX1_denialCause_25 : decode cX1_denialCause 25 = .ok (.ireturn, 1) := dk_172 (dk_at dksX1_denialCause_1 3 rfl rfl)
abbrev cX1_undo : ByteArray := prog_1_method_69_code
def yX1_undo : MethodName := ⟨RX1, "undo", "()I"⟩
def dkwX1_undo_1 : List UInt8 := [182, 1, 180, 192, 0, 38, 181, 0, 41, 42, 180, 0, 48, 182, 0, 69, 172]
abbrev dktX1_undo_1 : List UInt8 := dkwX1_undo_1 ++ []
def dkwX1_undo_0 : List UInt8 := [42, 180, 0, 48, 182, 1, 177, 154, 0, 7, 4, 167, 0, 4, 3, 184, 1, 82, 42, 42, 180, 0, 48]
abbrev dktX1_undo_0 : List UInt8 := dkwX1_undo_0 ++ dktX1_undo_1
theorem dksX1_undo_0 : cX1_undo.data.toList.drop 0 = dktX1_undo_0 := by decide +kernel
theorem dksX1_undo_1 : cX1_undo.data.toList.drop 23 = dktX1_undo_1 := dk_seg dksX1_undo_0 23 rfl rfl
theorem dX1_undo_0 : decode cX1_undo 0 = .ok (.aload_n 0, 1) := dk_42 (dk_at dksX1_undo_0 0 rfl rfl)
theorem dX1_undo_1 : decode cX1_undo 1 = .ok (.getfield 48, 3) := dk_180 0 48 (dk_at dksX1_undo_0 1 rfl rfl)
theorem dX1_undo_4 : decode cX1_undo 4 = .ok (.invokevirtual 433, 3) := dk_182 1 177 (dk_at dksX1_undo_0 4 rfl rfl)
theorem dX1_undo_7 : decode cX1_undo 7 = .ok (.ifCond .ne 7, 3) := dk_154 0 7 (dk_at dksX1_undo_0 7 rfl rfl)
theorem dX1_undo_10 : decode cX1_undo 10 = .ok (.iconst 1, 1) := dk_4 (dk_at dksX1_undo_0 10 rfl rfl)
theorem dX1_undo_11 : decode cX1_undo 11 = .ok (.goto 4, 3) := dk_167 0 4 (dk_at dksX1_undo_0 11 rfl rfl)
theorem dX1_undo_14 : decode cX1_undo 14 = .ok (.iconst 0, 1) := dk_3 (dk_at dksX1_undo_0 14 rfl rfl)
theorem dX1_undo_15 : decode cX1_undo 15 = .ok (.invokestatic 338, 3) := dk_184 1 82 (dk_at dksX1_undo_0 15 rfl rfl)
theorem dX1_undo_18 : decode cX1_undo 18 = .ok (.aload_n 0, 1) := dk_42 (dk_at dksX1_undo_0 18 rfl rfl)
theorem dX1_undo_19 : decode cX1_undo 19 = .ok (.aload_n 0, 1) := dk_42 (dk_at dksX1_undo_0 19 rfl rfl)
theorem dX1_undo_20 : decode cX1_undo 20 = .ok (.getfield 48, 3) := dk_180 0 48 (dk_at dksX1_undo_0 20 rfl rfl)
theorem dX1_undo_23 : decode cX1_undo 23 = .ok (.invokevirtual 436, 3) := dk_182 1 180 (dk_at dksX1_undo_1 0 rfl rfl)
theorem dX1_undo_26 : decode cX1_undo 26 = .ok (.checkcast 38, 3) := dk_192 0 38 (dk_at dksX1_undo_1 3 rfl rfl)
theorem dX1_undo_29 : decode cX1_undo 29 = .ok (.putfield 41, 3) := dk_181 0 41 (dk_at dksX1_undo_1 6 rfl rfl)
theorem dX1_undo_32 : decode cX1_undo 32 = .ok (.aload_n 0, 1) := dk_42 (dk_at dksX1_undo_1 9 rfl rfl)
theorem dX1_undo_33 : decode cX1_undo 33 = .ok (.getfield 48, 3) := dk_180 0 48 (dk_at dksX1_undo_1 10 rfl rfl)
theorem dX1_undo_36 : decode cX1_undo 36 = .ok (.invokevirtual 69, 3) := dk_182 0 69 (dk_at dksX1_undo_1 13 rfl rfl)
theorem dX1_undo_39 : decode cX1_undo 39 = .ok (.ireturn, 1) := dk_172 (dk_at dksX1_undo_1 16 rfl rfl)
abbrev cX1_restoreSnapshot : ByteArray := prog_1_method_72_code
def yX1_restoreSnapshot : MethodName := ⟨RX1, "restoreSnapshot", "()I"⟩
def dkwX1_restoreSnapshot_2 : List UInt8 := [185, 0, 127, 1, 0, 172]
abbrev dktX1_restoreSnapshot_2 : List UInt8 := dkwX1_restoreSnapshot_2 ++ []
def dkwX1_restoreSnapshot_1 : List UInt8 := [183, 0, 90, 181, 0, 41, 42, 180, 0, 48, 182, 1, 186, 42, 180, 0, 41, 180, 0, 123]
abbrev dktX1_restoreSnapshot_1 : List UInt8 := dkwX1_restoreSnapshot_1 ++ dktX1_restoreSnapshot_2
def dkwX1_restoreSnapshot_0 : List UInt8 := [42, 180, 1, 183, 198, 0, 7, 4, 167, 0, 4, 3, 184, 1, 82, 42, 187, 0, 38, 89, 42, 180, 1, 183]
abbrev dktX1_restoreSnapshot_0 : List UInt8 := dkwX1_restoreSnapshot_0 ++ dktX1_restoreSnapshot_1
theorem dksX1_restoreSnapshot_0 : cX1_restoreSnapshot.data.toList.drop 0 = dktX1_restoreSnapshot_0 := by decide +kernel
theorem dksX1_restoreSnapshot_1 : cX1_restoreSnapshot.data.toList.drop 24 = dktX1_restoreSnapshot_1 := dk_seg dksX1_restoreSnapshot_0 24 rfl rfl
theorem dksX1_restoreSnapshot_2 : cX1_restoreSnapshot.data.toList.drop 44 = dktX1_restoreSnapshot_2 := dk_seg dksX1_restoreSnapshot_1 20 rfl rfl
theorem dX1_restoreSnapshot_0 : decode cX1_restoreSnapshot 0 = .ok (.aload_n 0, 1) := dk_42 (dk_at dksX1_restoreSnapshot_0 0 rfl rfl)
theorem dX1_restoreSnapshot_1 : decode cX1_restoreSnapshot 1 = .ok (.getfield 439, 3) := dk_180 1 183 (dk_at dksX1_restoreSnapshot_0 1 rfl rfl)
theorem dX1_restoreSnapshot_4 : decode cX1_restoreSnapshot 4 = .ok (.ifnull 7, 3) := dk_198 0 7 (dk_at dksX1_restoreSnapshot_0 4 rfl rfl)
theorem dX1_restoreSnapshot_7 : decode cX1_restoreSnapshot 7 = .ok (.iconst 1, 1) := dk_4 (dk_at dksX1_restoreSnapshot_0 7 rfl rfl)
theorem dX1_restoreSnapshot_8 : decode cX1_restoreSnapshot 8 = .ok (.goto 4, 3) := dk_167 0 4 (dk_at dksX1_restoreSnapshot_0 8 rfl rfl)
theorem dX1_restoreSnapshot_11 : decode cX1_restoreSnapshot 11 = .ok (.iconst 0, 1) := dk_3 (dk_at dksX1_restoreSnapshot_0 11 rfl rfl)
theorem dX1_restoreSnapshot_12 : decode cX1_restoreSnapshot 12 = .ok (.invokestatic 338, 3) := dk_184 1 82 (dk_at dksX1_restoreSnapshot_0 12 rfl rfl)
theorem dX1_restoreSnapshot_15 : decode cX1_restoreSnapshot 15 = .ok (.aload_n 0, 1) := dk_42 (dk_at dksX1_restoreSnapshot_0 15 rfl rfl)
theorem dX1_restoreSnapshot_16 : decode cX1_restoreSnapshot 16 = .ok (.new 38, 3) := dk_187 0 38 (dk_at dksX1_restoreSnapshot_0 16 rfl rfl)
theorem dX1_restoreSnapshot_19 : decode cX1_restoreSnapshot 19 = .ok (.dup, 1) := dk_89 (dk_at dksX1_restoreSnapshot_0 19 rfl rfl)
theorem dX1_restoreSnapshot_20 : decode cX1_restoreSnapshot 20 = .ok (.aload_n 0, 1) := dk_42 (dk_at dksX1_restoreSnapshot_0 20 rfl rfl)
theorem dX1_restoreSnapshot_21 : decode cX1_restoreSnapshot 21 = .ok (.getfield 439, 3) := dk_180 1 183 (dk_at dksX1_restoreSnapshot_0 21 rfl rfl)
theorem dX1_restoreSnapshot_24 : decode cX1_restoreSnapshot 24 = .ok (.invokespecial 90, 3) := dk_183 0 90 (dk_at dksX1_restoreSnapshot_1 0 rfl rfl)
theorem dX1_restoreSnapshot_27 : decode cX1_restoreSnapshot 27 = .ok (.putfield 41, 3) := dk_181 0 41 (dk_at dksX1_restoreSnapshot_1 3 rfl rfl)
theorem dX1_restoreSnapshot_30 : decode cX1_restoreSnapshot 30 = .ok (.aload_n 0, 1) := dk_42 (dk_at dksX1_restoreSnapshot_1 6 rfl rfl)
theorem dX1_restoreSnapshot_31 : decode cX1_restoreSnapshot 31 = .ok (.getfield 48, 3) := dk_180 0 48 (dk_at dksX1_restoreSnapshot_1 7 rfl rfl)
theorem dX1_restoreSnapshot_34 : decode cX1_restoreSnapshot 34 = .ok (.invokevirtual 442, 3) := dk_182 1 186 (dk_at dksX1_restoreSnapshot_1 10 rfl rfl)
theorem dX1_restoreSnapshot_37 : decode cX1_restoreSnapshot 37 = .ok (.aload_n 0, 1) := dk_42 (dk_at dksX1_restoreSnapshot_1 13 rfl rfl)
theorem dX1_restoreSnapshot_38 : decode cX1_restoreSnapshot 38 = .ok (.getfield 41, 3) := dk_180 0 41 (dk_at dksX1_restoreSnapshot_1 14 rfl rfl)
theorem dX1_restoreSnapshot_41 : decode cX1_restoreSnapshot 41 = .ok (.getfield 123, 3) := dk_180 0 123 (dk_at dksX1_restoreSnapshot_1 17 rfl rfl)
theorem dX1_restoreSnapshot_44 : decode cX1_restoreSnapshot 44 = .ok (.invokeinterface 127 1, 5) := by decide +kernel
theorem dX1_restoreSnapshot_49 : decode cX1_restoreSnapshot 49 = .ok (.ireturn, 1) := dk_172 (dk_at dksX1_restoreSnapshot_2 5 rfl rfl)
theorem q94 : (Jvm.Cond.initialized "WeirfoldLane") ∈ lw_all := lw_g (lw_at lw_m1 1 rfl) rfl
theorem q150 : (Jvm.Cond.instantiable "WeirfoldLane" (7 : Nat)) ∈ lw_all := lw_g (lw_at lw_m1 57 rfl) rfl
theorem q152 : (Jvm.Cond.instanceMethod ({ cls := "WeirfoldLane", name := "<init>", desc := "()V" } : Jvm.MethodName)) ∈ lw_all := lw_g (lw_at lw_m1 59 rfl) rfl
theorem q153 : (Jvm.Cond.code ({ cls := "WeirfoldLane", name := "<init>", desc := "()V" } : Jvm.MethodName) prog_1_method_10_code (1 : Nat) (Option.none : Option Jvm.ClassFile.FieldType)) ∈ lw_all := lw_g (lw_at lw_m1 60 rfl) rfl
theorem q154 : (Jvm.Cond.methodLink "WeirfoldLane" (35 : Nat) ({ cls := "java/lang/Object", name := "<init>", desc := "()V" } : Jvm.MethodName)) ∈ lw_all := lw_g (lw_at lw_m1 61 rfl) rfl
theorem q157 : (Jvm.Cond.classLink "WeirfoldLane" (38 : Nat) "WeirfoldLane$Lane") ∈ lw_all := lw_g (lw_at lw_m1 64 rfl) rfl
theorem q159 : (Jvm.Cond.methodLink "WeirfoldLane" (40 : Nat) ({ cls := "WeirfoldLane$Lane", name := "<init>", desc := "()V" } : Jvm.MethodName)) ∈ lw_all := lw_g (lw_at lw_m1 66 rfl) rfl
theorem q196 : (Jvm.Cond.fieldLinkNest "WeirfoldLane" (123 : Nat) "WeirfoldLane$Lane" "rows" "Ljava/util/List;" "WeirfoldLane") ∈ lw_tbl := lw_at lw_m1 103 rfl
theorem q202 : (Jvm.Cond.fieldLinkNest "WeirfoldLane" (183 : Nat) "WeirfoldLane$Lane" "steps" "Ljava/util/List;" "WeirfoldLane") ∈ lw_tbl := lw_at lw_m1 109 rfl
theorem q205 : (Jvm.Cond.fieldLinkNest "WeirfoldLane" (240 : Nat) "WeirfoldLane$Lane" "views" "Ljava/util/List;" "WeirfoldLane") ∈ lw_tbl := lw_at lw_m1 112 rfl
theorem q208 : (Jvm.Cond.fieldLinkNest "WeirfoldLane" (120 : Nat) "WeirfoldLane$Lane" "today" "I" "WeirfoldLane") ∈ lw_tbl := lw_at lw_m1 115 rfl
theorem q210 : (Jvm.Cond.fieldLinkNest "WeirfoldLane" (312 : Nat) "WeirfoldLane$Lane" "added" "I" "WeirfoldLane") ∈ lw_tbl := lw_at lw_m1 117 rfl
theorem q212 : (Jvm.Cond.fieldLinkNest "WeirfoldLane" (315 : Nat) "WeirfoldLane$Lane" "removed" "I" "WeirfoldLane") ∈ lw_tbl := lw_at lw_m1 119 rfl
theorem q214 : (Jvm.Cond.fieldLinkNest "WeirfoldLane" (318 : Nat) "WeirfoldLane$Lane" "late" "I" "WeirfoldLane") ∈ lw_tbl := lw_at lw_m1 121 rfl
theorem q216 : (Jvm.Cond.fieldLinkNest "WeirfoldLane" (321 : Nat) "WeirfoldLane$Lane" "repaired" "I" "WeirfoldLane") ∈ lw_tbl := lw_at lw_m1 123 rfl
theorem q234 : (Jvm.Cond.classLink "WeirfoldLane" (45 : Nat) "java/util/ArrayDeque") ∈ lw_all := lw_g (lw_at lw_m1 141 rfl) rfl
theorem q236 : (Jvm.Cond.methodLink "WeirfoldLane" (47 : Nat) ({ cls := "java/util/ArrayDeque", name := "<init>", desc := "()V" } : Jvm.MethodName)) ∈ lw_all := lw_g (lw_at lw_m1 143 rfl) rfl
theorem q252 : (Jvm.Cond.classLink "WeirfoldLane" (52 : Nat) "java/lang/StringBuilder") ∈ lw_all := lw_g (lw_at lw_m1 159 rfl) rfl
theorem q254 : (Jvm.Cond.methodLink "WeirfoldLane" (54 : Nat) ({ cls := "java/lang/StringBuilder", name := "<init>", desc := "()V" } : Jvm.MethodName)) ∈ lw_all := lw_g (lw_at lw_m1 161 rfl) rfl
theorem q285 : (Jvm.Cond.stringRef "WeirfoldLane" (59 : Nat) "") ∈ lw_tbl := lw_at lw_m1 192 rfl
theorem q286 : (Jvm.Cond.fieldLink "WeirfoldLane" (41 : Nat) "WeirfoldLane" "lane" "LWeirfoldLane$Lane;") ∈ lw_all := lw_g (lw_at lw_m1 193 rfl) rfl
theorem q287 : (Jvm.Cond.fieldLink "WeirfoldLane" (48 : Nat) "WeirfoldLane" "past" "Ljava/util/ArrayDeque;") ∈ lw_all := lw_g (lw_at lw_m1 194 rfl) rfl
theorem q289 : (Jvm.Cond.fieldLink "WeirfoldLane" (55 : Nat) "WeirfoldLane" "buffer" "Ljava/lang/StringBuilder;") ∈ lw_all := lw_g (lw_at lw_m1 196 rfl) rfl
theorem q290 : (Jvm.Cond.fieldLink "WeirfoldLane" (61 : Nat) "WeirfoldLane" "line" "Ljava/lang/String;") ∈ lw_all := lw_g (lw_at lw_m1 197 rfl) rfl
theorem q291 : (Jvm.Cond.fieldLink "WeirfoldLane" (65 : Nat) "WeirfoldLane" "fault" "I") ∈ lw_all := lw_g (lw_at lw_m1 198 rfl) rfl
theorem q292 : (Jvm.Cond.fieldLink "WeirfoldLane" (81 : Nat) "WeirfoldLane" "denied" "LWeirfoldLane$Denial;") ∈ lw_all := lw_g (lw_at lw_m1 199 rfl) rfl
theorem q293 : (Jvm.Cond.fieldLink "WeirfoldLane" (439 : Nat) "WeirfoldLane" "snapshot" "LWeirfoldLane$Lane;") ∈ lw_all := lw_g (lw_at lw_m1 200 rfl) rfl
theorem q294 : (Jvm.Cond.lays "WeirfoldLane" "WeirfoldLane" "lane" "LWeirfoldLane$Lane;") ∈ lw_all := lw_g (lw_at lw_m1 201 rfl) rfl
theorem q295 : (Jvm.Cond.soleField "WeirfoldLane" "lane") ∈ lw_all := lw_g (lw_at lw_m1 202 rfl) rfl
theorem q296 : (Jvm.Cond.laysFinal "WeirfoldLane" "WeirfoldLane" "past" "Ljava/util/ArrayDeque;") ∈ lw_all := lw_g (lw_at lw_m1 203 rfl) rfl
theorem q297 : (Jvm.Cond.soleField "WeirfoldLane" "past") ∈ lw_all := lw_g (lw_at lw_m1 204 rfl) rfl
theorem q298 : (Jvm.Cond.laysFinal "WeirfoldLane" "WeirfoldLane" "buffer" "Ljava/lang/StringBuilder;") ∈ lw_all := lw_g (lw_at lw_m1 205 rfl) rfl
theorem q299 : (Jvm.Cond.soleField "WeirfoldLane" "buffer") ∈ lw_all := lw_g (lw_at lw_m1 206 rfl) rfl
theorem q300 : (Jvm.Cond.lays "WeirfoldLane" "WeirfoldLane" "line" "Ljava/lang/String;") ∈ lw_all := lw_g (lw_at lw_m1 207 rfl) rfl
theorem q301 : (Jvm.Cond.soleField "WeirfoldLane" "line") ∈ lw_all := lw_g (lw_at lw_m1 208 rfl) rfl
theorem q302 : (Jvm.Cond.lays "WeirfoldLane" "WeirfoldLane" "fault" "I") ∈ lw_all := lw_g (lw_at lw_m1 209 rfl) rfl
theorem q303 : (Jvm.Cond.soleField "WeirfoldLane" "fault") ∈ lw_all := lw_g (lw_at lw_m1 210 rfl) rfl
theorem q304 : (Jvm.Cond.lays "WeirfoldLane" "WeirfoldLane" "denied" "LWeirfoldLane$Denial;") ∈ lw_all := lw_g (lw_at lw_m1 211 rfl) rfl
theorem q305 : (Jvm.Cond.soleField "WeirfoldLane" "denied") ∈ lw_all := lw_g (lw_at lw_m1 212 rfl) rfl
theorem q306 : (Jvm.Cond.lays "WeirfoldLane" "WeirfoldLane" "snapshot" "LWeirfoldLane$Lane;") ∈ lw_all := lw_g (lw_at lw_m1 213 rfl) rfl
theorem q307 : (Jvm.Cond.soleField "WeirfoldLane" "snapshot") ∈ lw_all := lw_g (lw_at lw_m1 214 rfl) rfl
theorem q308 : (Jvm.Cond.superclass "WeirfoldLane" "java/lang/Object") ∈ lw_all := lw_g (lw_at lw_m1 215 rfl) rfl
theorem q310 : (Jvm.Cond.instanceMethod ({ cls := "WeirfoldLane", name := "today", desc := "()I" } : Jvm.MethodName)) ∈ lw_all := lw_g (lw_at lw_m1 217 rfl) rfl
theorem q311 : (Jvm.Cond.selects "WeirfoldLane" ({ cls := "WeirfoldLane", name := "today", desc := "()I" } : Jvm.MethodName) ({ cls := "WeirfoldLane", name := "today", desc := "()I" } : Jvm.MethodName)) ∈ lw_all := lw_g (lw_at lw_m1 218 rfl) rfl
theorem q312 : (Jvm.Cond.code ({ cls := "WeirfoldLane", name := "today", desc := "()I" } : Jvm.MethodName) prog_1_method_17_code (1 : Nat) (Option.some Jvm.ClassFile.FieldType.int)) ∈ lw_all := lw_g (lw_at lw_m1 219 rfl) rfl
theorem q314 : (Jvm.Cond.instanceMethod ({ cls := "WeirfoldLane", name := "rows", desc := "()I" } : Jvm.MethodName)) ∈ lw_all := lw_g (lw_at lw_m1 221 rfl) rfl
theorem q315 : (Jvm.Cond.selects "WeirfoldLane" ({ cls := "WeirfoldLane", name := "rows", desc := "()I" } : Jvm.MethodName) ({ cls := "WeirfoldLane", name := "rows", desc := "()I" } : Jvm.MethodName)) ∈ lw_all := lw_g (lw_at lw_m1 222 rfl) rfl
theorem q316 : (Jvm.Cond.code ({ cls := "WeirfoldLane", name := "rows", desc := "()I" } : Jvm.MethodName) prog_1_method_18_code (1 : Nat) (Option.some Jvm.ClassFile.FieldType.int)) ∈ lw_all := lw_g (lw_at lw_m1 223 rfl) rfl
theorem q317 : (Jvm.Cond.interfaceEntry "WeirfoldLane" (127 : Nat)) ∈ lw_tbl := lw_at lw_m1 224 rfl
theorem q318 : (Jvm.Cond.methodLink "WeirfoldLane" (127 : Nat) ({ cls := "java/util/List", name := "size", desc := "()I" } : Jvm.MethodName)) ∈ lw_all := lw_g (lw_at lw_m1 225 rfl) rfl
theorem q328 : (Jvm.Cond.instanceMethod ({ cls := "WeirfoldLane", name := "steps", desc := "()I" } : Jvm.MethodName)) ∈ lw_all := lw_g (lw_at lw_m1 235 rfl) rfl
theorem q329 : (Jvm.Cond.selects "WeirfoldLane" ({ cls := "WeirfoldLane", name := "steps", desc := "()I" } : Jvm.MethodName) ({ cls := "WeirfoldLane", name := "steps", desc := "()I" } : Jvm.MethodName)) ∈ lw_all := lw_g (lw_at lw_m1 236 rfl) rfl
theorem q330 : (Jvm.Cond.code ({ cls := "WeirfoldLane", name := "steps", desc := "()I" } : Jvm.MethodName) prog_1_method_28_code (1 : Nat) (Option.some Jvm.ClassFile.FieldType.int)) ∈ lw_all := lw_g (lw_at lw_m1 237 rfl) rfl
theorem q332 : (Jvm.Cond.instanceMethod ({ cls := "WeirfoldLane", name := "stale", desc := "()I" } : Jvm.MethodName)) ∈ lw_all := lw_g (lw_at lw_m1 239 rfl) rfl
theorem q333 : (Jvm.Cond.selects "WeirfoldLane" ({ cls := "WeirfoldLane", name := "stale", desc := "()I" } : Jvm.MethodName) ({ cls := "WeirfoldLane", name := "stale", desc := "()I" } : Jvm.MethodName)) ∈ lw_all := lw_g (lw_at lw_m2 0 rfl) rfl
theorem q334 : (Jvm.Cond.code ({ cls := "WeirfoldLane", name := "stale", desc := "()I" } : Jvm.MethodName) prog_1_method_36_code (3 : Nat) (Option.some Jvm.ClassFile.FieldType.int)) ∈ lw_all := lw_g (lw_at lw_m2 1 rfl) rfl
theorem q335 : (Jvm.Cond.methodLink "WeirfoldLane" (222 : Nat) ({ cls := "WeirfoldLane$Lane", name := "staleOn", desc := "(I)I" } : Jvm.MethodName)) ∈ lw_all := lw_g (lw_at lw_m2 2 rfl) rfl
theorem q463 : (Jvm.Cond.instanceMethod ({ cls := "WeirfoldLane", name := "wrong", desc := "()I" } : Jvm.MethodName)) ∈ lw_all := lw_g (lw_at lw_m2 130 rfl) rfl
theorem q464 : (Jvm.Cond.selects "WeirfoldLane" ({ cls := "WeirfoldLane", name := "wrong", desc := "()I" } : Jvm.MethodName) ({ cls := "WeirfoldLane", name := "wrong", desc := "()I" } : Jvm.MethodName)) ∈ lw_all := lw_g (lw_at lw_m2 131 rfl) rfl
theorem q465 : (Jvm.Cond.code ({ cls := "WeirfoldLane", name := "wrong", desc := "()I" } : Jvm.MethodName) prog_1_method_38_code (5 : Nat) (Option.some Jvm.ClassFile.FieldType.int)) ∈ lw_all := lw_g (lw_at lw_m2 132 rfl) rfl
theorem q466 : (Jvm.Cond.methodLink "WeirfoldLane" (230 : Nat) ({ cls := "WeirfoldLane", name := "renewed", desc := "()LWeirfoldLane$Lane;" } : Jvm.MethodName)) ∈ lw_all := lw_g (lw_at lw_m2 133 rfl) rfl
theorem q467 : (Jvm.Cond.privateMethod ({ cls := "WeirfoldLane", name := "renewed", desc := "()LWeirfoldLane$Lane;" } : Jvm.MethodName)) ∈ lw_tbl := lw_at lw_m2 134 rfl
theorem q468 : (Jvm.Cond.instanceMethod ({ cls := "WeirfoldLane", name := "renewed", desc := "()LWeirfoldLane$Lane;" } : Jvm.MethodName)) ∈ lw_all := lw_g (lw_at lw_m2 135 rfl) rfl
theorem q469 : (Jvm.Cond.code ({ cls := "WeirfoldLane", name := "renewed", desc := "()LWeirfoldLane$Lane;" } : Jvm.MethodName) prog_1_method_37_code (5 : Nat) (Option.some (Jvm.ClassFile.FieldType.object "WeirfoldLane$Lane"))) ∈ lw_all := lw_g (lw_at lw_m2 136 rfl) rfl
theorem q470 : (Jvm.Cond.methodLink "WeirfoldLane" (90 : Nat) ({ cls := "WeirfoldLane$Lane", name := "<init>", desc := "(LWeirfoldLane$Lane;)V" } : Jvm.MethodName)) ∈ lw_all := lw_g (lw_at lw_m2 137 rfl) rfl
theorem q511 : (Jvm.Cond.selects "WeirfoldLane" ({ cls := "java/lang/Object", name := "getClass", desc := "()Ljava/lang/Class;" } : Jvm.MethodName) ({ cls := "java/lang/Object", name := "getClass", desc := "()Ljava/lang/Class;" } : Jvm.MethodName)) ∈ lw_all := lw_g (lw_at lw_m2 178 rfl) rfl
theorem q573 : (Jvm.Cond.fieldLinkNest "WeirfoldLane" (245 : Nat) "WeirfoldLane$View" "numbers" "[J" "WeirfoldLane") ∈ lw_tbl := lw_at lw_m3 0 rfl
theorem q585 : (Jvm.Cond.interfaceEntry "WeirfoldLane" (154 : Nat)) ∈ lw_tbl := lw_at lw_m3 12 rfl
theorem q586 : (Jvm.Cond.methodLink "WeirfoldLane" (154 : Nat) ({ cls := "java/util/List", name := "iterator", desc := "()Ljava/util/Iterator;" } : Jvm.MethodName)) ∈ lw_all := lw_g (lw_at lw_m3 13 rfl) rfl
theorem q587 : (Jvm.Cond.interfaceEntry "WeirfoldLane" (158 : Nat)) ∈ lw_tbl := lw_at lw_m3 14 rfl
theorem q588 : (Jvm.Cond.methodLink "WeirfoldLane" (158 : Nat) ({ cls := "java/util/Iterator", name := "hasNext", desc := "()Z" } : Jvm.MethodName)) ∈ lw_all := lw_g (lw_at lw_m3 15 rfl) rfl
theorem q589 : (Jvm.Cond.interfaceEntry "WeirfoldLane" (164 : Nat)) ∈ lw_tbl := lw_at lw_m3 16 rfl
theorem q590 : (Jvm.Cond.methodLink "WeirfoldLane" (164 : Nat) ({ cls := "java/util/Iterator", name := "next", desc := "()Ljava/lang/Object;" } : Jvm.MethodName)) ∈ lw_all := lw_g (lw_at lw_m3 17 rfl) rfl
theorem q591 : (Jvm.Cond.classLink "WeirfoldLane" (191 : Nat) "WeirfoldLane$Step") ∈ lw_all := lw_g (lw_at lw_m3 18 rfl) rfl
theorem q592 : (Jvm.Cond.methodLinkNest "WeirfoldLane" (226 : Nat) ({ cls := "WeirfoldLane$Lane", name := "computePartition", desc := "(LWeirfoldLane$Step;I)V" } : Jvm.MethodName) "WeirfoldLane") ∈ lw_tbl := lw_at lw_m3 19 rfl
theorem q621 : (Jvm.Cond.selects "WeirfoldLane" ({ cls := "java/lang/Object", name := "equals", desc := "(Ljava/lang/Object;)Z" } : Jvm.MethodName) ({ cls := "java/lang/Object", name := "equals", desc := "(Ljava/lang/Object;)Z" } : Jvm.MethodName)) ∈ lw_all := lw_g (lw_at lw_m3 48 rfl) rfl
theorem q679 : (Jvm.Cond.static ({ cls := "WeirfoldLane", name := "place", desc := "(II)I" } : Jvm.MethodName)) ∈ lw_all := lw_g (lw_at lw_m3 106 rfl) rfl
theorem q680 : (Jvm.Cond.code ({ cls := "WeirfoldLane", name := "place", desc := "(II)I" } : Jvm.MethodName) prog_1_method_9_code (2 : Nat) (Option.some Jvm.ClassFile.FieldType.int)) ∈ lw_all := lw_g (lw_at lw_m3 107 rfl) rfl
theorem q766 : (Jvm.Cond.methodLink "WeirfoldLane" (234 : Nat) ({ cls := "WeirfoldLane", name := "steps", desc := "()I" } : Jvm.MethodName)) ∈ lw_all := lw_g (lw_at lw_m3 193 rfl) rfl
theorem q767 : (Jvm.Cond.methodLink "WeirfoldLane" (236 : Nat) ({ cls := "WeirfoldLane", name := "place", desc := "(II)I" } : Jvm.MethodName)) ∈ lw_all := lw_g (lw_at lw_m3 194 rfl) rfl
theorem q768 : (Jvm.Cond.interfaceEntry "WeirfoldLane" (133 : Nat)) ∈ lw_tbl := lw_at lw_m3 195 rfl
theorem q769 : (Jvm.Cond.methodLink "WeirfoldLane" (133 : Nat) ({ cls := "java/util/List", name := "get", desc := "(I)Ljava/lang/Object;" } : Jvm.MethodName)) ∈ lw_all := lw_g (lw_at lw_m3 196 rfl) rfl
theorem q770 : (Jvm.Cond.classLink "WeirfoldLane" (243 : Nat) "WeirfoldLane$View") ∈ lw_all := lw_g (lw_at lw_m3 197 rfl) rfl
theorem q772 : (Jvm.Cond.instanceMethod ({ cls := "WeirfoldLane", name := "added", desc := "()I" } : Jvm.MethodName)) ∈ lw_all := lw_g (lw_at lw_m3 199 rfl) rfl
theorem q773 : (Jvm.Cond.selects "WeirfoldLane" ({ cls := "WeirfoldLane", name := "added", desc := "()I" } : Jvm.MethodName) ({ cls := "WeirfoldLane", name := "added", desc := "()I" } : Jvm.MethodName)) ∈ lw_all := lw_g (lw_at lw_m3 200 rfl) rfl
theorem q774 : (Jvm.Cond.code ({ cls := "WeirfoldLane", name := "added", desc := "()I" } : Jvm.MethodName) prog_1_method_49_code (1 : Nat) (Option.some Jvm.ClassFile.FieldType.int)) ∈ lw_all := lw_g (lw_at lw_m3 201 rfl) rfl
theorem q776 : (Jvm.Cond.instanceMethod ({ cls := "WeirfoldLane", name := "removed", desc := "()I" } : Jvm.MethodName)) ∈ lw_all := lw_g (lw_at lw_m3 203 rfl) rfl
theorem q777 : (Jvm.Cond.selects "WeirfoldLane" ({ cls := "WeirfoldLane", name := "removed", desc := "()I" } : Jvm.MethodName) ({ cls := "WeirfoldLane", name := "removed", desc := "()I" } : Jvm.MethodName)) ∈ lw_all := lw_g (lw_at lw_m3 204 rfl) rfl
theorem q778 : (Jvm.Cond.code ({ cls := "WeirfoldLane", name := "removed", desc := "()I" } : Jvm.MethodName) prog_1_method_50_code (1 : Nat) (Option.some Jvm.ClassFile.FieldType.int)) ∈ lw_all := lw_g (lw_at lw_m3 205 rfl) rfl
theorem q780 : (Jvm.Cond.instanceMethod ({ cls := "WeirfoldLane", name := "late", desc := "()I" } : Jvm.MethodName)) ∈ lw_all := lw_g (lw_at lw_m3 207 rfl) rfl
theorem q781 : (Jvm.Cond.selects "WeirfoldLane" ({ cls := "WeirfoldLane", name := "late", desc := "()I" } : Jvm.MethodName) ({ cls := "WeirfoldLane", name := "late", desc := "()I" } : Jvm.MethodName)) ∈ lw_all := lw_g (lw_at lw_m3 208 rfl) rfl
theorem q782 : (Jvm.Cond.code ({ cls := "WeirfoldLane", name := "late", desc := "()I" } : Jvm.MethodName) prog_1_method_51_code (1 : Nat) (Option.some Jvm.ClassFile.FieldType.int)) ∈ lw_all := lw_g (lw_at lw_m3 209 rfl) rfl
theorem q784 : (Jvm.Cond.instanceMethod ({ cls := "WeirfoldLane", name := "repaired", desc := "()I" } : Jvm.MethodName)) ∈ lw_all := lw_g (lw_at lw_m3 211 rfl) rfl
theorem q785 : (Jvm.Cond.selects "WeirfoldLane" ({ cls := "WeirfoldLane", name := "repaired", desc := "()I" } : Jvm.MethodName) ({ cls := "WeirfoldLane", name := "repaired", desc := "()I" } : Jvm.MethodName)) ∈ lw_all := lw_g (lw_at lw_m3 212 rfl) rfl
theorem q786 : (Jvm.Cond.code ({ cls := "WeirfoldLane", name := "repaired", desc := "()I" } : Jvm.MethodName) prog_1_method_52_code (1 : Nat) (Option.some Jvm.ClassFile.FieldType.int)) ∈ lw_all := lw_g (lw_at lw_m3 213 rfl) rfl
theorem q788 : (Jvm.Cond.instanceMethod ({ cls := "WeirfoldLane", name := "undoCount", desc := "()I" } : Jvm.MethodName)) ∈ lw_all := lw_g (lw_at lw_m3 215 rfl) rfl
theorem q789 : (Jvm.Cond.selects "WeirfoldLane" ({ cls := "WeirfoldLane", name := "undoCount", desc := "()I" } : Jvm.MethodName) ({ cls := "WeirfoldLane", name := "undoCount", desc := "()I" } : Jvm.MethodName)) ∈ lw_all := lw_g (lw_at lw_m3 216 rfl) rfl
theorem q790 : (Jvm.Cond.code ({ cls := "WeirfoldLane", name := "undoCount", desc := "()I" } : Jvm.MethodName) prog_1_method_70_code (1 : Nat) (Option.some Jvm.ClassFile.FieldType.int)) ∈ lw_all := lw_g (lw_at lw_m3 217 rfl) rfl
theorem q791 : (Jvm.Cond.methodLink "WeirfoldLane" (69 : Nat) ({ cls := "java/util/ArrayDeque", name := "size", desc := "()I" } : Jvm.MethodName)) ∈ lw_all := lw_g (lw_at lw_m3 218 rfl) rfl
theorem q799 : (Jvm.Cond.instanceMethod ({ cls := "WeirfoldLane", name := "saveSnapshot", desc := "()I" } : Jvm.MethodName)) ∈ lw_all := lw_g (lw_at lw_m3 226 rfl) rfl
theorem q800 : (Jvm.Cond.selects "WeirfoldLane" ({ cls := "WeirfoldLane", name := "saveSnapshot", desc := "()I" } : Jvm.MethodName) ({ cls := "WeirfoldLane", name := "saveSnapshot", desc := "()I" } : Jvm.MethodName)) ∈ lw_all := lw_g (lw_at lw_m3 227 rfl) rfl
theorem q801 : (Jvm.Cond.code ({ cls := "WeirfoldLane", name := "saveSnapshot", desc := "()I" } : Jvm.MethodName) prog_1_method_71_code (1 : Nat) (Option.some Jvm.ClassFile.FieldType.int)) ∈ lw_all := lw_g (lw_at lw_m3 228 rfl) rfl
theorem q808 : (Jvm.Cond.instanceMethod ({ cls := "WeirfoldLane", name := "addRow", desc := "(CII)I" } : Jvm.MethodName)) ∈ lw_all := lw_g (lw_at lw_m3 235 rfl) rfl
theorem q809 : (Jvm.Cond.selects "WeirfoldLane" ({ cls := "WeirfoldLane", name := "addRow", desc := "(CII)I" } : Jvm.MethodName) ({ cls := "WeirfoldLane", name := "addRow", desc := "(CII)I" } : Jvm.MethodName)) ∈ lw_all := lw_g (lw_at lw_m3 236 rfl) rfl
theorem q810 : (Jvm.Cond.code ({ cls := "WeirfoldLane", name := "addRow", desc := "(CII)I" } : Jvm.MethodName) prog_1_method_14_code (4 : Nat) (Option.some Jvm.ClassFile.FieldType.int)) ∈ lw_all := lw_g (lw_at lw_m3 237 rfl) rfl
theorem q811 : (Jvm.Cond.stringRef "WeirfoldLane" (110 : Nat) "row") ∈ lw_tbl := lw_at lw_m3 238 rfl
theorem q812 : (Jvm.Cond.methodLink "WeirfoldLane" (112 : Nat) ({ cls := "WeirfoldLane", name := "commit", desc := "(Ljava/lang/String;CII)I" } : Jvm.MethodName)) ∈ lw_all := lw_g (lw_at lw_m3 239 rfl) rfl
theorem q813 : (Jvm.Cond.privateMethod ({ cls := "WeirfoldLane", name := "commit", desc := "(Ljava/lang/String;CII)I" } : Jvm.MethodName)) ∈ lw_tbl := lw_at lw_m4 0 rfl
theorem q814 : (Jvm.Cond.instanceMethod ({ cls := "WeirfoldLane", name := "commit", desc := "(Ljava/lang/String;CII)I" } : Jvm.MethodName)) ∈ lw_all := lw_g (lw_at lw_m4 1 rfl) rfl
theorem q815 : (Jvm.Cond.codeWith ({ cls := "WeirfoldLane", name := "commit", desc := "(Ljava/lang/String;CII)I" } : Jvm.MethodName) prog_1_method_13_code (7 : Nat) (Option.some Jvm.ClassFile.FieldType.int) [((13 : Nat), (36 : Nat), (37 : Nat), (30 : Nat))]) ∈ lw_all := lw_g (lw_at lw_m4 2 rfl) rfl
theorem q816 : (Jvm.Cond.classLink "WeirfoldLane" (30 : Nat) "WeirfoldLane$Denial") ∈ lw_all := lw_g (lw_at lw_m4 3 rfl) rfl
theorem q817 : (Jvm.Cond.classLink "WeirfoldLane" (93 : Nat) "WeirfoldLane$Change") ∈ lw_all := lw_g (lw_at lw_m4 4 rfl) rfl
theorem q819 : (Jvm.Cond.methodLink "WeirfoldLane" (95 : Nat) ({ cls := "WeirfoldLane$Change", name := "<init>", desc := "(Ljava/lang/String;CII)V" } : Jvm.MethodName)) ∈ lw_all := lw_g (lw_at lw_m4 6 rfl) rfl
theorem q836 : (Jvm.Cond.methodLink "WeirfoldLane" (98 : Nat) ({ cls := "WeirfoldLane$Change", name := "apply", desc := "(LWeirfoldLane$Lane;)I" } : Jvm.MethodName)) ∈ lw_all := lw_g (lw_at lw_m4 23 rfl) rfl
theorem q1132 : (Jvm.Cond.static ({ cls := "WeirfoldLane", name := "groupNumber", desc := "(C)I" } : Jvm.MethodName)) ∈ lw_all := lw_g (lw_at lw_m5 79 rfl) rfl
theorem q1133 : (Jvm.Cond.code ({ cls := "WeirfoldLane", name := "groupNumber", desc := "(C)I" } : Jvm.MethodName) prog_1_method_7_code (1 : Nat) (Option.some Jvm.ClassFile.FieldType.int)) ∈ lw_all := lw_g (lw_at lw_m5 80 rfl) rfl
theorem q1134 : (Jvm.Cond.methodLink "WeirfoldLane" (26 : Nat) ({ cls := "WeirfoldLane", name := "requireRange", desc := "(III)V" } : Jvm.MethodName)) ∈ lw_all := lw_g (lw_at lw_m5 81 rfl) rfl
theorem q1135 : (Jvm.Cond.static ({ cls := "WeirfoldLane", name := "requireRange", desc := "(III)V" } : Jvm.MethodName)) ∈ lw_all := lw_g (lw_at lw_m5 82 rfl) rfl
theorem q1136 : (Jvm.Cond.code ({ cls := "WeirfoldLane", name := "requireRange", desc := "(III)V" } : Jvm.MethodName) prog_1_method_3_code (3 : Nat) (Option.none : Option Jvm.ClassFile.FieldType)) ∈ lw_all := lw_g (lw_at lw_m5 83 rfl) rfl
theorem q1137 : (Jvm.Cond.methodLink "WeirfoldLane" (7 : Nat) ({ cls := "WeirfoldLane", name := "inRange", desc := "(III)Z" } : Jvm.MethodName)) ∈ lw_all := lw_g (lw_at lw_m5 84 rfl) rfl
theorem q1138 : (Jvm.Cond.static ({ cls := "WeirfoldLane", name := "inRange", desc := "(III)Z" } : Jvm.MethodName)) ∈ lw_all := lw_g (lw_at lw_m5 85 rfl) rfl
theorem q1139 : (Jvm.Cond.code ({ cls := "WeirfoldLane", name := "inRange", desc := "(III)Z" } : Jvm.MethodName) prog_1_method_1_code (3 : Nat) (Option.some Jvm.ClassFile.FieldType.boolean)) ∈ lw_all := lw_g (lw_at lw_m5 86 rfl) rfl
theorem q1140 : (Jvm.Cond.methodLink "WeirfoldLane" (13 : Nat) ({ cls := "WeirfoldLane", name := "requireArgument", desc := "(Z)V" } : Jvm.MethodName)) ∈ lw_all := lw_g (lw_at lw_m5 87 rfl) rfl
theorem q1141 : (Jvm.Cond.static ({ cls := "WeirfoldLane", name := "requireArgument", desc := "(Z)V" } : Jvm.MethodName)) ∈ lw_all := lw_g (lw_at lw_m5 88 rfl) rfl
theorem q1142 : (Jvm.Cond.code ({ cls := "WeirfoldLane", name := "requireArgument", desc := "(Z)V" } : Jvm.MethodName) prog_1_method_2_code (1 : Nat) (Option.none : Option Jvm.ClassFile.FieldType)) ∈ lw_all := lw_g (lw_at lw_m5 89 rfl) rfl
theorem q1143 : (Jvm.Cond.classLink "WeirfoldLane" (1 : Nat) "java/lang/IllegalArgumentException") ∈ lw_all := lw_g (lw_at lw_m5 90 rfl) rfl
theorem q1144 : (Jvm.Cond.methodLink "WeirfoldLane" (3 : Nat) ({ cls := "java/lang/IllegalArgumentException", name := "<init>", desc := "()V" } : Jvm.MethodName)) ∈ lw_all := lw_g (lw_at lw_m5 91 rfl) rfl
theorem q1150 : (Jvm.Cond.static ({ cls := "WeirfoldLane", name := "denyUnless", desc := "(ZII)V" } : Jvm.MethodName)) ∈ lw_all := lw_g (lw_at lw_m5 97 rfl) rfl
theorem q1151 : (Jvm.Cond.code ({ cls := "WeirfoldLane", name := "denyUnless", desc := "(ZII)V" } : Jvm.MethodName) prog_1_method_8_code (3 : Nat) (Option.none : Option Jvm.ClassFile.FieldType)) ∈ lw_all := lw_g (lw_at lw_m5 98 rfl) rfl
theorem q1160 : (Jvm.Cond.methodLink "WeirfoldLane" (32 : Nat) ({ cls := "WeirfoldLane$Denial", name := "<init>", desc := "(II)V" } : Jvm.MethodName)) ∈ lw_all := lw_g (lw_at lw_m5 107 rfl) rfl
theorem q1173 : (Jvm.Cond.fieldLinkNest "WeirfoldLane" (426 : Nat) "WeirfoldLane$Denial" "number" "I" "WeirfoldLane") ∈ lw_tbl := lw_at lw_m5 120 rfl
theorem q1175 : (Jvm.Cond.fieldLinkNest "WeirfoldLane" (427 : Nat) "WeirfoldLane$Denial" "detail" "I" "WeirfoldLane") ∈ lw_tbl := lw_at lw_m5 122 rfl
theorem q1191 : (Jvm.Cond.fieldLinkNest "WeirfoldLane" (139 : Nat) "WeirfoldLane$Row" "number" "I" "WeirfoldLane") ∈ lw_tbl := lw_at lw_m5 138 rfl
theorem q1198 : (Jvm.Cond.fieldLinkNest "WeirfoldLane" (145 : Nat) "WeirfoldLane$Row" "day" "I" "WeirfoldLane") ∈ lw_tbl := lw_at lw_m5 145 rfl
theorem q1203 : (Jvm.Cond.fieldLinkNest "WeirfoldLane" (148 : Nat) "WeirfoldLane$Row" "group" "I" "WeirfoldLane") ∈ lw_tbl := lw_at lw_m5 150 rfl
theorem q1209 : (Jvm.Cond.fieldLinkNest "WeirfoldLane" (166 : Nat) "WeirfoldLane$Row" "amount" "I" "WeirfoldLane") ∈ lw_tbl := lw_at lw_m5 156 rfl
theorem q1368 : (Jvm.Cond.static ({ cls := "WeirfoldLane", name := "requireElement", desc := "(Z)V" } : Jvm.MethodName)) ∈ lw_all := lw_g (lw_at lw_m6 75 rfl) rfl
theorem q1369 : (Jvm.Cond.code ({ cls := "WeirfoldLane", name := "requireElement", desc := "(Z)V" } : Jvm.MethodName) prog_1_method_5_code (1 : Nat) (Option.none : Option Jvm.ClassFile.FieldType)) ∈ lw_all := lw_g (lw_at lw_m6 76 rfl) rfl
theorem q1370 : (Jvm.Cond.classLink "WeirfoldLane" (20 : Nat) "java/util/NoSuchElementException") ∈ lw_all := lw_g (lw_at lw_m6 77 rfl) rfl
theorem q1371 : (Jvm.Cond.methodLink "WeirfoldLane" (22 : Nat) ({ cls := "java/util/NoSuchElementException", name := "<init>", desc := "()V" } : Jvm.MethodName)) ∈ lw_all := lw_g (lw_at lw_m6 78 rfl) rfl
theorem q1510 : (Jvm.Cond.static ({ cls := "WeirfoldLane", name := "requireIndex", desc := "(II)V" } : Jvm.MethodName)) ∈ lw_all := lw_g (lw_at lw_m6 217 rfl) rfl
theorem q1511 : (Jvm.Cond.code ({ cls := "WeirfoldLane", name := "requireIndex", desc := "(II)V" } : Jvm.MethodName) prog_1_method_4_code (2 : Nat) (Option.none : Option Jvm.ClassFile.FieldType)) ∈ lw_all := lw_g (lw_at lw_m6 218 rfl) rfl
theorem q1512 : (Jvm.Cond.classLink "WeirfoldLane" (17 : Nat) "java/lang/IndexOutOfBoundsException") ∈ lw_all := lw_g (lw_at lw_m6 219 rfl) rfl
theorem q1521 : (Jvm.Cond.methodLink "WeirfoldLane" (19 : Nat) ({ cls := "java/lang/IndexOutOfBoundsException", name := "<init>", desc := "()V" } : Jvm.MethodName)) ∈ lw_all := lw_g (lw_at lw_m6 228 rfl) rfl
theorem q1617 : (Jvm.Cond.methodLink "WeirfoldLane" (102 : Nat) ({ cls := "WeirfoldLane", name := "replaceBy", desc := "(LWeirfoldLane$Lane;I)I" } : Jvm.MethodName)) ∈ lw_all := lw_g (lw_at lw_m7 84 rfl) rfl
theorem q1618 : (Jvm.Cond.privateMethod ({ cls := "WeirfoldLane", name := "replaceBy", desc := "(LWeirfoldLane$Lane;I)I" } : Jvm.MethodName)) ∈ lw_tbl := lw_at lw_m7 85 rfl
theorem q1619 : (Jvm.Cond.instanceMethod ({ cls := "WeirfoldLane", name := "replaceBy", desc := "(LWeirfoldLane$Lane;I)I" } : Jvm.MethodName)) ∈ lw_all := lw_g (lw_at lw_m7 86 rfl) rfl
theorem q1620 : (Jvm.Cond.code ({ cls := "WeirfoldLane", name := "replaceBy", desc := "(LWeirfoldLane$Lane;I)I" } : Jvm.MethodName) prog_1_method_11_code (4 : Nat) (Option.some Jvm.ClassFile.FieldType.int)) ∈ lw_all := lw_g (lw_at lw_m7 87 rfl) rfl
theorem q1621 : (Jvm.Cond.methodLink "WeirfoldLane" (73 : Nat) ({ cls := "java/util/ArrayDeque", name := "removeLast", desc := "()Ljava/lang/Object;" } : Jvm.MethodName)) ∈ lw_all := lw_g (lw_at lw_m7 88 rfl) rfl
theorem q1637 : (Jvm.Cond.methodLink "WeirfoldLane" (77 : Nat) ({ cls := "java/util/ArrayDeque", name := "push", desc := "(Ljava/lang/Object;)V" } : Jvm.MethodName)) ∈ lw_all := lw_g (lw_at lw_m7 104 rfl) rfl
theorem q1673 : (Jvm.Cond.methodLink "WeirfoldLane" (106 : Nat) ({ cls := "WeirfoldLane", name := "deny", desc := "(LWeirfoldLane$Denial;)Ljava/lang/UnsupportedOperationException;" } : Jvm.MethodName)) ∈ lw_all := lw_g (lw_at lw_m7 140 rfl) rfl
theorem q1674 : (Jvm.Cond.privateMethod ({ cls := "WeirfoldLane", name := "deny", desc := "(LWeirfoldLane$Denial;)Ljava/lang/UnsupportedOperationException;" } : Jvm.MethodName)) ∈ lw_tbl := lw_at lw_m7 141 rfl
theorem q1675 : (Jvm.Cond.instanceMethod ({ cls := "WeirfoldLane", name := "deny", desc := "(LWeirfoldLane$Denial;)Ljava/lang/UnsupportedOperationException;" } : Jvm.MethodName)) ∈ lw_all := lw_g (lw_at lw_m7 142 rfl) rfl
theorem q1676 : (Jvm.Cond.code ({ cls := "WeirfoldLane", name := "deny", desc := "(LWeirfoldLane$Denial;)Ljava/lang/UnsupportedOperationException;" } : Jvm.MethodName) prog_1_method_12_code (2 : Nat) (Option.some (Jvm.ClassFile.FieldType.object "java/lang/UnsupportedOperationException"))) ∈ lw_all := lw_g (lw_at lw_m7 143 rfl) rfl
theorem q1677 : (Jvm.Cond.classLink "WeirfoldLane" (85 : Nat) "java/lang/UnsupportedOperationException") ∈ lw_all := lw_g (lw_at lw_m7 144 rfl) rfl
theorem q1686 : (Jvm.Cond.methodLink "WeirfoldLane" (87 : Nat) ({ cls := "java/lang/UnsupportedOperationException", name := "<init>", desc := "(Ljava/lang/String;Ljava/lang/Throwable;)V" } : Jvm.MethodName)) ∈ lw_all := lw_g (lw_at lw_m7 153 rfl) rfl
theorem q1705 : (Jvm.Cond.instanceMethod ({ cls := "WeirfoldLane", name := "removeRow", desc := "(I)I" } : Jvm.MethodName)) ∈ lw_all := lw_g (lw_at lw_m7 172 rfl) rfl
theorem q1706 : (Jvm.Cond.selects "WeirfoldLane" ({ cls := "WeirfoldLane", name := "removeRow", desc := "(I)I" } : Jvm.MethodName) ({ cls := "WeirfoldLane", name := "removeRow", desc := "(I)I" } : Jvm.MethodName)) ∈ lw_all := lw_g (lw_at lw_m7 173 rfl) rfl
theorem q1707 : (Jvm.Cond.code ({ cls := "WeirfoldLane", name := "removeRow", desc := "(I)I" } : Jvm.MethodName) prog_1_method_15_code (2 : Nat) (Option.some Jvm.ClassFile.FieldType.int)) ∈ lw_all := lw_g (lw_at lw_m7 174 rfl) rfl
theorem q1708 : (Jvm.Cond.stringRef "WeirfoldLane" (116 : Nat) "gone") ∈ lw_tbl := lw_at lw_m7 175 rfl
theorem q1713 : (Jvm.Cond.instanceMethod ({ cls := "WeirfoldLane", name := "beginDay", desc := "()I" } : Jvm.MethodName)) ∈ lw_all := lw_g (lw_at lw_m7 180 rfl) rfl
theorem q1714 : (Jvm.Cond.selects "WeirfoldLane" ({ cls := "WeirfoldLane", name := "beginDay", desc := "()I" } : Jvm.MethodName) ({ cls := "WeirfoldLane", name := "beginDay", desc := "()I" } : Jvm.MethodName)) ∈ lw_all := lw_g (lw_at lw_m7 181 rfl) rfl
theorem q1715 : (Jvm.Cond.code ({ cls := "WeirfoldLane", name := "beginDay", desc := "()I" } : Jvm.MethodName) prog_1_method_16_code (1 : Nat) (Option.some Jvm.ClassFile.FieldType.int)) ∈ lw_all := lw_g (lw_at lw_m7 182 rfl) rfl
theorem q1716 : (Jvm.Cond.stringRef "WeirfoldLane" (118 : Nat) "next") ∈ lw_tbl := lw_at lw_m7 183 rfl
theorem q1721 : (Jvm.Cond.instanceMethod ({ cls := "WeirfoldLane", name := "rowAt", desc := "(I)I" } : Jvm.MethodName)) ∈ lw_all := lw_g (lw_at lw_m7 188 rfl) rfl
theorem q1722 : (Jvm.Cond.selects "WeirfoldLane" ({ cls := "WeirfoldLane", name := "rowAt", desc := "(I)I" } : Jvm.MethodName) ({ cls := "WeirfoldLane", name := "rowAt", desc := "(I)I" } : Jvm.MethodName)) ∈ lw_all := lw_g (lw_at lw_m7 189 rfl) rfl
theorem q1723 : (Jvm.Cond.code ({ cls := "WeirfoldLane", name := "rowAt", desc := "(I)I" } : Jvm.MethodName) prog_1_method_19_code (2 : Nat) (Option.some Jvm.ClassFile.FieldType.int)) ∈ lw_all := lw_g (lw_at lw_m7 190 rfl) rfl
theorem q1724 : (Jvm.Cond.methodLink "WeirfoldLane" (130 : Nat) ({ cls := "WeirfoldLane", name := "requireElement", desc := "(Z)V" } : Jvm.MethodName)) ∈ lw_all := lw_g (lw_at lw_m7 191 rfl) rfl
theorem q1725 : (Jvm.Cond.classLink "WeirfoldLane" (137 : Nat) "WeirfoldLane$Row") ∈ lw_all := lw_g (lw_at lw_m7 192 rfl) rfl
theorem q1730 : (Jvm.Cond.instanceMethod ({ cls := "WeirfoldLane", name := "dayOf", desc := "(I)I" } : Jvm.MethodName)) ∈ lw_all := lw_g (lw_at lw_m7 197 rfl) rfl
theorem q1731 : (Jvm.Cond.selects "WeirfoldLane" ({ cls := "WeirfoldLane", name := "dayOf", desc := "(I)I" } : Jvm.MethodName) ({ cls := "WeirfoldLane", name := "dayOf", desc := "(I)I" } : Jvm.MethodName)) ∈ lw_all := lw_g (lw_at lw_m7 198 rfl) rfl
theorem q1732 : (Jvm.Cond.code ({ cls := "WeirfoldLane", name := "dayOf", desc := "(I)I" } : Jvm.MethodName) prog_1_method_20_code (2 : Nat) (Option.some Jvm.ClassFile.FieldType.int)) ∈ lw_all := lw_g (lw_at lw_m7 199 rfl) rfl
theorem q1733 : (Jvm.Cond.methodLink "WeirfoldLane" (142 : Nat) ({ cls := "WeirfoldLane$Lane", name := "row", desc := "(I)LWeirfoldLane$Row;" } : Jvm.MethodName)) ∈ lw_all := lw_g (lw_at lw_m7 200 rfl) rfl
theorem q1738 : (Jvm.Cond.instanceMethod ({ cls := "WeirfoldLane", name := "groupOf", desc := "(I)C" } : Jvm.MethodName)) ∈ lw_all := lw_g (lw_at lw_m7 205 rfl) rfl
theorem q1739 : (Jvm.Cond.selects "WeirfoldLane" ({ cls := "WeirfoldLane", name := "groupOf", desc := "(I)C" } : Jvm.MethodName) ({ cls := "WeirfoldLane", name := "groupOf", desc := "(I)C" } : Jvm.MethodName)) ∈ lw_all := lw_g (lw_at lw_m7 206 rfl) rfl
theorem q1740 : (Jvm.Cond.code ({ cls := "WeirfoldLane", name := "groupOf", desc := "(I)C" } : Jvm.MethodName) prog_1_method_21_code (2 : Nat) (Option.some Jvm.ClassFile.FieldType.char)) ∈ lw_all := lw_g (lw_at lw_m7 207 rfl) rfl
theorem q1745 : (Jvm.Cond.instanceMethod ({ cls := "WeirfoldLane", name := "rowByAmount", desc := "(I)I" } : Jvm.MethodName)) ∈ lw_all := lw_g (lw_at lw_m7 212 rfl) rfl
theorem q1746 : (Jvm.Cond.selects "WeirfoldLane" ({ cls := "WeirfoldLane", name := "rowByAmount", desc := "(I)I" } : Jvm.MethodName) ({ cls := "WeirfoldLane", name := "rowByAmount", desc := "(I)I" } : Jvm.MethodName)) ∈ lw_all := lw_g (lw_at lw_m7 213 rfl) rfl
theorem q1747 : (Jvm.Cond.code ({ cls := "WeirfoldLane", name := "rowByAmount", desc := "(I)I" } : Jvm.MethodName) prog_1_method_22_code (6 : Nat) (Option.some Jvm.ClassFile.FieldType.int)) ∈ lw_all := lw_g (lw_at lw_m7 214 rfl) rfl
theorem q1748 : (Jvm.Cond.classLink "WeirfoldLane" (151 : Nat) "java/util/ArrayList") ∈ lw_all := lw_g (lw_at lw_m7 215 rfl) rfl
theorem q1749 : (Jvm.Cond.methodLink "WeirfoldLane" (153 : Nat) ({ cls := "java/util/ArrayList", name := "<init>", desc := "()V" } : Jvm.MethodName)) ∈ lw_all := lw_g (lw_at lw_m7 216 rfl) rfl
theorem q1750 : (Jvm.Cond.interfaceEntry "WeirfoldLane" (169 : Nat)) ∈ lw_tbl := lw_at lw_m7 217 rfl
theorem q1751 : (Jvm.Cond.methodLink "WeirfoldLane" (169 : Nat) ({ cls := "java/util/List", name := "add", desc := "(ILjava/lang/Object;)V" } : Jvm.MethodName)) ∈ lw_all := lw_g (lw_at lw_m7 218 rfl) rfl
theorem q1783 : (Jvm.Cond.instanceMethod ({ cls := "WeirfoldLane", name := "addBase", desc := "(CI)I" } : Jvm.MethodName)) ∈ lw_all := lw_g (lw_at lw_m8 10 rfl) rfl
theorem q1784 : (Jvm.Cond.selects "WeirfoldLane" ({ cls := "WeirfoldLane", name := "addBase", desc := "(CI)I" } : Jvm.MethodName) ({ cls := "WeirfoldLane", name := "addBase", desc := "(CI)I" } : Jvm.MethodName)) ∈ lw_all := lw_g (lw_at lw_m8 11 rfl) rfl
theorem q1785 : (Jvm.Cond.code ({ cls := "WeirfoldLane", name := "addBase", desc := "(CI)I" } : Jvm.MethodName) prog_1_method_23_code (3 : Nat) (Option.some Jvm.ClassFile.FieldType.int)) ∈ lw_all := lw_g (lw_at lw_m8 12 rfl) rfl
theorem q1786 : (Jvm.Cond.stringRef "WeirfoldLane" (173 : Nat) "base") ∈ lw_tbl := lw_at lw_m8 13 rfl
theorem q1807 : (Jvm.Cond.instanceMethod ({ cls := "WeirfoldLane", name := "addPair", desc := "(CII)I" } : Jvm.MethodName)) ∈ lw_all := lw_g (lw_at lw_m8 34 rfl) rfl
theorem q1808 : (Jvm.Cond.selects "WeirfoldLane" ({ cls := "WeirfoldLane", name := "addPair", desc := "(CII)I" } : Jvm.MethodName) ({ cls := "WeirfoldLane", name := "addPair", desc := "(CII)I" } : Jvm.MethodName)) ∈ lw_all := lw_g (lw_at lw_m8 35 rfl) rfl
theorem q1809 : (Jvm.Cond.code ({ cls := "WeirfoldLane", name := "addPair", desc := "(CII)I" } : Jvm.MethodName) prog_1_method_24_code (4 : Nat) (Option.some Jvm.ClassFile.FieldType.int)) ∈ lw_all := lw_g (lw_at lw_m8 36 rfl) rfl
theorem q1810 : (Jvm.Cond.stringRef "WeirfoldLane" (175 : Nat) "pair") ∈ lw_tbl := lw_at lw_m8 37 rfl
theorem q1815 : (Jvm.Cond.instanceMethod ({ cls := "WeirfoldLane", name := "addRunning", desc := "(I)I" } : Jvm.MethodName)) ∈ lw_all := lw_g (lw_at lw_m8 42 rfl) rfl
theorem q1816 : (Jvm.Cond.selects "WeirfoldLane" ({ cls := "WeirfoldLane", name := "addRunning", desc := "(I)I" } : Jvm.MethodName) ({ cls := "WeirfoldLane", name := "addRunning", desc := "(I)I" } : Jvm.MethodName)) ∈ lw_all := lw_g (lw_at lw_m8 43 rfl) rfl
theorem q1817 : (Jvm.Cond.code ({ cls := "WeirfoldLane", name := "addRunning", desc := "(I)I" } : Jvm.MethodName) prog_1_method_25_code (2 : Nat) (Option.some Jvm.ClassFile.FieldType.int)) ∈ lw_all := lw_g (lw_at lw_m8 44 rfl) rfl
theorem q1818 : (Jvm.Cond.stringRef "WeirfoldLane" (177 : Nat) "run") ∈ lw_tbl := lw_at lw_m8 45 rfl
theorem q1823 : (Jvm.Cond.instanceMethod ({ cls := "WeirfoldLane", name := "addBounded", desc := "(II)I" } : Jvm.MethodName)) ∈ lw_all := lw_g (lw_at lw_m8 50 rfl) rfl
theorem q1824 : (Jvm.Cond.selects "WeirfoldLane" ({ cls := "WeirfoldLane", name := "addBounded", desc := "(II)I" } : Jvm.MethodName) ({ cls := "WeirfoldLane", name := "addBounded", desc := "(II)I" } : Jvm.MethodName)) ∈ lw_all := lw_g (lw_at lw_m8 51 rfl) rfl
theorem q1825 : (Jvm.Cond.code ({ cls := "WeirfoldLane", name := "addBounded", desc := "(II)I" } : Jvm.MethodName) prog_1_method_26_code (3 : Nat) (Option.some Jvm.ClassFile.FieldType.int)) ∈ lw_all := lw_g (lw_at lw_m8 52 rfl) rfl
theorem q1826 : (Jvm.Cond.stringRef "WeirfoldLane" (179 : Nat) "keep") ∈ lw_tbl := lw_at lw_m8 53 rfl
theorem q1831 : (Jvm.Cond.instanceMethod ({ cls := "WeirfoldLane", name := "removeStep", desc := "(I)I" } : Jvm.MethodName)) ∈ lw_all := lw_g (lw_at lw_m8 58 rfl) rfl
theorem q1832 : (Jvm.Cond.selects "WeirfoldLane" ({ cls := "WeirfoldLane", name := "removeStep", desc := "(I)I" } : Jvm.MethodName) ({ cls := "WeirfoldLane", name := "removeStep", desc := "(I)I" } : Jvm.MethodName)) ∈ lw_all := lw_g (lw_at lw_m8 59 rfl) rfl
theorem q1833 : (Jvm.Cond.code ({ cls := "WeirfoldLane", name := "removeStep", desc := "(I)I" } : Jvm.MethodName) prog_1_method_27_code (2 : Nat) (Option.some Jvm.ClassFile.FieldType.int)) ∈ lw_all := lw_g (lw_at lw_m8 60 rfl) rfl
theorem q1834 : (Jvm.Cond.stringRef "WeirfoldLane" (181 : Nat) "cut") ∈ lw_tbl := lw_at lw_m8 61 rfl
theorem q1839 : (Jvm.Cond.instanceMethod ({ cls := "WeirfoldLane", name := "kind", desc := "(I)C" } : Jvm.MethodName)) ∈ lw_all := lw_g (lw_at lw_m8 66 rfl) rfl
theorem q1840 : (Jvm.Cond.selects "WeirfoldLane" ({ cls := "WeirfoldLane", name := "kind", desc := "(I)C" } : Jvm.MethodName) ({ cls := "WeirfoldLane", name := "kind", desc := "(I)C" } : Jvm.MethodName)) ∈ lw_all := lw_g (lw_at lw_m8 67 rfl) rfl
theorem q1841 : (Jvm.Cond.code ({ cls := "WeirfoldLane", name := "kind", desc := "(I)C" } : Jvm.MethodName) prog_1_method_29_code (2 : Nat) (Option.some Jvm.ClassFile.FieldType.char)) ∈ lw_all := lw_g (lw_at lw_m8 68 rfl) rfl
theorem q1842 : (Jvm.Cond.methodLink "WeirfoldLane" (186 : Nat) ({ cls := "WeirfoldLane$Lane", name := "step", desc := "(I)LWeirfoldLane$Step;" } : Jvm.MethodName)) ∈ lw_all := lw_g (lw_at lw_m8 69 rfl) rfl
theorem q1843 : (Jvm.Cond.methodLink "WeirfoldLane" (190 : Nat) ({ cls := "WeirfoldLane$Step", name := "kind", desc := "()C" } : Jvm.MethodName)) ∈ lw_all := lw_g (lw_at lw_m8 70 rfl) rfl
theorem q1857 : (Jvm.Cond.instanceMethod ({ cls := "WeirfoldLane", name := "dependsOn", desc := "(II)Z" } : Jvm.MethodName)) ∈ lw_all := lw_g (lw_at lw_m8 84 rfl) rfl
theorem q1858 : (Jvm.Cond.selects "WeirfoldLane" ({ cls := "WeirfoldLane", name := "dependsOn", desc := "(II)Z" } : Jvm.MethodName) ({ cls := "WeirfoldLane", name := "dependsOn", desc := "(II)Z" } : Jvm.MethodName)) ∈ lw_all := lw_g (lw_at lw_m8 85 rfl) rfl
theorem q1859 : (Jvm.Cond.code ({ cls := "WeirfoldLane", name := "dependsOn", desc := "(II)Z" } : Jvm.MethodName) prog_1_method_30_code (4 : Nat) (Option.some Jvm.ClassFile.FieldType.boolean)) ∈ lw_all := lw_g (lw_at lw_m8 86 rfl) rfl
theorem q1860 : (Jvm.Cond.methodLink "WeirfoldLane" (196 : Nat) ({ cls := "WeirfoldLane$Step", name := "dependsOn", desc := "(LWeirfoldLane$Step;Ljava/util/List;)Z" } : Jvm.MethodName)) ∈ lw_all := lw_g (lw_at lw_m8 87 rfl) rfl
theorem q1883 : (Jvm.Cond.instanceMethod ({ cls := "WeirfoldLane", name := "level", desc := "(I)I" } : Jvm.MethodName)) ∈ lw_all := lw_g (lw_at lw_m8 110 rfl) rfl
theorem q1884 : (Jvm.Cond.selects "WeirfoldLane" ({ cls := "WeirfoldLane", name := "level", desc := "(I)I" } : Jvm.MethodName) ({ cls := "WeirfoldLane", name := "level", desc := "(I)I" } : Jvm.MethodName)) ∈ lw_all := lw_g (lw_at lw_m8 111 rfl) rfl
theorem q1885 : (Jvm.Cond.code ({ cls := "WeirfoldLane", name := "level", desc := "(I)I" } : Jvm.MethodName) prog_1_method_31_code (2 : Nat) (Option.some Jvm.ClassFile.FieldType.int)) ∈ lw_all := lw_g (lw_at lw_m8 112 rfl) rfl
theorem q1886 : (Jvm.Cond.methodLink "WeirfoldLane" (200 : Nat) ({ cls := "WeirfoldLane$Step", name := "level", desc := "()I" } : Jvm.MethodName)) ∈ lw_all := lw_g (lw_at lw_m8 113 rfl) rfl
theorem q1891 : (Jvm.Cond.instanceMethod ({ cls := "WeirfoldLane", name := "value", desc := "(IIC)J" } : Jvm.MethodName)) ∈ lw_all := lw_g (lw_at lw_m8 118 rfl) rfl
theorem q1892 : (Jvm.Cond.selects "WeirfoldLane" ({ cls := "WeirfoldLane", name := "value", desc := "(IIC)J" } : Jvm.MethodName) ({ cls := "WeirfoldLane", name := "value", desc := "(IIC)J" } : Jvm.MethodName)) ∈ lw_all := lw_g (lw_at lw_m8 119 rfl) rfl
theorem q1893 : (Jvm.Cond.code ({ cls := "WeirfoldLane", name := "value", desc := "(IIC)J" } : Jvm.MethodName) prog_1_method_32_code (5 : Nat) (Option.some Jvm.ClassFile.FieldType.long)) ∈ lw_all := lw_g (lw_at lw_m8 120 rfl) rfl
theorem q1894 : (Jvm.Cond.methodLink "WeirfoldLane" (203 : Nat) ({ cls := "WeirfoldLane$Lane", name := "requireDay", desc := "(I)V" } : Jvm.MethodName)) ∈ lw_all := lw_g (lw_at lw_m8 121 rfl) rfl
theorem q1895 : (Jvm.Cond.methodLink "WeirfoldLane" (207 : Nat) ({ cls := "WeirfoldLane", name := "groupNumber", desc := "(C)I" } : Jvm.MethodName)) ∈ lw_all := lw_g (lw_at lw_m8 122 rfl) rfl
theorem q1896 : (Jvm.Cond.methodLink "WeirfoldLane" (211 : Nat) ({ cls := "WeirfoldLane$Lane", name := "number", desc := "(LWeirfoldLane$Step;II)J" } : Jvm.MethodName)) ∈ lw_all := lw_g (lw_at lw_m8 123 rfl) rfl
theorem q1901 : (Jvm.Cond.instanceMethod ({ cls := "WeirfoldLane", name := "valueAnew", desc := "(IIC)J" } : Jvm.MethodName)) ∈ lw_all := lw_g (lw_at lw_m8 128 rfl) rfl
theorem q1902 : (Jvm.Cond.selects "WeirfoldLane" ({ cls := "WeirfoldLane", name := "valueAnew", desc := "(IIC)J" } : Jvm.MethodName) ({ cls := "WeirfoldLane", name := "valueAnew", desc := "(IIC)J" } : Jvm.MethodName)) ∈ lw_all := lw_g (lw_at lw_m8 129 rfl) rfl
theorem q1903 : (Jvm.Cond.code ({ cls := "WeirfoldLane", name := "valueAnew", desc := "(IIC)J" } : Jvm.MethodName) prog_1_method_33_code (5 : Nat) (Option.some Jvm.ClassFile.FieldType.long)) ∈ lw_all := lw_g (lw_at lw_m8 130 rfl) rfl
theorem q1904 : (Jvm.Cond.classLink "WeirfoldLane" (214 : Nat) "WeirfoldLane$Anew") ∈ lw_all := lw_g (lw_at lw_m8 131 rfl) rfl
theorem q1906 : (Jvm.Cond.methodLink "WeirfoldLane" (216 : Nat) ({ cls := "WeirfoldLane$Anew", name := "<init>", desc := "(LWeirfoldLane$Lane;)V" } : Jvm.MethodName)) ∈ lw_all := lw_g (lw_at lw_m8 133 rfl) rfl
theorem q1914 : (Jvm.Cond.methodLink "WeirfoldLane" (217 : Nat) ({ cls := "WeirfoldLane$Anew", name := "number", desc := "(LWeirfoldLane$Step;II)J" } : Jvm.MethodName)) ∈ lw_all := lw_g (lw_at lw_m8 141 rfl) rfl
theorem q1919 : (Jvm.Cond.instanceMethod ({ cls := "WeirfoldLane", name := "total", desc := "(II)J" } : Jvm.MethodName)) ∈ lw_all := lw_g (lw_at lw_m8 146 rfl) rfl
theorem q1920 : (Jvm.Cond.selects "WeirfoldLane" ({ cls := "WeirfoldLane", name := "total", desc := "(II)J" } : Jvm.MethodName) ({ cls := "WeirfoldLane", name := "total", desc := "(II)J" } : Jvm.MethodName)) ∈ lw_all := lw_g (lw_at lw_m8 147 rfl) rfl
theorem q1921 : (Jvm.Cond.code ({ cls := "WeirfoldLane", name := "total", desc := "(II)J" } : Jvm.MethodName) prog_1_method_34_code (7 : Nat) (Option.some Jvm.ClassFile.FieldType.long)) ∈ lw_all := lw_g (lw_at lw_m8 148 rfl) rfl
theorem q1926 : (Jvm.Cond.instanceMethod ({ cls := "WeirfoldLane", name := "isStale", desc := "(II)Z" } : Jvm.MethodName)) ∈ lw_all := lw_g (lw_at lw_m8 153 rfl) rfl
theorem q1927 : (Jvm.Cond.selects "WeirfoldLane" ({ cls := "WeirfoldLane", name := "isStale", desc := "(II)Z" } : Jvm.MethodName) ({ cls := "WeirfoldLane", name := "isStale", desc := "(II)Z" } : Jvm.MethodName)) ∈ lw_all := lw_g (lw_at lw_m8 154 rfl) rfl
theorem q1928 : (Jvm.Cond.code ({ cls := "WeirfoldLane", name := "isStale", desc := "(II)Z" } : Jvm.MethodName) prog_1_method_35_code (4 : Nat) (Option.some Jvm.ClassFile.FieldType.boolean)) ∈ lw_all := lw_g (lw_at lw_m8 155 rfl) rfl
theorem q1929 : (Jvm.Cond.methodLink "WeirfoldLane" (218 : Nat) ({ cls := "WeirfoldLane$Lane", name := "isStale", desc := "(LWeirfoldLane$Step;I)Z" } : Jvm.MethodName)) ∈ lw_all := lw_g (lw_at lw_m8 156 rfl) rfl
theorem q1934 : (Jvm.Cond.instanceMethod ({ cls := "WeirfoldLane", name := "repair", desc := "(I)I" } : Jvm.MethodName)) ∈ lw_all := lw_g (lw_at lw_m8 161 rfl) rfl
theorem q1935 : (Jvm.Cond.selects "WeirfoldLane" ({ cls := "WeirfoldLane", name := "repair", desc := "(I)I" } : Jvm.MethodName) ({ cls := "WeirfoldLane", name := "repair", desc := "(I)I" } : Jvm.MethodName)) ∈ lw_all := lw_g (lw_at lw_m8 162 rfl) rfl
theorem q1936 : (Jvm.Cond.code ({ cls := "WeirfoldLane", name := "repair", desc := "(I)I" } : Jvm.MethodName) prog_1_method_39_code (2 : Nat) (Option.some Jvm.ClassFile.FieldType.int)) ∈ lw_all := lw_g (lw_at lw_m8 163 rfl) rfl
theorem q1937 : (Jvm.Cond.stringRef "WeirfoldLane" (249 : Nat) "repair") ∈ lw_tbl := lw_at lw_m8 164 rfl
theorem q1942 : (Jvm.Cond.instanceMethod ({ cls := "WeirfoldLane", name := "rowsBehind", desc := "(IIC)I" } : Jvm.MethodName)) ∈ lw_all := lw_g (lw_at lw_m8 169 rfl) rfl
theorem q1943 : (Jvm.Cond.selects "WeirfoldLane" ({ cls := "WeirfoldLane", name := "rowsBehind", desc := "(IIC)I" } : Jvm.MethodName) ({ cls := "WeirfoldLane", name := "rowsBehind", desc := "(IIC)I" } : Jvm.MethodName)) ∈ lw_all := lw_g (lw_at lw_m8 170 rfl) rfl
theorem q1944 : (Jvm.Cond.code ({ cls := "WeirfoldLane", name := "rowsBehind", desc := "(IIC)I" } : Jvm.MethodName) prog_1_method_40_code (5 : Nat) (Option.some Jvm.ClassFile.FieldType.int)) ∈ lw_all := lw_g (lw_at lw_m8 171 rfl) rfl
theorem q1945 : (Jvm.Cond.methodLink "WeirfoldLane" (251 : Nat) ({ cls := "WeirfoldLane$Step", name := "rowsBehind", desc := "(Ljava/util/List;II)J" } : Jvm.MethodName)) ∈ lw_all := lw_g (lw_at lw_m8 172 rfl) rfl
theorem q1969 : (Jvm.Cond.methodLink "WeirfoldLane" (255 : Nat) ({ cls := "java/lang/Long", name := "bitCount", desc := "(J)I" } : Jvm.MethodName)) ∈ lw_all := lw_g (lw_at lw_m8 196 rfl) rfl
theorem q1979 : (Jvm.Cond.instanceMethod ({ cls := "WeirfoldLane", name := "rowsBehindByMarking", desc := "(IIC)I" } : Jvm.MethodName)) ∈ lw_all := lw_g (lw_at lw_m8 206 rfl) rfl
theorem q1980 : (Jvm.Cond.selects "WeirfoldLane" ({ cls := "WeirfoldLane", name := "rowsBehindByMarking", desc := "(IIC)I" } : Jvm.MethodName) ({ cls := "WeirfoldLane", name := "rowsBehindByMarking", desc := "(IIC)I" } : Jvm.MethodName)) ∈ lw_all := lw_g (lw_at lw_m8 207 rfl) rfl
theorem q1981 : (Jvm.Cond.code ({ cls := "WeirfoldLane", name := "rowsBehindByMarking", desc := "(IIC)I" } : Jvm.MethodName) prog_1_method_41_code (10 : Nat) (Option.some Jvm.ClassFile.FieldType.int)) ∈ lw_all := lw_g (lw_at lw_m8 208 rfl) rfl
theorem q1982 : (Jvm.Cond.classLink "WeirfoldLane" (261 : Nat) "WeirfoldLane$Marks") ∈ lw_all := lw_g (lw_at lw_m8 209 rfl) rfl
theorem q1984 : (Jvm.Cond.methodLink "WeirfoldLane" (263 : Nat) ({ cls := "WeirfoldLane$Marks", name := "<init>", desc := "(LWeirfoldLane$Lane;LWeirfoldLane$Row;)V" } : Jvm.MethodName)) ∈ lw_all := lw_g (lw_at lw_m8 211 rfl) rfl
theorem q2025 : (Jvm.Cond.methodLink "WeirfoldLane" (266 : Nat) ({ cls := "WeirfoldLane$Marks", name := "has", desc := "(LWeirfoldLane$Step;I)Z" } : Jvm.MethodName)) ∈ lw_all := lw_g (lw_at lw_m9 12 rfl) rfl
theorem q2030 : (Jvm.Cond.instanceMethod ({ cls := "WeirfoldLane", name := "reach", desc := "(I)I" } : Jvm.MethodName)) ∈ lw_all := lw_g (lw_at lw_m9 17 rfl) rfl
theorem q2031 : (Jvm.Cond.selects "WeirfoldLane" ({ cls := "WeirfoldLane", name := "reach", desc := "(I)I" } : Jvm.MethodName) ({ cls := "WeirfoldLane", name := "reach", desc := "(I)I" } : Jvm.MethodName)) ∈ lw_all := lw_g (lw_at lw_m9 18 rfl) rfl
theorem q2032 : (Jvm.Cond.code ({ cls := "WeirfoldLane", name := "reach", desc := "(I)I" } : Jvm.MethodName) prog_1_method_42_code (2 : Nat) (Option.some Jvm.ClassFile.FieldType.int)) ∈ lw_all := lw_g (lw_at lw_m9 19 rfl) rfl
theorem q2033 : (Jvm.Cond.methodLink "WeirfoldLane" (269 : Nat) ({ cls := "WeirfoldLane$Marks", name := "count", desc := "()I" } : Jvm.MethodName)) ∈ lw_all := lw_g (lw_at lw_m9 20 rfl) rfl
theorem q2041 : (Jvm.Cond.instanceMethod ({ cls := "WeirfoldLane", name := "cost", desc := "(II)J" } : Jvm.MethodName)) ∈ lw_all := lw_g (lw_at lw_m9 28 rfl) rfl
theorem q2042 : (Jvm.Cond.selects "WeirfoldLane" ({ cls := "WeirfoldLane", name := "cost", desc := "(II)J" } : Jvm.MethodName) ({ cls := "WeirfoldLane", name := "cost", desc := "(II)J" } : Jvm.MethodName)) ∈ lw_all := lw_g (lw_at lw_m9 29 rfl) rfl
theorem q2043 : (Jvm.Cond.code ({ cls := "WeirfoldLane", name := "cost", desc := "(II)J" } : Jvm.MethodName) prog_1_method_44_code (7 : Nat) (Option.some Jvm.ClassFile.FieldType.long)) ∈ lw_all := lw_g (lw_at lw_m9 30 rfl) rfl
theorem q2044 : (Jvm.Cond.methodLink "WeirfoldLane" (272 : Nat) ({ cls := "WeirfoldLane", name := "plans", desc := "()I" } : Jvm.MethodName)) ∈ lw_all := lw_g (lw_at lw_m9 31 rfl) rfl
theorem q2045 : (Jvm.Cond.privateMethod ({ cls := "WeirfoldLane", name := "plans", desc := "()I" } : Jvm.MethodName)) ∈ lw_tbl := lw_at lw_m9 32 rfl
theorem q2046 : (Jvm.Cond.instanceMethod ({ cls := "WeirfoldLane", name := "plans", desc := "()I" } : Jvm.MethodName)) ∈ lw_all := lw_g (lw_at lw_m9 33 rfl) rfl
theorem q2047 : (Jvm.Cond.code ({ cls := "WeirfoldLane", name := "plans", desc := "()I" } : Jvm.MethodName) prog_1_method_43_code (1 : Nat) (Option.some Jvm.ClassFile.FieldType.int)) ∈ lw_all := lw_g (lw_at lw_m9 34 rfl) rfl
theorem q2048 : (Jvm.Cond.classLink "WeirfoldLane" (275 : Nat) "WeirfoldLane$Costs") ∈ lw_all := lw_g (lw_at lw_m9 35 rfl) rfl
theorem q2050 : (Jvm.Cond.methodLink "WeirfoldLane" (277 : Nat) ({ cls := "WeirfoldLane$Costs", name := "<init>", desc := "(LWeirfoldLane$Lane;)V" } : Jvm.MethodName)) ∈ lw_all := lw_g (lw_at lw_m9 37 rfl) rfl
theorem q2067 : (Jvm.Cond.methodLink "WeirfoldLane" (278 : Nat) ({ cls := "WeirfoldLane$Costs", name := "findAll", desc := "(I)J" } : Jvm.MethodName)) ∈ lw_all := lw_g (lw_at lw_m9 54 rfl) rfl
theorem q2104 : (Jvm.Cond.methodLink "WeirfoldLane" (282 : Nat) ({ cls := "WeirfoldLane$Costs", name := "of", desc := "(LWeirfoldLane$Step;)J" } : Jvm.MethodName)) ∈ lw_all := lw_g (lw_at lw_m9 91 rfl) rfl
theorem q2109 : (Jvm.Cond.instanceMethod ({ cls := "WeirfoldLane", name := "bestPlan", desc := "(I)I" } : Jvm.MethodName)) ∈ lw_all := lw_g (lw_at lw_m9 96 rfl) rfl
theorem q2110 : (Jvm.Cond.selects "WeirfoldLane" ({ cls := "WeirfoldLane", name := "bestPlan", desc := "(I)I" } : Jvm.MethodName) ({ cls := "WeirfoldLane", name := "bestPlan", desc := "(I)I" } : Jvm.MethodName)) ∈ lw_all := lw_g (lw_at lw_m9 97 rfl) rfl
theorem q2111 : (Jvm.Cond.code ({ cls := "WeirfoldLane", name := "bestPlan", desc := "(I)I" } : Jvm.MethodName) prog_1_method_46_code (9 : Nat) (Option.some Jvm.ClassFile.FieldType.int)) ∈ lw_all := lw_g (lw_at lw_m9 98 rfl) rfl
theorem q2112 : (Jvm.Cond.methodLink "WeirfoldLane" (286 : Nat) ({ cls := "WeirfoldLane", name := "requireSize", desc := "(I)V" } : Jvm.MethodName)) ∈ lw_all := lw_g (lw_at lw_m9 99 rfl) rfl
theorem q2113 : (Jvm.Cond.static ({ cls := "WeirfoldLane", name := "requireSize", desc := "(I)V" } : Jvm.MethodName)) ∈ lw_all := lw_g (lw_at lw_m9 100 rfl) rfl
theorem q2114 : (Jvm.Cond.code ({ cls := "WeirfoldLane", name := "requireSize", desc := "(I)V" } : Jvm.MethodName) prog_1_method_45_code (1 : Nat) (Option.none : Option Jvm.ClassFile.FieldType)) ∈ lw_all := lw_g (lw_at lw_m9 101 rfl) rfl
theorem q2115 : (Jvm.Cond.methodLink "WeirfoldLane" (289 : Nat) ({ cls := "java/lang/Integer", name := "bitCount", desc := "(I)I" } : Jvm.MethodName)) ∈ lw_all := lw_g (lw_at lw_m9 102 rfl) rfl
theorem q2121 : (Jvm.Cond.methodLink "WeirfoldLane" (293 : Nat) ({ cls := "java/lang/Math", name := "min", desc := "(JJ)J" } : Jvm.MethodName)) ∈ lw_all := lw_g (lw_at lw_m9 108 rfl) rfl
theorem q2128 : (Jvm.Cond.instanceMethod ({ cls := "WeirfoldLane", name := "bestPlanByDeciding", desc := "(I)I" } : Jvm.MethodName)) ∈ lw_all := lw_g (lw_at lw_m9 115 rfl) rfl
theorem q2129 : (Jvm.Cond.selects "WeirfoldLane" ({ cls := "WeirfoldLane", name := "bestPlanByDeciding", desc := "(I)I" } : Jvm.MethodName) ({ cls := "WeirfoldLane", name := "bestPlanByDeciding", desc := "(I)I" } : Jvm.MethodName)) ∈ lw_all := lw_g (lw_at lw_m9 116 rfl) rfl
theorem q2130 : (Jvm.Cond.code ({ cls := "WeirfoldLane", name := "bestPlanByDeciding", desc := "(I)I" } : Jvm.MethodName) prog_1_method_47_code (3 : Nat) (Option.some Jvm.ClassFile.FieldType.int)) ∈ lw_all := lw_g (lw_at lw_m9 117 rfl) rfl
theorem q2131 : (Jvm.Cond.classLink "WeirfoldLane" (299 : Nat) "WeirfoldLane$Decider") ∈ lw_all := lw_g (lw_at lw_m9 118 rfl) rfl
theorem q2133 : (Jvm.Cond.methodLink "WeirfoldLane" (301 : Nat) ({ cls := "WeirfoldLane$Decider", name := "<init>", desc := "(LWeirfoldLane$Lane;)V" } : Jvm.MethodName)) ∈ lw_all := lw_g (lw_at lw_m9 120 rfl) rfl
theorem q2145 : (Jvm.Cond.fieldLinkNest "WeirfoldLane" (306 : Nat) "WeirfoldLane$Decider" "best" "I" "WeirfoldLane") ∈ lw_tbl := lw_at lw_m9 132 rfl
theorem q2156 : (Jvm.Cond.methodLink "WeirfoldLane" (302 : Nat) ({ cls := "WeirfoldLane$Decider", name := "decide", desc := "(IIJI)V" } : Jvm.MethodName)) ∈ lw_all := lw_g (lw_at lw_m9 143 rfl) rfl
theorem q2166 : (Jvm.Cond.instanceMethod ({ cls := "WeirfoldLane", name := "bestCost", desc := "(I)J" } : Jvm.MethodName)) ∈ lw_all := lw_g (lw_at lw_m9 153 rfl) rfl
theorem q2167 : (Jvm.Cond.selects "WeirfoldLane" ({ cls := "WeirfoldLane", name := "bestCost", desc := "(I)J" } : Jvm.MethodName) ({ cls := "WeirfoldLane", name := "bestCost", desc := "(I)J" } : Jvm.MethodName)) ∈ lw_all := lw_g (lw_at lw_m9 154 rfl) rfl
theorem q2168 : (Jvm.Cond.code ({ cls := "WeirfoldLane", name := "bestCost", desc := "(I)J" } : Jvm.MethodName) prog_1_method_48_code (2 : Nat) (Option.some Jvm.ClassFile.FieldType.long)) ∈ lw_all := lw_g (lw_at lw_m9 155 rfl) rfl
theorem q2169 : (Jvm.Cond.methodLink "WeirfoldLane" (309 : Nat) ({ cls := "WeirfoldLane", name := "bestPlan", desc := "(I)I" } : Jvm.MethodName)) ∈ lw_all := lw_g (lw_at lw_m9 156 rfl) rfl
theorem q2188 : (Jvm.Cond.instanceMethod ({ cls := "WeirfoldLane", name := "meanAmount", desc := "()D" } : Jvm.MethodName)) ∈ lw_all := lw_g (lw_at lw_m9 175 rfl) rfl
theorem q2189 : (Jvm.Cond.selects "WeirfoldLane" ({ cls := "WeirfoldLane", name := "meanAmount", desc := "()D" } : Jvm.MethodName) ({ cls := "WeirfoldLane", name := "meanAmount", desc := "()D" } : Jvm.MethodName)) ∈ lw_all := lw_g (lw_at lw_m9 176 rfl) rfl
theorem q2190 : (Jvm.Cond.code ({ cls := "WeirfoldLane", name := "meanAmount", desc := "()D" } : Jvm.MethodName) prog_1_method_54_code (4 : Nat) (Option.some Jvm.ClassFile.FieldType.double)) ∈ lw_all := lw_g (lw_at lw_m9 177 rfl) rfl
theorem q2191 : (Jvm.Cond.methodLink "WeirfoldLane" (327 : Nat) ({ cls := "WeirfoldLane", name := "rows", desc := "()I" } : Jvm.MethodName)) ∈ lw_all := lw_g (lw_at lw_m9 178 rfl) rfl
theorem q2192 : (Jvm.Cond.methodLink "WeirfoldLane" (329 : Nat) ({ cls := "WeirfoldLane", name := "requireDivisor", desc := "(I)V" } : Jvm.MethodName)) ∈ lw_all := lw_g (lw_at lw_m9 179 rfl) rfl
theorem q2193 : (Jvm.Cond.static ({ cls := "WeirfoldLane", name := "requireDivisor", desc := "(I)V" } : Jvm.MethodName)) ∈ lw_all := lw_g (lw_at lw_m9 180 rfl) rfl
theorem q2194 : (Jvm.Cond.code ({ cls := "WeirfoldLane", name := "requireDivisor", desc := "(I)V" } : Jvm.MethodName) prog_1_method_53_code (1 : Nat) (Option.none : Option Jvm.ClassFile.FieldType)) ∈ lw_all := lw_g (lw_at lw_m9 181 rfl) rfl
theorem q2195 : (Jvm.Cond.classLink "WeirfoldLane" (324 : Nat) "java/lang/ArithmeticException") ∈ lw_all := lw_g (lw_at lw_m9 182 rfl) rfl
theorem q2196 : (Jvm.Cond.methodLink "WeirfoldLane" (326 : Nat) ({ cls := "java/lang/ArithmeticException", name := "<init>", desc := "()V" } : Jvm.MethodName)) ∈ lw_all := lw_g (lw_at lw_m9 183 rfl) rfl
theorem q2204 : (Jvm.Cond.instanceMethod ({ cls := "WeirfoldLane", name := "staleShare", desc := "()F" } : Jvm.MethodName)) ∈ lw_all := lw_g (lw_at lw_m9 191 rfl) rfl
theorem q2205 : (Jvm.Cond.selects "WeirfoldLane" ({ cls := "WeirfoldLane", name := "staleShare", desc := "()F" } : Jvm.MethodName) ({ cls := "WeirfoldLane", name := "staleShare", desc := "()F" } : Jvm.MethodName)) ∈ lw_all := lw_g (lw_at lw_m9 192 rfl) rfl
theorem q2206 : (Jvm.Cond.code ({ cls := "WeirfoldLane", name := "staleShare", desc := "()F" } : Jvm.MethodName) prog_1_method_55_code (2 : Nat) (Option.some Jvm.ClassFile.FieldType.float)) ∈ lw_all := lw_g (lw_at lw_m9 193 rfl) rfl
theorem q2207 : (Jvm.Cond.methodLink "WeirfoldLane" (332 : Nat) ({ cls := "WeirfoldLane", name := "stale", desc := "()I" } : Jvm.MethodName)) ∈ lw_all := lw_g (lw_at lw_m9 194 rfl) rfl
theorem q2213 : (Jvm.Cond.instanceMethod ({ cls := "WeirfoldLane", name := "feed", desc := "(C)I" } : Jvm.MethodName)) ∈ lw_all := lw_g (lw_at lw_m9 200 rfl) rfl
theorem q2214 : (Jvm.Cond.selects "WeirfoldLane" ({ cls := "WeirfoldLane", name := "feed", desc := "(C)I" } : Jvm.MethodName) ({ cls := "WeirfoldLane", name := "feed", desc := "(C)I" } : Jvm.MethodName)) ∈ lw_all := lw_g (lw_at lw_m9 201 rfl) rfl
theorem q2215 : (Jvm.Cond.code ({ cls := "WeirfoldLane", name := "feed", desc := "(C)I" } : Jvm.MethodName) prog_1_method_56_code (2 : Nat) (Option.some Jvm.ClassFile.FieldType.int)) ∈ lw_all := lw_g (lw_at lw_m9 202 rfl) rfl
theorem q2216 : (Jvm.Cond.methodLink "WeirfoldLane" (335 : Nat) ({ cls := "java/lang/StringBuilder", name := "length", desc := "()I" } : Jvm.MethodName)) ∈ lw_all := lw_g (lw_at lw_m9 203 rfl) rfl
theorem q2217 : (Jvm.Cond.methodLink "WeirfoldLane" (338 : Nat) ({ cls := "WeirfoldLane", name := "requireState", desc := "(Z)V" } : Jvm.MethodName)) ∈ lw_all := lw_g (lw_at lw_m9 204 rfl) rfl
theorem q2218 : (Jvm.Cond.static ({ cls := "WeirfoldLane", name := "requireState", desc := "(Z)V" } : Jvm.MethodName)) ∈ lw_all := lw_g (lw_at lw_m9 205 rfl) rfl
theorem q2219 : (Jvm.Cond.code ({ cls := "WeirfoldLane", name := "requireState", desc := "(Z)V" } : Jvm.MethodName) prog_1_method_6_code (1 : Nat) (Option.none : Option Jvm.ClassFile.FieldType)) ∈ lw_all := lw_g (lw_at lw_m9 206 rfl) rfl
theorem q2220 : (Jvm.Cond.classLink "WeirfoldLane" (23 : Nat) "java/lang/IllegalStateException") ∈ lw_all := lw_g (lw_at lw_m9 207 rfl) rfl
theorem q2221 : (Jvm.Cond.methodLink "WeirfoldLane" (25 : Nat) ({ cls := "java/lang/IllegalStateException", name := "<init>", desc := "()V" } : Jvm.MethodName)) ∈ lw_all := lw_g (lw_at lw_m9 208 rfl) rfl
theorem q2225 : (Jvm.Cond.methodLink "WeirfoldLane" (341 : Nat) ({ cls := "java/lang/StringBuilder", name := "append", desc := "(C)Ljava/lang/StringBuilder;" } : Jvm.MethodName)) ∈ lw_all := lw_g (lw_at lw_m9 212 rfl) rfl
theorem q2249 : (Jvm.Cond.instanceMethod ({ cls := "WeirfoldLane", name := "execute", desc := "()I" } : Jvm.MethodName)) ∈ lw_all := lw_g (lw_at lw_m9 236 rfl) rfl
theorem q2250 : (Jvm.Cond.selects "WeirfoldLane" ({ cls := "WeirfoldLane", name := "execute", desc := "()I" } : Jvm.MethodName) ({ cls := "WeirfoldLane", name := "execute", desc := "()I" } : Jvm.MethodName)) ∈ lw_all := lw_g (lw_at lw_m9 237 rfl) rfl
theorem q2251 : (Jvm.Cond.codeWith ({ cls := "WeirfoldLane", name := "execute", desc := "()I" } : Jvm.MethodName) prog_1_method_60_code (4 : Nat) (Option.some Jvm.ClassFile.FieldType.int) [((24 : Nat), (35 : Nat), (38 : Nat), (30 : Nat))]) ∈ lw_all := lw_g (lw_at lw_m9 238 rfl) rfl
theorem q2252 : (Jvm.Cond.methodLink "WeirfoldLane" (378 : Nat) ({ cls := "WeirfoldLane", name := "parse", desc := "()Ljava/util/Optional;" } : Jvm.MethodName)) ∈ lw_all := lw_g (lw_at lw_m9 239 rfl) rfl
theorem q2253 : (Jvm.Cond.privateMethod ({ cls := "WeirfoldLane", name := "parse", desc := "()Ljava/util/Optional;" } : Jvm.MethodName)) ∈ lw_tbl := lw_at lw_m10 0 rfl
theorem q2254 : (Jvm.Cond.instanceMethod ({ cls := "WeirfoldLane", name := "parse", desc := "()Ljava/util/Optional;" } : Jvm.MethodName)) ∈ lw_all := lw_g (lw_at lw_m10 1 rfl) rfl
theorem q2255 : (Jvm.Cond.codeWith ({ cls := "WeirfoldLane", name := "parse", desc := "()Ljava/util/Optional;" } : Jvm.MethodName) prog_1_method_57_code (4 : Nat) (Option.some (Jvm.ClassFile.FieldType.object "java/util/Optional")) [((0 : Nat), (15 : Nat), (25 : Nat), (362 : Nat)), ((0 : Nat), (15 : Nat), (48 : Nat), (0 : Nat)), ((25 : Nat), (38 : Nat), (48 : Nat), (0 : Nat))]) ∈ lw_all := lw_g (lw_at lw_m10 2 rfl) rfl
theorem q2256 : (Jvm.Cond.classLink "WeirfoldLane" (362 : Nat) "WeirfoldLane$SyntaxFault") ∈ lw_all := lw_g (lw_at lw_m10 3 rfl) rfl
theorem q2257 : (Jvm.Cond.classLink "WeirfoldLane" (345 : Nat) "WeirfoldLane$Parser") ∈ lw_all := lw_g (lw_at lw_m10 4 rfl) rfl
theorem q2259 : (Jvm.Cond.methodLinkNest "WeirfoldLane" (347 : Nat) ({ cls := "WeirfoldLane$Parser", name := "<init>", desc := "(LWeirfoldLane;)V" } : Jvm.MethodName) "WeirfoldLane") ∈ lw_tbl := lw_at lw_m10 6 rfl
theorem q2270 : (Jvm.Cond.methodLink "WeirfoldLane" (350 : Nat) ({ cls := "WeirfoldLane$Parser", name := "text", desc := "()Ljava/util/List;" } : Jvm.MethodName)) ∈ lw_all := lw_g (lw_at lw_m10 17 rfl) rfl
theorem q2344 : (Jvm.Cond.fieldLinkNest "WeirfoldLane" (364 : Nat) "WeirfoldLane$SyntaxFault" "position" "I" "WeirfoldLane") ∈ lw_tbl := lw_at lw_m10 91 rfl
theorem q2409 : (Jvm.Cond.methodLink "WeirfoldLane" (354 : Nat) ({ cls := "java/util/Optional", name := "of", desc := "(Ljava/lang/Object;)Ljava/util/Optional;" } : Jvm.MethodName)) ∈ lw_all := lw_g (lw_at lw_m10 156 rfl) rfl
theorem q2410 : (Jvm.Cond.methodLink "WeirfoldLane" (359 : Nat) ({ cls := "java/lang/StringBuilder", name := "setLength", desc := "(I)V" } : Jvm.MethodName)) ∈ lw_all := lw_g (lw_at lw_m10 157 rfl) rfl
theorem q2462 : (Jvm.Cond.methodLink "WeirfoldLane" (367 : Nat) ({ cls := "java/util/Optional", name := "empty", desc := "()Ljava/util/Optional;" } : Jvm.MethodName)) ∈ lw_all := lw_g (lw_at lw_m10 209 rfl) rfl
theorem q2463 : (Jvm.Cond.methodLink "WeirfoldLane" (381 : Nat) ({ cls := "java/util/Optional", name := "isPresent", desc := "()Z" } : Jvm.MethodName)) ∈ lw_all := lw_g (lw_at lw_m10 210 rfl) rfl
theorem q2464 : (Jvm.Cond.methodLink "WeirfoldLane" (384 : Nat) ({ cls := "java/util/Optional", name := "get", desc := "()Ljava/lang/Object;" } : Jvm.MethodName)) ∈ lw_all := lw_g (lw_at lw_m10 211 rfl) rfl
theorem q2465 : (Jvm.Cond.classLink "WeirfoldLane" (128 : Nat) "java/util/List") ∈ lw_all := lw_g (lw_at lw_m10 212 rfl) rfl
theorem q2466 : (Jvm.Cond.methodLink "WeirfoldLane" (386 : Nat) ({ cls := "WeirfoldLane", name := "applyAll", desc := "(Ljava/util/List;LWeirfoldLane$Lane;)V" } : Jvm.MethodName)) ∈ lw_all := lw_g (lw_at lw_m10 213 rfl) rfl
theorem q2467 : (Jvm.Cond.static ({ cls := "WeirfoldLane", name := "applyAll", desc := "(Ljava/util/List;LWeirfoldLane$Lane;)V" } : Jvm.MethodName)) ∈ lw_all := lw_g (lw_at lw_m10 214 rfl) rfl
theorem q2468 : (Jvm.Cond.codeWith ({ cls := "WeirfoldLane", name := "applyAll", desc := "(Ljava/util/List;LWeirfoldLane$Lane;)V" } : Jvm.MethodName) prog_1_method_59_code (6 : Nat) (Option.none : Option Jvm.ClassFile.FieldType) [((29 : Nat), (37 : Nat), (40 : Nat), (30 : Nat))]) ∈ lw_all := lw_g (lw_at lw_m10 215 rfl) rfl
theorem q2469 : (Jvm.Cond.methodLink "WeirfoldLane" (371 : Nat) ({ cls := "WeirfoldLane", name := "applyCommand", desc := "(LWeirfoldLane$Change;LWeirfoldLane$Lane;)I" } : Jvm.MethodName)) ∈ lw_all := lw_g (lw_at lw_m10 216 rfl) rfl
theorem q2470 : (Jvm.Cond.static ({ cls := "WeirfoldLane", name := "applyCommand", desc := "(LWeirfoldLane$Change;LWeirfoldLane$Lane;)I" } : Jvm.MethodName)) ∈ lw_all := lw_g (lw_at lw_m10 217 rfl) rfl
theorem q2471 : (Jvm.Cond.codeWith ({ cls := "WeirfoldLane", name := "applyCommand", desc := "(LWeirfoldLane$Change;LWeirfoldLane$Lane;)I" } : Jvm.MethodName) prog_1_method_58_code (3 : Nat) (Option.some Jvm.ClassFile.FieldType.int) [((0 : Nat), (5 : Nat), (6 : Nat), (17 : Nat)), ((0 : Nat), (5 : Nat), (6 : Nat), (1 : Nat)), ((0 : Nat), (5 : Nat), (6 : Nat), (20 : Nat))]) ∈ lw_all := lw_g (lw_at lw_m10 218 rfl) rfl
theorem q2472 : (Jvm.Cond.methodLink "WeirfoldLane" (375 : Nat) ({ cls := "WeirfoldLane$Denial", name := "<init>", desc := "(IILWeirfoldLane$Denial;)V" } : Jvm.MethodName)) ∈ lw_all := lw_g (lw_at lw_m10 219 rfl) rfl
theorem q2477 : (Jvm.Cond.instanceMethod ({ cls := "WeirfoldLane", name := "faultPosition", desc := "()I" } : Jvm.MethodName)) ∈ lw_all := lw_g (lw_at lw_m10 224 rfl) rfl
theorem q2478 : (Jvm.Cond.selects "WeirfoldLane" ({ cls := "WeirfoldLane", name := "faultPosition", desc := "()I" } : Jvm.MethodName) ({ cls := "WeirfoldLane", name := "faultPosition", desc := "()I" } : Jvm.MethodName)) ∈ lw_all := lw_g (lw_at lw_m10 225 rfl) rfl
theorem q2479 : (Jvm.Cond.code ({ cls := "WeirfoldLane", name := "faultPosition", desc := "()I" } : Jvm.MethodName) prog_1_method_61_code (1 : Nat) (Option.some Jvm.ClassFile.FieldType.int)) ∈ lw_all := lw_g (lw_at lw_m10 226 rfl) rfl
theorem q2484 : (Jvm.Cond.instanceMethod ({ cls := "WeirfoldLane", name := "writeStep", desc := "(I)I" } : Jvm.MethodName)) ∈ lw_all := lw_g (lw_at lw_m10 231 rfl) rfl
theorem q2485 : (Jvm.Cond.selects "WeirfoldLane" ({ cls := "WeirfoldLane", name := "writeStep", desc := "(I)I" } : Jvm.MethodName) ({ cls := "WeirfoldLane", name := "writeStep", desc := "(I)I" } : Jvm.MethodName)) ∈ lw_all := lw_g (lw_at lw_m10 232 rfl) rfl
theorem q2486 : (Jvm.Cond.code ({ cls := "WeirfoldLane", name := "writeStep", desc := "(I)I" } : Jvm.MethodName) prog_1_method_62_code (2 : Nat) (Option.some Jvm.ClassFile.FieldType.int)) ∈ lw_all := lw_g (lw_at lw_m10 233 rfl) rfl
theorem q2487 : (Jvm.Cond.methodLink "WeirfoldLane" (390 : Nat) ({ cls := "java/lang/StringBuilder", name := "append", desc := "(I)Ljava/lang/StringBuilder;" } : Jvm.MethodName)) ∈ lw_all := lw_g (lw_at lw_m10 234 rfl) rfl
theorem q2488 : (Jvm.Cond.stringRef "WeirfoldLane" (393 : Nat) ":") ∈ lw_tbl := lw_at lw_m10 235 rfl
theorem q2489 : (Jvm.Cond.methodLink "WeirfoldLane" (395 : Nat) ({ cls := "java/lang/StringBuilder", name := "append", desc := "(Ljava/lang/String;)Ljava/lang/StringBuilder;" } : Jvm.MethodName)) ∈ lw_all := lw_g (lw_at lw_m10 236 rfl) rfl
theorem q2490 : (Jvm.Cond.methodLink "WeirfoldLane" (398 : Nat) ({ cls := "WeirfoldLane$Step", name := "text", desc := "(LWeirfoldLane$Lane;)Ljava/lang/String;" } : Jvm.MethodName)) ∈ lw_all := lw_g (lw_at lw_m10 237 rfl) rfl
theorem q2554 : (Jvm.Cond.methodLink "WeirfoldLane" (401 : Nat) ({ cls := "java/lang/StringBuilder", name := "toString", desc := "()Ljava/lang/String;" } : Jvm.MethodName)) ∈ lw_all := lw_g (lw_at lw_m11 61 rfl) rfl
theorem q2555 : (Jvm.Cond.methodLink "WeirfoldLane" (405 : Nat) ({ cls := "java/lang/String", name := "length", desc := "()I" } : Jvm.MethodName)) ∈ lw_all := lw_g (lw_at lw_m11 62 rfl) rfl
theorem q2560 : (Jvm.Cond.instanceMethod ({ cls := "WeirfoldLane", name := "writePartition", desc := "(II)I" } : Jvm.MethodName)) ∈ lw_all := lw_g (lw_at lw_m11 67 rfl) rfl
theorem q2561 : (Jvm.Cond.selects "WeirfoldLane" ({ cls := "WeirfoldLane", name := "writePartition", desc := "(II)I" } : Jvm.MethodName) ({ cls := "WeirfoldLane", name := "writePartition", desc := "(II)I" } : Jvm.MethodName)) ∈ lw_all := lw_g (lw_at lw_m11 68 rfl) rfl
theorem q2562 : (Jvm.Cond.code ({ cls := "WeirfoldLane", name := "writePartition", desc := "(II)I" } : Jvm.MethodName) prog_1_method_63_code (6 : Nat) (Option.some Jvm.ClassFile.FieldType.int)) ∈ lw_all := lw_g (lw_at lw_m11 69 rfl) rfl
theorem q2563 : (Jvm.Cond.stringRef "WeirfoldLane" (408 : Nat) ",") ∈ lw_tbl := lw_at lw_m11 70 rfl
theorem q2564 : (Jvm.Cond.methodLink "WeirfoldLane" (410 : Nat) ({ cls := "java/lang/StringBuilder", name := "append", desc := "(J)Ljava/lang/StringBuilder;" } : Jvm.MethodName)) ∈ lw_all := lw_g (lw_at lw_m11 71 rfl) rfl
theorem q2591 : (Jvm.Cond.stringRef "WeirfoldLane" (413 : Nat) "!") ∈ lw_tbl := lw_at lw_m11 98 rfl
theorem q2596 : (Jvm.Cond.instanceMethod ({ cls := "WeirfoldLane", name := "lineCharacter", desc := "(I)C" } : Jvm.MethodName)) ∈ lw_all := lw_g (lw_at lw_m11 103 rfl) rfl
theorem q2597 : (Jvm.Cond.selects "WeirfoldLane" ({ cls := "WeirfoldLane", name := "lineCharacter", desc := "(I)C" } : Jvm.MethodName) ({ cls := "WeirfoldLane", name := "lineCharacter", desc := "(I)C" } : Jvm.MethodName)) ∈ lw_all := lw_g (lw_at lw_m11 104 rfl) rfl
theorem q2598 : (Jvm.Cond.code ({ cls := "WeirfoldLane", name := "lineCharacter", desc := "(I)C" } : Jvm.MethodName) prog_1_method_64_code (2 : Nat) (Option.some Jvm.ClassFile.FieldType.char)) ∈ lw_all := lw_g (lw_at lw_m11 105 rfl) rfl
theorem q2599 : (Jvm.Cond.methodLink "WeirfoldLane" (415 : Nat) ({ cls := "WeirfoldLane", name := "requireIndex", desc := "(II)V" } : Jvm.MethodName)) ∈ lw_all := lw_g (lw_at lw_m11 106 rfl) rfl
theorem q2600 : (Jvm.Cond.methodLink "WeirfoldLane" (418 : Nat) ({ cls := "java/lang/String", name := "charAt", desc := "(I)C" } : Jvm.MethodName)) ∈ lw_all := lw_g (lw_at lw_m11 107 rfl) rfl
theorem q2615 : (Jvm.Cond.instanceMethod ({ cls := "WeirfoldLane", name := "denial", desc := "()I" } : Jvm.MethodName)) ∈ lw_all := lw_g (lw_at lw_m11 122 rfl) rfl
theorem q2616 : (Jvm.Cond.selects "WeirfoldLane" ({ cls := "WeirfoldLane", name := "denial", desc := "()I" } : Jvm.MethodName) ({ cls := "WeirfoldLane", name := "denial", desc := "()I" } : Jvm.MethodName)) ∈ lw_all := lw_g (lw_at lw_m11 123 rfl) rfl
theorem q2617 : (Jvm.Cond.code ({ cls := "WeirfoldLane", name := "denial", desc := "()I" } : Jvm.MethodName) prog_1_method_66_code (1 : Nat) (Option.some Jvm.ClassFile.FieldType.int)) ∈ lw_all := lw_g (lw_at lw_m11 124 rfl) rfl
theorem q2618 : (Jvm.Cond.methodLink "WeirfoldLane" (422 : Nat) ({ cls := "WeirfoldLane", name := "latestDenial", desc := "()LWeirfoldLane$Denial;" } : Jvm.MethodName)) ∈ lw_all := lw_g (lw_at lw_m11 125 rfl) rfl
theorem q2619 : (Jvm.Cond.privateMethod ({ cls := "WeirfoldLane", name := "latestDenial", desc := "()LWeirfoldLane$Denial;" } : Jvm.MethodName)) ∈ lw_tbl := lw_at lw_m11 126 rfl
theorem q2620 : (Jvm.Cond.instanceMethod ({ cls := "WeirfoldLane", name := "latestDenial", desc := "()LWeirfoldLane$Denial;" } : Jvm.MethodName)) ∈ lw_all := lw_g (lw_at lw_m11 127 rfl) rfl
theorem q2621 : (Jvm.Cond.code ({ cls := "WeirfoldLane", name := "latestDenial", desc := "()LWeirfoldLane$Denial;" } : Jvm.MethodName) prog_1_method_65_code (1 : Nat) (Option.some (Jvm.ClassFile.FieldType.object "WeirfoldLane$Denial"))) ∈ lw_all := lw_g (lw_at lw_m11 128 rfl) rfl
theorem q2626 : (Jvm.Cond.instanceMethod ({ cls := "WeirfoldLane", name := "denialDetail", desc := "()I" } : Jvm.MethodName)) ∈ lw_all := lw_g (lw_at lw_m11 133 rfl) rfl
theorem q2627 : (Jvm.Cond.selects "WeirfoldLane" ({ cls := "WeirfoldLane", name := "denialDetail", desc := "()I" } : Jvm.MethodName) ({ cls := "WeirfoldLane", name := "denialDetail", desc := "()I" } : Jvm.MethodName)) ∈ lw_all := lw_g (lw_at lw_m11 134 rfl) rfl
theorem q2628 : (Jvm.Cond.code ({ cls := "WeirfoldLane", name := "denialDetail", desc := "()I" } : Jvm.MethodName) prog_1_method_67_code (1 : Nat) (Option.some Jvm.ClassFile.FieldType.int)) ∈ lw_all := lw_g (lw_at lw_m11 135 rfl) rfl
theorem q2633 : (Jvm.Cond.instanceMethod ({ cls := "WeirfoldLane", name := "denialCause", desc := "()I" } : Jvm.MethodName)) ∈ lw_all := lw_g (lw_at lw_m11 140 rfl) rfl
theorem q2634 : (Jvm.Cond.selects "WeirfoldLane" ({ cls := "WeirfoldLane", name := "denialCause", desc := "()I" } : Jvm.MethodName) ({ cls := "WeirfoldLane", name := "denialCause", desc := "()I" } : Jvm.MethodName)) ∈ lw_all := lw_g (lw_at lw_m11 141 rfl) rfl
theorem q2635 : (Jvm.Cond.code ({ cls := "WeirfoldLane", name := "denialCause", desc := "()I" } : Jvm.MethodName) prog_1_method_68_code (2 : Nat) (Option.some Jvm.ClassFile.FieldType.int)) ∈ lw_all := lw_g (lw_at lw_m11 142 rfl) rfl
theorem q2636 : (Jvm.Cond.methodLink "WeirfoldLane" (430 : Nat) ({ cls := "WeirfoldLane$Denial", name := "behind", desc := "()Ljava/util/Optional;" } : Jvm.MethodName)) ∈ lw_all := lw_g (lw_at lw_m11 143 rfl) rfl
theorem q2653 : (Jvm.Cond.instanceMethod ({ cls := "WeirfoldLane", name := "undo", desc := "()I" } : Jvm.MethodName)) ∈ lw_all := lw_g (lw_at lw_m11 160 rfl) rfl
theorem q2654 : (Jvm.Cond.selects "WeirfoldLane" ({ cls := "WeirfoldLane", name := "undo", desc := "()I" } : Jvm.MethodName) ({ cls := "WeirfoldLane", name := "undo", desc := "()I" } : Jvm.MethodName)) ∈ lw_all := lw_g (lw_at lw_m11 161 rfl) rfl
theorem q2655 : (Jvm.Cond.code ({ cls := "WeirfoldLane", name := "undo", desc := "()I" } : Jvm.MethodName) prog_1_method_69_code (1 : Nat) (Option.some Jvm.ClassFile.FieldType.int)) ∈ lw_all := lw_g (lw_at lw_m11 162 rfl) rfl
theorem q2656 : (Jvm.Cond.methodLink "WeirfoldLane" (433 : Nat) ({ cls := "java/util/ArrayDeque", name := "isEmpty", desc := "()Z" } : Jvm.MethodName)) ∈ lw_all := lw_g (lw_at lw_m11 163 rfl) rfl
theorem q2660 : (Jvm.Cond.methodLink "WeirfoldLane" (436 : Nat) ({ cls := "java/util/ArrayDeque", name := "pop", desc := "()Ljava/lang/Object;" } : Jvm.MethodName)) ∈ lw_all := lw_g (lw_at lw_m11 167 rfl) rfl
theorem q2679 : (Jvm.Cond.instanceMethod ({ cls := "WeirfoldLane", name := "restoreSnapshot", desc := "()I" } : Jvm.MethodName)) ∈ lw_all := lw_g (lw_at lw_m11 186 rfl) rfl
theorem q2680 : (Jvm.Cond.selects "WeirfoldLane" ({ cls := "WeirfoldLane", name := "restoreSnapshot", desc := "()I" } : Jvm.MethodName) ({ cls := "WeirfoldLane", name := "restoreSnapshot", desc := "()I" } : Jvm.MethodName)) ∈ lw_all := lw_g (lw_at lw_m11 187 rfl) rfl
theorem q2681 : (Jvm.Cond.code ({ cls := "WeirfoldLane", name := "restoreSnapshot", desc := "()I" } : Jvm.MethodName) prog_1_method_72_code (1 : Nat) (Option.some Jvm.ClassFile.FieldType.int)) ∈ lw_all := lw_g (lw_at lw_m11 188 rfl) rfl
theorem q2682 : (Jvm.Cond.methodLink "WeirfoldLane" (442 : Nat) ({ cls := "java/util/ArrayDeque", name := "clear", desc := "()V" } : Jvm.MethodName)) ∈ lw_all := lw_g (lw_at lw_m11 189 rfl) rfl
theorem q3301 : (Jvm.Cond.castable "WeirfoldLane" "java/lang/Object") ∈ lw_tbl := lw_at lw_m14 88 rfl
theorem in_X1 : ∀ w ∈ wsX10, w ∈ lw_all := lw_in wsX10 [294, 296, 298, 300, 302, 304, 306] (by decide +kernel) (by decide +kernel)

/-! WeirfoldLane$Lane -/
set_option maxRecDepth 100000
def RX2 : String := "WeirfoldLane$Lane"
def TX2 : u_T := fun k => match k with
  | 0 => ("WeirfoldLane$Lane", "rows", "Ljava/util/List;", true)
  | 1 => ("WeirfoldLane$Lane", "steps", "Ljava/util/List;", true)
  | 2 => ("WeirfoldLane$Lane", "views", "Ljava/util/List;", true)
  | 3 => ("WeirfoldLane$Lane", "today", "I", false)
  | 4 => ("WeirfoldLane$Lane", "added", "I", false)
  | 5 => ("WeirfoldLane$Lane", "removed", "I", false)
  | 6 => ("WeirfoldLane$Lane", "late", "I", false)
  | _ => ("WeirfoldLane$Lane", "repaired", "I", false)
def tyX2 : Nat → FieldType := fun k => match k with
  | 0 => .object "java/util/List"
  | 1 => .object "java/util/List"
  | 2 => .object "java/util/List"
  | 3 => .int
  | 4 => .int
  | 5 => .int
  | 6 => .int
  | _ => .int
abbrev wsX20 : List Cond := u_ws RX2 TX2 8
theorem nmX2 : ∀ a, a < 8 → ∀ b, b < 8 → a ≠ b → (TX2 a).2.1 ≠ (TX2 b).2.1 := by decide +kernel
theorem tyX2_ok : ∀ k, k < 8 → parseFieldDescriptor (TX2 k).2.2.1 = some (tyX2 k) := by decide +kernel
abbrev cX2_init : ByteArray := prog_12_method_1_code
def yX2_init : MethodName := ⟨RX2, "<init>", "()V"⟩
def dkwX2_init_1 : List UInt8 := [181, 0, 18, 42, 187, 0, 9, 89, 183, 0, 11, 181, 0, 21, 177]
abbrev dktX2_init_1 : List UInt8 := dkwX2_init_1 ++ []
def dkwX2_init_0 : List UInt8 := [42, 183, 0, 3, 42, 187, 0, 9, 89, 183, 0, 11, 181, 0, 12, 42, 187, 0, 9, 89, 183, 0, 11]
abbrev dktX2_init_0 : List UInt8 := dkwX2_init_0 ++ dktX2_init_1
theorem dksX2_init_0 : cX2_init.data.toList.drop 0 = dktX2_init_0 := by decide +kernel
theorem dksX2_init_1 : cX2_init.data.toList.drop 23 = dktX2_init_1 := dk_seg dksX2_init_0 23 rfl rfl
theorem dX2_init_0 : decode cX2_init 0 = .ok (.aload_n 0, 1) := dk_42 (dk_at dksX2_init_0 0 rfl rfl)
theorem dX2_init_1 : decode cX2_init 1 = .ok (.invokespecial 3, 3) := dk_183 0 3 (dk_at dksX2_init_0 1 rfl rfl)
theorem dX2_init_4 : decode cX2_init 4 = .ok (.aload_n 0, 1) := dk_42 (dk_at dksX2_init_0 4 rfl rfl)
theorem dX2_init_5 : decode cX2_init 5 = .ok (.new 9, 3) := dk_187 0 9 (dk_at dksX2_init_0 5 rfl rfl)
theorem dX2_init_8 : decode cX2_init 8 = .ok (.dup, 1) := dk_89 (dk_at dksX2_init_0 8 rfl rfl)
theorem dX2_init_9 : decode cX2_init 9 = .ok (.invokespecial 11, 3) := dk_183 0 11 (dk_at dksX2_init_0 9 rfl rfl)
theorem dX2_init_12 : decode cX2_init 12 = .ok (.putfield 12, 3) := dk_181 0 12 (dk_at dksX2_init_0 12 rfl rfl)
theorem dX2_init_15 : decode cX2_init 15 = .ok (.aload_n 0, 1) := dk_42 (dk_at dksX2_init_0 15 rfl rfl)
theorem dX2_init_16 : decode cX2_init 16 = .ok (.new 9, 3) := dk_187 0 9 (dk_at dksX2_init_0 16 rfl rfl)
theorem dX2_init_19 : decode cX2_init 19 = .ok (.dup, 1) := dk_89 (dk_at dksX2_init_0 19 rfl rfl)
theorem dX2_init_20 : decode cX2_init 20 = .ok (.invokespecial 11, 3) := dk_183 0 11 (dk_at dksX2_init_0 20 rfl rfl)
theorem dX2_init_23 : decode cX2_init 23 = .ok (.putfield 18, 3) := dk_181 0 18 (dk_at dksX2_init_1 0 rfl rfl)
theorem dX2_init_26 : decode cX2_init 26 = .ok (.aload_n 0, 1) := dk_42 (dk_at dksX2_init_1 3 rfl rfl)
theorem dX2_init_27 : decode cX2_init 27 = .ok (.new 9, 3) := dk_187 0 9 (dk_at dksX2_init_1 4 rfl rfl)
theorem dX2_init_30 : decode cX2_init 30 = .ok (.dup, 1) := dk_89 (dk_at dksX2_init_1 7 rfl rfl)
theorem dX2_init_31 : decode cX2_init 31 = .ok (.invokespecial 11, 3) := dk_183 0 11 (dk_at dksX2_init_1 8 rfl rfl)
theorem dX2_init_34 : decode cX2_init 34 = .ok (.putfield 21, 3) := dk_181 0 21 (dk_at dksX2_init_1 11 rfl rfl)
theorem dX2_init_37 : decode cX2_init 37 = .ok (.return_, 1) := dk_177 (dk_at dksX2_init_1 14 rfl rfl)
abbrev cX2_staleOn : ByteArray := prog_12_method_11_code
def yX2_staleOn : MethodName := ⟨RX2, "staleOn", "(I)I"⟩
def dkwX2_staleOn_2 : List UInt8 := [167, 0, 4, 3, 96, 61, 167, 255, 218, 28, 172]
abbrev dktX2_staleOn_2 : List UInt8 := dkwX2_staleOn_2 ++ []
def dkwX2_staleOn_1 : List UInt8 := [185, 0, 36, 1, 0, 192, 0, 48, 58, 4, 28, 25, 4, 180, 0, 101, 27, 51, 153, 0, 7, 4]
abbrev dktX2_staleOn_1 : List UInt8 := dkwX2_staleOn_1 ++ dktX2_staleOn_2
def dkwX2_staleOn_0 : List UInt8 := [3, 61, 42, 180, 0, 21, 185, 0, 24, 1, 0, 78, 45, 185, 0, 30, 1, 0, 153, 0, 35, 45]
abbrev dktX2_staleOn_0 : List UInt8 := dkwX2_staleOn_0 ++ dktX2_staleOn_1
theorem dksX2_staleOn_0 : cX2_staleOn.data.toList.drop 0 = dktX2_staleOn_0 := by decide +kernel
theorem dksX2_staleOn_1 : cX2_staleOn.data.toList.drop 22 = dktX2_staleOn_1 := dk_seg dksX2_staleOn_0 22 rfl rfl
theorem dksX2_staleOn_2 : cX2_staleOn.data.toList.drop 44 = dktX2_staleOn_2 := dk_seg dksX2_staleOn_1 22 rfl rfl
theorem dX2_staleOn_0 : decode cX2_staleOn 0 = .ok (.iconst 0, 1) := dk_3 (dk_at dksX2_staleOn_0 0 rfl rfl)
theorem dX2_staleOn_1 : decode cX2_staleOn 1 = .ok (.istore_n 2, 1) := dk_61 (dk_at dksX2_staleOn_0 1 rfl rfl)
theorem dX2_staleOn_2 : decode cX2_staleOn 2 = .ok (.aload_n 0, 1) := dk_42 (dk_at dksX2_staleOn_0 2 rfl rfl)
theorem dX2_staleOn_3 : decode cX2_staleOn 3 = .ok (.getfield 21, 3) := dk_180 0 21 (dk_at dksX2_staleOn_0 3 rfl rfl)
theorem dX2_staleOn_6 : decode cX2_staleOn 6 = .ok (.invokeinterface 24 1, 5) := by decide +kernel
theorem dX2_staleOn_11 : decode cX2_staleOn 11 = .ok (.astore_n 3, 1) := dk_78 (dk_at dksX2_staleOn_0 11 rfl rfl)
theorem dX2_staleOn_12 : decode cX2_staleOn 12 = .ok (.aload_n 3, 1) := dk_45 (dk_at dksX2_staleOn_0 12 rfl rfl)
theorem dX2_staleOn_13 : decode cX2_staleOn 13 = .ok (.invokeinterface 30 1, 5) := by decide +kernel
theorem dX2_staleOn_18 : decode cX2_staleOn 18 = .ok (.ifCond .eq 35, 3) := dk_153 0 35 (dk_at dksX2_staleOn_0 18 rfl rfl)
theorem dX2_staleOn_21 : decode cX2_staleOn 21 = .ok (.aload_n 3, 1) := dk_45 (dk_at dksX2_staleOn_0 21 rfl rfl)
theorem dX2_staleOn_22 : decode cX2_staleOn 22 = .ok (.invokeinterface 36 1, 5) := by decide +kernel
theorem dX2_staleOn_27 : decode cX2_staleOn 27 = .ok (.checkcast 48, 3) := dk_192 0 48 (dk_at dksX2_staleOn_1 5 rfl rfl)
theorem dX2_staleOn_30 : decode cX2_staleOn 30 = .ok (.astore 4, 2) := dk_58 4 (dk_at dksX2_staleOn_1 8 rfl rfl)
theorem dX2_staleOn_32 : decode cX2_staleOn 32 = .ok (.iload_n 2, 1) := dk_28 (dk_at dksX2_staleOn_1 10 rfl rfl)
theorem dX2_staleOn_33 : decode cX2_staleOn 33 = .ok (.aload 4, 2) := dk_25 4 (dk_at dksX2_staleOn_1 11 rfl rfl)
theorem dX2_staleOn_35 : decode cX2_staleOn 35 = .ok (.getfield 101, 3) := dk_180 0 101 (dk_at dksX2_staleOn_1 13 rfl rfl)
theorem dX2_staleOn_38 : decode cX2_staleOn 38 = .ok (.iload_n 1, 1) := dk_27 (dk_at dksX2_staleOn_1 16 rfl rfl)
theorem dX2_staleOn_39 : decode cX2_staleOn 39 = .ok (.baload, 1) := dk_51 (dk_at dksX2_staleOn_1 17 rfl rfl)
theorem dX2_staleOn_40 : decode cX2_staleOn 40 = .ok (.ifCond .eq 7, 3) := dk_153 0 7 (dk_at dksX2_staleOn_1 18 rfl rfl)
theorem dX2_staleOn_43 : decode cX2_staleOn 43 = .ok (.iconst 1, 1) := dk_4 (dk_at dksX2_staleOn_1 21 rfl rfl)
theorem dX2_staleOn_44 : decode cX2_staleOn 44 = .ok (.goto 4, 3) := dk_167 0 4 (dk_at dksX2_staleOn_2 0 rfl rfl)
theorem dX2_staleOn_47 : decode cX2_staleOn 47 = .ok (.iconst 0, 1) := dk_3 (dk_at dksX2_staleOn_2 3 rfl rfl)
theorem dX2_staleOn_48 : decode cX2_staleOn 48 = .ok (.iadd, 1) := dk_96 (dk_at dksX2_staleOn_2 4 rfl rfl)
theorem dX2_staleOn_49 : decode cX2_staleOn 49 = .ok (.istore_n 2, 1) := dk_61 (dk_at dksX2_staleOn_2 5 rfl rfl)
theorem dX2_staleOn_50 : decode cX2_staleOn 50 = .ok (.goto (-38), 3) := dk_167 255 218 (dk_at dksX2_staleOn_2 6 rfl rfl)
theorem dX2_staleOn_53 : decode cX2_staleOn 53 = .ok (.iload_n 2, 1) := dk_28 (dk_at dksX2_staleOn_2 9 rfl rfl)
theorem dX2_staleOn_54 : decode cX2_staleOn 54 = .ok (.ireturn, 1) := dk_172 (dk_at dksX2_staleOn_2 10 rfl rfl)
abbrev cX2_init_2 : ByteArray := prog_12_method_2_code
def yX2_init_2 : MethodName := ⟨RX2, "<init>", "(LWeirfoldLane$Lane;)V"⟩
def dkwX2_init_2_9 : List UInt8 := [180, 0, 67, 181, 0, 67, 177]
abbrev dktX2_init_2_9 : List UInt8 := dkwX2_init_2_9 ++ []
def dkwX2_init_2_8 : List UInt8 := [180, 0, 58, 181, 0, 58, 42, 43, 180, 0, 61, 181, 0, 61, 42, 43, 180, 0, 64, 181, 0, 64, 42, 43]
abbrev dktX2_init_2_8 : List UInt8 := dkwX2_init_2_8 ++ dktX2_init_2_9
def dkwX2_init_2_7 : List UInt8 := [182, 0, 50, 185, 0, 42, 2, 0, 87, 167, 255, 223, 42, 43, 180, 0, 54, 181, 0, 54, 42, 43]
abbrev dktX2_init_2_7 : List UInt8 := dkwX2_init_2_7 ++ dktX2_init_2_8
def dkwX2_init_2_6 : List UInt8 := [185, 0, 30, 1, 0, 153, 0, 30, 44, 185, 0, 36, 1, 0, 192, 0, 48, 78, 42, 180, 0, 21, 45]
abbrev dktX2_init_2_6 : List UInt8 := dkwX2_init_2_6 ++ dktX2_init_2_7
def dkwX2_init_2_5 : List UInt8 := [185, 0, 42, 2, 0, 87, 167, 255, 226, 43, 180, 0, 21, 185, 0, 24, 1, 0, 77, 44]
abbrev dktX2_init_2_5 : List UInt8 := dkwX2_init_2_5 ++ dktX2_init_2_6
def dkwX2_init_2_4 : List UInt8 := [185, 0, 30, 1, 0, 153, 0, 27, 44, 185, 0, 36, 1, 0, 192, 0, 46, 78, 42, 180, 0, 18, 45]
abbrev dktX2_init_2_4 : List UInt8 := dkwX2_init_2_4 ++ dktX2_init_2_5
def dkwX2_init_2_3 : List UInt8 := [185, 0, 42, 2, 0, 87, 167, 255, 226, 43, 180, 0, 18, 185, 0, 24, 1, 0, 77, 44]
abbrev dktX2_init_2_3 : List UInt8 := dkwX2_init_2_3 ++ dktX2_init_2_4
def dkwX2_init_2_2 : List UInt8 := [44, 185, 0, 30, 1, 0, 153, 0, 27, 44, 185, 0, 36, 1, 0, 192, 0, 40, 78, 42, 180, 0, 12, 45]
abbrev dktX2_init_2_2 : List UInt8 := dkwX2_init_2_2 ++ dktX2_init_2_3
def dkwX2_init_2_1 : List UInt8 := [181, 0, 18, 42, 187, 0, 9, 89, 183, 0, 11, 181, 0, 21, 43, 180, 0, 12, 185, 0, 24, 1, 0, 77]
abbrev dktX2_init_2_1 : List UInt8 := dkwX2_init_2_1 ++ dktX2_init_2_2
def dkwX2_init_2_0 : List UInt8 := [42, 183, 0, 3, 42, 187, 0, 9, 89, 183, 0, 11, 181, 0, 12, 42, 187, 0, 9, 89, 183, 0, 11]
abbrev dktX2_init_2_0 : List UInt8 := dkwX2_init_2_0 ++ dktX2_init_2_1
theorem dksX2_init_2_0 : cX2_init_2.data.toList.drop 0 = dktX2_init_2_0 := by decide +kernel
theorem dksX2_init_2_1 : cX2_init_2.data.toList.drop 23 = dktX2_init_2_1 := dk_seg dksX2_init_2_0 23 rfl rfl
theorem dksX2_init_2_2 : cX2_init_2.data.toList.drop 47 = dktX2_init_2_2 := dk_seg dksX2_init_2_1 24 rfl rfl
theorem dksX2_init_2_3 : cX2_init_2.data.toList.drop 71 = dktX2_init_2_3 := dk_seg dksX2_init_2_2 24 rfl rfl
theorem dksX2_init_2_4 : cX2_init_2.data.toList.drop 91 = dktX2_init_2_4 := dk_seg dksX2_init_2_3 20 rfl rfl
theorem dksX2_init_2_5 : cX2_init_2.data.toList.drop 114 = dktX2_init_2_5 := dk_seg dksX2_init_2_4 23 rfl rfl
theorem dksX2_init_2_6 : cX2_init_2.data.toList.drop 134 = dktX2_init_2_6 := dk_seg dksX2_init_2_5 20 rfl rfl
theorem dksX2_init_2_7 : cX2_init_2.data.toList.drop 157 = dktX2_init_2_7 := dk_seg dksX2_init_2_6 23 rfl rfl
theorem dksX2_init_2_8 : cX2_init_2.data.toList.drop 179 = dktX2_init_2_8 := dk_seg dksX2_init_2_7 22 rfl rfl
theorem dksX2_init_2_9 : cX2_init_2.data.toList.drop 203 = dktX2_init_2_9 := dk_seg dksX2_init_2_8 24 rfl rfl
theorem dX2_init_2_0 : decode cX2_init_2 0 = .ok (.aload_n 0, 1) := dk_42 (dk_at dksX2_init_2_0 0 rfl rfl)
theorem dX2_init_2_1 : decode cX2_init_2 1 = .ok (.invokespecial 3, 3) := dk_183 0 3 (dk_at dksX2_init_2_0 1 rfl rfl)
theorem dX2_init_2_4 : decode cX2_init_2 4 = .ok (.aload_n 0, 1) := dk_42 (dk_at dksX2_init_2_0 4 rfl rfl)
theorem dX2_init_2_5 : decode cX2_init_2 5 = .ok (.new 9, 3) := dk_187 0 9 (dk_at dksX2_init_2_0 5 rfl rfl)
theorem dX2_init_2_8 : decode cX2_init_2 8 = .ok (.dup, 1) := dk_89 (dk_at dksX2_init_2_0 8 rfl rfl)
theorem dX2_init_2_9 : decode cX2_init_2 9 = .ok (.invokespecial 11, 3) := dk_183 0 11 (dk_at dksX2_init_2_0 9 rfl rfl)
theorem dX2_init_2_12 : decode cX2_init_2 12 = .ok (.putfield 12, 3) := dk_181 0 12 (dk_at dksX2_init_2_0 12 rfl rfl)
theorem dX2_init_2_15 : decode cX2_init_2 15 = .ok (.aload_n 0, 1) := dk_42 (dk_at dksX2_init_2_0 15 rfl rfl)
theorem dX2_init_2_16 : decode cX2_init_2 16 = .ok (.new 9, 3) := dk_187 0 9 (dk_at dksX2_init_2_0 16 rfl rfl)
theorem dX2_init_2_19 : decode cX2_init_2 19 = .ok (.dup, 1) := dk_89 (dk_at dksX2_init_2_0 19 rfl rfl)
theorem dX2_init_2_20 : decode cX2_init_2 20 = .ok (.invokespecial 11, 3) := dk_183 0 11 (dk_at dksX2_init_2_0 20 rfl rfl)
theorem dX2_init_2_23 : decode cX2_init_2 23 = .ok (.putfield 18, 3) := dk_181 0 18 (dk_at dksX2_init_2_1 0 rfl rfl)
theorem dX2_init_2_26 : decode cX2_init_2 26 = .ok (.aload_n 0, 1) := dk_42 (dk_at dksX2_init_2_1 3 rfl rfl)
theorem dX2_init_2_27 : decode cX2_init_2 27 = .ok (.new 9, 3) := dk_187 0 9 (dk_at dksX2_init_2_1 4 rfl rfl)
theorem dX2_init_2_30 : decode cX2_init_2 30 = .ok (.dup, 1) := dk_89 (dk_at dksX2_init_2_1 7 rfl rfl)
theorem dX2_init_2_31 : decode cX2_init_2 31 = .ok (.invokespecial 11, 3) := dk_183 0 11 (dk_at dksX2_init_2_1 8 rfl rfl)
theorem dX2_init_2_34 : decode cX2_init_2 34 = .ok (.putfield 21, 3) := dk_181 0 21 (dk_at dksX2_init_2_1 11 rfl rfl)
theorem dX2_init_2_37 : decode cX2_init_2 37 = .ok (.aload_n 1, 1) := dk_43 (dk_at dksX2_init_2_1 14 rfl rfl)
theorem dX2_init_2_38 : decode cX2_init_2 38 = .ok (.getfield 12, 3) := dk_180 0 12 (dk_at dksX2_init_2_1 15 rfl rfl)
theorem dX2_init_2_41 : decode cX2_init_2 41 = .ok (.invokeinterface 24 1, 5) := by decide +kernel
theorem dX2_init_2_46 : decode cX2_init_2 46 = .ok (.astore_n 2, 1) := dk_77 (dk_at dksX2_init_2_1 23 rfl rfl)
theorem dX2_init_2_47 : decode cX2_init_2 47 = .ok (.aload_n 2, 1) := dk_44 (dk_at dksX2_init_2_2 0 rfl rfl)
theorem dX2_init_2_48 : decode cX2_init_2 48 = .ok (.invokeinterface 30 1, 5) := by decide +kernel
theorem dX2_init_2_53 : decode cX2_init_2 53 = .ok (.ifCond .eq 27, 3) := dk_153 0 27 (dk_at dksX2_init_2_2 6 rfl rfl)
theorem dX2_init_2_56 : decode cX2_init_2 56 = .ok (.aload_n 2, 1) := dk_44 (dk_at dksX2_init_2_2 9 rfl rfl)
theorem dX2_init_2_57 : decode cX2_init_2 57 = .ok (.invokeinterface 36 1, 5) := by decide +kernel
theorem dX2_init_2_62 : decode cX2_init_2 62 = .ok (.checkcast 40, 3) := dk_192 0 40 (dk_at dksX2_init_2_2 15 rfl rfl)
theorem dX2_init_2_65 : decode cX2_init_2 65 = .ok (.astore_n 3, 1) := dk_78 (dk_at dksX2_init_2_2 18 rfl rfl)
theorem dX2_init_2_66 : decode cX2_init_2 66 = .ok (.aload_n 0, 1) := dk_42 (dk_at dksX2_init_2_2 19 rfl rfl)
theorem dX2_init_2_67 : decode cX2_init_2 67 = .ok (.getfield 12, 3) := dk_180 0 12 (dk_at dksX2_init_2_2 20 rfl rfl)
theorem dX2_init_2_70 : decode cX2_init_2 70 = .ok (.aload_n 3, 1) := dk_45 (dk_at dksX2_init_2_2 23 rfl rfl)
theorem dX2_init_2_71 : decode cX2_init_2 71 = .ok (.invokeinterface 42 2, 5) := by decide +kernel
theorem dX2_init_2_76 : decode cX2_init_2 76 = .ok (.pop, 1) := dk_87 (dk_at dksX2_init_2_3 5 rfl rfl)
theorem dX2_init_2_77 : decode cX2_init_2 77 = .ok (.goto (-30), 3) := dk_167 255 226 (dk_at dksX2_init_2_3 6 rfl rfl)
theorem dX2_init_2_80 : decode cX2_init_2 80 = .ok (.aload_n 1, 1) := dk_43 (dk_at dksX2_init_2_3 9 rfl rfl)
theorem dX2_init_2_81 : decode cX2_init_2 81 = .ok (.getfield 18, 3) := dk_180 0 18 (dk_at dksX2_init_2_3 10 rfl rfl)
theorem dX2_init_2_84 : decode cX2_init_2 84 = .ok (.invokeinterface 24 1, 5) := by decide +kernel
theorem dX2_init_2_89 : decode cX2_init_2 89 = .ok (.astore_n 2, 1) := dk_77 (dk_at dksX2_init_2_3 18 rfl rfl)
theorem dX2_init_2_90 : decode cX2_init_2 90 = .ok (.aload_n 2, 1) := dk_44 (dk_at dksX2_init_2_3 19 rfl rfl)
theorem dX2_init_2_91 : decode cX2_init_2 91 = .ok (.invokeinterface 30 1, 5) := by decide +kernel
theorem dX2_init_2_96 : decode cX2_init_2 96 = .ok (.ifCond .eq 27, 3) := dk_153 0 27 (dk_at dksX2_init_2_4 5 rfl rfl)
theorem dX2_init_2_99 : decode cX2_init_2 99 = .ok (.aload_n 2, 1) := dk_44 (dk_at dksX2_init_2_4 8 rfl rfl)
theorem dX2_init_2_100 : decode cX2_init_2 100 = .ok (.invokeinterface 36 1, 5) := by decide +kernel
theorem dX2_init_2_105 : decode cX2_init_2 105 = .ok (.checkcast 46, 3) := dk_192 0 46 (dk_at dksX2_init_2_4 14 rfl rfl)
theorem dX2_init_2_108 : decode cX2_init_2 108 = .ok (.astore_n 3, 1) := dk_78 (dk_at dksX2_init_2_4 17 rfl rfl)
theorem dX2_init_2_109 : decode cX2_init_2 109 = .ok (.aload_n 0, 1) := dk_42 (dk_at dksX2_init_2_4 18 rfl rfl)
theorem dX2_init_2_110 : decode cX2_init_2 110 = .ok (.getfield 18, 3) := dk_180 0 18 (dk_at dksX2_init_2_4 19 rfl rfl)
theorem dX2_init_2_113 : decode cX2_init_2 113 = .ok (.aload_n 3, 1) := dk_45 (dk_at dksX2_init_2_4 22 rfl rfl)
theorem dX2_init_2_114 : decode cX2_init_2 114 = .ok (.invokeinterface 42 2, 5) := by decide +kernel
theorem dX2_init_2_119 : decode cX2_init_2 119 = .ok (.pop, 1) := dk_87 (dk_at dksX2_init_2_5 5 rfl rfl)
theorem dX2_init_2_120 : decode cX2_init_2 120 = .ok (.goto (-30), 3) := dk_167 255 226 (dk_at dksX2_init_2_5 6 rfl rfl)
theorem dX2_init_2_123 : decode cX2_init_2 123 = .ok (.aload_n 1, 1) := dk_43 (dk_at dksX2_init_2_5 9 rfl rfl)
theorem dX2_init_2_124 : decode cX2_init_2 124 = .ok (.getfield 21, 3) := dk_180 0 21 (dk_at dksX2_init_2_5 10 rfl rfl)
theorem dX2_init_2_127 : decode cX2_init_2 127 = .ok (.invokeinterface 24 1, 5) := by decide +kernel
theorem dX2_init_2_132 : decode cX2_init_2 132 = .ok (.astore_n 2, 1) := dk_77 (dk_at dksX2_init_2_5 18 rfl rfl)
theorem dX2_init_2_133 : decode cX2_init_2 133 = .ok (.aload_n 2, 1) := dk_44 (dk_at dksX2_init_2_5 19 rfl rfl)
theorem dX2_init_2_134 : decode cX2_init_2 134 = .ok (.invokeinterface 30 1, 5) := by decide +kernel
theorem dX2_init_2_139 : decode cX2_init_2 139 = .ok (.ifCond .eq 30, 3) := dk_153 0 30 (dk_at dksX2_init_2_6 5 rfl rfl)
theorem dX2_init_2_142 : decode cX2_init_2 142 = .ok (.aload_n 2, 1) := dk_44 (dk_at dksX2_init_2_6 8 rfl rfl)
theorem dX2_init_2_143 : decode cX2_init_2 143 = .ok (.invokeinterface 36 1, 5) := by decide +kernel
theorem dX2_init_2_148 : decode cX2_init_2 148 = .ok (.checkcast 48, 3) := dk_192 0 48 (dk_at dksX2_init_2_6 14 rfl rfl)
theorem dX2_init_2_151 : decode cX2_init_2 151 = .ok (.astore_n 3, 1) := dk_78 (dk_at dksX2_init_2_6 17 rfl rfl)
theorem dX2_init_2_152 : decode cX2_init_2 152 = .ok (.aload_n 0, 1) := dk_42 (dk_at dksX2_init_2_6 18 rfl rfl)
theorem dX2_init_2_153 : decode cX2_init_2 153 = .ok (.getfield 21, 3) := dk_180 0 21 (dk_at dksX2_init_2_6 19 rfl rfl)
theorem dX2_init_2_156 : decode cX2_init_2 156 = .ok (.aload_n 3, 1) := dk_45 (dk_at dksX2_init_2_6 22 rfl rfl)
theorem dX2_init_2_157 : decode cX2_init_2 157 = .ok (.invokevirtual 50, 3) := dk_182 0 50 (dk_at dksX2_init_2_7 0 rfl rfl)
theorem dX2_init_2_160 : decode cX2_init_2 160 = .ok (.invokeinterface 42 2, 5) := by decide +kernel
theorem dX2_init_2_165 : decode cX2_init_2 165 = .ok (.pop, 1) := dk_87 (dk_at dksX2_init_2_7 8 rfl rfl)
theorem dX2_init_2_166 : decode cX2_init_2 166 = .ok (.goto (-33), 3) := dk_167 255 223 (dk_at dksX2_init_2_7 9 rfl rfl)
theorem dX2_init_2_169 : decode cX2_init_2 169 = .ok (.aload_n 0, 1) := dk_42 (dk_at dksX2_init_2_7 12 rfl rfl)
theorem dX2_init_2_170 : decode cX2_init_2 170 = .ok (.aload_n 1, 1) := dk_43 (dk_at dksX2_init_2_7 13 rfl rfl)
theorem dX2_init_2_171 : decode cX2_init_2 171 = .ok (.getfield 54, 3) := dk_180 0 54 (dk_at dksX2_init_2_7 14 rfl rfl)
theorem dX2_init_2_174 : decode cX2_init_2 174 = .ok (.putfield 54, 3) := dk_181 0 54 (dk_at dksX2_init_2_7 17 rfl rfl)
theorem dX2_init_2_177 : decode cX2_init_2 177 = .ok (.aload_n 0, 1) := dk_42 (dk_at dksX2_init_2_7 20 rfl rfl)
theorem dX2_init_2_178 : decode cX2_init_2 178 = .ok (.aload_n 1, 1) := dk_43 (dk_at dksX2_init_2_7 21 rfl rfl)
theorem dX2_init_2_179 : decode cX2_init_2 179 = .ok (.getfield 58, 3) := dk_180 0 58 (dk_at dksX2_init_2_8 0 rfl rfl)
theorem dX2_init_2_182 : decode cX2_init_2 182 = .ok (.putfield 58, 3) := dk_181 0 58 (dk_at dksX2_init_2_8 3 rfl rfl)
theorem dX2_init_2_185 : decode cX2_init_2 185 = .ok (.aload_n 0, 1) := dk_42 (dk_at dksX2_init_2_8 6 rfl rfl)
theorem dX2_init_2_186 : decode cX2_init_2 186 = .ok (.aload_n 1, 1) := dk_43 (dk_at dksX2_init_2_8 7 rfl rfl)
theorem dX2_init_2_187 : decode cX2_init_2 187 = .ok (.getfield 61, 3) := dk_180 0 61 (dk_at dksX2_init_2_8 8 rfl rfl)
theorem dX2_init_2_190 : decode cX2_init_2 190 = .ok (.putfield 61, 3) := dk_181 0 61 (dk_at dksX2_init_2_8 11 rfl rfl)
theorem dX2_init_2_193 : decode cX2_init_2 193 = .ok (.aload_n 0, 1) := dk_42 (dk_at dksX2_init_2_8 14 rfl rfl)
theorem dX2_init_2_194 : decode cX2_init_2 194 = .ok (.aload_n 1, 1) := dk_43 (dk_at dksX2_init_2_8 15 rfl rfl)
theorem dX2_init_2_195 : decode cX2_init_2 195 = .ok (.getfield 64, 3) := dk_180 0 64 (dk_at dksX2_init_2_8 16 rfl rfl)
theorem dX2_init_2_198 : decode cX2_init_2 198 = .ok (.putfield 64, 3) := dk_181 0 64 (dk_at dksX2_init_2_8 19 rfl rfl)
theorem dX2_init_2_201 : decode cX2_init_2 201 = .ok (.aload_n 0, 1) := dk_42 (dk_at dksX2_init_2_8 22 rfl rfl)
theorem dX2_init_2_202 : decode cX2_init_2 202 = .ok (.aload_n 1, 1) := dk_43 (dk_at dksX2_init_2_8 23 rfl rfl)
theorem dX2_init_2_203 : decode cX2_init_2 203 = .ok (.getfield 67, 3) := dk_180 0 67 (dk_at dksX2_init_2_9 0 rfl rfl)
theorem dX2_init_2_206 : decode cX2_init_2 206 = .ok (.putfield 67, 3) := dk_181 0 67 (dk_at dksX2_init_2_9 3 rfl rfl)
theorem dX2_init_2_209 : decode cX2_init_2 209 = .ok (.return_, 1) := dk_177 (dk_at dksX2_init_2_9 6 rfl rfl)
abbrev cX2_computePartition : ByteArray := prog_12_method_12_code
def yX2_computePartition : MethodName := ⟨RX2, "computePartition", "(LWeirfoldLane$Step;I)V"⟩
def dkwX2_computePartition_1 : List UInt8 := [184, 0, 97, 43, 42, 180, 0, 12, 42, 28, 21, 4, 182, 0, 131, 80, 132, 4, 1, 167, 255, 224, 177]
abbrev dktX2_computePartition_1 : List UInt8 := dkwX2_computePartition_1 ++ []
def dkwX2_computePartition_0 : List UInt8 := [42, 43, 182, 0, 89, 78, 3, 54, 4, 21, 4, 8, 162, 0, 32, 45, 180, 0, 93, 28, 21, 4]
abbrev dktX2_computePartition_0 : List UInt8 := dkwX2_computePartition_0 ++ dktX2_computePartition_1
theorem dksX2_computePartition_0 : cX2_computePartition.data.toList.drop 0 = dktX2_computePartition_0 := by decide +kernel
theorem dksX2_computePartition_1 : cX2_computePartition.data.toList.drop 22 = dktX2_computePartition_1 := dk_seg dksX2_computePartition_0 22 rfl rfl
theorem dX2_computePartition_0 : decode cX2_computePartition 0 = .ok (.aload_n 0, 1) := dk_42 (dk_at dksX2_computePartition_0 0 rfl rfl)
theorem dX2_computePartition_1 : decode cX2_computePartition 1 = .ok (.aload_n 1, 1) := dk_43 (dk_at dksX2_computePartition_0 1 rfl rfl)
theorem dX2_computePartition_2 : decode cX2_computePartition 2 = .ok (.invokevirtual 89, 3) := dk_182 0 89 (dk_at dksX2_computePartition_0 2 rfl rfl)
theorem dX2_computePartition_5 : decode cX2_computePartition 5 = .ok (.astore_n 3, 1) := dk_78 (dk_at dksX2_computePartition_0 5 rfl rfl)
theorem dX2_computePartition_6 : decode cX2_computePartition 6 = .ok (.iconst 0, 1) := dk_3 (dk_at dksX2_computePartition_0 6 rfl rfl)
theorem dX2_computePartition_7 : decode cX2_computePartition 7 = .ok (.istore 4, 2) := dk_54 4 (dk_at dksX2_computePartition_0 7 rfl rfl)
theorem dX2_computePartition_9 : decode cX2_computePartition 9 = .ok (.iload 4, 2) := dk_21 4 (dk_at dksX2_computePartition_0 9 rfl rfl)
theorem dX2_computePartition_11 : decode cX2_computePartition 11 = .ok (.iconst 5, 1) := dk_8 (dk_at dksX2_computePartition_0 11 rfl rfl)
theorem dX2_computePartition_12 : decode cX2_computePartition 12 = .ok (.if_icmp .ge 32, 3) := dk_162 0 32 (dk_at dksX2_computePartition_0 12 rfl rfl)
theorem dX2_computePartition_15 : decode cX2_computePartition 15 = .ok (.aload_n 3, 1) := dk_45 (dk_at dksX2_computePartition_0 15 rfl rfl)
theorem dX2_computePartition_16 : decode cX2_computePartition 16 = .ok (.getfield 93, 3) := dk_180 0 93 (dk_at dksX2_computePartition_0 16 rfl rfl)
theorem dX2_computePartition_19 : decode cX2_computePartition 19 = .ok (.iload_n 2, 1) := dk_28 (dk_at dksX2_computePartition_0 19 rfl rfl)
theorem dX2_computePartition_20 : decode cX2_computePartition 20 = .ok (.iload 4, 2) := dk_21 4 (dk_at dksX2_computePartition_0 20 rfl rfl)
theorem dX2_computePartition_22 : decode cX2_computePartition 22 = .ok (.invokestatic 97, 3) := dk_184 0 97 (dk_at dksX2_computePartition_1 0 rfl rfl)
theorem dX2_computePartition_25 : decode cX2_computePartition 25 = .ok (.aload_n 1, 1) := dk_43 (dk_at dksX2_computePartition_1 3 rfl rfl)
theorem dX2_computePartition_26 : decode cX2_computePartition 26 = .ok (.aload_n 0, 1) := dk_42 (dk_at dksX2_computePartition_1 4 rfl rfl)
theorem dX2_computePartition_27 : decode cX2_computePartition 27 = .ok (.getfield 12, 3) := dk_180 0 12 (dk_at dksX2_computePartition_1 5 rfl rfl)
theorem dX2_computePartition_30 : decode cX2_computePartition 30 = .ok (.aload_n 0, 1) := dk_42 (dk_at dksX2_computePartition_1 8 rfl rfl)
theorem dX2_computePartition_31 : decode cX2_computePartition 31 = .ok (.iload_n 2, 1) := dk_28 (dk_at dksX2_computePartition_1 9 rfl rfl)
theorem dX2_computePartition_32 : decode cX2_computePartition 32 = .ok (.iload 4, 2) := dk_21 4 (dk_at dksX2_computePartition_1 10 rfl rfl)
theorem dX2_computePartition_34 : decode cX2_computePartition 34 = .ok (.invokevirtual 131, 3) := dk_182 0 131 (dk_at dksX2_computePartition_1 12 rfl rfl)
theorem dX2_computePartition_37 : decode cX2_computePartition 37 = .ok (.lastore, 1) := dk_80 (dk_at dksX2_computePartition_1 15 rfl rfl)
theorem dX2_computePartition_38 : decode cX2_computePartition 38 = .ok (.iinc 4 1, 3) := dk_132 4 1 (dk_at dksX2_computePartition_1 16 rfl rfl)
theorem dX2_computePartition_41 : decode cX2_computePartition 41 = .ok (.goto (-32), 3) := dk_167 255 224 (dk_at dksX2_computePartition_1 19 rfl rfl)
theorem dX2_computePartition_44 : decode cX2_computePartition 44 = .ok (.return_, 1) := dk_177 (dk_at dksX2_computePartition_1 22 rfl rfl)
abbrev cX2_viewOf : ByteArray := prog_12_method_5_code
def yX2_viewOf : MethodName := ⟨RX2, "viewOf", "(LWeirfoldLane$Step;)LWeirfoldLane$View;"⟩
def dkwX2_viewOf_0 : List UInt8 := [42, 180, 0, 21, 42, 43, 182, 0, 86, 185, 0, 78, 2, 0, 192, 0, 48, 176]
abbrev dktX2_viewOf_0 : List UInt8 := dkwX2_viewOf_0 ++ []
theorem dksX2_viewOf_0 : cX2_viewOf.data.toList.drop 0 = dktX2_viewOf_0 := by decide +kernel
theorem dX2_viewOf_0 : decode cX2_viewOf 0 = .ok (.aload_n 0, 1) := dk_42 (dk_at dksX2_viewOf_0 0 rfl rfl)
theorem dX2_viewOf_1 : decode cX2_viewOf 1 = .ok (.getfield 21, 3) := dk_180 0 21 (dk_at dksX2_viewOf_0 1 rfl rfl)
theorem dX2_viewOf_4 : decode cX2_viewOf 4 = .ok (.aload_n 0, 1) := dk_42 (dk_at dksX2_viewOf_0 4 rfl rfl)
theorem dX2_viewOf_5 : decode cX2_viewOf 5 = .ok (.aload_n 1, 1) := dk_43 (dk_at dksX2_viewOf_0 5 rfl rfl)
theorem dX2_viewOf_6 : decode cX2_viewOf 6 = .ok (.invokevirtual 86, 3) := dk_182 0 86 (dk_at dksX2_viewOf_0 6 rfl rfl)
theorem dX2_viewOf_9 : decode cX2_viewOf 9 = .ok (.invokeinterface 78 2, 5) := by decide +kernel
theorem dX2_viewOf_14 : decode cX2_viewOf 14 = .ok (.checkcast 48, 3) := dk_192 0 48 (dk_at dksX2_viewOf_0 14 rfl rfl)
theorem dX2_viewOf_17 : decode cX2_viewOf 17 = .ok (.areturn, 1) := dk_176 (dk_at dksX2_viewOf_0 17 rfl rfl)
abbrev cX2_indexOf : ByteArray := prog_12_method_4_code
def yX2_indexOf : MethodName := ⟨RX2, "indexOf", "(LWeirfoldLane$Step;)I"⟩
def dkwX2_indexOf_0 : List UInt8 := [42, 180, 0, 18, 43, 185, 0, 82, 2, 0, 172]
abbrev dktX2_indexOf_0 : List UInt8 := dkwX2_indexOf_0 ++ []
theorem dksX2_indexOf_0 : cX2_indexOf.data.toList.drop 0 = dktX2_indexOf_0 := by decide +kernel
theorem dX2_indexOf_0 : decode cX2_indexOf 0 = .ok (.aload_n 0, 1) := dk_42 (dk_at dksX2_indexOf_0 0 rfl rfl)
theorem dX2_indexOf_1 : decode cX2_indexOf 1 = .ok (.getfield 18, 3) := dk_180 0 18 (dk_at dksX2_indexOf_0 1 rfl rfl)
theorem dX2_indexOf_4 : decode cX2_indexOf 4 = .ok (.aload_n 1, 1) := dk_43 (dk_at dksX2_indexOf_0 4 rfl rfl)
theorem dX2_indexOf_5 : decode cX2_indexOf 5 = .ok (.invokeinterface 82 2, 5) := by decide +kernel
theorem dX2_indexOf_10 : decode cX2_indexOf 10 = .ok (.ireturn, 1) := dk_172 (dk_at dksX2_indexOf_0 10 rfl rfl)
abbrev cX2_number : ByteArray := prog_12_method_6_code
def yX2_number : MethodName := ⟨RX2, "number", "(LWeirfoldLane$Step;II)J"⟩
def dkwX2_number_0 : List UInt8 := [42, 43, 182, 0, 89, 180, 0, 93, 28, 29, 184, 0, 97, 47, 173]
abbrev dktX2_number_0 : List UInt8 := dkwX2_number_0 ++ []
theorem dksX2_number_0 : cX2_number.data.toList.drop 0 = dktX2_number_0 := by decide +kernel
theorem dX2_number_0 : decode cX2_number 0 = .ok (.aload_n 0, 1) := dk_42 (dk_at dksX2_number_0 0 rfl rfl)
theorem dX2_number_1 : decode cX2_number 1 = .ok (.aload_n 1, 1) := dk_43 (dk_at dksX2_number_0 1 rfl rfl)
theorem dX2_number_2 : decode cX2_number 2 = .ok (.invokevirtual 89, 3) := dk_182 0 89 (dk_at dksX2_number_0 2 rfl rfl)
theorem dX2_number_5 : decode cX2_number 5 = .ok (.getfield 93, 3) := dk_180 0 93 (dk_at dksX2_number_0 5 rfl rfl)
theorem dX2_number_8 : decode cX2_number 8 = .ok (.iload_n 2, 1) := dk_28 (dk_at dksX2_number_0 8 rfl rfl)
theorem dX2_number_9 : decode cX2_number 9 = .ok (.iload_n 3, 1) := dk_29 (dk_at dksX2_number_0 9 rfl rfl)
theorem dX2_number_10 : decode cX2_number 10 = .ok (.invokestatic 97, 3) := dk_184 0 97 (dk_at dksX2_number_0 10 rfl rfl)
theorem dX2_number_13 : decode cX2_number 13 = .ok (.laload, 1) := dk_47 (dk_at dksX2_number_0 13 rfl rfl)
theorem dX2_number_14 : decode cX2_number 14 = .ok (.lreturn, 1) := dk_173 (dk_at dksX2_number_0 14 rfl rfl)
abbrev cX2_addRow : ByteArray := prog_12_method_17_code
def yX2_addRow : MethodName := ⟨RX2, "addRow", "(CII)I"⟩
def dkwX2_addRow_5 : List UInt8 := [25, 5, 180, 0, 111, 172]
abbrev dktX2_addRow_5 : List UInt8 := dkwX2_addRow_5 ++ []
def dkwX2_addRow_4 : List UInt8 := [185, 0, 42, 2, 0, 87, 42, 89, 180, 0, 58, 4, 96, 181, 0, 58, 42, 25, 5, 4, 182, 0, 179]
abbrev dktX2_addRow_4 : List UInt8 := dkwX2_addRow_4 ++ dktX2_addRow_5
def dkwX2_addRow_3 : List UInt8 := [89, 42, 180, 0, 58, 28, 21, 4, 29, 183, 0, 176, 58, 5, 42, 180, 0, 12, 25, 5]
abbrev dktX2_addRow_3 : List UInt8 := dkwX2_addRow_3 ++ dktX2_addRow_4
def dkwX2_addRow_2 : List UInt8 := [185, 0, 70, 1, 0, 16, 40, 162, 0, 7, 4, 167, 0, 4, 3, 4, 16, 40, 184, 0, 172, 187, 0, 40]
abbrev dktX2_addRow_2 : List UInt8 := dkwX2_addRow_2 ++ dktX2_addRow_3
def dkwX2_addRow_1 : List UInt8 := [180, 0, 54, 163, 0, 7, 4, 167, 0, 4, 3, 5, 42, 180, 0, 54, 184, 0, 172, 42, 180, 0, 12]
abbrev dktX2_addRow_1 : List UInt8 := dkwX2_addRow_1 ++ dktX2_addRow_2
def dkwX2_addRow_0 : List UInt8 := [27, 184, 0, 168, 54, 4, 28, 3, 16, 6, 184, 0, 127, 29, 3, 16, 99, 184, 0, 127, 28, 42]
abbrev dktX2_addRow_0 : List UInt8 := dkwX2_addRow_0 ++ dktX2_addRow_1
theorem dksX2_addRow_0 : cX2_addRow.data.toList.drop 0 = dktX2_addRow_0 := by decide +kernel
theorem dksX2_addRow_1 : cX2_addRow.data.toList.drop 22 = dktX2_addRow_1 := dk_seg dksX2_addRow_0 22 rfl rfl
theorem dksX2_addRow_2 : cX2_addRow.data.toList.drop 45 = dktX2_addRow_2 := dk_seg dksX2_addRow_1 23 rfl rfl
theorem dksX2_addRow_3 : cX2_addRow.data.toList.drop 69 = dktX2_addRow_3 := dk_seg dksX2_addRow_2 24 rfl rfl
theorem dksX2_addRow_4 : cX2_addRow.data.toList.drop 89 = dktX2_addRow_4 := dk_seg dksX2_addRow_3 20 rfl rfl
theorem dksX2_addRow_5 : cX2_addRow.data.toList.drop 112 = dktX2_addRow_5 := dk_seg dksX2_addRow_4 23 rfl rfl
theorem dX2_addRow_0 : decode cX2_addRow 0 = .ok (.iload_n 1, 1) := dk_27 (dk_at dksX2_addRow_0 0 rfl rfl)
theorem dX2_addRow_1 : decode cX2_addRow 1 = .ok (.invokestatic 168, 3) := dk_184 0 168 (dk_at dksX2_addRow_0 1 rfl rfl)
theorem dX2_addRow_4 : decode cX2_addRow 4 = .ok (.istore 4, 2) := dk_54 4 (dk_at dksX2_addRow_0 4 rfl rfl)
theorem dX2_addRow_6 : decode cX2_addRow 6 = .ok (.iload_n 2, 1) := dk_28 (dk_at dksX2_addRow_0 6 rfl rfl)
theorem dX2_addRow_7 : decode cX2_addRow 7 = .ok (.iconst 0, 1) := dk_3 (dk_at dksX2_addRow_0 7 rfl rfl)
theorem dX2_addRow_8 : decode cX2_addRow 8 = .ok (.bipush 6, 2) := dk_16 6 (dk_at dksX2_addRow_0 8 rfl rfl)
theorem dX2_addRow_10 : decode cX2_addRow 10 = .ok (.invokestatic 127, 3) := dk_184 0 127 (dk_at dksX2_addRow_0 10 rfl rfl)
theorem dX2_addRow_13 : decode cX2_addRow 13 = .ok (.iload_n 3, 1) := dk_29 (dk_at dksX2_addRow_0 13 rfl rfl)
theorem dX2_addRow_14 : decode cX2_addRow 14 = .ok (.iconst 0, 1) := dk_3 (dk_at dksX2_addRow_0 14 rfl rfl)
theorem dX2_addRow_15 : decode cX2_addRow 15 = .ok (.bipush 99, 2) := dk_16 99 (dk_at dksX2_addRow_0 15 rfl rfl)
theorem dX2_addRow_17 : decode cX2_addRow 17 = .ok (.invokestatic 127, 3) := dk_184 0 127 (dk_at dksX2_addRow_0 17 rfl rfl)
theorem dX2_addRow_20 : decode cX2_addRow 20 = .ok (.iload_n 2, 1) := dk_28 (dk_at dksX2_addRow_0 20 rfl rfl)
theorem dX2_addRow_21 : decode cX2_addRow 21 = .ok (.aload_n 0, 1) := dk_42 (dk_at dksX2_addRow_0 21 rfl rfl)
theorem dX2_addRow_22 : decode cX2_addRow 22 = .ok (.getfield 54, 3) := dk_180 0 54 (dk_at dksX2_addRow_1 0 rfl rfl)
theorem dX2_addRow_25 : decode cX2_addRow 25 = .ok (.if_icmp .gt 7, 3) := dk_163 0 7 (dk_at dksX2_addRow_1 3 rfl rfl)
theorem dX2_addRow_28 : decode cX2_addRow 28 = .ok (.iconst 1, 1) := dk_4 (dk_at dksX2_addRow_1 6 rfl rfl)
theorem dX2_addRow_29 : decode cX2_addRow 29 = .ok (.goto 4, 3) := dk_167 0 4 (dk_at dksX2_addRow_1 7 rfl rfl)
theorem dX2_addRow_32 : decode cX2_addRow 32 = .ok (.iconst 0, 1) := dk_3 (dk_at dksX2_addRow_1 10 rfl rfl)
theorem dX2_addRow_33 : decode cX2_addRow 33 = .ok (.iconst 2, 1) := dk_5 (dk_at dksX2_addRow_1 11 rfl rfl)
theorem dX2_addRow_34 : decode cX2_addRow 34 = .ok (.aload_n 0, 1) := dk_42 (dk_at dksX2_addRow_1 12 rfl rfl)
theorem dX2_addRow_35 : decode cX2_addRow 35 = .ok (.getfield 54, 3) := dk_180 0 54 (dk_at dksX2_addRow_1 13 rfl rfl)
theorem dX2_addRow_38 : decode cX2_addRow 38 = .ok (.invokestatic 172, 3) := dk_184 0 172 (dk_at dksX2_addRow_1 16 rfl rfl)
theorem dX2_addRow_41 : decode cX2_addRow 41 = .ok (.aload_n 0, 1) := dk_42 (dk_at dksX2_addRow_1 19 rfl rfl)
theorem dX2_addRow_42 : decode cX2_addRow 42 = .ok (.getfield 12, 3) := dk_180 0 12 (dk_at dksX2_addRow_1 20 rfl rfl)
theorem dX2_addRow_45 : decode cX2_addRow 45 = .ok (.invokeinterface 70 1, 5) := by decide +kernel
theorem dX2_addRow_50 : decode cX2_addRow 50 = .ok (.bipush 40, 2) := dk_16 40 (dk_at dksX2_addRow_2 5 rfl rfl)
theorem dX2_addRow_52 : decode cX2_addRow 52 = .ok (.if_icmp .ge 7, 3) := dk_162 0 7 (dk_at dksX2_addRow_2 7 rfl rfl)
theorem dX2_addRow_55 : decode cX2_addRow 55 = .ok (.iconst 1, 1) := dk_4 (dk_at dksX2_addRow_2 10 rfl rfl)
theorem dX2_addRow_56 : decode cX2_addRow 56 = .ok (.goto 4, 3) := dk_167 0 4 (dk_at dksX2_addRow_2 11 rfl rfl)
theorem dX2_addRow_59 : decode cX2_addRow 59 = .ok (.iconst 0, 1) := dk_3 (dk_at dksX2_addRow_2 14 rfl rfl)
theorem dX2_addRow_60 : decode cX2_addRow 60 = .ok (.iconst 1, 1) := dk_4 (dk_at dksX2_addRow_2 15 rfl rfl)
theorem dX2_addRow_61 : decode cX2_addRow 61 = .ok (.bipush 40, 2) := dk_16 40 (dk_at dksX2_addRow_2 16 rfl rfl)
theorem dX2_addRow_63 : decode cX2_addRow 63 = .ok (.invokestatic 172, 3) := dk_184 0 172 (dk_at dksX2_addRow_2 18 rfl rfl)
theorem dX2_addRow_66 : decode cX2_addRow 66 = .ok (.new 40, 3) := dk_187 0 40 (dk_at dksX2_addRow_2 21 rfl rfl)
theorem dX2_addRow_69 : decode cX2_addRow 69 = .ok (.dup, 1) := dk_89 (dk_at dksX2_addRow_3 0 rfl rfl)
theorem dX2_addRow_70 : decode cX2_addRow 70 = .ok (.aload_n 0, 1) := dk_42 (dk_at dksX2_addRow_3 1 rfl rfl)
theorem dX2_addRow_71 : decode cX2_addRow 71 = .ok (.getfield 58, 3) := dk_180 0 58 (dk_at dksX2_addRow_3 2 rfl rfl)
theorem dX2_addRow_74 : decode cX2_addRow 74 = .ok (.iload_n 2, 1) := dk_28 (dk_at dksX2_addRow_3 5 rfl rfl)
theorem dX2_addRow_75 : decode cX2_addRow 75 = .ok (.iload 4, 2) := dk_21 4 (dk_at dksX2_addRow_3 6 rfl rfl)
theorem dX2_addRow_77 : decode cX2_addRow 77 = .ok (.iload_n 3, 1) := dk_29 (dk_at dksX2_addRow_3 8 rfl rfl)
theorem dX2_addRow_78 : decode cX2_addRow 78 = .ok (.invokespecial 176, 3) := dk_183 0 176 (dk_at dksX2_addRow_3 9 rfl rfl)
theorem dX2_addRow_81 : decode cX2_addRow 81 = .ok (.astore 5, 2) := dk_58 5 (dk_at dksX2_addRow_3 12 rfl rfl)
theorem dX2_addRow_83 : decode cX2_addRow 83 = .ok (.aload_n 0, 1) := dk_42 (dk_at dksX2_addRow_3 14 rfl rfl)
theorem dX2_addRow_84 : decode cX2_addRow 84 = .ok (.getfield 12, 3) := dk_180 0 12 (dk_at dksX2_addRow_3 15 rfl rfl)
theorem dX2_addRow_87 : decode cX2_addRow 87 = .ok (.aload 5, 2) := dk_25 5 (dk_at dksX2_addRow_3 18 rfl rfl)
theorem dX2_addRow_89 : decode cX2_addRow 89 = .ok (.invokeinterface 42 2, 5) := by decide +kernel
theorem dX2_addRow_94 : decode cX2_addRow 94 = .ok (.pop, 1) := dk_87 (dk_at dksX2_addRow_4 5 rfl rfl)
theorem dX2_addRow_95 : decode cX2_addRow 95 = .ok (.aload_n 0, 1) := dk_42 (dk_at dksX2_addRow_4 6 rfl rfl)
theorem dX2_addRow_96 : decode cX2_addRow 96 = .ok (.dup, 1) := dk_89 (dk_at dksX2_addRow_4 7 rfl rfl)
theorem dX2_addRow_97 : decode cX2_addRow 97 = .ok (.getfield 58, 3) := dk_180 0 58 (dk_at dksX2_addRow_4 8 rfl rfl)
theorem dX2_addRow_100 : decode cX2_addRow 100 = .ok (.iconst 1, 1) := dk_4 (dk_at dksX2_addRow_4 11 rfl rfl)
theorem dX2_addRow_101 : decode cX2_addRow 101 = .ok (.iadd, 1) := dk_96 (dk_at dksX2_addRow_4 12 rfl rfl)
theorem dX2_addRow_102 : decode cX2_addRow 102 = .ok (.putfield 58, 3) := dk_181 0 58 (dk_at dksX2_addRow_4 13 rfl rfl)
theorem dX2_addRow_105 : decode cX2_addRow 105 = .ok (.aload_n 0, 1) := dk_42 (dk_at dksX2_addRow_4 16 rfl rfl)
theorem dX2_addRow_106 : decode cX2_addRow 106 = .ok (.aload 5, 2) := dk_25 5 (dk_at dksX2_addRow_4 17 rfl rfl)
theorem dX2_addRow_108 : decode cX2_addRow 108 = .ok (.iconst 1, 1) := dk_4 (dk_at dksX2_addRow_4 19 rfl rfl)
theorem dX2_addRow_109 : decode cX2_addRow 109 = .ok (.invokevirtual 179, 3) := dk_182 0 179 (dk_at dksX2_addRow_4 20 rfl rfl)
theorem dX2_addRow_112 : decode cX2_addRow 112 = .ok (.aload 5, 2) := dk_25 5 (dk_at dksX2_addRow_5 0 rfl rfl)
theorem dX2_addRow_114 : decode cX2_addRow 114 = .ok (.getfield 111, 3) := dk_180 0 111 (dk_at dksX2_addRow_5 2 rfl rfl)
theorem dX2_addRow_117 : decode cX2_addRow 117 = .ok (.ireturn, 1) := dk_172 (dk_at dksX2_addRow_5 5 rfl rfl)
abbrev cX2_follow : ByteArray := prog_12_method_16_code
def yX2_follow : MethodName := ⟨RX2, "follow", "(LWeirfoldLane$Row;I)V"⟩
def dkwX2_follow_1 : List UInt8 := [180, 0, 148, 182, 0, 164, 177]
abbrev dktX2_follow_1 : List UInt8 := dkwX2_follow_1 ++ []
def dkwX2_follow_0 : List UInt8 := [43, 180, 0, 148, 42, 180, 0, 54, 160, 0, 12, 42, 43, 28, 182, 0, 160, 167, 0, 11, 42, 43]
abbrev dktX2_follow_0 : List UInt8 := dkwX2_follow_0 ++ dktX2_follow_1
theorem dksX2_follow_0 : cX2_follow.data.toList.drop 0 = dktX2_follow_0 := by decide +kernel
theorem dksX2_follow_1 : cX2_follow.data.toList.drop 22 = dktX2_follow_1 := dk_seg dksX2_follow_0 22 rfl rfl
theorem dX2_follow_0 : decode cX2_follow 0 = .ok (.aload_n 1, 1) := dk_43 (dk_at dksX2_follow_0 0 rfl rfl)
theorem dX2_follow_1 : decode cX2_follow 1 = .ok (.getfield 148, 3) := dk_180 0 148 (dk_at dksX2_follow_0 1 rfl rfl)
theorem dX2_follow_4 : decode cX2_follow 4 = .ok (.aload_n 0, 1) := dk_42 (dk_at dksX2_follow_0 4 rfl rfl)
theorem dX2_follow_5 : decode cX2_follow 5 = .ok (.getfield 54, 3) := dk_180 0 54 (dk_at dksX2_follow_0 5 rfl rfl)
theorem dX2_follow_8 : decode cX2_follow 8 = .ok (.if_icmp .ne 12, 3) := dk_160 0 12 (dk_at dksX2_follow_0 8 rfl rfl)
theorem dX2_follow_11 : decode cX2_follow 11 = .ok (.aload_n 0, 1) := dk_42 (dk_at dksX2_follow_0 11 rfl rfl)
theorem dX2_follow_12 : decode cX2_follow 12 = .ok (.aload_n 1, 1) := dk_43 (dk_at dksX2_follow_0 12 rfl rfl)
theorem dX2_follow_13 : decode cX2_follow 13 = .ok (.iload_n 2, 1) := dk_28 (dk_at dksX2_follow_0 13 rfl rfl)
theorem dX2_follow_14 : decode cX2_follow 14 = .ok (.invokevirtual 160, 3) := dk_182 0 160 (dk_at dksX2_follow_0 14 rfl rfl)
theorem dX2_follow_17 : decode cX2_follow 17 = .ok (.goto 11, 3) := dk_167 0 11 (dk_at dksX2_follow_0 17 rfl rfl)
theorem dX2_follow_20 : decode cX2_follow 20 = .ok (.aload_n 0, 1) := dk_42 (dk_at dksX2_follow_0 20 rfl rfl)
theorem dX2_follow_21 : decode cX2_follow 21 = .ok (.aload_n 1, 1) := dk_43 (dk_at dksX2_follow_0 21 rfl rfl)
theorem dX2_follow_22 : decode cX2_follow 22 = .ok (.getfield 148, 3) := dk_180 0 148 (dk_at dksX2_follow_1 0 rfl rfl)
theorem dX2_follow_25 : decode cX2_follow 25 = .ok (.invokevirtual 164, 3) := dk_182 0 164 (dk_at dksX2_follow_1 3 rfl rfl)
theorem dX2_follow_28 : decode cX2_follow 28 = .ok (.return_, 1) := dk_177 (dk_at dksX2_follow_1 6 rfl rfl)
abbrev cX2_carry : ByteArray := prog_12_method_14_code
def yX2_carry : MethodName := ⟨RX2, "carry", "(LWeirfoldLane$Row;I)V"⟩
def dkwX2_carry_3 : List UInt8 := [182, 0, 154, 97, 80, 167, 255, 204, 177]
abbrev dktX2_carry_3 : List UInt8 := dkwX2_carry_3 ++ []
def dkwX2_carry_2 : List UInt8 := [182, 0, 89, 180, 0, 93, 43, 180, 0, 148, 43, 180, 0, 151, 184, 0, 97, 92, 47, 45, 25, 5]
abbrev dktX2_carry_2 : List UInt8 := dkwX2_carry_2 ++ dktX2_carry_3
def dkwX2_carry_1 : List UInt8 := [185, 0, 30, 1, 0, 153, 0, 48, 25, 4, 185, 0, 36, 1, 0, 192, 0, 46, 58, 5, 42, 25, 5]
abbrev dktX2_carry_1 : List UInt8 := dkwX2_carry_1 ++ dktX2_carry_2
def dkwX2_carry_0 : List UInt8 := [187, 0, 143, 89, 42, 43, 28, 183, 0, 145, 78, 42, 180, 0, 18, 185, 0, 24, 1, 0, 58, 4, 25, 4]
abbrev dktX2_carry_0 : List UInt8 := dkwX2_carry_0 ++ dktX2_carry_1
theorem dksX2_carry_0 : cX2_carry.data.toList.drop 0 = dktX2_carry_0 := by decide +kernel
theorem dksX2_carry_1 : cX2_carry.data.toList.drop 24 = dktX2_carry_1 := dk_seg dksX2_carry_0 24 rfl rfl
theorem dksX2_carry_2 : cX2_carry.data.toList.drop 47 = dktX2_carry_2 := dk_seg dksX2_carry_1 23 rfl rfl
theorem dksX2_carry_3 : cX2_carry.data.toList.drop 69 = dktX2_carry_3 := dk_seg dksX2_carry_2 22 rfl rfl
theorem dX2_carry_0 : decode cX2_carry 0 = .ok (.new 143, 3) := dk_187 0 143 (dk_at dksX2_carry_0 0 rfl rfl)
theorem dX2_carry_3 : decode cX2_carry 3 = .ok (.dup, 1) := dk_89 (dk_at dksX2_carry_0 3 rfl rfl)
theorem dX2_carry_4 : decode cX2_carry 4 = .ok (.aload_n 0, 1) := dk_42 (dk_at dksX2_carry_0 4 rfl rfl)
theorem dX2_carry_5 : decode cX2_carry 5 = .ok (.aload_n 1, 1) := dk_43 (dk_at dksX2_carry_0 5 rfl rfl)
theorem dX2_carry_6 : decode cX2_carry 6 = .ok (.iload_n 2, 1) := dk_28 (dk_at dksX2_carry_0 6 rfl rfl)
theorem dX2_carry_7 : decode cX2_carry 7 = .ok (.invokespecial 145, 3) := dk_183 0 145 (dk_at dksX2_carry_0 7 rfl rfl)
theorem dX2_carry_10 : decode cX2_carry 10 = .ok (.astore_n 3, 1) := dk_78 (dk_at dksX2_carry_0 10 rfl rfl)
theorem dX2_carry_11 : decode cX2_carry 11 = .ok (.aload_n 0, 1) := dk_42 (dk_at dksX2_carry_0 11 rfl rfl)
theorem dX2_carry_12 : decode cX2_carry 12 = .ok (.getfield 18, 3) := dk_180 0 18 (dk_at dksX2_carry_0 12 rfl rfl)
theorem dX2_carry_15 : decode cX2_carry 15 = .ok (.invokeinterface 24 1, 5) := by decide +kernel
theorem dX2_carry_20 : decode cX2_carry 20 = .ok (.astore 4, 2) := dk_58 4 (dk_at dksX2_carry_0 20 rfl rfl)
theorem dX2_carry_22 : decode cX2_carry 22 = .ok (.aload 4, 2) := dk_25 4 (dk_at dksX2_carry_0 22 rfl rfl)
theorem dX2_carry_24 : decode cX2_carry 24 = .ok (.invokeinterface 30 1, 5) := by decide +kernel
theorem dX2_carry_29 : decode cX2_carry 29 = .ok (.ifCond .eq 48, 3) := dk_153 0 48 (dk_at dksX2_carry_1 5 rfl rfl)
theorem dX2_carry_32 : decode cX2_carry 32 = .ok (.aload 4, 2) := dk_25 4 (dk_at dksX2_carry_1 8 rfl rfl)
theorem dX2_carry_34 : decode cX2_carry 34 = .ok (.invokeinterface 36 1, 5) := by decide +kernel
theorem dX2_carry_39 : decode cX2_carry 39 = .ok (.checkcast 46, 3) := dk_192 0 46 (dk_at dksX2_carry_1 15 rfl rfl)
theorem dX2_carry_42 : decode cX2_carry 42 = .ok (.astore 5, 2) := dk_58 5 (dk_at dksX2_carry_1 18 rfl rfl)
theorem dX2_carry_44 : decode cX2_carry 44 = .ok (.aload_n 0, 1) := dk_42 (dk_at dksX2_carry_1 20 rfl rfl)
theorem dX2_carry_45 : decode cX2_carry 45 = .ok (.aload 5, 2) := dk_25 5 (dk_at dksX2_carry_1 21 rfl rfl)
theorem dX2_carry_47 : decode cX2_carry 47 = .ok (.invokevirtual 89, 3) := dk_182 0 89 (dk_at dksX2_carry_2 0 rfl rfl)
theorem dX2_carry_50 : decode cX2_carry 50 = .ok (.getfield 93, 3) := dk_180 0 93 (dk_at dksX2_carry_2 3 rfl rfl)
theorem dX2_carry_53 : decode cX2_carry 53 = .ok (.aload_n 1, 1) := dk_43 (dk_at dksX2_carry_2 6 rfl rfl)
theorem dX2_carry_54 : decode cX2_carry 54 = .ok (.getfield 148, 3) := dk_180 0 148 (dk_at dksX2_carry_2 7 rfl rfl)
theorem dX2_carry_57 : decode cX2_carry 57 = .ok (.aload_n 1, 1) := dk_43 (dk_at dksX2_carry_2 10 rfl rfl)
theorem dX2_carry_58 : decode cX2_carry 58 = .ok (.getfield 151, 3) := dk_180 0 151 (dk_at dksX2_carry_2 11 rfl rfl)
theorem dX2_carry_61 : decode cX2_carry 61 = .ok (.invokestatic 97, 3) := dk_184 0 97 (dk_at dksX2_carry_2 14 rfl rfl)
theorem dX2_carry_64 : decode cX2_carry 64 = .ok (.dup2, 1) := dk_92 (dk_at dksX2_carry_2 17 rfl rfl)
theorem dX2_carry_65 : decode cX2_carry 65 = .ok (.laload, 1) := dk_47 (dk_at dksX2_carry_2 18 rfl rfl)
theorem dX2_carry_66 : decode cX2_carry 66 = .ok (.aload_n 3, 1) := dk_45 (dk_at dksX2_carry_2 19 rfl rfl)
theorem dX2_carry_67 : decode cX2_carry 67 = .ok (.aload 5, 2) := dk_25 5 (dk_at dksX2_carry_2 20 rfl rfl)
theorem dX2_carry_69 : decode cX2_carry 69 = .ok (.invokevirtual 154, 3) := dk_182 0 154 (dk_at dksX2_carry_3 0 rfl rfl)
theorem dX2_carry_72 : decode cX2_carry 72 = .ok (.ladd, 1) := dk_97 (dk_at dksX2_carry_3 3 rfl rfl)
theorem dX2_carry_73 : decode cX2_carry 73 = .ok (.lastore, 1) := dk_80 (dk_at dksX2_carry_3 4 rfl rfl)
theorem dX2_carry_74 : decode cX2_carry 74 = .ok (.goto (-52), 3) := dk_167 255 204 (dk_at dksX2_carry_3 5 rfl rfl)
theorem dX2_carry_77 : decode cX2_carry 77 = .ok (.return_, 1) := dk_177 (dk_at dksX2_carry_3 8 rfl rfl)
abbrev cX2_spoil : ByteArray := prog_12_method_15_code
def yX2_spoil : MethodName := ⟨RX2, "spoil", "(I)V"⟩
def dkwX2_spoil_5 : List UInt8 := [167, 255, 165, 177]
abbrev dktX2_spoil_5 : List UInt8 := dkwX2_spoil_5 ++ []
def dkwX2_spoil_4 : List UInt8 := [167, 0, 14, 3, 167, 0, 10, 45, 42, 21, 5, 182, 0, 139, 128, 84, 132, 5, 1, 167, 255, 204]
abbrev dktX2_spoil_4 : List UInt8 := dkwX2_spoil_4 ++ dktX2_spoil_5
def dkwX2_spoil_3 : List UInt8 := [182, 0, 89, 180, 0, 101, 21, 5, 92, 51, 21, 4, 153, 0, 17, 21, 5, 27, 160, 0, 7, 4]
abbrev dktX2_spoil_3 : List UInt8 := dkwX2_spoil_3 ++ dktX2_spoil_4
def dkwX2_spoil_2 : List UInt8 := [154, 0, 7, 4, 167, 0, 4, 3, 54, 4, 3, 54, 5, 21, 5, 42, 180, 0, 54, 163, 0, 49, 42, 45]
abbrev dktX2_spoil_2 : List UInt8 := dkwX2_spoil_2 ++ dktX2_spoil_3
def dkwX2_spoil_1 : List UInt8 := [185, 0, 30, 1, 0, 153, 0, 88, 44, 185, 0, 36, 1, 0, 192, 0, 46, 78, 45, 182, 0, 157]
abbrev dktX2_spoil_1 : List UInt8 := dkwX2_spoil_1 ++ dktX2_spoil_2
def dkwX2_spoil_0 : List UInt8 := [42, 89, 180, 0, 64, 4, 96, 181, 0, 64, 42, 180, 0, 18, 185, 0, 24, 1, 0, 77, 44]
abbrev dktX2_spoil_0 : List UInt8 := dkwX2_spoil_0 ++ dktX2_spoil_1
theorem dksX2_spoil_0 : cX2_spoil.data.toList.drop 0 = dktX2_spoil_0 := by decide +kernel
theorem dksX2_spoil_1 : cX2_spoil.data.toList.drop 21 = dktX2_spoil_1 := dk_seg dksX2_spoil_0 21 rfl rfl
theorem dksX2_spoil_2 : cX2_spoil.data.toList.drop 43 = dktX2_spoil_2 := dk_seg dksX2_spoil_1 22 rfl rfl
theorem dksX2_spoil_3 : cX2_spoil.data.toList.drop 67 = dktX2_spoil_3 := dk_seg dksX2_spoil_2 24 rfl rfl
theorem dksX2_spoil_4 : cX2_spoil.data.toList.drop 89 = dktX2_spoil_4 := dk_seg dksX2_spoil_3 22 rfl rfl
theorem dksX2_spoil_5 : cX2_spoil.data.toList.drop 111 = dktX2_spoil_5 := dk_seg dksX2_spoil_4 22 rfl rfl
theorem dX2_spoil_0 : decode cX2_spoil 0 = .ok (.aload_n 0, 1) := dk_42 (dk_at dksX2_spoil_0 0 rfl rfl)
theorem dX2_spoil_1 : decode cX2_spoil 1 = .ok (.dup, 1) := dk_89 (dk_at dksX2_spoil_0 1 rfl rfl)
theorem dX2_spoil_2 : decode cX2_spoil 2 = .ok (.getfield 64, 3) := dk_180 0 64 (dk_at dksX2_spoil_0 2 rfl rfl)
theorem dX2_spoil_5 : decode cX2_spoil 5 = .ok (.iconst 1, 1) := dk_4 (dk_at dksX2_spoil_0 5 rfl rfl)
theorem dX2_spoil_6 : decode cX2_spoil 6 = .ok (.iadd, 1) := dk_96 (dk_at dksX2_spoil_0 6 rfl rfl)
theorem dX2_spoil_7 : decode cX2_spoil 7 = .ok (.putfield 64, 3) := dk_181 0 64 (dk_at dksX2_spoil_0 7 rfl rfl)
theorem dX2_spoil_10 : decode cX2_spoil 10 = .ok (.aload_n 0, 1) := dk_42 (dk_at dksX2_spoil_0 10 rfl rfl)
theorem dX2_spoil_11 : decode cX2_spoil 11 = .ok (.getfield 18, 3) := dk_180 0 18 (dk_at dksX2_spoil_0 11 rfl rfl)
theorem dX2_spoil_14 : decode cX2_spoil 14 = .ok (.invokeinterface 24 1, 5) := by decide +kernel
theorem dX2_spoil_19 : decode cX2_spoil 19 = .ok (.astore_n 2, 1) := dk_77 (dk_at dksX2_spoil_0 19 rfl rfl)
theorem dX2_spoil_20 : decode cX2_spoil 20 = .ok (.aload_n 2, 1) := dk_44 (dk_at dksX2_spoil_0 20 rfl rfl)
theorem dX2_spoil_21 : decode cX2_spoil 21 = .ok (.invokeinterface 30 1, 5) := by decide +kernel
theorem dX2_spoil_26 : decode cX2_spoil 26 = .ok (.ifCond .eq 88, 3) := dk_153 0 88 (dk_at dksX2_spoil_1 5 rfl rfl)
theorem dX2_spoil_29 : decode cX2_spoil 29 = .ok (.aload_n 2, 1) := dk_44 (dk_at dksX2_spoil_1 8 rfl rfl)
theorem dX2_spoil_30 : decode cX2_spoil 30 = .ok (.invokeinterface 36 1, 5) := by decide +kernel
theorem dX2_spoil_35 : decode cX2_spoil 35 = .ok (.checkcast 46, 3) := dk_192 0 46 (dk_at dksX2_spoil_1 14 rfl rfl)
theorem dX2_spoil_38 : decode cX2_spoil 38 = .ok (.astore_n 3, 1) := dk_78 (dk_at dksX2_spoil_1 17 rfl rfl)
theorem dX2_spoil_39 : decode cX2_spoil 39 = .ok (.aload_n 3, 1) := dk_45 (dk_at dksX2_spoil_1 18 rfl rfl)
theorem dX2_spoil_40 : decode cX2_spoil 40 = .ok (.invokevirtual 157, 3) := dk_182 0 157 (dk_at dksX2_spoil_1 19 rfl rfl)
theorem dX2_spoil_43 : decode cX2_spoil 43 = .ok (.ifCond .ne 7, 3) := dk_154 0 7 (dk_at dksX2_spoil_2 0 rfl rfl)
theorem dX2_spoil_46 : decode cX2_spoil 46 = .ok (.iconst 1, 1) := dk_4 (dk_at dksX2_spoil_2 3 rfl rfl)
theorem dX2_spoil_47 : decode cX2_spoil 47 = .ok (.goto 4, 3) := dk_167 0 4 (dk_at dksX2_spoil_2 4 rfl rfl)
theorem dX2_spoil_50 : decode cX2_spoil 50 = .ok (.iconst 0, 1) := dk_3 (dk_at dksX2_spoil_2 7 rfl rfl)
theorem dX2_spoil_51 : decode cX2_spoil 51 = .ok (.istore 4, 2) := dk_54 4 (dk_at dksX2_spoil_2 8 rfl rfl)
theorem dX2_spoil_53 : decode cX2_spoil 53 = .ok (.iconst 0, 1) := dk_3 (dk_at dksX2_spoil_2 10 rfl rfl)
theorem dX2_spoil_54 : decode cX2_spoil 54 = .ok (.istore 5, 2) := dk_54 5 (dk_at dksX2_spoil_2 11 rfl rfl)
theorem dX2_spoil_56 : decode cX2_spoil 56 = .ok (.iload 5, 2) := dk_21 5 (dk_at dksX2_spoil_2 13 rfl rfl)
theorem dX2_spoil_58 : decode cX2_spoil 58 = .ok (.aload_n 0, 1) := dk_42 (dk_at dksX2_spoil_2 15 rfl rfl)
theorem dX2_spoil_59 : decode cX2_spoil 59 = .ok (.getfield 54, 3) := dk_180 0 54 (dk_at dksX2_spoil_2 16 rfl rfl)
theorem dX2_spoil_62 : decode cX2_spoil 62 = .ok (.if_icmp .gt 49, 3) := dk_163 0 49 (dk_at dksX2_spoil_2 19 rfl rfl)
theorem dX2_spoil_65 : decode cX2_spoil 65 = .ok (.aload_n 0, 1) := dk_42 (dk_at dksX2_spoil_2 22 rfl rfl)
theorem dX2_spoil_66 : decode cX2_spoil 66 = .ok (.aload_n 3, 1) := dk_45 (dk_at dksX2_spoil_2 23 rfl rfl)
theorem dX2_spoil_67 : decode cX2_spoil 67 = .ok (.invokevirtual 89, 3) := dk_182 0 89 (dk_at dksX2_spoil_3 0 rfl rfl)
theorem dX2_spoil_70 : decode cX2_spoil 70 = .ok (.getfield 101, 3) := dk_180 0 101 (dk_at dksX2_spoil_3 3 rfl rfl)
theorem dX2_spoil_73 : decode cX2_spoil 73 = .ok (.iload 5, 2) := dk_21 5 (dk_at dksX2_spoil_3 6 rfl rfl)
theorem dX2_spoil_75 : decode cX2_spoil 75 = .ok (.dup2, 1) := dk_92 (dk_at dksX2_spoil_3 8 rfl rfl)
theorem dX2_spoil_76 : decode cX2_spoil 76 = .ok (.baload, 1) := dk_51 (dk_at dksX2_spoil_3 9 rfl rfl)
theorem dX2_spoil_77 : decode cX2_spoil 77 = .ok (.iload 4, 2) := dk_21 4 (dk_at dksX2_spoil_3 10 rfl rfl)
theorem dX2_spoil_79 : decode cX2_spoil 79 = .ok (.ifCond .eq 17, 3) := dk_153 0 17 (dk_at dksX2_spoil_3 12 rfl rfl)
theorem dX2_spoil_82 : decode cX2_spoil 82 = .ok (.iload 5, 2) := dk_21 5 (dk_at dksX2_spoil_3 15 rfl rfl)
theorem dX2_spoil_84 : decode cX2_spoil 84 = .ok (.iload_n 1, 1) := dk_27 (dk_at dksX2_spoil_3 17 rfl rfl)
theorem dX2_spoil_85 : decode cX2_spoil 85 = .ok (.if_icmp .ne 7, 3) := dk_160 0 7 (dk_at dksX2_spoil_3 18 rfl rfl)
theorem dX2_spoil_88 : decode cX2_spoil 88 = .ok (.iconst 1, 1) := dk_4 (dk_at dksX2_spoil_3 21 rfl rfl)
theorem dX2_spoil_89 : decode cX2_spoil 89 = .ok (.goto 14, 3) := dk_167 0 14 (dk_at dksX2_spoil_4 0 rfl rfl)
theorem dX2_spoil_92 : decode cX2_spoil 92 = .ok (.iconst 0, 1) := dk_3 (dk_at dksX2_spoil_4 3 rfl rfl)
theorem dX2_spoil_93 : decode cX2_spoil 93 = .ok (.goto 10, 3) := dk_167 0 10 (dk_at dksX2_spoil_4 4 rfl rfl)
theorem dX2_spoil_96 : decode cX2_spoil 96 = .ok (.aload_n 3, 1) := dk_45 (dk_at dksX2_spoil_4 7 rfl rfl)
theorem dX2_spoil_97 : decode cX2_spoil 97 = .ok (.aload_n 0, 1) := dk_42 (dk_at dksX2_spoil_4 8 rfl rfl)
theorem dX2_spoil_98 : decode cX2_spoil 98 = .ok (.iload 5, 2) := dk_21 5 (dk_at dksX2_spoil_4 9 rfl rfl)
theorem dX2_spoil_100 : decode cX2_spoil 100 = .ok (.invokevirtual 139, 3) := dk_182 0 139 (dk_at dksX2_spoil_4 11 rfl rfl)
theorem dX2_spoil_103 : decode cX2_spoil 103 = .ok (.ior, 1) := dk_128 (dk_at dksX2_spoil_4 14 rfl rfl)
theorem dX2_spoil_104 : decode cX2_spoil 104 = .ok (.bastore, 1) := dk_84 (dk_at dksX2_spoil_4 15 rfl rfl)
theorem dX2_spoil_105 : decode cX2_spoil 105 = .ok (.iinc 5 1, 3) := dk_132 5 1 (dk_at dksX2_spoil_4 16 rfl rfl)
theorem dX2_spoil_108 : decode cX2_spoil 108 = .ok (.goto (-52), 3) := dk_167 255 204 (dk_at dksX2_spoil_4 19 rfl rfl)
theorem dX2_spoil_111 : decode cX2_spoil 111 = .ok (.goto (-91), 3) := dk_167 255 165 (dk_at dksX2_spoil_5 0 rfl rfl)
theorem dX2_spoil_114 : decode cX2_spoil 114 = .ok (.return_, 1) := dk_177 (dk_at dksX2_spoil_5 3 rfl rfl)
abbrev cX2_isStale : ByteArray := prog_12_method_7_code
def yX2_isStale : MethodName := ⟨RX2, "isStale", "(LWeirfoldLane$Step;I)Z"⟩
def dkwX2_isStale_0 : List UInt8 := [42, 43, 182, 0, 89, 180, 0, 101, 28, 51, 172]
abbrev dktX2_isStale_0 : List UInt8 := dkwX2_isStale_0 ++ []
theorem dksX2_isStale_0 : cX2_isStale.data.toList.drop 0 = dktX2_isStale_0 := by decide +kernel
theorem dX2_isStale_0 : decode cX2_isStale 0 = .ok (.aload_n 0, 1) := dk_42 (dk_at dksX2_isStale_0 0 rfl rfl)
theorem dX2_isStale_1 : decode cX2_isStale 1 = .ok (.aload_n 1, 1) := dk_43 (dk_at dksX2_isStale_0 1 rfl rfl)
theorem dX2_isStale_2 : decode cX2_isStale 2 = .ok (.invokevirtual 89, 3) := dk_182 0 89 (dk_at dksX2_isStale_0 2 rfl rfl)
theorem dX2_isStale_5 : decode cX2_isStale 5 = .ok (.getfield 101, 3) := dk_180 0 101 (dk_at dksX2_isStale_0 5 rfl rfl)
theorem dX2_isStale_8 : decode cX2_isStale 8 = .ok (.iload_n 2, 1) := dk_28 (dk_at dksX2_isStale_0 8 rfl rfl)
theorem dX2_isStale_9 : decode cX2_isStale 9 = .ok (.baload, 1) := dk_51 (dk_at dksX2_isStale_0 9 rfl rfl)
theorem dX2_isStale_10 : decode cX2_isStale 10 = .ok (.ireturn, 1) := dk_172 (dk_at dksX2_isStale_0 10 rfl rfl)
abbrev cX2_removeRow : ByteArray := prog_12_method_18_code
def yX2_removeRow : MethodName := ⟨RX2, "removeRow", "(I)I"⟩
def dkwX2_removeRow_1 : List UInt8 := [181, 0, 61, 42, 44, 2, 182, 0, 179, 44, 180, 0, 189, 172]
abbrev dktX2_removeRow_1 : List UInt8 := dkwX2_removeRow_1 ++ []
def dkwX2_removeRow_0 : List UInt8 := [42, 27, 182, 0, 182, 77, 42, 180, 0, 12, 44, 185, 0, 186, 2, 0, 62, 42, 89, 180, 0, 61, 4, 96]
abbrev dktX2_removeRow_0 : List UInt8 := dkwX2_removeRow_0 ++ dktX2_removeRow_1
theorem dksX2_removeRow_0 : cX2_removeRow.data.toList.drop 0 = dktX2_removeRow_0 := by decide +kernel
theorem dksX2_removeRow_1 : cX2_removeRow.data.toList.drop 24 = dktX2_removeRow_1 := dk_seg dksX2_removeRow_0 24 rfl rfl
theorem dX2_removeRow_0 : decode cX2_removeRow 0 = .ok (.aload_n 0, 1) := dk_42 (dk_at dksX2_removeRow_0 0 rfl rfl)
theorem dX2_removeRow_1 : decode cX2_removeRow 1 = .ok (.iload_n 1, 1) := dk_27 (dk_at dksX2_removeRow_0 1 rfl rfl)
theorem dX2_removeRow_2 : decode cX2_removeRow 2 = .ok (.invokevirtual 182, 3) := dk_182 0 182 (dk_at dksX2_removeRow_0 2 rfl rfl)
theorem dX2_removeRow_5 : decode cX2_removeRow 5 = .ok (.astore_n 2, 1) := dk_77 (dk_at dksX2_removeRow_0 5 rfl rfl)
theorem dX2_removeRow_6 : decode cX2_removeRow 6 = .ok (.aload_n 0, 1) := dk_42 (dk_at dksX2_removeRow_0 6 rfl rfl)
theorem dX2_removeRow_7 : decode cX2_removeRow 7 = .ok (.getfield 12, 3) := dk_180 0 12 (dk_at dksX2_removeRow_0 7 rfl rfl)
theorem dX2_removeRow_10 : decode cX2_removeRow 10 = .ok (.aload_n 2, 1) := dk_44 (dk_at dksX2_removeRow_0 10 rfl rfl)
theorem dX2_removeRow_11 : decode cX2_removeRow 11 = .ok (.invokeinterface 186 2, 5) := by decide +kernel
theorem dX2_removeRow_16 : decode cX2_removeRow 16 = .ok (.istore_n 3, 1) := dk_62 (dk_at dksX2_removeRow_0 16 rfl rfl)
theorem dX2_removeRow_17 : decode cX2_removeRow 17 = .ok (.aload_n 0, 1) := dk_42 (dk_at dksX2_removeRow_0 17 rfl rfl)
theorem dX2_removeRow_18 : decode cX2_removeRow 18 = .ok (.dup, 1) := dk_89 (dk_at dksX2_removeRow_0 18 rfl rfl)
theorem dX2_removeRow_19 : decode cX2_removeRow 19 = .ok (.getfield 61, 3) := dk_180 0 61 (dk_at dksX2_removeRow_0 19 rfl rfl)
theorem dX2_removeRow_22 : decode cX2_removeRow 22 = .ok (.iconst 1, 1) := dk_4 (dk_at dksX2_removeRow_0 22 rfl rfl)
theorem dX2_removeRow_23 : decode cX2_removeRow 23 = .ok (.iadd, 1) := dk_96 (dk_at dksX2_removeRow_0 23 rfl rfl)
theorem dX2_removeRow_24 : decode cX2_removeRow 24 = .ok (.putfield 61, 3) := dk_181 0 61 (dk_at dksX2_removeRow_1 0 rfl rfl)
theorem dX2_removeRow_27 : decode cX2_removeRow 27 = .ok (.aload_n 0, 1) := dk_42 (dk_at dksX2_removeRow_1 3 rfl rfl)
theorem dX2_removeRow_28 : decode cX2_removeRow 28 = .ok (.aload_n 2, 1) := dk_44 (dk_at dksX2_removeRow_1 4 rfl rfl)
theorem dX2_removeRow_29 : decode cX2_removeRow 29 = .ok (.iconst (-1), 1) := dk_2 (dk_at dksX2_removeRow_1 5 rfl rfl)
theorem dX2_removeRow_30 : decode cX2_removeRow 30 = .ok (.invokevirtual 179, 3) := dk_182 0 179 (dk_at dksX2_removeRow_1 6 rfl rfl)
theorem dX2_removeRow_33 : decode cX2_removeRow 33 = .ok (.aload_n 2, 1) := dk_44 (dk_at dksX2_removeRow_1 9 rfl rfl)
theorem dX2_removeRow_34 : decode cX2_removeRow 34 = .ok (.getfield 189, 3) := dk_180 0 189 (dk_at dksX2_removeRow_1 10 rfl rfl)
theorem dX2_removeRow_37 : decode cX2_removeRow 37 = .ok (.ireturn, 1) := dk_172 (dk_at dksX2_removeRow_1 13 rfl rfl)
abbrev cX2_row : ByteArray := prog_12_method_8_code
def yX2_row : MethodName := ⟨RX2, "row", "(I)LWeirfoldLane$Row;"⟩
def dkwX2_row_2 : List UInt8 := [167, 0, 4, 44, 77, 167, 255, 217, 44, 182, 0, 118, 184, 0, 121, 44, 182, 0, 125, 192, 0, 40, 176]
abbrev dktX2_row_2 : List UInt8 := dkwX2_row_2 ++ []
def dkwX2_row_1 : List UInt8 := [185, 0, 36, 1, 0, 192, 0, 40, 58, 4, 25, 4, 180, 0, 111, 27, 160, 0, 11, 25, 4, 184, 0, 114]
abbrev dktX2_row_1 : List UInt8 := dkwX2_row_1 ++ dktX2_row_2
def dkwX2_row_0 : List UInt8 := [184, 0, 105, 77, 42, 180, 0, 12, 185, 0, 24, 1, 0, 78, 45, 185, 0, 30, 1, 0, 153, 0, 36, 45]
abbrev dktX2_row_0 : List UInt8 := dkwX2_row_0 ++ dktX2_row_1
theorem dksX2_row_0 : cX2_row.data.toList.drop 0 = dktX2_row_0 := by decide +kernel
theorem dksX2_row_1 : cX2_row.data.toList.drop 24 = dktX2_row_1 := dk_seg dksX2_row_0 24 rfl rfl
theorem dksX2_row_2 : cX2_row.data.toList.drop 48 = dktX2_row_2 := dk_seg dksX2_row_1 24 rfl rfl
theorem dX2_row_0 : decode cX2_row 0 = .ok (.invokestatic 105, 3) := dk_184 0 105 (dk_at dksX2_row_0 0 rfl rfl)
theorem dX2_row_3 : decode cX2_row 3 = .ok (.astore_n 2, 1) := dk_77 (dk_at dksX2_row_0 3 rfl rfl)
theorem dX2_row_4 : decode cX2_row 4 = .ok (.aload_n 0, 1) := dk_42 (dk_at dksX2_row_0 4 rfl rfl)
theorem dX2_row_5 : decode cX2_row 5 = .ok (.getfield 12, 3) := dk_180 0 12 (dk_at dksX2_row_0 5 rfl rfl)
theorem dX2_row_8 : decode cX2_row 8 = .ok (.invokeinterface 24 1, 5) := by decide +kernel
theorem dX2_row_13 : decode cX2_row 13 = .ok (.astore_n 3, 1) := dk_78 (dk_at dksX2_row_0 13 rfl rfl)
theorem dX2_row_14 : decode cX2_row 14 = .ok (.aload_n 3, 1) := dk_45 (dk_at dksX2_row_0 14 rfl rfl)
theorem dX2_row_15 : decode cX2_row 15 = .ok (.invokeinterface 30 1, 5) := by decide +kernel
theorem dX2_row_20 : decode cX2_row 20 = .ok (.ifCond .eq 36, 3) := dk_153 0 36 (dk_at dksX2_row_0 20 rfl rfl)
theorem dX2_row_23 : decode cX2_row 23 = .ok (.aload_n 3, 1) := dk_45 (dk_at dksX2_row_0 23 rfl rfl)
theorem dX2_row_24 : decode cX2_row 24 = .ok (.invokeinterface 36 1, 5) := by decide +kernel
theorem dX2_row_29 : decode cX2_row 29 = .ok (.checkcast 40, 3) := dk_192 0 40 (dk_at dksX2_row_1 5 rfl rfl)
theorem dX2_row_32 : decode cX2_row 32 = .ok (.astore 4, 2) := dk_58 4 (dk_at dksX2_row_1 8 rfl rfl)
theorem dX2_row_34 : decode cX2_row 34 = .ok (.aload 4, 2) := dk_25 4 (dk_at dksX2_row_1 10 rfl rfl)
theorem dX2_row_36 : decode cX2_row 36 = .ok (.getfield 111, 3) := dk_180 0 111 (dk_at dksX2_row_1 12 rfl rfl)
theorem dX2_row_39 : decode cX2_row 39 = .ok (.iload_n 1, 1) := dk_27 (dk_at dksX2_row_1 15 rfl rfl)
theorem dX2_row_40 : decode cX2_row 40 = .ok (.if_icmp .ne 11, 3) := dk_160 0 11 (dk_at dksX2_row_1 16 rfl rfl)
theorem dX2_row_43 : decode cX2_row 43 = .ok (.aload 4, 2) := dk_25 4 (dk_at dksX2_row_1 19 rfl rfl)
theorem dX2_row_45 : decode cX2_row 45 = .ok (.invokestatic 114, 3) := dk_184 0 114 (dk_at dksX2_row_1 21 rfl rfl)
theorem dX2_row_48 : decode cX2_row 48 = .ok (.goto 4, 3) := dk_167 0 4 (dk_at dksX2_row_2 0 rfl rfl)
theorem dX2_row_51 : decode cX2_row 51 = .ok (.aload_n 2, 1) := dk_44 (dk_at dksX2_row_2 3 rfl rfl)
theorem dX2_row_52 : decode cX2_row 52 = .ok (.astore_n 2, 1) := dk_77 (dk_at dksX2_row_2 4 rfl rfl)
theorem dX2_row_53 : decode cX2_row 53 = .ok (.goto (-39), 3) := dk_167 255 217 (dk_at dksX2_row_2 5 rfl rfl)
theorem dX2_row_56 : decode cX2_row 56 = .ok (.aload_n 2, 1) := dk_44 (dk_at dksX2_row_2 8 rfl rfl)
theorem dX2_row_57 : decode cX2_row 57 = .ok (.invokevirtual 118, 3) := dk_182 0 118 (dk_at dksX2_row_2 9 rfl rfl)
theorem dX2_row_60 : decode cX2_row 60 = .ok (.invokestatic 121, 3) := dk_184 0 121 (dk_at dksX2_row_2 12 rfl rfl)
theorem dX2_row_63 : decode cX2_row 63 = .ok (.aload_n 2, 1) := dk_44 (dk_at dksX2_row_2 15 rfl rfl)
theorem dX2_row_64 : decode cX2_row 64 = .ok (.invokevirtual 125, 3) := dk_182 0 125 (dk_at dksX2_row_2 16 rfl rfl)
theorem dX2_row_67 : decode cX2_row 67 = .ok (.checkcast 40, 3) := dk_192 0 40 (dk_at dksX2_row_2 19 rfl rfl)
theorem dX2_row_70 : decode cX2_row 70 = .ok (.areturn, 1) := dk_176 (dk_at dksX2_row_2 22 rfl rfl)
abbrev cX2_beginDay : ByteArray := prog_12_method_19_code
def yX2_beginDay : MethodName := ⟨RX2, "beginDay", "()I"⟩
def dkwX2_beginDay_3 : List UInt8 := [167, 255, 228, 42, 42, 180, 0, 54, 182, 0, 195, 172]
abbrev dktX2_beginDay_3 : List UInt8 := dkwX2_beginDay_3 ++ []
def dkwX2_beginDay_2 : List UInt8 := [153, 0, 25, 43, 185, 0, 36, 1, 0, 192, 0, 46, 77, 42, 44, 42, 180, 0, 54, 182, 0, 192]
abbrev dktX2_beginDay_2 : List UInt8 := dkwX2_beginDay_2 ++ dktX2_beginDay_3
def dkwX2_beginDay_1 : List UInt8 := [180, 0, 54, 4, 96, 181, 0, 54, 42, 180, 0, 18, 185, 0, 24, 1, 0, 76, 43, 185, 0, 30, 1, 0]
abbrev dktX2_beginDay_1 : List UInt8 := dkwX2_beginDay_1 ++ dktX2_beginDay_2
def dkwX2_beginDay_0 : List UInt8 := [42, 180, 0, 54, 16, 6, 162, 0, 7, 4, 167, 0, 4, 3, 5, 42, 180, 0, 54, 184, 0, 172, 42, 89]
abbrev dktX2_beginDay_0 : List UInt8 := dkwX2_beginDay_0 ++ dktX2_beginDay_1
theorem dksX2_beginDay_0 : cX2_beginDay.data.toList.drop 0 = dktX2_beginDay_0 := by decide +kernel
theorem dksX2_beginDay_1 : cX2_beginDay.data.toList.drop 24 = dktX2_beginDay_1 := dk_seg dksX2_beginDay_0 24 rfl rfl
theorem dksX2_beginDay_2 : cX2_beginDay.data.toList.drop 48 = dktX2_beginDay_2 := dk_seg dksX2_beginDay_1 24 rfl rfl
theorem dksX2_beginDay_3 : cX2_beginDay.data.toList.drop 70 = dktX2_beginDay_3 := dk_seg dksX2_beginDay_2 22 rfl rfl
theorem dX2_beginDay_0 : decode cX2_beginDay 0 = .ok (.aload_n 0, 1) := dk_42 (dk_at dksX2_beginDay_0 0 rfl rfl)
theorem dX2_beginDay_1 : decode cX2_beginDay 1 = .ok (.getfield 54, 3) := dk_180 0 54 (dk_at dksX2_beginDay_0 1 rfl rfl)
theorem dX2_beginDay_4 : decode cX2_beginDay 4 = .ok (.bipush 6, 2) := dk_16 6 (dk_at dksX2_beginDay_0 4 rfl rfl)
theorem dX2_beginDay_6 : decode cX2_beginDay 6 = .ok (.if_icmp .ge 7, 3) := dk_162 0 7 (dk_at dksX2_beginDay_0 6 rfl rfl)
theorem dX2_beginDay_9 : decode cX2_beginDay 9 = .ok (.iconst 1, 1) := dk_4 (dk_at dksX2_beginDay_0 9 rfl rfl)
theorem dX2_beginDay_10 : decode cX2_beginDay 10 = .ok (.goto 4, 3) := dk_167 0 4 (dk_at dksX2_beginDay_0 10 rfl rfl)
theorem dX2_beginDay_13 : decode cX2_beginDay 13 = .ok (.iconst 0, 1) := dk_3 (dk_at dksX2_beginDay_0 13 rfl rfl)
theorem dX2_beginDay_14 : decode cX2_beginDay 14 = .ok (.iconst 2, 1) := dk_5 (dk_at dksX2_beginDay_0 14 rfl rfl)
theorem dX2_beginDay_15 : decode cX2_beginDay 15 = .ok (.aload_n 0, 1) := dk_42 (dk_at dksX2_beginDay_0 15 rfl rfl)
theorem dX2_beginDay_16 : decode cX2_beginDay 16 = .ok (.getfield 54, 3) := dk_180 0 54 (dk_at dksX2_beginDay_0 16 rfl rfl)
theorem dX2_beginDay_19 : decode cX2_beginDay 19 = .ok (.invokestatic 172, 3) := dk_184 0 172 (dk_at dksX2_beginDay_0 19 rfl rfl)
theorem dX2_beginDay_22 : decode cX2_beginDay 22 = .ok (.aload_n 0, 1) := dk_42 (dk_at dksX2_beginDay_0 22 rfl rfl)
theorem dX2_beginDay_23 : decode cX2_beginDay 23 = .ok (.dup, 1) := dk_89 (dk_at dksX2_beginDay_0 23 rfl rfl)
theorem dX2_beginDay_24 : decode cX2_beginDay 24 = .ok (.getfield 54, 3) := dk_180 0 54 (dk_at dksX2_beginDay_1 0 rfl rfl)
theorem dX2_beginDay_27 : decode cX2_beginDay 27 = .ok (.iconst 1, 1) := dk_4 (dk_at dksX2_beginDay_1 3 rfl rfl)
theorem dX2_beginDay_28 : decode cX2_beginDay 28 = .ok (.iadd, 1) := dk_96 (dk_at dksX2_beginDay_1 4 rfl rfl)
theorem dX2_beginDay_29 : decode cX2_beginDay 29 = .ok (.putfield 54, 3) := dk_181 0 54 (dk_at dksX2_beginDay_1 5 rfl rfl)
theorem dX2_beginDay_32 : decode cX2_beginDay 32 = .ok (.aload_n 0, 1) := dk_42 (dk_at dksX2_beginDay_1 8 rfl rfl)
theorem dX2_beginDay_33 : decode cX2_beginDay 33 = .ok (.getfield 18, 3) := dk_180 0 18 (dk_at dksX2_beginDay_1 9 rfl rfl)
theorem dX2_beginDay_36 : decode cX2_beginDay 36 = .ok (.invokeinterface 24 1, 5) := by decide +kernel
theorem dX2_beginDay_41 : decode cX2_beginDay 41 = .ok (.astore_n 1, 1) := dk_76 (dk_at dksX2_beginDay_1 17 rfl rfl)
theorem dX2_beginDay_42 : decode cX2_beginDay 42 = .ok (.aload_n 1, 1) := dk_43 (dk_at dksX2_beginDay_1 18 rfl rfl)
theorem dX2_beginDay_43 : decode cX2_beginDay 43 = .ok (.invokeinterface 30 1, 5) := by decide +kernel
theorem dX2_beginDay_48 : decode cX2_beginDay 48 = .ok (.ifCond .eq 25, 3) := dk_153 0 25 (dk_at dksX2_beginDay_2 0 rfl rfl)
theorem dX2_beginDay_51 : decode cX2_beginDay 51 = .ok (.aload_n 1, 1) := dk_43 (dk_at dksX2_beginDay_2 3 rfl rfl)
theorem dX2_beginDay_52 : decode cX2_beginDay 52 = .ok (.invokeinterface 36 1, 5) := by decide +kernel
theorem dX2_beginDay_57 : decode cX2_beginDay 57 = .ok (.checkcast 46, 3) := dk_192 0 46 (dk_at dksX2_beginDay_2 9 rfl rfl)
theorem dX2_beginDay_60 : decode cX2_beginDay 60 = .ok (.astore_n 2, 1) := dk_77 (dk_at dksX2_beginDay_2 12 rfl rfl)
theorem dX2_beginDay_61 : decode cX2_beginDay 61 = .ok (.aload_n 0, 1) := dk_42 (dk_at dksX2_beginDay_2 13 rfl rfl)
theorem dX2_beginDay_62 : decode cX2_beginDay 62 = .ok (.aload_n 2, 1) := dk_44 (dk_at dksX2_beginDay_2 14 rfl rfl)
theorem dX2_beginDay_63 : decode cX2_beginDay 63 = .ok (.aload_n 0, 1) := dk_42 (dk_at dksX2_beginDay_2 15 rfl rfl)
theorem dX2_beginDay_64 : decode cX2_beginDay 64 = .ok (.getfield 54, 3) := dk_180 0 54 (dk_at dksX2_beginDay_2 16 rfl rfl)
theorem dX2_beginDay_67 : decode cX2_beginDay 67 = .ok (.invokevirtual 192, 3) := dk_182 0 192 (dk_at dksX2_beginDay_2 19 rfl rfl)
theorem dX2_beginDay_70 : decode cX2_beginDay 70 = .ok (.goto (-28), 3) := dk_167 255 228 (dk_at dksX2_beginDay_3 0 rfl rfl)
theorem dX2_beginDay_73 : decode cX2_beginDay 73 = .ok (.aload_n 0, 1) := dk_42 (dk_at dksX2_beginDay_3 3 rfl rfl)
theorem dX2_beginDay_74 : decode cX2_beginDay 74 = .ok (.aload_n 0, 1) := dk_42 (dk_at dksX2_beginDay_3 4 rfl rfl)
theorem dX2_beginDay_75 : decode cX2_beginDay 75 = .ok (.getfield 54, 3) := dk_180 0 54 (dk_at dksX2_beginDay_3 5 rfl rfl)
theorem dX2_beginDay_78 : decode cX2_beginDay 78 = .ok (.invokevirtual 195, 3) := dk_182 0 195 (dk_at dksX2_beginDay_3 8 rfl rfl)
theorem dX2_beginDay_81 : decode cX2_beginDay 81 = .ok (.ireturn, 1) := dk_172 (dk_at dksX2_beginDay_3 11 rfl rfl)
abbrev cX2_beginPartition : ByteArray := prog_12_method_13_code
def yX2_beginPartition : MethodName := ⟨RX2, "beginPartition", "(LWeirfoldLane$Step;I)V"⟩
def dkwX2_beginPartition_0 : List UInt8 := [42, 43, 28, 182, 0, 135, 42, 43, 182, 0, 89, 180, 0, 101, 28, 43, 42, 28, 182, 0, 139, 84, 177]
abbrev dktX2_beginPartition_0 : List UInt8 := dkwX2_beginPartition_0 ++ []
theorem dksX2_beginPartition_0 : cX2_beginPartition.data.toList.drop 0 = dktX2_beginPartition_0 := by decide +kernel
theorem dX2_beginPartition_0 : decode cX2_beginPartition 0 = .ok (.aload_n 0, 1) := dk_42 (dk_at dksX2_beginPartition_0 0 rfl rfl)
theorem dX2_beginPartition_1 : decode cX2_beginPartition 1 = .ok (.aload_n 1, 1) := dk_43 (dk_at dksX2_beginPartition_0 1 rfl rfl)
theorem dX2_beginPartition_2 : decode cX2_beginPartition 2 = .ok (.iload_n 2, 1) := dk_28 (dk_at dksX2_beginPartition_0 2 rfl rfl)
theorem dX2_beginPartition_3 : decode cX2_beginPartition 3 = .ok (.invokevirtual 135, 3) := dk_182 0 135 (dk_at dksX2_beginPartition_0 3 rfl rfl)
theorem dX2_beginPartition_6 : decode cX2_beginPartition 6 = .ok (.aload_n 0, 1) := dk_42 (dk_at dksX2_beginPartition_0 6 rfl rfl)
theorem dX2_beginPartition_7 : decode cX2_beginPartition 7 = .ok (.aload_n 1, 1) := dk_43 (dk_at dksX2_beginPartition_0 7 rfl rfl)
theorem dX2_beginPartition_8 : decode cX2_beginPartition 8 = .ok (.invokevirtual 89, 3) := dk_182 0 89 (dk_at dksX2_beginPartition_0 8 rfl rfl)
theorem dX2_beginPartition_11 : decode cX2_beginPartition 11 = .ok (.getfield 101, 3) := dk_180 0 101 (dk_at dksX2_beginPartition_0 11 rfl rfl)
theorem dX2_beginPartition_14 : decode cX2_beginPartition 14 = .ok (.iload_n 2, 1) := dk_28 (dk_at dksX2_beginPartition_0 14 rfl rfl)
theorem dX2_beginPartition_15 : decode cX2_beginPartition 15 = .ok (.aload_n 1, 1) := dk_43 (dk_at dksX2_beginPartition_0 15 rfl rfl)
theorem dX2_beginPartition_16 : decode cX2_beginPartition 16 = .ok (.aload_n 0, 1) := dk_42 (dk_at dksX2_beginPartition_0 16 rfl rfl)
theorem dX2_beginPartition_17 : decode cX2_beginPartition 17 = .ok (.iload_n 2, 1) := dk_28 (dk_at dksX2_beginPartition_0 17 rfl rfl)
theorem dX2_beginPartition_18 : decode cX2_beginPartition 18 = .ok (.invokevirtual 139, 3) := dk_182 0 139 (dk_at dksX2_beginPartition_0 18 rfl rfl)
theorem dX2_beginPartition_21 : decode cX2_beginPartition 21 = .ok (.bastore, 1) := dk_84 (dk_at dksX2_beginPartition_0 21 rfl rfl)
theorem dX2_beginPartition_22 : decode cX2_beginPartition 22 = .ok (.return_, 1) := dk_177 (dk_at dksX2_beginPartition_0 22 rfl rfl)
abbrev cX2_addBase : ByteArray := prog_12_method_21_code
def yX2_addBase : MethodName := ⟨RX2, "addBase", "(CI)I"⟩
def dkwX2_addBase_4 : List UInt8 := [182, 0, 213, 167, 0, 15, 42, 187, 0, 218, 89, 28, 183, 0, 220, 182, 0, 213, 172]
abbrev dktX2_addBase_4 : List UInt8 := dkwX2_addBase_4 ++ []
def dkwX2_addBase_3 : List UInt8 := [42, 187, 0, 209, 89, 28, 183, 0, 211, 182, 0, 213, 167, 0, 30, 42, 187, 0, 215, 89, 28, 183, 0, 217]
abbrev dktX2_addBase_3 : List UInt8 := dkwX2_addBase_3 ++ dktX2_addBase_4
def dkwX2_addBase_2 : List UInt8 := [171, 0, 0, 0, 0, 0, 57, 0, 0, 0, 2, 0, 0, 0, 110, 0, 0, 0, 42, 0, 0, 0, 115, 0, 0, 0, 27]
abbrev dktX2_addBase_2 : List UInt8 := dkwX2_addBase_2 ++ dktX2_addBase_3
def dkwX2_addBase_1 : List UInt8 := [27]
abbrev dktX2_addBase_1 : List UInt8 := dkwX2_addBase_1 ++ dktX2_addBase_2
def dkwX2_addBase_0 : List UInt8 := [18, 200, 27, 182, 0, 202, 155, 0, 7, 4, 167, 0, 4, 3, 184, 0, 206, 28, 3, 16, 99, 184, 0, 127]
abbrev dktX2_addBase_0 : List UInt8 := dkwX2_addBase_0 ++ dktX2_addBase_1
theorem dksX2_addBase_0 : cX2_addBase.data.toList.drop 0 = dktX2_addBase_0 := by decide +kernel
theorem dksX2_addBase_1 : cX2_addBase.data.toList.drop 24 = dktX2_addBase_1 := dk_seg dksX2_addBase_0 24 rfl rfl
theorem dksX2_addBase_2 : cX2_addBase.data.toList.drop 25 = dktX2_addBase_2 := dk_seg dksX2_addBase_1 1 rfl rfl
theorem dksX2_addBase_3 : cX2_addBase.data.toList.drop 52 = dktX2_addBase_3 := dk_seg dksX2_addBase_2 27 rfl rfl
theorem dksX2_addBase_4 : cX2_addBase.data.toList.drop 76 = dktX2_addBase_4 := dk_seg dksX2_addBase_3 24 rfl rfl
theorem dX2_addBase_0 : decode cX2_addBase 0 = .ok (.ldc 200, 2) := dk_18 200 (dk_at dksX2_addBase_0 0 rfl rfl)
theorem dX2_addBase_2 : decode cX2_addBase 2 = .ok (.iload_n 1, 1) := dk_27 (dk_at dksX2_addBase_0 2 rfl rfl)
theorem dX2_addBase_3 : decode cX2_addBase 3 = .ok (.invokevirtual 202, 3) := dk_182 0 202 (dk_at dksX2_addBase_0 3 rfl rfl)
theorem dX2_addBase_6 : decode cX2_addBase 6 = .ok (.ifCond .lt 7, 3) := dk_155 0 7 (dk_at dksX2_addBase_0 6 rfl rfl)
theorem dX2_addBase_9 : decode cX2_addBase 9 = .ok (.iconst 1, 1) := dk_4 (dk_at dksX2_addBase_0 9 rfl rfl)
theorem dX2_addBase_10 : decode cX2_addBase 10 = .ok (.goto 4, 3) := dk_167 0 4 (dk_at dksX2_addBase_0 10 rfl rfl)
theorem dX2_addBase_13 : decode cX2_addBase 13 = .ok (.iconst 0, 1) := dk_3 (dk_at dksX2_addBase_0 13 rfl rfl)
theorem dX2_addBase_14 : decode cX2_addBase 14 = .ok (.invokestatic 206, 3) := dk_184 0 206 (dk_at dksX2_addBase_0 14 rfl rfl)
theorem dX2_addBase_17 : decode cX2_addBase 17 = .ok (.iload_n 2, 1) := dk_28 (dk_at dksX2_addBase_0 17 rfl rfl)
theorem dX2_addBase_18 : decode cX2_addBase 18 = .ok (.iconst 0, 1) := dk_3 (dk_at dksX2_addBase_0 18 rfl rfl)
theorem dX2_addBase_19 : decode cX2_addBase 19 = .ok (.bipush 99, 2) := dk_16 99 (dk_at dksX2_addBase_0 19 rfl rfl)
theorem dX2_addBase_21 : decode cX2_addBase 21 = .ok (.invokestatic 127, 3) := dk_184 0 127 (dk_at dksX2_addBase_0 21 rfl rfl)
theorem dX2_addBase_24 : decode cX2_addBase 24 = .ok (.iload_n 1, 1) := dk_27 (dk_at dksX2_addBase_1 0 rfl rfl)
theorem dX2_addBase_25 : decode cX2_addBase 25 = .ok (.lookupswitch 57 #[(110, 42), (115, 27)], 27) := by decide +kernel
theorem dX2_addBase_52 : decode cX2_addBase 52 = .ok (.aload_n 0, 1) := dk_42 (dk_at dksX2_addBase_3 0 rfl rfl)
theorem dX2_addBase_53 : decode cX2_addBase 53 = .ok (.new 209, 3) := dk_187 0 209 (dk_at dksX2_addBase_3 1 rfl rfl)
theorem dX2_addBase_56 : decode cX2_addBase 56 = .ok (.dup, 1) := dk_89 (dk_at dksX2_addBase_3 4 rfl rfl)
theorem dX2_addBase_57 : decode cX2_addBase 57 = .ok (.iload_n 2, 1) := dk_28 (dk_at dksX2_addBase_3 5 rfl rfl)
theorem dX2_addBase_58 : decode cX2_addBase 58 = .ok (.invokespecial 211, 3) := dk_183 0 211 (dk_at dksX2_addBase_3 6 rfl rfl)
theorem dX2_addBase_61 : decode cX2_addBase 61 = .ok (.invokevirtual 213, 3) := dk_182 0 213 (dk_at dksX2_addBase_3 9 rfl rfl)
theorem dX2_addBase_64 : decode cX2_addBase 64 = .ok (.goto 30, 3) := dk_167 0 30 (dk_at dksX2_addBase_3 12 rfl rfl)
theorem dX2_addBase_67 : decode cX2_addBase 67 = .ok (.aload_n 0, 1) := dk_42 (dk_at dksX2_addBase_3 15 rfl rfl)
theorem dX2_addBase_68 : decode cX2_addBase 68 = .ok (.new 215, 3) := dk_187 0 215 (dk_at dksX2_addBase_3 16 rfl rfl)
theorem dX2_addBase_71 : decode cX2_addBase 71 = .ok (.dup, 1) := dk_89 (dk_at dksX2_addBase_3 19 rfl rfl)
theorem dX2_addBase_72 : decode cX2_addBase 72 = .ok (.iload_n 2, 1) := dk_28 (dk_at dksX2_addBase_3 20 rfl rfl)
theorem dX2_addBase_73 : decode cX2_addBase 73 = .ok (.invokespecial 217, 3) := dk_183 0 217 (dk_at dksX2_addBase_3 21 rfl rfl)
theorem dX2_addBase_76 : decode cX2_addBase 76 = .ok (.invokevirtual 213, 3) := dk_182 0 213 (dk_at dksX2_addBase_4 0 rfl rfl)
theorem dX2_addBase_79 : decode cX2_addBase 79 = .ok (.goto 15, 3) := dk_167 0 15 (dk_at dksX2_addBase_4 3 rfl rfl)
theorem dX2_addBase_82 : decode cX2_addBase 82 = .ok (.aload_n 0, 1) := dk_42 (dk_at dksX2_addBase_4 6 rfl rfl)
theorem dX2_addBase_83 : decode cX2_addBase 83 = .ok (.new 218, 3) := dk_187 0 218 (dk_at dksX2_addBase_4 7 rfl rfl)
theorem dX2_addBase_86 : decode cX2_addBase 86 = .ok (.dup, 1) := dk_89 (dk_at dksX2_addBase_4 10 rfl rfl)
theorem dX2_addBase_87 : decode cX2_addBase 87 = .ok (.iload_n 2, 1) := dk_28 (dk_at dksX2_addBase_4 11 rfl rfl)
theorem dX2_addBase_88 : decode cX2_addBase 88 = .ok (.invokespecial 220, 3) := dk_183 0 220 (dk_at dksX2_addBase_4 12 rfl rfl)
theorem dX2_addBase_91 : decode cX2_addBase 91 = .ok (.invokevirtual 213, 3) := dk_182 0 213 (dk_at dksX2_addBase_4 15 rfl rfl)
theorem dX2_addBase_94 : decode cX2_addBase 94 = .ok (.ireturn, 1) := dk_172 (dk_at dksX2_addBase_4 18 rfl rfl)
abbrev cX2_add : ByteArray := prog_12_method_20_code
def yX2_add : MethodName := ⟨RX2, "add", "(LWeirfoldLane$Step;)I"⟩
def dkwX2_add_3 : List UInt8 := [182, 0, 192, 132, 2, 1, 167, 255, 239, 42, 180, 0, 18, 185, 0, 70, 1, 0, 4, 100, 172]
abbrev dktX2_add_3 : List UInt8 := dkwX2_add_3 ++ []
def dkwX2_add_2 : List UInt8 := [183, 0, 199, 185, 0, 42, 2, 0, 87, 3, 61, 28, 42, 180, 0, 54, 163, 0, 15, 42, 43, 28]
abbrev dktX2_add_2 : List UInt8 := dkwX2_add_2 ++ dktX2_add_3
def dkwX2_add_1 : List UInt8 := [184, 0, 172, 42, 180, 0, 18, 43, 185, 0, 42, 2, 0, 87, 42, 180, 0, 21, 187, 0, 48, 89]
abbrev dktX2_add_1 : List UInt8 := dkwX2_add_1 ++ dktX2_add_2
def dkwX2_add_0 : List UInt8 := [42, 180, 0, 18, 185, 0, 70, 1, 0, 16, 8, 162, 0, 7, 4, 167, 0, 4, 3, 4, 16, 8]
abbrev dktX2_add_0 : List UInt8 := dkwX2_add_0 ++ dktX2_add_1
theorem dksX2_add_0 : cX2_add.data.toList.drop 0 = dktX2_add_0 := by decide +kernel
theorem dksX2_add_1 : cX2_add.data.toList.drop 22 = dktX2_add_1 := dk_seg dksX2_add_0 22 rfl rfl
theorem dksX2_add_2 : cX2_add.data.toList.drop 44 = dktX2_add_2 := dk_seg dksX2_add_1 22 rfl rfl
theorem dksX2_add_3 : cX2_add.data.toList.drop 66 = dktX2_add_3 := dk_seg dksX2_add_2 22 rfl rfl
theorem dX2_add_0 : decode cX2_add 0 = .ok (.aload_n 0, 1) := dk_42 (dk_at dksX2_add_0 0 rfl rfl)
theorem dX2_add_1 : decode cX2_add 1 = .ok (.getfield 18, 3) := dk_180 0 18 (dk_at dksX2_add_0 1 rfl rfl)
theorem dX2_add_4 : decode cX2_add 4 = .ok (.invokeinterface 70 1, 5) := by decide +kernel
theorem dX2_add_9 : decode cX2_add 9 = .ok (.bipush 8, 2) := dk_16 8 (dk_at dksX2_add_0 9 rfl rfl)
theorem dX2_add_11 : decode cX2_add 11 = .ok (.if_icmp .ge 7, 3) := dk_162 0 7 (dk_at dksX2_add_0 11 rfl rfl)
theorem dX2_add_14 : decode cX2_add 14 = .ok (.iconst 1, 1) := dk_4 (dk_at dksX2_add_0 14 rfl rfl)
theorem dX2_add_15 : decode cX2_add 15 = .ok (.goto 4, 3) := dk_167 0 4 (dk_at dksX2_add_0 15 rfl rfl)
theorem dX2_add_18 : decode cX2_add 18 = .ok (.iconst 0, 1) := dk_3 (dk_at dksX2_add_0 18 rfl rfl)
theorem dX2_add_19 : decode cX2_add 19 = .ok (.iconst 1, 1) := dk_4 (dk_at dksX2_add_0 19 rfl rfl)
theorem dX2_add_20 : decode cX2_add 20 = .ok (.bipush 8, 2) := dk_16 8 (dk_at dksX2_add_0 20 rfl rfl)
theorem dX2_add_22 : decode cX2_add 22 = .ok (.invokestatic 172, 3) := dk_184 0 172 (dk_at dksX2_add_1 0 rfl rfl)
theorem dX2_add_25 : decode cX2_add 25 = .ok (.aload_n 0, 1) := dk_42 (dk_at dksX2_add_1 3 rfl rfl)
theorem dX2_add_26 : decode cX2_add 26 = .ok (.getfield 18, 3) := dk_180 0 18 (dk_at dksX2_add_1 4 rfl rfl)
theorem dX2_add_29 : decode cX2_add 29 = .ok (.aload_n 1, 1) := dk_43 (dk_at dksX2_add_1 7 rfl rfl)
theorem dX2_add_30 : decode cX2_add 30 = .ok (.invokeinterface 42 2, 5) := by decide +kernel
theorem dX2_add_35 : decode cX2_add 35 = .ok (.pop, 1) := dk_87 (dk_at dksX2_add_1 13 rfl rfl)
theorem dX2_add_36 : decode cX2_add 36 = .ok (.aload_n 0, 1) := dk_42 (dk_at dksX2_add_1 14 rfl rfl)
theorem dX2_add_37 : decode cX2_add 37 = .ok (.getfield 21, 3) := dk_180 0 21 (dk_at dksX2_add_1 15 rfl rfl)
theorem dX2_add_40 : decode cX2_add 40 = .ok (.new 48, 3) := dk_187 0 48 (dk_at dksX2_add_1 18 rfl rfl)
theorem dX2_add_43 : decode cX2_add 43 = .ok (.dup, 1) := dk_89 (dk_at dksX2_add_1 21 rfl rfl)
theorem dX2_add_44 : decode cX2_add 44 = .ok (.invokespecial 199, 3) := dk_183 0 199 (dk_at dksX2_add_2 0 rfl rfl)
theorem dX2_add_47 : decode cX2_add 47 = .ok (.invokeinterface 42 2, 5) := by decide +kernel
theorem dX2_add_52 : decode cX2_add 52 = .ok (.pop, 1) := dk_87 (dk_at dksX2_add_2 8 rfl rfl)
theorem dX2_add_53 : decode cX2_add 53 = .ok (.iconst 0, 1) := dk_3 (dk_at dksX2_add_2 9 rfl rfl)
theorem dX2_add_54 : decode cX2_add 54 = .ok (.istore_n 2, 1) := dk_61 (dk_at dksX2_add_2 10 rfl rfl)
theorem dX2_add_55 : decode cX2_add 55 = .ok (.iload_n 2, 1) := dk_28 (dk_at dksX2_add_2 11 rfl rfl)
theorem dX2_add_56 : decode cX2_add 56 = .ok (.aload_n 0, 1) := dk_42 (dk_at dksX2_add_2 12 rfl rfl)
theorem dX2_add_57 : decode cX2_add 57 = .ok (.getfield 54, 3) := dk_180 0 54 (dk_at dksX2_add_2 13 rfl rfl)
theorem dX2_add_60 : decode cX2_add 60 = .ok (.if_icmp .gt 15, 3) := dk_163 0 15 (dk_at dksX2_add_2 16 rfl rfl)
theorem dX2_add_63 : decode cX2_add 63 = .ok (.aload_n 0, 1) := dk_42 (dk_at dksX2_add_2 19 rfl rfl)
theorem dX2_add_64 : decode cX2_add 64 = .ok (.aload_n 1, 1) := dk_43 (dk_at dksX2_add_2 20 rfl rfl)
theorem dX2_add_65 : decode cX2_add 65 = .ok (.iload_n 2, 1) := dk_28 (dk_at dksX2_add_2 21 rfl rfl)
theorem dX2_add_66 : decode cX2_add 66 = .ok (.invokevirtual 192, 3) := dk_182 0 192 (dk_at dksX2_add_3 0 rfl rfl)
theorem dX2_add_69 : decode cX2_add 69 = .ok (.iinc 2 1, 3) := dk_132 2 1 (dk_at dksX2_add_3 3 rfl rfl)
theorem dX2_add_72 : decode cX2_add 72 = .ok (.goto (-17), 3) := dk_167 255 239 (dk_at dksX2_add_3 6 rfl rfl)
theorem dX2_add_75 : decode cX2_add 75 = .ok (.aload_n 0, 1) := dk_42 (dk_at dksX2_add_3 9 rfl rfl)
theorem dX2_add_76 : decode cX2_add 76 = .ok (.getfield 18, 3) := dk_180 0 18 (dk_at dksX2_add_3 10 rfl rfl)
theorem dX2_add_79 : decode cX2_add 79 = .ok (.invokeinterface 70 1, 5) := by decide +kernel
theorem dX2_add_84 : decode cX2_add 84 = .ok (.iconst 1, 1) := dk_4 (dk_at dksX2_add_3 18 rfl rfl)
theorem dX2_add_85 : decode cX2_add 85 = .ok (.isub, 1) := dk_100 (dk_at dksX2_add_3 19 rfl rfl)
theorem dX2_add_86 : decode cX2_add 86 = .ok (.ireturn, 1) := dk_172 (dk_at dksX2_add_3 20 rfl rfl)
abbrev cX2_addPair : ByteArray := prog_12_method_22_code
def yX2_addPair : MethodName := ⟨RX2, "addPair", "(CII)I"⟩
def dkwX2_addPair_1 : List UInt8 := [42, 187, 0, 227, 89, 27, 25, 4, 42, 29, 182, 0, 223, 183, 0, 229, 182, 0, 213, 172]
abbrev dktX2_addPair_1 : List UInt8 := dkwX2_addPair_1 ++ []
def dkwX2_addPair_0 : List UInt8 := [18, 221, 27, 182, 0, 202, 155, 0, 7, 4, 167, 0, 4, 3, 184, 0, 206, 42, 28, 182, 0, 223, 58, 4]
abbrev dktX2_addPair_0 : List UInt8 := dkwX2_addPair_0 ++ dktX2_addPair_1
theorem dksX2_addPair_0 : cX2_addPair.data.toList.drop 0 = dktX2_addPair_0 := by decide +kernel
theorem dksX2_addPair_1 : cX2_addPair.data.toList.drop 24 = dktX2_addPair_1 := dk_seg dksX2_addPair_0 24 rfl rfl
theorem dX2_addPair_0 : decode cX2_addPair 0 = .ok (.ldc 221, 2) := dk_18 221 (dk_at dksX2_addPair_0 0 rfl rfl)
theorem dX2_addPair_2 : decode cX2_addPair 2 = .ok (.iload_n 1, 1) := dk_27 (dk_at dksX2_addPair_0 2 rfl rfl)
theorem dX2_addPair_3 : decode cX2_addPair 3 = .ok (.invokevirtual 202, 3) := dk_182 0 202 (dk_at dksX2_addPair_0 3 rfl rfl)
theorem dX2_addPair_6 : decode cX2_addPair 6 = .ok (.ifCond .lt 7, 3) := dk_155 0 7 (dk_at dksX2_addPair_0 6 rfl rfl)
theorem dX2_addPair_9 : decode cX2_addPair 9 = .ok (.iconst 1, 1) := dk_4 (dk_at dksX2_addPair_0 9 rfl rfl)
theorem dX2_addPair_10 : decode cX2_addPair 10 = .ok (.goto 4, 3) := dk_167 0 4 (dk_at dksX2_addPair_0 10 rfl rfl)
theorem dX2_addPair_13 : decode cX2_addPair 13 = .ok (.iconst 0, 1) := dk_3 (dk_at dksX2_addPair_0 13 rfl rfl)
theorem dX2_addPair_14 : decode cX2_addPair 14 = .ok (.invokestatic 206, 3) := dk_184 0 206 (dk_at dksX2_addPair_0 14 rfl rfl)
theorem dX2_addPair_17 : decode cX2_addPair 17 = .ok (.aload_n 0, 1) := dk_42 (dk_at dksX2_addPair_0 17 rfl rfl)
theorem dX2_addPair_18 : decode cX2_addPair 18 = .ok (.iload_n 2, 1) := dk_28 (dk_at dksX2_addPair_0 18 rfl rfl)
theorem dX2_addPair_19 : decode cX2_addPair 19 = .ok (.invokevirtual 223, 3) := dk_182 0 223 (dk_at dksX2_addPair_0 19 rfl rfl)
theorem dX2_addPair_22 : decode cX2_addPair 22 = .ok (.astore 4, 2) := dk_58 4 (dk_at dksX2_addPair_0 22 rfl rfl)
theorem dX2_addPair_24 : decode cX2_addPair 24 = .ok (.aload_n 0, 1) := dk_42 (dk_at dksX2_addPair_1 0 rfl rfl)
theorem dX2_addPair_25 : decode cX2_addPair 25 = .ok (.new 227, 3) := dk_187 0 227 (dk_at dksX2_addPair_1 1 rfl rfl)
theorem dX2_addPair_28 : decode cX2_addPair 28 = .ok (.dup, 1) := dk_89 (dk_at dksX2_addPair_1 4 rfl rfl)
theorem dX2_addPair_29 : decode cX2_addPair 29 = .ok (.iload_n 1, 1) := dk_27 (dk_at dksX2_addPair_1 5 rfl rfl)
theorem dX2_addPair_30 : decode cX2_addPair 30 = .ok (.aload 4, 2) := dk_25 4 (dk_at dksX2_addPair_1 6 rfl rfl)
theorem dX2_addPair_32 : decode cX2_addPair 32 = .ok (.aload_n 0, 1) := dk_42 (dk_at dksX2_addPair_1 8 rfl rfl)
theorem dX2_addPair_33 : decode cX2_addPair 33 = .ok (.iload_n 3, 1) := dk_29 (dk_at dksX2_addPair_1 9 rfl rfl)
theorem dX2_addPair_34 : decode cX2_addPair 34 = .ok (.invokevirtual 223, 3) := dk_182 0 223 (dk_at dksX2_addPair_1 10 rfl rfl)
theorem dX2_addPair_37 : decode cX2_addPair 37 = .ok (.invokespecial 229, 3) := dk_183 0 229 (dk_at dksX2_addPair_1 13 rfl rfl)
theorem dX2_addPair_40 : decode cX2_addPair 40 = .ok (.invokevirtual 213, 3) := dk_182 0 213 (dk_at dksX2_addPair_1 16 rfl rfl)
theorem dX2_addPair_43 : decode cX2_addPair 43 = .ok (.ireturn, 1) := dk_172 (dk_at dksX2_addPair_1 19 rfl rfl)
abbrev cX2_step : ByteArray := prog_12_method_3_code
def yX2_step : MethodName := ⟨RX2, "step", "(I)LWeirfoldLane$Step;"⟩
def dkwX2_step_1 : List UInt8 := [192, 0, 46, 176]
abbrev dktX2_step_1 : List UInt8 := dkwX2_step_1 ++ []
def dkwX2_step_0 : List UInt8 := [27, 42, 180, 0, 18, 185, 0, 70, 1, 0, 184, 0, 74, 42, 180, 0, 18, 27, 185, 0, 78, 2, 0]
abbrev dktX2_step_0 : List UInt8 := dkwX2_step_0 ++ dktX2_step_1
theorem dksX2_step_0 : cX2_step.data.toList.drop 0 = dktX2_step_0 := by decide +kernel
theorem dksX2_step_1 : cX2_step.data.toList.drop 23 = dktX2_step_1 := dk_seg dksX2_step_0 23 rfl rfl
theorem dX2_step_0 : decode cX2_step 0 = .ok (.iload_n 1, 1) := dk_27 (dk_at dksX2_step_0 0 rfl rfl)
theorem dX2_step_1 : decode cX2_step 1 = .ok (.aload_n 0, 1) := dk_42 (dk_at dksX2_step_0 1 rfl rfl)
theorem dX2_step_2 : decode cX2_step 2 = .ok (.getfield 18, 3) := dk_180 0 18 (dk_at dksX2_step_0 2 rfl rfl)
theorem dX2_step_5 : decode cX2_step 5 = .ok (.invokeinterface 70 1, 5) := by decide +kernel
theorem dX2_step_10 : decode cX2_step 10 = .ok (.invokestatic 74, 3) := dk_184 0 74 (dk_at dksX2_step_0 10 rfl rfl)
theorem dX2_step_13 : decode cX2_step 13 = .ok (.aload_n 0, 1) := dk_42 (dk_at dksX2_step_0 13 rfl rfl)
theorem dX2_step_14 : decode cX2_step 14 = .ok (.getfield 18, 3) := dk_180 0 18 (dk_at dksX2_step_0 14 rfl rfl)
theorem dX2_step_17 : decode cX2_step 17 = .ok (.iload_n 1, 1) := dk_27 (dk_at dksX2_step_0 17 rfl rfl)
theorem dX2_step_18 : decode cX2_step 18 = .ok (.invokeinterface 78 2, 5) := by decide +kernel
theorem dX2_step_23 : decode cX2_step 23 = .ok (.checkcast 46, 3) := dk_192 0 46 (dk_at dksX2_step_1 0 rfl rfl)
theorem dX2_step_26 : decode cX2_step 26 = .ok (.areturn, 1) := dk_176 (dk_at dksX2_step_1 3 rfl rfl)
abbrev cX2_addRunning : ByteArray := prog_12_method_23_code
def yX2_addRunning : MethodName := ⟨RX2, "addRunning", "(I)I"⟩
def dkwX2_addRunning_0 : List UInt8 := [42, 187, 0, 232, 89, 42, 27, 182, 0, 223, 183, 0, 234, 182, 0, 213, 172]
abbrev dktX2_addRunning_0 : List UInt8 := dkwX2_addRunning_0 ++ []
theorem dksX2_addRunning_0 : cX2_addRunning.data.toList.drop 0 = dktX2_addRunning_0 := by decide +kernel
theorem dX2_addRunning_0 : decode cX2_addRunning 0 = .ok (.aload_n 0, 1) := dk_42 (dk_at dksX2_addRunning_0 0 rfl rfl)
theorem dX2_addRunning_1 : decode cX2_addRunning 1 = .ok (.new 232, 3) := dk_187 0 232 (dk_at dksX2_addRunning_0 1 rfl rfl)
theorem dX2_addRunning_4 : decode cX2_addRunning 4 = .ok (.dup, 1) := dk_89 (dk_at dksX2_addRunning_0 4 rfl rfl)
theorem dX2_addRunning_5 : decode cX2_addRunning 5 = .ok (.aload_n 0, 1) := dk_42 (dk_at dksX2_addRunning_0 5 rfl rfl)
theorem dX2_addRunning_6 : decode cX2_addRunning 6 = .ok (.iload_n 1, 1) := dk_27 (dk_at dksX2_addRunning_0 6 rfl rfl)
theorem dX2_addRunning_7 : decode cX2_addRunning 7 = .ok (.invokevirtual 223, 3) := dk_182 0 223 (dk_at dksX2_addRunning_0 7 rfl rfl)
theorem dX2_addRunning_10 : decode cX2_addRunning 10 = .ok (.invokespecial 234, 3) := dk_183 0 234 (dk_at dksX2_addRunning_0 10 rfl rfl)
theorem dX2_addRunning_13 : decode cX2_addRunning 13 = .ok (.invokevirtual 213, 3) := dk_182 0 213 (dk_at dksX2_addRunning_0 13 rfl rfl)
theorem dX2_addRunning_16 : decode cX2_addRunning 16 = .ok (.ireturn, 1) := dk_172 (dk_at dksX2_addRunning_0 16 rfl rfl)
abbrev cX2_addBounded : ByteArray := prog_12_method_24_code
def yX2_addBounded : MethodName := ⟨RX2, "addBounded", "(II)I"⟩
def dkwX2_addBounded_1 : List UInt8 := [182, 0, 213, 172]
abbrev dktX2_addBounded_1 : List UInt8 := dkwX2_addBounded_1 ++ []
def dkwX2_addBounded_0 : List UInt8 := [42, 27, 182, 0, 223, 78, 28, 3, 16, 99, 184, 0, 127, 42, 187, 0, 237, 89, 45, 28, 183, 0, 239]
abbrev dktX2_addBounded_0 : List UInt8 := dkwX2_addBounded_0 ++ dktX2_addBounded_1
theorem dksX2_addBounded_0 : cX2_addBounded.data.toList.drop 0 = dktX2_addBounded_0 := by decide +kernel
theorem dksX2_addBounded_1 : cX2_addBounded.data.toList.drop 23 = dktX2_addBounded_1 := dk_seg dksX2_addBounded_0 23 rfl rfl
theorem dX2_addBounded_0 : decode cX2_addBounded 0 = .ok (.aload_n 0, 1) := dk_42 (dk_at dksX2_addBounded_0 0 rfl rfl)
theorem dX2_addBounded_1 : decode cX2_addBounded 1 = .ok (.iload_n 1, 1) := dk_27 (dk_at dksX2_addBounded_0 1 rfl rfl)
theorem dX2_addBounded_2 : decode cX2_addBounded 2 = .ok (.invokevirtual 223, 3) := dk_182 0 223 (dk_at dksX2_addBounded_0 2 rfl rfl)
theorem dX2_addBounded_5 : decode cX2_addBounded 5 = .ok (.astore_n 3, 1) := dk_78 (dk_at dksX2_addBounded_0 5 rfl rfl)
theorem dX2_addBounded_6 : decode cX2_addBounded 6 = .ok (.iload_n 2, 1) := dk_28 (dk_at dksX2_addBounded_0 6 rfl rfl)
theorem dX2_addBounded_7 : decode cX2_addBounded 7 = .ok (.iconst 0, 1) := dk_3 (dk_at dksX2_addBounded_0 7 rfl rfl)
theorem dX2_addBounded_8 : decode cX2_addBounded 8 = .ok (.bipush 99, 2) := dk_16 99 (dk_at dksX2_addBounded_0 8 rfl rfl)
theorem dX2_addBounded_10 : decode cX2_addBounded 10 = .ok (.invokestatic 127, 3) := dk_184 0 127 (dk_at dksX2_addBounded_0 10 rfl rfl)
theorem dX2_addBounded_13 : decode cX2_addBounded 13 = .ok (.aload_n 0, 1) := dk_42 (dk_at dksX2_addBounded_0 13 rfl rfl)
theorem dX2_addBounded_14 : decode cX2_addBounded 14 = .ok (.new 237, 3) := dk_187 0 237 (dk_at dksX2_addBounded_0 14 rfl rfl)
theorem dX2_addBounded_17 : decode cX2_addBounded 17 = .ok (.dup, 1) := dk_89 (dk_at dksX2_addBounded_0 17 rfl rfl)
theorem dX2_addBounded_18 : decode cX2_addBounded 18 = .ok (.aload_n 3, 1) := dk_45 (dk_at dksX2_addBounded_0 18 rfl rfl)
theorem dX2_addBounded_19 : decode cX2_addBounded 19 = .ok (.iload_n 2, 1) := dk_28 (dk_at dksX2_addBounded_0 19 rfl rfl)
theorem dX2_addBounded_20 : decode cX2_addBounded 20 = .ok (.invokespecial 239, 3) := dk_183 0 239 (dk_at dksX2_addBounded_0 20 rfl rfl)
theorem dX2_addBounded_23 : decode cX2_addBounded 23 = .ok (.invokevirtual 213, 3) := dk_182 0 213 (dk_at dksX2_addBounded_1 0 rfl rfl)
theorem dX2_addBounded_26 : decode cX2_addBounded 26 = .ok (.ireturn, 1) := dk_172 (dk_at dksX2_addBounded_1 3 rfl rfl)
abbrev cX2_removeStep : ByteArray := prog_12_method_25_code
def yX2_removeStep : MethodName := ⟨RX2, "removeStep", "(I)I"⟩
def dkwX2_removeStep_3 : List UInt8 := [180, 0, 21, 27, 185, 0, 245, 2, 0, 192, 0, 48, 58, 4, 42, 180, 0, 18, 185, 0, 70, 1, 0, 172]
abbrev dktX2_removeStep_3 : List UInt8 := dkwX2_removeStep_3 ++ []
def dkwX2_removeStep_2 : List UInt8 := [7, 29, 184, 0, 172, 132, 3, 1, 167, 255, 210, 42, 180, 0, 18, 44, 185, 0, 186, 2, 0, 62, 42]
abbrev dktX2_removeStep_2 : List UInt8 := dkwX2_removeStep_2 ++ dktX2_removeStep_3
def dkwX2_removeStep_1 : List UInt8 := [180, 0, 18, 29, 185, 0, 78, 2, 0, 192, 0, 46, 44, 182, 0, 241, 154, 0, 7, 4, 167, 0, 4, 3]
abbrev dktX2_removeStep_1 : List UInt8 := dkwX2_removeStep_1 ++ dktX2_removeStep_2
def dkwX2_removeStep_0 : List UInt8 := [42, 27, 182, 0, 223, 77, 3, 62, 29, 42, 180, 0, 18, 185, 0, 70, 1, 0, 162, 0, 39, 42]
abbrev dktX2_removeStep_0 : List UInt8 := dkwX2_removeStep_0 ++ dktX2_removeStep_1
theorem dksX2_removeStep_0 : cX2_removeStep.data.toList.drop 0 = dktX2_removeStep_0 := by decide +kernel
theorem dksX2_removeStep_1 : cX2_removeStep.data.toList.drop 22 = dktX2_removeStep_1 := dk_seg dksX2_removeStep_0 22 rfl rfl
theorem dksX2_removeStep_2 : cX2_removeStep.data.toList.drop 46 = dktX2_removeStep_2 := dk_seg dksX2_removeStep_1 24 rfl rfl
theorem dksX2_removeStep_3 : cX2_removeStep.data.toList.drop 69 = dktX2_removeStep_3 := dk_seg dksX2_removeStep_2 23 rfl rfl
theorem dX2_removeStep_0 : decode cX2_removeStep 0 = .ok (.aload_n 0, 1) := dk_42 (dk_at dksX2_removeStep_0 0 rfl rfl)
theorem dX2_removeStep_1 : decode cX2_removeStep 1 = .ok (.iload_n 1, 1) := dk_27 (dk_at dksX2_removeStep_0 1 rfl rfl)
theorem dX2_removeStep_2 : decode cX2_removeStep 2 = .ok (.invokevirtual 223, 3) := dk_182 0 223 (dk_at dksX2_removeStep_0 2 rfl rfl)
theorem dX2_removeStep_5 : decode cX2_removeStep 5 = .ok (.astore_n 2, 1) := dk_77 (dk_at dksX2_removeStep_0 5 rfl rfl)
theorem dX2_removeStep_6 : decode cX2_removeStep 6 = .ok (.iconst 0, 1) := dk_3 (dk_at dksX2_removeStep_0 6 rfl rfl)
theorem dX2_removeStep_7 : decode cX2_removeStep 7 = .ok (.istore_n 3, 1) := dk_62 (dk_at dksX2_removeStep_0 7 rfl rfl)
theorem dX2_removeStep_8 : decode cX2_removeStep 8 = .ok (.iload_n 3, 1) := dk_29 (dk_at dksX2_removeStep_0 8 rfl rfl)
theorem dX2_removeStep_9 : decode cX2_removeStep 9 = .ok (.aload_n 0, 1) := dk_42 (dk_at dksX2_removeStep_0 9 rfl rfl)
theorem dX2_removeStep_10 : decode cX2_removeStep 10 = .ok (.getfield 18, 3) := dk_180 0 18 (dk_at dksX2_removeStep_0 10 rfl rfl)
theorem dX2_removeStep_13 : decode cX2_removeStep 13 = .ok (.invokeinterface 70 1, 5) := by decide +kernel
theorem dX2_removeStep_18 : decode cX2_removeStep 18 = .ok (.if_icmp .ge 39, 3) := dk_162 0 39 (dk_at dksX2_removeStep_0 18 rfl rfl)
theorem dX2_removeStep_21 : decode cX2_removeStep 21 = .ok (.aload_n 0, 1) := dk_42 (dk_at dksX2_removeStep_0 21 rfl rfl)
theorem dX2_removeStep_22 : decode cX2_removeStep 22 = .ok (.getfield 18, 3) := dk_180 0 18 (dk_at dksX2_removeStep_1 0 rfl rfl)
theorem dX2_removeStep_25 : decode cX2_removeStep 25 = .ok (.iload_n 3, 1) := dk_29 (dk_at dksX2_removeStep_1 3 rfl rfl)
theorem dX2_removeStep_26 : decode cX2_removeStep 26 = .ok (.invokeinterface 78 2, 5) := by decide +kernel
theorem dX2_removeStep_31 : decode cX2_removeStep 31 = .ok (.checkcast 46, 3) := dk_192 0 46 (dk_at dksX2_removeStep_1 9 rfl rfl)
theorem dX2_removeStep_34 : decode cX2_removeStep 34 = .ok (.aload_n 2, 1) := dk_44 (dk_at dksX2_removeStep_1 12 rfl rfl)
theorem dX2_removeStep_35 : decode cX2_removeStep 35 = .ok (.invokevirtual 241, 3) := dk_182 0 241 (dk_at dksX2_removeStep_1 13 rfl rfl)
theorem dX2_removeStep_38 : decode cX2_removeStep 38 = .ok (.ifCond .ne 7, 3) := dk_154 0 7 (dk_at dksX2_removeStep_1 16 rfl rfl)
theorem dX2_removeStep_41 : decode cX2_removeStep 41 = .ok (.iconst 1, 1) := dk_4 (dk_at dksX2_removeStep_1 19 rfl rfl)
theorem dX2_removeStep_42 : decode cX2_removeStep 42 = .ok (.goto 4, 3) := dk_167 0 4 (dk_at dksX2_removeStep_1 20 rfl rfl)
theorem dX2_removeStep_45 : decode cX2_removeStep 45 = .ok (.iconst 0, 1) := dk_3 (dk_at dksX2_removeStep_1 23 rfl rfl)
theorem dX2_removeStep_46 : decode cX2_removeStep 46 = .ok (.iconst 4, 1) := dk_7 (dk_at dksX2_removeStep_2 0 rfl rfl)
theorem dX2_removeStep_47 : decode cX2_removeStep 47 = .ok (.iload_n 3, 1) := dk_29 (dk_at dksX2_removeStep_2 1 rfl rfl)
theorem dX2_removeStep_48 : decode cX2_removeStep 48 = .ok (.invokestatic 172, 3) := dk_184 0 172 (dk_at dksX2_removeStep_2 2 rfl rfl)
theorem dX2_removeStep_51 : decode cX2_removeStep 51 = .ok (.iinc 3 1, 3) := dk_132 3 1 (dk_at dksX2_removeStep_2 5 rfl rfl)
theorem dX2_removeStep_54 : decode cX2_removeStep 54 = .ok (.goto (-46), 3) := dk_167 255 210 (dk_at dksX2_removeStep_2 8 rfl rfl)
theorem dX2_removeStep_57 : decode cX2_removeStep 57 = .ok (.aload_n 0, 1) := dk_42 (dk_at dksX2_removeStep_2 11 rfl rfl)
theorem dX2_removeStep_58 : decode cX2_removeStep 58 = .ok (.getfield 18, 3) := dk_180 0 18 (dk_at dksX2_removeStep_2 12 rfl rfl)
theorem dX2_removeStep_61 : decode cX2_removeStep 61 = .ok (.aload_n 2, 1) := dk_44 (dk_at dksX2_removeStep_2 15 rfl rfl)
theorem dX2_removeStep_62 : decode cX2_removeStep 62 = .ok (.invokeinterface 186 2, 5) := by decide +kernel
theorem dX2_removeStep_67 : decode cX2_removeStep 67 = .ok (.istore_n 3, 1) := dk_62 (dk_at dksX2_removeStep_2 21 rfl rfl)
theorem dX2_removeStep_68 : decode cX2_removeStep 68 = .ok (.aload_n 0, 1) := dk_42 (dk_at dksX2_removeStep_2 22 rfl rfl)
theorem dX2_removeStep_69 : decode cX2_removeStep 69 = .ok (.getfield 21, 3) := dk_180 0 21 (dk_at dksX2_removeStep_3 0 rfl rfl)
theorem dX2_removeStep_72 : decode cX2_removeStep 72 = .ok (.iload_n 1, 1) := dk_27 (dk_at dksX2_removeStep_3 3 rfl rfl)
theorem dX2_removeStep_73 : decode cX2_removeStep 73 = .ok (.invokeinterface 245 2, 5) := by decide +kernel
theorem dX2_removeStep_78 : decode cX2_removeStep 78 = .ok (.checkcast 48, 3) := dk_192 0 48 (dk_at dksX2_removeStep_3 9 rfl rfl)
theorem dX2_removeStep_81 : decode cX2_removeStep 81 = .ok (.astore 4, 2) := dk_58 4 (dk_at dksX2_removeStep_3 12 rfl rfl)
theorem dX2_removeStep_83 : decode cX2_removeStep 83 = .ok (.aload_n 0, 1) := dk_42 (dk_at dksX2_removeStep_3 14 rfl rfl)
theorem dX2_removeStep_84 : decode cX2_removeStep 84 = .ok (.getfield 18, 3) := dk_180 0 18 (dk_at dksX2_removeStep_3 15 rfl rfl)
theorem dX2_removeStep_87 : decode cX2_removeStep 87 = .ok (.invokeinterface 70 1, 5) := by decide +kernel
theorem dX2_removeStep_92 : decode cX2_removeStep 92 = .ok (.ireturn, 1) := dk_172 (dk_at dksX2_removeStep_3 23 rfl rfl)
abbrev cX2_repair : ByteArray := prog_12_method_26_code
def yX2_repair : MethodName := ⟨RX2, "repair", "(I)I"⟩
def dkwX2_repair_4 : List UInt8 := [180, 0, 67, 29, 96, 181, 0, 67, 29, 172]
abbrev dktX2_repair_4 : List UInt8 := dkwX2_repair_4 ++ []
def dkwX2_repair_3 : List UInt8 := [25, 5, 27, 182, 0, 135, 42, 25, 5, 182, 0, 89, 180, 0, 101, 27, 3, 84, 167, 255, 215, 42, 89]
abbrev dktX2_repair_3 : List UInt8 := dkwX2_repair_3 ++ dktX2_repair_4
def dkwX2_repair_2 : List UInt8 := [25, 4, 185, 0, 30, 1, 0, 153, 0, 37, 25, 4, 185, 0, 36, 1, 0, 192, 0, 46, 58, 5, 42]
abbrev dktX2_repair_2 : List UInt8 := dkwX2_repair_2 ++ dktX2_repair_3
def dkwX2_repair_1 : List UInt8 := [3, 6, 28, 184, 0, 172, 42, 27, 182, 0, 195, 62, 42, 180, 0, 18, 185, 0, 24, 1, 0, 58, 4]
abbrev dktX2_repair_1 : List UInt8 := dkwX2_repair_1 ++ dktX2_repair_2
def dkwX2_repair_0 : List UInt8 := [42, 27, 182, 0, 247, 42, 182, 0, 250, 61, 28, 2, 159, 0, 8, 28, 27, 161, 0, 7, 4, 167, 0, 4]
abbrev dktX2_repair_0 : List UInt8 := dkwX2_repair_0 ++ dktX2_repair_1
theorem dksX2_repair_0 : cX2_repair.data.toList.drop 0 = dktX2_repair_0 := by decide +kernel
theorem dksX2_repair_1 : cX2_repair.data.toList.drop 24 = dktX2_repair_1 := dk_seg dksX2_repair_0 24 rfl rfl
theorem dksX2_repair_2 : cX2_repair.data.toList.drop 47 = dktX2_repair_2 := dk_seg dksX2_repair_1 23 rfl rfl
theorem dksX2_repair_3 : cX2_repair.data.toList.drop 70 = dktX2_repair_3 := dk_seg dksX2_repair_2 23 rfl rfl
theorem dksX2_repair_4 : cX2_repair.data.toList.drop 93 = dktX2_repair_4 := dk_seg dksX2_repair_3 23 rfl rfl
theorem dX2_repair_0 : decode cX2_repair 0 = .ok (.aload_n 0, 1) := dk_42 (dk_at dksX2_repair_0 0 rfl rfl)
theorem dX2_repair_1 : decode cX2_repair 1 = .ok (.iload_n 1, 1) := dk_27 (dk_at dksX2_repair_0 1 rfl rfl)
theorem dX2_repair_2 : decode cX2_repair 2 = .ok (.invokevirtual 247, 3) := dk_182 0 247 (dk_at dksX2_repair_0 2 rfl rfl)
theorem dX2_repair_5 : decode cX2_repair 5 = .ok (.aload_n 0, 1) := dk_42 (dk_at dksX2_repair_0 5 rfl rfl)
theorem dX2_repair_6 : decode cX2_repair 6 = .ok (.invokevirtual 250, 3) := dk_182 0 250 (dk_at dksX2_repair_0 6 rfl rfl)
theorem dX2_repair_9 : decode cX2_repair 9 = .ok (.istore_n 2, 1) := dk_61 (dk_at dksX2_repair_0 9 rfl rfl)
theorem dX2_repair_10 : decode cX2_repair 10 = .ok (.iload_n 2, 1) := dk_28 (dk_at dksX2_repair_0 10 rfl rfl)
theorem dX2_repair_11 : decode cX2_repair 11 = .ok (.iconst (-1), 1) := dk_2 (dk_at dksX2_repair_0 11 rfl rfl)
theorem dX2_repair_12 : decode cX2_repair 12 = .ok (.if_icmp .eq 8, 3) := dk_159 0 8 (dk_at dksX2_repair_0 12 rfl rfl)
theorem dX2_repair_15 : decode cX2_repair 15 = .ok (.iload_n 2, 1) := dk_28 (dk_at dksX2_repair_0 15 rfl rfl)
theorem dX2_repair_16 : decode cX2_repair 16 = .ok (.iload_n 1, 1) := dk_27 (dk_at dksX2_repair_0 16 rfl rfl)
theorem dX2_repair_17 : decode cX2_repair 17 = .ok (.if_icmp .lt 7, 3) := dk_161 0 7 (dk_at dksX2_repair_0 17 rfl rfl)
theorem dX2_repair_20 : decode cX2_repair 20 = .ok (.iconst 1, 1) := dk_4 (dk_at dksX2_repair_0 20 rfl rfl)
theorem dX2_repair_21 : decode cX2_repair 21 = .ok (.goto 4, 3) := dk_167 0 4 (dk_at dksX2_repair_0 21 rfl rfl)
theorem dX2_repair_24 : decode cX2_repair 24 = .ok (.iconst 0, 1) := dk_3 (dk_at dksX2_repair_1 0 rfl rfl)
theorem dX2_repair_25 : decode cX2_repair 25 = .ok (.iconst 3, 1) := dk_6 (dk_at dksX2_repair_1 1 rfl rfl)
theorem dX2_repair_26 : decode cX2_repair 26 = .ok (.iload_n 2, 1) := dk_28 (dk_at dksX2_repair_1 2 rfl rfl)
theorem dX2_repair_27 : decode cX2_repair 27 = .ok (.invokestatic 172, 3) := dk_184 0 172 (dk_at dksX2_repair_1 3 rfl rfl)
theorem dX2_repair_30 : decode cX2_repair 30 = .ok (.aload_n 0, 1) := dk_42 (dk_at dksX2_repair_1 6 rfl rfl)
theorem dX2_repair_31 : decode cX2_repair 31 = .ok (.iload_n 1, 1) := dk_27 (dk_at dksX2_repair_1 7 rfl rfl)
theorem dX2_repair_32 : decode cX2_repair 32 = .ok (.invokevirtual 195, 3) := dk_182 0 195 (dk_at dksX2_repair_1 8 rfl rfl)
theorem dX2_repair_35 : decode cX2_repair 35 = .ok (.istore_n 3, 1) := dk_62 (dk_at dksX2_repair_1 11 rfl rfl)
theorem dX2_repair_36 : decode cX2_repair 36 = .ok (.aload_n 0, 1) := dk_42 (dk_at dksX2_repair_1 12 rfl rfl)
theorem dX2_repair_37 : decode cX2_repair 37 = .ok (.getfield 18, 3) := dk_180 0 18 (dk_at dksX2_repair_1 13 rfl rfl)
theorem dX2_repair_40 : decode cX2_repair 40 = .ok (.invokeinterface 24 1, 5) := by decide +kernel
theorem dX2_repair_45 : decode cX2_repair 45 = .ok (.astore 4, 2) := dk_58 4 (dk_at dksX2_repair_1 21 rfl rfl)
theorem dX2_repair_47 : decode cX2_repair 47 = .ok (.aload 4, 2) := dk_25 4 (dk_at dksX2_repair_2 0 rfl rfl)
theorem dX2_repair_49 : decode cX2_repair 49 = .ok (.invokeinterface 30 1, 5) := by decide +kernel
theorem dX2_repair_54 : decode cX2_repair 54 = .ok (.ifCond .eq 37, 3) := dk_153 0 37 (dk_at dksX2_repair_2 7 rfl rfl)
theorem dX2_repair_57 : decode cX2_repair 57 = .ok (.aload 4, 2) := dk_25 4 (dk_at dksX2_repair_2 10 rfl rfl)
theorem dX2_repair_59 : decode cX2_repair 59 = .ok (.invokeinterface 36 1, 5) := by decide +kernel
theorem dX2_repair_64 : decode cX2_repair 64 = .ok (.checkcast 46, 3) := dk_192 0 46 (dk_at dksX2_repair_2 17 rfl rfl)
theorem dX2_repair_67 : decode cX2_repair 67 = .ok (.astore 5, 2) := dk_58 5 (dk_at dksX2_repair_2 20 rfl rfl)
theorem dX2_repair_69 : decode cX2_repair 69 = .ok (.aload_n 0, 1) := dk_42 (dk_at dksX2_repair_2 22 rfl rfl)
theorem dX2_repair_70 : decode cX2_repair 70 = .ok (.aload 5, 2) := dk_25 5 (dk_at dksX2_repair_3 0 rfl rfl)
theorem dX2_repair_72 : decode cX2_repair 72 = .ok (.iload_n 1, 1) := dk_27 (dk_at dksX2_repair_3 2 rfl rfl)
theorem dX2_repair_73 : decode cX2_repair 73 = .ok (.invokevirtual 135, 3) := dk_182 0 135 (dk_at dksX2_repair_3 3 rfl rfl)
theorem dX2_repair_76 : decode cX2_repair 76 = .ok (.aload_n 0, 1) := dk_42 (dk_at dksX2_repair_3 6 rfl rfl)
theorem dX2_repair_77 : decode cX2_repair 77 = .ok (.aload 5, 2) := dk_25 5 (dk_at dksX2_repair_3 7 rfl rfl)
theorem dX2_repair_79 : decode cX2_repair 79 = .ok (.invokevirtual 89, 3) := dk_182 0 89 (dk_at dksX2_repair_3 9 rfl rfl)
theorem dX2_repair_82 : decode cX2_repair 82 = .ok (.getfield 101, 3) := dk_180 0 101 (dk_at dksX2_repair_3 12 rfl rfl)
theorem dX2_repair_85 : decode cX2_repair 85 = .ok (.iload_n 1, 1) := dk_27 (dk_at dksX2_repair_3 15 rfl rfl)
theorem dX2_repair_86 : decode cX2_repair 86 = .ok (.iconst 0, 1) := dk_3 (dk_at dksX2_repair_3 16 rfl rfl)
theorem dX2_repair_87 : decode cX2_repair 87 = .ok (.bastore, 1) := dk_84 (dk_at dksX2_repair_3 17 rfl rfl)
theorem dX2_repair_88 : decode cX2_repair 88 = .ok (.goto (-41), 3) := dk_167 255 215 (dk_at dksX2_repair_3 18 rfl rfl)
theorem dX2_repair_91 : decode cX2_repair 91 = .ok (.aload_n 0, 1) := dk_42 (dk_at dksX2_repair_3 21 rfl rfl)
theorem dX2_repair_92 : decode cX2_repair 92 = .ok (.dup, 1) := dk_89 (dk_at dksX2_repair_3 22 rfl rfl)
theorem dX2_repair_93 : decode cX2_repair 93 = .ok (.getfield 67, 3) := dk_180 0 67 (dk_at dksX2_repair_4 0 rfl rfl)
theorem dX2_repair_96 : decode cX2_repair 96 = .ok (.iload_n 3, 1) := dk_29 (dk_at dksX2_repair_4 3 rfl rfl)
theorem dX2_repair_97 : decode cX2_repair 97 = .ok (.iadd, 1) := dk_96 (dk_at dksX2_repair_4 4 rfl rfl)
theorem dX2_repair_98 : decode cX2_repair 98 = .ok (.putfield 67, 3) := dk_181 0 67 (dk_at dksX2_repair_4 5 rfl rfl)
theorem dX2_repair_101 : decode cX2_repair 101 = .ok (.iload_n 3, 1) := dk_29 (dk_at dksX2_repair_4 8 rfl rfl)
theorem dX2_repair_102 : decode cX2_repair 102 = .ok (.ireturn, 1) := dk_172 (dk_at dksX2_repair_4 9 rfl rfl)
abbrev cX2_requireDay : ByteArray := prog_12_method_9_code
def yX2_requireDay : MethodName := ⟨RX2, "requireDay", "(I)V"⟩
def dkwX2_requireDay_0 : List UInt8 := [27, 3, 42, 180, 0, 54, 184, 0, 127, 177]
abbrev dktX2_requireDay_0 : List UInt8 := dkwX2_requireDay_0 ++ []
theorem dksX2_requireDay_0 : cX2_requireDay.data.toList.drop 0 = dktX2_requireDay_0 := by decide +kernel
theorem dX2_requireDay_0 : decode cX2_requireDay 0 = .ok (.iload_n 1, 1) := dk_27 (dk_at dksX2_requireDay_0 0 rfl rfl)
theorem dX2_requireDay_1 : decode cX2_requireDay 1 = .ok (.iconst 0, 1) := dk_3 (dk_at dksX2_requireDay_0 1 rfl rfl)
theorem dX2_requireDay_2 : decode cX2_requireDay 2 = .ok (.aload_n 0, 1) := dk_42 (dk_at dksX2_requireDay_0 2 rfl rfl)
theorem dX2_requireDay_3 : decode cX2_requireDay 3 = .ok (.getfield 54, 3) := dk_180 0 54 (dk_at dksX2_requireDay_0 3 rfl rfl)
theorem dX2_requireDay_6 : decode cX2_requireDay 6 = .ok (.invokestatic 127, 3) := dk_184 0 127 (dk_at dksX2_requireDay_0 6 rfl rfl)
theorem dX2_requireDay_9 : decode cX2_requireDay 9 = .ok (.return_, 1) := dk_177 (dk_at dksX2_requireDay_0 9 rfl rfl)
abbrev cX2_firstStaleDay : ByteArray := prog_12_method_10_code
def yX2_firstStaleDay : MethodName := ⟨RX2, "firstStaleDay", "()I"⟩
def dkwX2_firstStaleDay_2 : List UInt8 := [153, 0, 5, 27, 172, 167, 255, 226, 132, 1, 1, 167, 255, 202, 2, 172]
abbrev dktX2_firstStaleDay_2 : List UInt8 := dkwX2_firstStaleDay_2 ++ []
def dkwX2_firstStaleDay_1 : List UInt8 := [185, 0, 30, 1, 0, 153, 0, 27, 44, 185, 0, 36, 1, 0, 192, 0, 48, 78, 45, 180, 0, 101, 27, 51]
abbrev dktX2_firstStaleDay_1 : List UInt8 := dkwX2_firstStaleDay_1 ++ dktX2_firstStaleDay_2
def dkwX2_firstStaleDay_0 : List UInt8 := [3, 60, 27, 42, 180, 0, 54, 163, 0, 52, 42, 180, 0, 21, 185, 0, 24, 1, 0, 77, 44]
abbrev dktX2_firstStaleDay_0 : List UInt8 := dkwX2_firstStaleDay_0 ++ dktX2_firstStaleDay_1
theorem dksX2_firstStaleDay_0 : cX2_firstStaleDay.data.toList.drop 0 = dktX2_firstStaleDay_0 := by decide +kernel
theorem dksX2_firstStaleDay_1 : cX2_firstStaleDay.data.toList.drop 21 = dktX2_firstStaleDay_1 := dk_seg dksX2_firstStaleDay_0 21 rfl rfl
theorem dksX2_firstStaleDay_2 : cX2_firstStaleDay.data.toList.drop 45 = dktX2_firstStaleDay_2 := dk_seg dksX2_firstStaleDay_1 24 rfl rfl
theorem dX2_firstStaleDay_0 : decode cX2_firstStaleDay 0 = .ok (.iconst 0, 1) := dk_3 (dk_at dksX2_firstStaleDay_0 0 rfl rfl)
theorem dX2_firstStaleDay_1 : decode cX2_firstStaleDay 1 = .ok (.istore_n 1, 1) := dk_60 (dk_at dksX2_firstStaleDay_0 1 rfl rfl)
theorem dX2_firstStaleDay_2 : decode cX2_firstStaleDay 2 = .ok (.iload_n 1, 1) := dk_27 (dk_at dksX2_firstStaleDay_0 2 rfl rfl)
theorem dX2_firstStaleDay_3 : decode cX2_firstStaleDay 3 = .ok (.aload_n 0, 1) := dk_42 (dk_at dksX2_firstStaleDay_0 3 rfl rfl)
theorem dX2_firstStaleDay_4 : decode cX2_firstStaleDay 4 = .ok (.getfield 54, 3) := dk_180 0 54 (dk_at dksX2_firstStaleDay_0 4 rfl rfl)
theorem dX2_firstStaleDay_7 : decode cX2_firstStaleDay 7 = .ok (.if_icmp .gt 52, 3) := dk_163 0 52 (dk_at dksX2_firstStaleDay_0 7 rfl rfl)
theorem dX2_firstStaleDay_10 : decode cX2_firstStaleDay 10 = .ok (.aload_n 0, 1) := dk_42 (dk_at dksX2_firstStaleDay_0 10 rfl rfl)
theorem dX2_firstStaleDay_11 : decode cX2_firstStaleDay 11 = .ok (.getfield 21, 3) := dk_180 0 21 (dk_at dksX2_firstStaleDay_0 11 rfl rfl)
theorem dX2_firstStaleDay_14 : decode cX2_firstStaleDay 14 = .ok (.invokeinterface 24 1, 5) := by decide +kernel
theorem dX2_firstStaleDay_19 : decode cX2_firstStaleDay 19 = .ok (.astore_n 2, 1) := dk_77 (dk_at dksX2_firstStaleDay_0 19 rfl rfl)
theorem dX2_firstStaleDay_20 : decode cX2_firstStaleDay 20 = .ok (.aload_n 2, 1) := dk_44 (dk_at dksX2_firstStaleDay_0 20 rfl rfl)
theorem dX2_firstStaleDay_21 : decode cX2_firstStaleDay 21 = .ok (.invokeinterface 30 1, 5) := by decide +kernel
theorem dX2_firstStaleDay_26 : decode cX2_firstStaleDay 26 = .ok (.ifCond .eq 27, 3) := dk_153 0 27 (dk_at dksX2_firstStaleDay_1 5 rfl rfl)
theorem dX2_firstStaleDay_29 : decode cX2_firstStaleDay 29 = .ok (.aload_n 2, 1) := dk_44 (dk_at dksX2_firstStaleDay_1 8 rfl rfl)
theorem dX2_firstStaleDay_30 : decode cX2_firstStaleDay 30 = .ok (.invokeinterface 36 1, 5) := by decide +kernel
theorem dX2_firstStaleDay_35 : decode cX2_firstStaleDay 35 = .ok (.checkcast 48, 3) := dk_192 0 48 (dk_at dksX2_firstStaleDay_1 14 rfl rfl)
theorem dX2_firstStaleDay_38 : decode cX2_firstStaleDay 38 = .ok (.astore_n 3, 1) := dk_78 (dk_at dksX2_firstStaleDay_1 17 rfl rfl)
theorem dX2_firstStaleDay_39 : decode cX2_firstStaleDay 39 = .ok (.aload_n 3, 1) := dk_45 (dk_at dksX2_firstStaleDay_1 18 rfl rfl)
theorem dX2_firstStaleDay_40 : decode cX2_firstStaleDay 40 = .ok (.getfield 101, 3) := dk_180 0 101 (dk_at dksX2_firstStaleDay_1 19 rfl rfl)
theorem dX2_firstStaleDay_43 : decode cX2_firstStaleDay 43 = .ok (.iload_n 1, 1) := dk_27 (dk_at dksX2_firstStaleDay_1 22 rfl rfl)
theorem dX2_firstStaleDay_44 : decode cX2_firstStaleDay 44 = .ok (.baload, 1) := dk_51 (dk_at dksX2_firstStaleDay_1 23 rfl rfl)
theorem dX2_firstStaleDay_45 : decode cX2_firstStaleDay 45 = .ok (.ifCond .eq 5, 3) := dk_153 0 5 (dk_at dksX2_firstStaleDay_2 0 rfl rfl)
theorem dX2_firstStaleDay_48 : decode cX2_firstStaleDay 48 = .ok (.iload_n 1, 1) := dk_27 (dk_at dksX2_firstStaleDay_2 3 rfl rfl)
theorem dX2_firstStaleDay_49 : decode cX2_firstStaleDay 49 = .ok (.ireturn, 1) := dk_172 (dk_at dksX2_firstStaleDay_2 4 rfl rfl)
theorem dX2_firstStaleDay_50 : decode cX2_firstStaleDay 50 = .ok (.goto (-30), 3) := dk_167 255 226 (dk_at dksX2_firstStaleDay_2 5 rfl rfl)
theorem dX2_firstStaleDay_53 : decode cX2_firstStaleDay 53 = .ok (.iinc 1 1, 3) := dk_132 1 1 (dk_at dksX2_firstStaleDay_2 8 rfl rfl)
theorem dX2_firstStaleDay_56 : decode cX2_firstStaleDay 56 = .ok (.goto (-54), 3) := dk_167 255 202 (dk_at dksX2_firstStaleDay_2 11 rfl rfl)
theorem dX2_firstStaleDay_59 : decode cX2_firstStaleDay 59 = .ok (.iconst (-1), 1) := dk_2 (dk_at dksX2_firstStaleDay_2 14 rfl rfl)
theorem dX2_firstStaleDay_60 : decode cX2_firstStaleDay 60 = .ok (.ireturn, 1) := dk_172 (dk_at dksX2_firstStaleDay_2 15 rfl rfl)
theorem q95 : (Jvm.Cond.initialized "WeirfoldLane$Lane") ∈ lw_all := lw_g (lw_at lw_m1 2 rfl) rfl
theorem q158 : (Jvm.Cond.instantiable "WeirfoldLane$Lane" (8 : Nat)) ∈ lw_all := lw_g (lw_at lw_m1 65 rfl) rfl
theorem q160 : (Jvm.Cond.instanceMethod ({ cls := "WeirfoldLane$Lane", name := "<init>", desc := "()V" } : Jvm.MethodName)) ∈ lw_all := lw_g (lw_at lw_m1 67 rfl) rfl
theorem q161 : (Jvm.Cond.code ({ cls := "WeirfoldLane$Lane", name := "<init>", desc := "()V" } : Jvm.MethodName) prog_12_method_1_code (1 : Nat) (Option.none : Option Jvm.ClassFile.FieldType)) ∈ lw_all := lw_g (lw_at lw_m1 68 rfl) rfl
theorem q162 : (Jvm.Cond.methodLink "WeirfoldLane$Lane" (3 : Nat) ({ cls := "java/lang/Object", name := "<init>", desc := "()V" } : Jvm.MethodName)) ∈ lw_all := lw_g (lw_at lw_m1 69 rfl) rfl
theorem q163 : (Jvm.Cond.classLink "WeirfoldLane$Lane" (9 : Nat) "java/util/ArrayList") ∈ lw_all := lw_g (lw_at lw_m1 70 rfl) rfl
theorem q165 : (Jvm.Cond.methodLink "WeirfoldLane$Lane" (11 : Nat) ({ cls := "java/util/ArrayList", name := "<init>", desc := "()V" } : Jvm.MethodName)) ∈ lw_all := lw_g (lw_at lw_m1 72 rfl) rfl
theorem q192 : (Jvm.Cond.fieldLink "WeirfoldLane$Lane" (12 : Nat) "WeirfoldLane$Lane" "rows" "Ljava/util/List;") ∈ lw_all := lw_g (lw_at lw_m1 99 rfl) rfl
theorem q201 : (Jvm.Cond.fieldLink "WeirfoldLane$Lane" (18 : Nat) "WeirfoldLane$Lane" "steps" "Ljava/util/List;") ∈ lw_all := lw_g (lw_at lw_m1 108 rfl) rfl
theorem q203 : (Jvm.Cond.fieldLink "WeirfoldLane$Lane" (21 : Nat) "WeirfoldLane$Lane" "views" "Ljava/util/List;") ∈ lw_all := lw_g (lw_at lw_m1 110 rfl) rfl
theorem q207 : (Jvm.Cond.fieldLink "WeirfoldLane$Lane" (54 : Nat) "WeirfoldLane$Lane" "today" "I") ∈ lw_all := lw_g (lw_at lw_m1 114 rfl) rfl
theorem q209 : (Jvm.Cond.fieldLink "WeirfoldLane$Lane" (58 : Nat) "WeirfoldLane$Lane" "added" "I") ∈ lw_all := lw_g (lw_at lw_m1 116 rfl) rfl
theorem q211 : (Jvm.Cond.fieldLink "WeirfoldLane$Lane" (61 : Nat) "WeirfoldLane$Lane" "removed" "I") ∈ lw_all := lw_g (lw_at lw_m1 118 rfl) rfl
theorem q213 : (Jvm.Cond.fieldLink "WeirfoldLane$Lane" (64 : Nat) "WeirfoldLane$Lane" "late" "I") ∈ lw_all := lw_g (lw_at lw_m1 120 rfl) rfl
theorem q215 : (Jvm.Cond.fieldLink "WeirfoldLane$Lane" (67 : Nat) "WeirfoldLane$Lane" "repaired" "I") ∈ lw_all := lw_g (lw_at lw_m1 122 rfl) rfl
theorem q217 : (Jvm.Cond.laysFinal "WeirfoldLane$Lane" "WeirfoldLane$Lane" "rows" "Ljava/util/List;") ∈ lw_all := lw_g (lw_at lw_m1 124 rfl) rfl
theorem q218 : (Jvm.Cond.soleField "WeirfoldLane$Lane" "rows") ∈ lw_all := lw_g (lw_at lw_m1 125 rfl) rfl
theorem q219 : (Jvm.Cond.laysFinal "WeirfoldLane$Lane" "WeirfoldLane$Lane" "steps" "Ljava/util/List;") ∈ lw_all := lw_g (lw_at lw_m1 126 rfl) rfl
theorem q220 : (Jvm.Cond.soleField "WeirfoldLane$Lane" "steps") ∈ lw_all := lw_g (lw_at lw_m1 127 rfl) rfl
theorem q221 : (Jvm.Cond.laysFinal "WeirfoldLane$Lane" "WeirfoldLane$Lane" "views" "Ljava/util/List;") ∈ lw_all := lw_g (lw_at lw_m1 128 rfl) rfl
theorem q222 : (Jvm.Cond.soleField "WeirfoldLane$Lane" "views") ∈ lw_all := lw_g (lw_at lw_m1 129 rfl) rfl
theorem q223 : (Jvm.Cond.lays "WeirfoldLane$Lane" "WeirfoldLane$Lane" "today" "I") ∈ lw_all := lw_g (lw_at lw_m1 130 rfl) rfl
theorem q224 : (Jvm.Cond.soleField "WeirfoldLane$Lane" "today") ∈ lw_all := lw_g (lw_at lw_m1 131 rfl) rfl
theorem q225 : (Jvm.Cond.lays "WeirfoldLane$Lane" "WeirfoldLane$Lane" "added" "I") ∈ lw_all := lw_g (lw_at lw_m1 132 rfl) rfl
theorem q226 : (Jvm.Cond.soleField "WeirfoldLane$Lane" "added") ∈ lw_all := lw_g (lw_at lw_m1 133 rfl) rfl
theorem q227 : (Jvm.Cond.lays "WeirfoldLane$Lane" "WeirfoldLane$Lane" "removed" "I") ∈ lw_all := lw_g (lw_at lw_m1 134 rfl) rfl
theorem q228 : (Jvm.Cond.soleField "WeirfoldLane$Lane" "removed") ∈ lw_all := lw_g (lw_at lw_m1 135 rfl) rfl
theorem q229 : (Jvm.Cond.lays "WeirfoldLane$Lane" "WeirfoldLane$Lane" "late" "I") ∈ lw_all := lw_g (lw_at lw_m1 136 rfl) rfl
theorem q230 : (Jvm.Cond.soleField "WeirfoldLane$Lane" "late") ∈ lw_all := lw_g (lw_at lw_m1 137 rfl) rfl
theorem q231 : (Jvm.Cond.lays "WeirfoldLane$Lane" "WeirfoldLane$Lane" "repaired" "I") ∈ lw_all := lw_g (lw_at lw_m1 138 rfl) rfl
theorem q232 : (Jvm.Cond.soleField "WeirfoldLane$Lane" "repaired") ∈ lw_all := lw_g (lw_at lw_m1 139 rfl) rfl
theorem q233 : (Jvm.Cond.superclass "WeirfoldLane$Lane" "java/lang/Object") ∈ lw_all := lw_g (lw_at lw_m1 140 rfl) rfl
theorem q336 : (Jvm.Cond.instanceMethod ({ cls := "WeirfoldLane$Lane", name := "staleOn", desc := "(I)I" } : Jvm.MethodName)) ∈ lw_all := lw_g (lw_at lw_m2 3 rfl) rfl
theorem q337 : (Jvm.Cond.selects "WeirfoldLane$Lane" ({ cls := "WeirfoldLane$Lane", name := "staleOn", desc := "(I)I" } : Jvm.MethodName) ({ cls := "WeirfoldLane$Lane", name := "staleOn", desc := "(I)I" } : Jvm.MethodName)) ∈ lw_all := lw_g (lw_at lw_m2 4 rfl) rfl
theorem q338 : (Jvm.Cond.code ({ cls := "WeirfoldLane$Lane", name := "staleOn", desc := "(I)I" } : Jvm.MethodName) prog_12_method_11_code (5 : Nat) (Option.some Jvm.ClassFile.FieldType.int)) ∈ lw_all := lw_g (lw_at lw_m2 5 rfl) rfl
theorem q339 : (Jvm.Cond.interfaceEntry "WeirfoldLane$Lane" (24 : Nat)) ∈ lw_tbl := lw_at lw_m2 6 rfl
theorem q340 : (Jvm.Cond.methodLink "WeirfoldLane$Lane" (24 : Nat) ({ cls := "java/util/List", name := "iterator", desc := "()Ljava/util/Iterator;" } : Jvm.MethodName)) ∈ lw_all := lw_g (lw_at lw_m2 7 rfl) rfl
theorem q367 : (Jvm.Cond.interfaceEntry "WeirfoldLane$Lane" (30 : Nat)) ∈ lw_tbl := lw_at lw_m2 34 rfl
theorem q368 : (Jvm.Cond.methodLink "WeirfoldLane$Lane" (30 : Nat) ({ cls := "java/util/Iterator", name := "hasNext", desc := "()Z" } : Jvm.MethodName)) ∈ lw_all := lw_g (lw_at lw_m2 35 rfl) rfl
theorem q377 : (Jvm.Cond.interfaceEntry "WeirfoldLane$Lane" (36 : Nat)) ∈ lw_tbl := lw_at lw_m2 44 rfl
theorem q378 : (Jvm.Cond.methodLink "WeirfoldLane$Lane" (36 : Nat) ({ cls := "java/util/Iterator", name := "next", desc := "()Ljava/lang/Object;" } : Jvm.MethodName)) ∈ lw_all := lw_g (lw_at lw_m2 45 rfl) rfl
theorem q461 : (Jvm.Cond.classLink "WeirfoldLane$Lane" (48 : Nat) "WeirfoldLane$View") ∈ lw_all := lw_g (lw_at lw_m2 128 rfl) rfl
theorem q471 : (Jvm.Cond.instanceMethod ({ cls := "WeirfoldLane$Lane", name := "<init>", desc := "(LWeirfoldLane$Lane;)V" } : Jvm.MethodName)) ∈ lw_all := lw_g (lw_at lw_m2 138 rfl) rfl
theorem q472 : (Jvm.Cond.code ({ cls := "WeirfoldLane$Lane", name := "<init>", desc := "(LWeirfoldLane$Lane;)V" } : Jvm.MethodName) prog_12_method_2_code (4 : Nat) (Option.none : Option Jvm.ClassFile.FieldType)) ∈ lw_all := lw_g (lw_at lw_m2 139 rfl) rfl
theorem q473 : (Jvm.Cond.classLink "WeirfoldLane$Lane" (40 : Nat) "WeirfoldLane$Row") ∈ lw_all := lw_g (lw_at lw_m2 140 rfl) rfl
theorem q474 : (Jvm.Cond.interfaceEntry "WeirfoldLane$Lane" (42 : Nat)) ∈ lw_tbl := lw_at lw_m2 141 rfl
theorem q475 : (Jvm.Cond.methodLink "WeirfoldLane$Lane" (42 : Nat) ({ cls := "java/util/List", name := "add", desc := "(Ljava/lang/Object;)Z" } : Jvm.MethodName)) ∈ lw_all := lw_g (lw_at lw_m2 142 rfl) rfl
theorem q521 : (Jvm.Cond.selects "WeirfoldLane$Lane" ({ cls := "java/lang/Object", name := "getClass", desc := "()Ljava/lang/Class;" } : Jvm.MethodName) ({ cls := "java/lang/Object", name := "getClass", desc := "()Ljava/lang/Class;" } : Jvm.MethodName)) ∈ lw_all := lw_g (lw_at lw_m2 188 rfl) rfl
theorem q560 : (Jvm.Cond.classLink "WeirfoldLane$Lane" (46 : Nat) "WeirfoldLane$Step") ∈ lw_all := lw_g (lw_at lw_m2 227 rfl) rfl
theorem q561 : (Jvm.Cond.methodLink "WeirfoldLane$Lane" (50 : Nat) ({ cls := "WeirfoldLane$View", name := "copy", desc := "()LWeirfoldLane$View;" } : Jvm.MethodName)) ∈ lw_all := lw_g (lw_at lw_m2 228 rfl) rfl
theorem q572 : (Jvm.Cond.fieldLinkNest "WeirfoldLane$Lane" (93 : Nat) "WeirfoldLane$View" "numbers" "[J" "WeirfoldLane") ∈ lw_tbl := lw_at lw_m2 239 rfl
theorem q576 : (Jvm.Cond.fieldLinkNest "WeirfoldLane$Lane" (101 : Nat) "WeirfoldLane$View" "isStale" "[Z" "WeirfoldLane") ∈ lw_tbl := lw_at lw_m3 3 rfl
theorem q593 : (Jvm.Cond.privateMethod ({ cls := "WeirfoldLane$Lane", name := "computePartition", desc := "(LWeirfoldLane$Step;I)V" } : Jvm.MethodName)) ∈ lw_tbl := lw_at lw_m3 20 rfl
theorem q594 : (Jvm.Cond.instanceMethod ({ cls := "WeirfoldLane$Lane", name := "computePartition", desc := "(LWeirfoldLane$Step;I)V" } : Jvm.MethodName)) ∈ lw_all := lw_g (lw_at lw_m3 21 rfl) rfl
theorem q595 : (Jvm.Cond.code ({ cls := "WeirfoldLane$Lane", name := "computePartition", desc := "(LWeirfoldLane$Step;I)V" } : Jvm.MethodName) prog_12_method_12_code (5 : Nat) (Option.none : Option Jvm.ClassFile.FieldType)) ∈ lw_all := lw_g (lw_at lw_m3 22 rfl) rfl
theorem q596 : (Jvm.Cond.methodLink "WeirfoldLane$Lane" (89 : Nat) ({ cls := "WeirfoldLane$Lane", name := "viewOf", desc := "(LWeirfoldLane$Step;)LWeirfoldLane$View;" } : Jvm.MethodName)) ∈ lw_all := lw_g (lw_at lw_m3 23 rfl) rfl
theorem q597 : (Jvm.Cond.instanceMethod ({ cls := "WeirfoldLane$Lane", name := "viewOf", desc := "(LWeirfoldLane$Step;)LWeirfoldLane$View;" } : Jvm.MethodName)) ∈ lw_all := lw_g (lw_at lw_m3 24 rfl) rfl
theorem q598 : (Jvm.Cond.selects "WeirfoldLane$Lane" ({ cls := "WeirfoldLane$Lane", name := "viewOf", desc := "(LWeirfoldLane$Step;)LWeirfoldLane$View;" } : Jvm.MethodName) ({ cls := "WeirfoldLane$Lane", name := "viewOf", desc := "(LWeirfoldLane$Step;)LWeirfoldLane$View;" } : Jvm.MethodName)) ∈ lw_all := lw_g (lw_at lw_m3 25 rfl) rfl
theorem q599 : (Jvm.Cond.code ({ cls := "WeirfoldLane$Lane", name := "viewOf", desc := "(LWeirfoldLane$Step;)LWeirfoldLane$View;" } : Jvm.MethodName) prog_12_method_5_code (2 : Nat) (Option.some (Jvm.ClassFile.FieldType.object "WeirfoldLane$View"))) ∈ lw_all := lw_g (lw_at lw_m3 26 rfl) rfl
theorem q600 : (Jvm.Cond.methodLink "WeirfoldLane$Lane" (86 : Nat) ({ cls := "WeirfoldLane$Lane", name := "indexOf", desc := "(LWeirfoldLane$Step;)I" } : Jvm.MethodName)) ∈ lw_all := lw_g (lw_at lw_m3 27 rfl) rfl
theorem q601 : (Jvm.Cond.instanceMethod ({ cls := "WeirfoldLane$Lane", name := "indexOf", desc := "(LWeirfoldLane$Step;)I" } : Jvm.MethodName)) ∈ lw_all := lw_g (lw_at lw_m3 28 rfl) rfl
theorem q602 : (Jvm.Cond.selects "WeirfoldLane$Lane" ({ cls := "WeirfoldLane$Lane", name := "indexOf", desc := "(LWeirfoldLane$Step;)I" } : Jvm.MethodName) ({ cls := "WeirfoldLane$Lane", name := "indexOf", desc := "(LWeirfoldLane$Step;)I" } : Jvm.MethodName)) ∈ lw_all := lw_g (lw_at lw_m3 29 rfl) rfl
theorem q603 : (Jvm.Cond.code ({ cls := "WeirfoldLane$Lane", name := "indexOf", desc := "(LWeirfoldLane$Step;)I" } : Jvm.MethodName) prog_12_method_4_code (2 : Nat) (Option.some Jvm.ClassFile.FieldType.int)) ∈ lw_all := lw_g (lw_at lw_m3 30 rfl) rfl
theorem q604 : (Jvm.Cond.interfaceEntry "WeirfoldLane$Lane" (82 : Nat)) ∈ lw_tbl := lw_at lw_m3 31 rfl
theorem q605 : (Jvm.Cond.methodLink "WeirfoldLane$Lane" (82 : Nat) ({ cls := "java/util/List", name := "indexOf", desc := "(Ljava/lang/Object;)I" } : Jvm.MethodName)) ∈ lw_all := lw_g (lw_at lw_m3 32 rfl) rfl
theorem q631 : (Jvm.Cond.selects "WeirfoldLane$Lane" ({ cls := "java/lang/Object", name := "equals", desc := "(Ljava/lang/Object;)Z" } : Jvm.MethodName) ({ cls := "java/lang/Object", name := "equals", desc := "(Ljava/lang/Object;)Z" } : Jvm.MethodName)) ∈ lw_all := lw_g (lw_at lw_m3 58 rfl) rfl
theorem q659 : (Jvm.Cond.interfaceEntry "WeirfoldLane$Lane" (78 : Nat)) ∈ lw_tbl := lw_at lw_m3 86 rfl
theorem q660 : (Jvm.Cond.methodLink "WeirfoldLane$Lane" (78 : Nat) ({ cls := "java/util/List", name := "get", desc := "(I)Ljava/lang/Object;" } : Jvm.MethodName)) ∈ lw_all := lw_g (lw_at lw_m3 87 rfl) rfl
theorem q678 : (Jvm.Cond.methodLinkNest "WeirfoldLane$Lane" (97 : Nat) ({ cls := "WeirfoldLane", name := "place", desc := "(II)I" } : Jvm.MethodName) "WeirfoldLane") ∈ lw_tbl := lw_at lw_m3 105 rfl
theorem q681 : (Jvm.Cond.methodLink "WeirfoldLane$Lane" (131 : Nat) ({ cls := "WeirfoldLane$Step", name := "compute", desc := "(Ljava/util/List;LWeirfoldLane$Numbers;II)J" } : Jvm.MethodName)) ∈ lw_all := lw_g (lw_at lw_m3 108 rfl) rfl
theorem q743 : (Jvm.Cond.castable "WeirfoldLane$Lane" "WeirfoldLane$Numbers") ∈ lw_tbl := lw_at lw_m3 170 rfl
theorem q744 : (Jvm.Cond.selects "WeirfoldLane$Lane" ({ cls := "WeirfoldLane$Numbers", name := "number", desc := "(LWeirfoldLane$Step;II)J" } : Jvm.MethodName) ({ cls := "WeirfoldLane$Lane", name := "number", desc := "(LWeirfoldLane$Step;II)J" } : Jvm.MethodName)) ∈ lw_all := lw_g (lw_at lw_m3 171 rfl) rfl
theorem q745 : (Jvm.Cond.unhidden "WeirfoldLane$Lane" "number" "(LWeirfoldLane$Step;II)J") ∈ lw_tbl := lw_at lw_m3 172 rfl
theorem q746 : (Jvm.Cond.instanceMethod ({ cls := "WeirfoldLane$Lane", name := "number", desc := "(LWeirfoldLane$Step;II)J" } : Jvm.MethodName)) ∈ lw_all := lw_g (lw_at lw_m3 173 rfl) rfl
theorem q747 : (Jvm.Cond.publicMethod ({ cls := "WeirfoldLane$Lane", name := "number", desc := "(LWeirfoldLane$Step;II)J" } : Jvm.MethodName)) ∈ lw_tbl := lw_at lw_m3 174 rfl
theorem q748 : (Jvm.Cond.code ({ cls := "WeirfoldLane$Lane", name := "number", desc := "(LWeirfoldLane$Step;II)J" } : Jvm.MethodName) prog_12_method_6_code (4 : Nat) (Option.some Jvm.ClassFile.FieldType.long)) ∈ lw_all := lw_g (lw_at lw_m3 175 rfl) rfl
theorem q1128 : (Jvm.Cond.instanceMethod ({ cls := "WeirfoldLane$Lane", name := "addRow", desc := "(CII)I" } : Jvm.MethodName)) ∈ lw_all := lw_g (lw_at lw_m5 75 rfl) rfl
theorem q1129 : (Jvm.Cond.selects "WeirfoldLane$Lane" ({ cls := "WeirfoldLane$Lane", name := "addRow", desc := "(CII)I" } : Jvm.MethodName) ({ cls := "WeirfoldLane$Lane", name := "addRow", desc := "(CII)I" } : Jvm.MethodName)) ∈ lw_all := lw_g (lw_at lw_m5 76 rfl) rfl
theorem q1130 : (Jvm.Cond.code ({ cls := "WeirfoldLane$Lane", name := "addRow", desc := "(CII)I" } : Jvm.MethodName) prog_12_method_17_code (6 : Nat) (Option.some Jvm.ClassFile.FieldType.int)) ∈ lw_all := lw_g (lw_at lw_m5 77 rfl) rfl
theorem q1131 : (Jvm.Cond.methodLinkNest "WeirfoldLane$Lane" (168 : Nat) ({ cls := "WeirfoldLane", name := "groupNumber", desc := "(C)I" } : Jvm.MethodName) "WeirfoldLane") ∈ lw_tbl := lw_at lw_m5 78 rfl
theorem q1148 : (Jvm.Cond.methodLinkNest "WeirfoldLane$Lane" (127 : Nat) ({ cls := "WeirfoldLane", name := "requireRange", desc := "(III)V" } : Jvm.MethodName) "WeirfoldLane") ∈ lw_tbl := lw_at lw_m5 95 rfl
theorem q1149 : (Jvm.Cond.methodLinkNest "WeirfoldLane$Lane" (172 : Nat) ({ cls := "WeirfoldLane", name := "denyUnless", desc := "(ZII)V" } : Jvm.MethodName) "WeirfoldLane") ∈ lw_tbl := lw_at lw_m5 96 rfl
theorem q1182 : (Jvm.Cond.interfaceEntry "WeirfoldLane$Lane" (70 : Nat)) ∈ lw_tbl := lw_at lw_m5 129 rfl
theorem q1183 : (Jvm.Cond.methodLink "WeirfoldLane$Lane" (70 : Nat) ({ cls := "java/util/List", name := "size", desc := "()I" } : Jvm.MethodName)) ∈ lw_all := lw_g (lw_at lw_m5 130 rfl) rfl
theorem q1185 : (Jvm.Cond.methodLink "WeirfoldLane$Lane" (176 : Nat) ({ cls := "WeirfoldLane$Row", name := "<init>", desc := "(IIII)V" } : Jvm.MethodName)) ∈ lw_all := lw_g (lw_at lw_m5 132 rfl) rfl
theorem q1190 : (Jvm.Cond.fieldLinkNest "WeirfoldLane$Lane" (111 : Nat) "WeirfoldLane$Row" "number" "I" "WeirfoldLane") ∈ lw_tbl := lw_at lw_m5 137 rfl
theorem q1197 : (Jvm.Cond.fieldLinkNest "WeirfoldLane$Lane" (148 : Nat) "WeirfoldLane$Row" "day" "I" "WeirfoldLane") ∈ lw_tbl := lw_at lw_m5 144 rfl
theorem q1202 : (Jvm.Cond.fieldLinkNest "WeirfoldLane$Lane" (151 : Nat) "WeirfoldLane$Row" "group" "I" "WeirfoldLane") ∈ lw_tbl := lw_at lw_m5 149 rfl
theorem q1208 : (Jvm.Cond.fieldLinkNest "WeirfoldLane$Lane" (189 : Nat) "WeirfoldLane$Row" "amount" "I" "WeirfoldLane") ∈ lw_tbl := lw_at lw_m5 155 rfl
theorem q1219 : (Jvm.Cond.methodLink "WeirfoldLane$Lane" (179 : Nat) ({ cls := "WeirfoldLane$Lane", name := "follow", desc := "(LWeirfoldLane$Row;I)V" } : Jvm.MethodName)) ∈ lw_all := lw_g (lw_at lw_m5 166 rfl) rfl
theorem q1220 : (Jvm.Cond.privateMethod ({ cls := "WeirfoldLane$Lane", name := "follow", desc := "(LWeirfoldLane$Row;I)V" } : Jvm.MethodName)) ∈ lw_tbl := lw_at lw_m5 167 rfl
theorem q1221 : (Jvm.Cond.instanceMethod ({ cls := "WeirfoldLane$Lane", name := "follow", desc := "(LWeirfoldLane$Row;I)V" } : Jvm.MethodName)) ∈ lw_all := lw_g (lw_at lw_m5 168 rfl) rfl
theorem q1222 : (Jvm.Cond.code ({ cls := "WeirfoldLane$Lane", name := "follow", desc := "(LWeirfoldLane$Row;I)V" } : Jvm.MethodName) prog_12_method_16_code (3 : Nat) (Option.none : Option Jvm.ClassFile.FieldType)) ∈ lw_all := lw_g (lw_at lw_m5 169 rfl) rfl
theorem q1223 : (Jvm.Cond.methodLink "WeirfoldLane$Lane" (160 : Nat) ({ cls := "WeirfoldLane$Lane", name := "carry", desc := "(LWeirfoldLane$Row;I)V" } : Jvm.MethodName)) ∈ lw_all := lw_g (lw_at lw_m5 170 rfl) rfl
theorem q1224 : (Jvm.Cond.privateMethod ({ cls := "WeirfoldLane$Lane", name := "carry", desc := "(LWeirfoldLane$Row;I)V" } : Jvm.MethodName)) ∈ lw_tbl := lw_at lw_m5 171 rfl
theorem q1225 : (Jvm.Cond.instanceMethod ({ cls := "WeirfoldLane$Lane", name := "carry", desc := "(LWeirfoldLane$Row;I)V" } : Jvm.MethodName)) ∈ lw_all := lw_g (lw_at lw_m5 172 rfl) rfl
theorem q1226 : (Jvm.Cond.code ({ cls := "WeirfoldLane$Lane", name := "carry", desc := "(LWeirfoldLane$Row;I)V" } : Jvm.MethodName) prog_12_method_14_code (6 : Nat) (Option.none : Option Jvm.ClassFile.FieldType)) ∈ lw_all := lw_g (lw_at lw_m5 173 rfl) rfl
theorem q1227 : (Jvm.Cond.classLink "WeirfoldLane$Lane" (143 : Nat) "WeirfoldLane$Changes") ∈ lw_all := lw_g (lw_at lw_m5 174 rfl) rfl
theorem q1229 : (Jvm.Cond.methodLink "WeirfoldLane$Lane" (145 : Nat) ({ cls := "WeirfoldLane$Changes", name := "<init>", desc := "(LWeirfoldLane$Lane;LWeirfoldLane$Row;I)V" } : Jvm.MethodName)) ∈ lw_all := lw_g (lw_at lw_m5 176 rfl) rfl
theorem q1288 : (Jvm.Cond.methodLink "WeirfoldLane$Lane" (154 : Nat) ({ cls := "WeirfoldLane$Changes", name := "of", desc := "(LWeirfoldLane$Step;)J" } : Jvm.MethodName)) ∈ lw_all := lw_g (lw_at lw_m5 235 rfl) rfl
theorem q1289 : (Jvm.Cond.methodLink "WeirfoldLane$Lane" (164 : Nat) ({ cls := "WeirfoldLane$Lane", name := "spoil", desc := "(I)V" } : Jvm.MethodName)) ∈ lw_all := lw_g (lw_at lw_m5 236 rfl) rfl
theorem q1290 : (Jvm.Cond.privateMethod ({ cls := "WeirfoldLane$Lane", name := "spoil", desc := "(I)V" } : Jvm.MethodName)) ∈ lw_tbl := lw_at lw_m5 237 rfl
theorem q1291 : (Jvm.Cond.instanceMethod ({ cls := "WeirfoldLane$Lane", name := "spoil", desc := "(I)V" } : Jvm.MethodName)) ∈ lw_all := lw_g (lw_at lw_m5 238 rfl) rfl
theorem q1292 : (Jvm.Cond.code ({ cls := "WeirfoldLane$Lane", name := "spoil", desc := "(I)V" } : Jvm.MethodName) prog_12_method_15_code (6 : Nat) (Option.none : Option Jvm.ClassFile.FieldType)) ∈ lw_all := lw_g (lw_at lw_m5 239 rfl) rfl
theorem q1293 : (Jvm.Cond.methodLink "WeirfoldLane$Lane" (157 : Nat) ({ cls := "WeirfoldLane$Step", name := "level", desc := "()I" } : Jvm.MethodName)) ∈ lw_all := lw_g (lw_at lw_m6 0 rfl) rfl
theorem q1311 : (Jvm.Cond.methodLink "WeirfoldLane$Lane" (139 : Nat) ({ cls := "WeirfoldLane$Step", name := "isFromStale", desc := "(LWeirfoldLane$Lane;I)Z" } : Jvm.MethodName)) ∈ lw_all := lw_g (lw_at lw_m6 18 rfl) rfl
theorem q1318 : (Jvm.Cond.instanceMethod ({ cls := "WeirfoldLane$Lane", name := "isStale", desc := "(LWeirfoldLane$Step;I)Z" } : Jvm.MethodName)) ∈ lw_all := lw_g (lw_at lw_m6 25 rfl) rfl
theorem q1319 : (Jvm.Cond.selects "WeirfoldLane$Lane" ({ cls := "WeirfoldLane$Lane", name := "isStale", desc := "(LWeirfoldLane$Step;I)Z" } : Jvm.MethodName) ({ cls := "WeirfoldLane$Lane", name := "isStale", desc := "(LWeirfoldLane$Step;I)Z" } : Jvm.MethodName)) ∈ lw_all := lw_g (lw_at lw_m6 26 rfl) rfl
theorem q1320 : (Jvm.Cond.code ({ cls := "WeirfoldLane$Lane", name := "isStale", desc := "(LWeirfoldLane$Step;I)Z" } : Jvm.MethodName) prog_12_method_7_code (3 : Nat) (Option.some Jvm.ClassFile.FieldType.boolean)) ∈ lw_all := lw_g (lw_at lw_m6 27 rfl) rfl
theorem q1335 : (Jvm.Cond.instanceMethod ({ cls := "WeirfoldLane$Lane", name := "removeRow", desc := "(I)I" } : Jvm.MethodName)) ∈ lw_all := lw_g (lw_at lw_m6 42 rfl) rfl
theorem q1336 : (Jvm.Cond.selects "WeirfoldLane$Lane" ({ cls := "WeirfoldLane$Lane", name := "removeRow", desc := "(I)I" } : Jvm.MethodName) ({ cls := "WeirfoldLane$Lane", name := "removeRow", desc := "(I)I" } : Jvm.MethodName)) ∈ lw_all := lw_g (lw_at lw_m6 43 rfl) rfl
theorem q1337 : (Jvm.Cond.code ({ cls := "WeirfoldLane$Lane", name := "removeRow", desc := "(I)I" } : Jvm.MethodName) prog_12_method_18_code (4 : Nat) (Option.some Jvm.ClassFile.FieldType.int)) ∈ lw_all := lw_g (lw_at lw_m6 44 rfl) rfl
theorem q1338 : (Jvm.Cond.methodLink "WeirfoldLane$Lane" (182 : Nat) ({ cls := "WeirfoldLane$Lane", name := "row", desc := "(I)LWeirfoldLane$Row;" } : Jvm.MethodName)) ∈ lw_all := lw_g (lw_at lw_m6 45 rfl) rfl
theorem q1339 : (Jvm.Cond.instanceMethod ({ cls := "WeirfoldLane$Lane", name := "row", desc := "(I)LWeirfoldLane$Row;" } : Jvm.MethodName)) ∈ lw_all := lw_g (lw_at lw_m6 46 rfl) rfl
theorem q1340 : (Jvm.Cond.selects "WeirfoldLane$Lane" ({ cls := "WeirfoldLane$Lane", name := "row", desc := "(I)LWeirfoldLane$Row;" } : Jvm.MethodName) ({ cls := "WeirfoldLane$Lane", name := "row", desc := "(I)LWeirfoldLane$Row;" } : Jvm.MethodName)) ∈ lw_all := lw_g (lw_at lw_m6 47 rfl) rfl
theorem q1341 : (Jvm.Cond.code ({ cls := "WeirfoldLane$Lane", name := "row", desc := "(I)LWeirfoldLane$Row;" } : Jvm.MethodName) prog_12_method_8_code (5 : Nat) (Option.some (Jvm.ClassFile.FieldType.object "WeirfoldLane$Row"))) ∈ lw_all := lw_g (lw_at lw_m6 48 rfl) rfl
theorem q1342 : (Jvm.Cond.methodLink "WeirfoldLane$Lane" (105 : Nat) ({ cls := "java/util/Optional", name := "empty", desc := "()Ljava/util/Optional;" } : Jvm.MethodName)) ∈ lw_all := lw_g (lw_at lw_m6 49 rfl) rfl
theorem q1347 : (Jvm.Cond.methodLink "WeirfoldLane$Lane" (114 : Nat) ({ cls := "java/util/Optional", name := "of", desc := "(Ljava/lang/Object;)Ljava/util/Optional;" } : Jvm.MethodName)) ∈ lw_all := lw_g (lw_at lw_m6 54 rfl) rfl
theorem q1363 : (Jvm.Cond.methodLink "WeirfoldLane$Lane" (118 : Nat) ({ cls := "java/util/Optional", name := "isPresent", desc := "()Z" } : Jvm.MethodName)) ∈ lw_all := lw_g (lw_at lw_m6 70 rfl) rfl
theorem q1367 : (Jvm.Cond.methodLinkNest "WeirfoldLane$Lane" (121 : Nat) ({ cls := "WeirfoldLane", name := "requireElement", desc := "(Z)V" } : Jvm.MethodName) "WeirfoldLane") ∈ lw_tbl := lw_at lw_m6 74 rfl
theorem q1372 : (Jvm.Cond.methodLink "WeirfoldLane$Lane" (125 : Nat) ({ cls := "java/util/Optional", name := "get", desc := "()Ljava/lang/Object;" } : Jvm.MethodName)) ∈ lw_all := lw_g (lw_at lw_m6 79 rfl) rfl
theorem q1382 : (Jvm.Cond.interfaceEntry "WeirfoldLane$Lane" (186 : Nat)) ∈ lw_tbl := lw_at lw_m6 89 rfl
theorem q1383 : (Jvm.Cond.methodLink "WeirfoldLane$Lane" (186 : Nat) ({ cls := "java/util/List", name := "remove", desc := "(Ljava/lang/Object;)Z" } : Jvm.MethodName)) ∈ lw_all := lw_g (lw_at lw_m6 90 rfl) rfl
theorem q1397 : (Jvm.Cond.instanceMethod ({ cls := "WeirfoldLane$Lane", name := "beginDay", desc := "()I" } : Jvm.MethodName)) ∈ lw_all := lw_g (lw_at lw_m6 104 rfl) rfl
theorem q1398 : (Jvm.Cond.selects "WeirfoldLane$Lane" ({ cls := "WeirfoldLane$Lane", name := "beginDay", desc := "()I" } : Jvm.MethodName) ({ cls := "WeirfoldLane$Lane", name := "beginDay", desc := "()I" } : Jvm.MethodName)) ∈ lw_all := lw_g (lw_at lw_m6 105 rfl) rfl
theorem q1399 : (Jvm.Cond.code ({ cls := "WeirfoldLane$Lane", name := "beginDay", desc := "()I" } : Jvm.MethodName) prog_12_method_19_code (3 : Nat) (Option.some Jvm.ClassFile.FieldType.int)) ∈ lw_all := lw_g (lw_at lw_m6 106 rfl) rfl
theorem q1400 : (Jvm.Cond.methodLink "WeirfoldLane$Lane" (192 : Nat) ({ cls := "WeirfoldLane$Lane", name := "beginPartition", desc := "(LWeirfoldLane$Step;I)V" } : Jvm.MethodName)) ∈ lw_all := lw_g (lw_at lw_m6 107 rfl) rfl
theorem q1401 : (Jvm.Cond.privateMethod ({ cls := "WeirfoldLane$Lane", name := "beginPartition", desc := "(LWeirfoldLane$Step;I)V" } : Jvm.MethodName)) ∈ lw_tbl := lw_at lw_m6 108 rfl
theorem q1402 : (Jvm.Cond.instanceMethod ({ cls := "WeirfoldLane$Lane", name := "beginPartition", desc := "(LWeirfoldLane$Step;I)V" } : Jvm.MethodName)) ∈ lw_all := lw_g (lw_at lw_m6 109 rfl) rfl
theorem q1403 : (Jvm.Cond.code ({ cls := "WeirfoldLane$Lane", name := "beginPartition", desc := "(LWeirfoldLane$Step;I)V" } : Jvm.MethodName) prog_12_method_13_code (3 : Nat) (Option.none : Option Jvm.ClassFile.FieldType)) ∈ lw_all := lw_g (lw_at lw_m6 110 rfl) rfl
theorem q1404 : (Jvm.Cond.methodLink "WeirfoldLane$Lane" (135 : Nat) ({ cls := "WeirfoldLane$Lane", name := "computePartition", desc := "(LWeirfoldLane$Step;I)V" } : Jvm.MethodName)) ∈ lw_all := lw_g (lw_at lw_m6 111 rfl) rfl
theorem q1405 : (Jvm.Cond.methodLink "WeirfoldLane$Lane" (195 : Nat) ({ cls := "WeirfoldLane$Lane", name := "staleOn", desc := "(I)I" } : Jvm.MethodName)) ∈ lw_all := lw_g (lw_at lw_m6 112 rfl) rfl
theorem q1407 : (Jvm.Cond.instanceMethod ({ cls := "WeirfoldLane$Lane", name := "addBase", desc := "(CI)I" } : Jvm.MethodName)) ∈ lw_all := lw_g (lw_at lw_m6 114 rfl) rfl
theorem q1408 : (Jvm.Cond.selects "WeirfoldLane$Lane" ({ cls := "WeirfoldLane$Lane", name := "addBase", desc := "(CI)I" } : Jvm.MethodName) ({ cls := "WeirfoldLane$Lane", name := "addBase", desc := "(CI)I" } : Jvm.MethodName)) ∈ lw_all := lw_g (lw_at lw_m6 115 rfl) rfl
theorem q1409 : (Jvm.Cond.code ({ cls := "WeirfoldLane$Lane", name := "addBase", desc := "(CI)I" } : Jvm.MethodName) prog_12_method_21_code (3 : Nat) (Option.some Jvm.ClassFile.FieldType.int)) ∈ lw_all := lw_g (lw_at lw_m6 116 rfl) rfl
theorem q1410 : (Jvm.Cond.stringRef "WeirfoldLane$Lane" (200 : Nat) "snx") ∈ lw_tbl := lw_at lw_m6 117 rfl
theorem q1411 : (Jvm.Cond.methodLink "WeirfoldLane$Lane" (202 : Nat) ({ cls := "java/lang/String", name := "indexOf", desc := "(I)I" } : Jvm.MethodName)) ∈ lw_all := lw_g (lw_at lw_m6 118 rfl) rfl
theorem q1457 : (Jvm.Cond.methodLinkNest "WeirfoldLane$Lane" (206 : Nat) ({ cls := "WeirfoldLane", name := "requireArgument", desc := "(Z)V" } : Jvm.MethodName) "WeirfoldLane") ∈ lw_tbl := lw_at lw_m6 164 rfl
theorem q1458 : (Jvm.Cond.classLink "WeirfoldLane$Lane" (209 : Nat) "WeirfoldLane$SumStep") ∈ lw_all := lw_g (lw_at lw_m6 165 rfl) rfl
theorem q1460 : (Jvm.Cond.methodLink "WeirfoldLane$Lane" (211 : Nat) ({ cls := "WeirfoldLane$SumStep", name := "<init>", desc := "(I)V" } : Jvm.MethodName)) ∈ lw_all := lw_g (lw_at lw_m6 167 rfl) rfl
theorem q1477 : (Jvm.Cond.methodLink "WeirfoldLane$Lane" (213 : Nat) ({ cls := "WeirfoldLane$Lane", name := "add", desc := "(LWeirfoldLane$Step;)I" } : Jvm.MethodName)) ∈ lw_all := lw_g (lw_at lw_m6 184 rfl) rfl
theorem q1478 : (Jvm.Cond.privateMethod ({ cls := "WeirfoldLane$Lane", name := "add", desc := "(LWeirfoldLane$Step;)I" } : Jvm.MethodName)) ∈ lw_tbl := lw_at lw_m6 185 rfl
theorem q1479 : (Jvm.Cond.instanceMethod ({ cls := "WeirfoldLane$Lane", name := "add", desc := "(LWeirfoldLane$Step;)I" } : Jvm.MethodName)) ∈ lw_all := lw_g (lw_at lw_m6 186 rfl) rfl
theorem q1480 : (Jvm.Cond.code ({ cls := "WeirfoldLane$Lane", name := "add", desc := "(LWeirfoldLane$Step;)I" } : Jvm.MethodName) prog_12_method_20_code (3 : Nat) (Option.some Jvm.ClassFile.FieldType.int)) ∈ lw_all := lw_g (lw_at lw_m6 187 rfl) rfl
theorem q1481 : (Jvm.Cond.methodLinkNest "WeirfoldLane$Lane" (199 : Nat) ({ cls := "WeirfoldLane$View", name := "<init>", desc := "()V" } : Jvm.MethodName) "WeirfoldLane") ∈ lw_tbl := lw_at lw_m6 188 rfl
theorem q1482 : (Jvm.Cond.classLink "WeirfoldLane$Lane" (215 : Nat) "WeirfoldLane$CountStep") ∈ lw_all := lw_g (lw_at lw_m6 189 rfl) rfl
theorem q1484 : (Jvm.Cond.methodLink "WeirfoldLane$Lane" (217 : Nat) ({ cls := "WeirfoldLane$CountStep", name := "<init>", desc := "(I)V" } : Jvm.MethodName)) ∈ lw_all := lw_g (lw_at lw_m6 191 rfl) rfl
theorem q1491 : (Jvm.Cond.classLink "WeirfoldLane$Lane" (218 : Nat) "WeirfoldLane$GreatestStep") ∈ lw_all := lw_g (lw_at lw_m6 198 rfl) rfl
theorem q1493 : (Jvm.Cond.methodLink "WeirfoldLane$Lane" (220 : Nat) ({ cls := "WeirfoldLane$GreatestStep", name := "<init>", desc := "(I)V" } : Jvm.MethodName)) ∈ lw_all := lw_g (lw_at lw_m6 200 rfl) rfl
theorem q1501 : (Jvm.Cond.instanceMethod ({ cls := "WeirfoldLane$Lane", name := "addPair", desc := "(CII)I" } : Jvm.MethodName)) ∈ lw_all := lw_g (lw_at lw_m6 208 rfl) rfl
theorem q1502 : (Jvm.Cond.selects "WeirfoldLane$Lane" ({ cls := "WeirfoldLane$Lane", name := "addPair", desc := "(CII)I" } : Jvm.MethodName) ({ cls := "WeirfoldLane$Lane", name := "addPair", desc := "(CII)I" } : Jvm.MethodName)) ∈ lw_all := lw_g (lw_at lw_m6 209 rfl) rfl
theorem q1503 : (Jvm.Cond.code ({ cls := "WeirfoldLane$Lane", name := "addPair", desc := "(CII)I" } : Jvm.MethodName) prog_12_method_22_code (5 : Nat) (Option.some Jvm.ClassFile.FieldType.int)) ∈ lw_all := lw_g (lw_at lw_m6 210 rfl) rfl
theorem q1504 : (Jvm.Cond.stringRef "WeirfoldLane$Lane" (221 : Nat) "+-") ∈ lw_tbl := lw_at lw_m6 211 rfl
theorem q1505 : (Jvm.Cond.methodLink "WeirfoldLane$Lane" (223 : Nat) ({ cls := "WeirfoldLane$Lane", name := "step", desc := "(I)LWeirfoldLane$Step;" } : Jvm.MethodName)) ∈ lw_all := lw_g (lw_at lw_m6 212 rfl) rfl
theorem q1506 : (Jvm.Cond.instanceMethod ({ cls := "WeirfoldLane$Lane", name := "step", desc := "(I)LWeirfoldLane$Step;" } : Jvm.MethodName)) ∈ lw_all := lw_g (lw_at lw_m6 213 rfl) rfl
theorem q1507 : (Jvm.Cond.selects "WeirfoldLane$Lane" ({ cls := "WeirfoldLane$Lane", name := "step", desc := "(I)LWeirfoldLane$Step;" } : Jvm.MethodName) ({ cls := "WeirfoldLane$Lane", name := "step", desc := "(I)LWeirfoldLane$Step;" } : Jvm.MethodName)) ∈ lw_all := lw_g (lw_at lw_m6 214 rfl) rfl
theorem q1508 : (Jvm.Cond.code ({ cls := "WeirfoldLane$Lane", name := "step", desc := "(I)LWeirfoldLane$Step;" } : Jvm.MethodName) prog_12_method_3_code (2 : Nat) (Option.some (Jvm.ClassFile.FieldType.object "WeirfoldLane$Step"))) ∈ lw_all := lw_g (lw_at lw_m6 215 rfl) rfl
theorem q1509 : (Jvm.Cond.methodLinkNest "WeirfoldLane$Lane" (74 : Nat) ({ cls := "WeirfoldLane", name := "requireIndex", desc := "(II)V" } : Jvm.MethodName) "WeirfoldLane") ∈ lw_tbl := lw_at lw_m6 216 rfl
theorem q1527 : (Jvm.Cond.classLink "WeirfoldLane$Lane" (227 : Nat) "WeirfoldLane$PairStep") ∈ lw_all := lw_g (lw_at lw_m6 234 rfl) rfl
theorem q1529 : (Jvm.Cond.methodLink "WeirfoldLane$Lane" (229 : Nat) ({ cls := "WeirfoldLane$PairStep", name := "<init>", desc := "(CLWeirfoldLane$Step;LWeirfoldLane$Step;)V" } : Jvm.MethodName)) ∈ lw_all := lw_g (lw_at lw_m6 236 rfl) rfl
theorem q1545 : (Jvm.Cond.instanceMethod ({ cls := "WeirfoldLane$Lane", name := "addRunning", desc := "(I)I" } : Jvm.MethodName)) ∈ lw_all := lw_g (lw_at lw_m7 12 rfl) rfl
theorem q1546 : (Jvm.Cond.selects "WeirfoldLane$Lane" ({ cls := "WeirfoldLane$Lane", name := "addRunning", desc := "(I)I" } : Jvm.MethodName) ({ cls := "WeirfoldLane$Lane", name := "addRunning", desc := "(I)I" } : Jvm.MethodName)) ∈ lw_all := lw_g (lw_at lw_m7 13 rfl) rfl
theorem q1547 : (Jvm.Cond.code ({ cls := "WeirfoldLane$Lane", name := "addRunning", desc := "(I)I" } : Jvm.MethodName) prog_12_method_23_code (2 : Nat) (Option.some Jvm.ClassFile.FieldType.int)) ∈ lw_all := lw_g (lw_at lw_m7 14 rfl) rfl
theorem q1548 : (Jvm.Cond.classLink "WeirfoldLane$Lane" (232 : Nat) "WeirfoldLane$RunningStep") ∈ lw_all := lw_g (lw_at lw_m7 15 rfl) rfl
theorem q1550 : (Jvm.Cond.methodLink "WeirfoldLane$Lane" (234 : Nat) ({ cls := "WeirfoldLane$RunningStep", name := "<init>", desc := "(LWeirfoldLane$Step;)V" } : Jvm.MethodName)) ∈ lw_all := lw_g (lw_at lw_m7 17 rfl) rfl
theorem q1563 : (Jvm.Cond.instanceMethod ({ cls := "WeirfoldLane$Lane", name := "addBounded", desc := "(II)I" } : Jvm.MethodName)) ∈ lw_all := lw_g (lw_at lw_m7 30 rfl) rfl
theorem q1564 : (Jvm.Cond.selects "WeirfoldLane$Lane" ({ cls := "WeirfoldLane$Lane", name := "addBounded", desc := "(II)I" } : Jvm.MethodName) ({ cls := "WeirfoldLane$Lane", name := "addBounded", desc := "(II)I" } : Jvm.MethodName)) ∈ lw_all := lw_g (lw_at lw_m7 31 rfl) rfl
theorem q1565 : (Jvm.Cond.code ({ cls := "WeirfoldLane$Lane", name := "addBounded", desc := "(II)I" } : Jvm.MethodName) prog_12_method_24_code (4 : Nat) (Option.some Jvm.ClassFile.FieldType.int)) ∈ lw_all := lw_g (lw_at lw_m7 32 rfl) rfl
theorem q1566 : (Jvm.Cond.classLink "WeirfoldLane$Lane" (237 : Nat) "WeirfoldLane$BoundedStep") ∈ lw_all := lw_g (lw_at lw_m7 33 rfl) rfl
theorem q1567 : (Jvm.Cond.methodLink "WeirfoldLane$Lane" (239 : Nat) ({ cls := "WeirfoldLane$BoundedStep", name := "<init>", desc := "(LWeirfoldLane$Step;I)V" } : Jvm.MethodName)) ∈ lw_all := lw_g (lw_at lw_m7 34 rfl) rfl
theorem q1578 : (Jvm.Cond.instanceMethod ({ cls := "WeirfoldLane$Lane", name := "removeStep", desc := "(I)I" } : Jvm.MethodName)) ∈ lw_all := lw_g (lw_at lw_m7 45 rfl) rfl
theorem q1579 : (Jvm.Cond.selects "WeirfoldLane$Lane" ({ cls := "WeirfoldLane$Lane", name := "removeStep", desc := "(I)I" } : Jvm.MethodName) ({ cls := "WeirfoldLane$Lane", name := "removeStep", desc := "(I)I" } : Jvm.MethodName)) ∈ lw_all := lw_g (lw_at lw_m7 46 rfl) rfl
theorem q1580 : (Jvm.Cond.code ({ cls := "WeirfoldLane$Lane", name := "removeStep", desc := "(I)I" } : Jvm.MethodName) prog_12_method_25_code (5 : Nat) (Option.some Jvm.ClassFile.FieldType.int)) ∈ lw_all := lw_g (lw_at lw_m7 47 rfl) rfl
theorem q1581 : (Jvm.Cond.methodLink "WeirfoldLane$Lane" (241 : Nat) ({ cls := "WeirfoldLane$Step", name := "hasInput", desc := "(LWeirfoldLane$Step;)Z" } : Jvm.MethodName)) ∈ lw_all := lw_g (lw_at lw_m7 48 rfl) rfl
theorem q1596 : (Jvm.Cond.interfaceEntry "WeirfoldLane$Lane" (245 : Nat)) ∈ lw_tbl := lw_at lw_m7 63 rfl
theorem q1597 : (Jvm.Cond.methodLink "WeirfoldLane$Lane" (245 : Nat) ({ cls := "java/util/List", name := "remove", desc := "(I)Ljava/lang/Object;" } : Jvm.MethodName)) ∈ lw_all := lw_g (lw_at lw_m7 64 rfl) rfl
theorem q1606 : (Jvm.Cond.instanceMethod ({ cls := "WeirfoldLane$Lane", name := "repair", desc := "(I)I" } : Jvm.MethodName)) ∈ lw_all := lw_g (lw_at lw_m7 73 rfl) rfl
theorem q1607 : (Jvm.Cond.selects "WeirfoldLane$Lane" ({ cls := "WeirfoldLane$Lane", name := "repair", desc := "(I)I" } : Jvm.MethodName) ({ cls := "WeirfoldLane$Lane", name := "repair", desc := "(I)I" } : Jvm.MethodName)) ∈ lw_all := lw_g (lw_at lw_m7 74 rfl) rfl
theorem q1608 : (Jvm.Cond.code ({ cls := "WeirfoldLane$Lane", name := "repair", desc := "(I)I" } : Jvm.MethodName) prog_12_method_26_code (6 : Nat) (Option.some Jvm.ClassFile.FieldType.int)) ∈ lw_all := lw_g (lw_at lw_m7 75 rfl) rfl
theorem q1609 : (Jvm.Cond.methodLink "WeirfoldLane$Lane" (247 : Nat) ({ cls := "WeirfoldLane$Lane", name := "requireDay", desc := "(I)V" } : Jvm.MethodName)) ∈ lw_all := lw_g (lw_at lw_m7 76 rfl) rfl
theorem q1610 : (Jvm.Cond.instanceMethod ({ cls := "WeirfoldLane$Lane", name := "requireDay", desc := "(I)V" } : Jvm.MethodName)) ∈ lw_all := lw_g (lw_at lw_m7 77 rfl) rfl
theorem q1611 : (Jvm.Cond.selects "WeirfoldLane$Lane" ({ cls := "WeirfoldLane$Lane", name := "requireDay", desc := "(I)V" } : Jvm.MethodName) ({ cls := "WeirfoldLane$Lane", name := "requireDay", desc := "(I)V" } : Jvm.MethodName)) ∈ lw_all := lw_g (lw_at lw_m7 78 rfl) rfl
theorem q1612 : (Jvm.Cond.code ({ cls := "WeirfoldLane$Lane", name := "requireDay", desc := "(I)V" } : Jvm.MethodName) prog_12_method_9_code (2 : Nat) (Option.none : Option Jvm.ClassFile.FieldType)) ∈ lw_all := lw_g (lw_at lw_m7 79 rfl) rfl
theorem q1613 : (Jvm.Cond.methodLink "WeirfoldLane$Lane" (250 : Nat) ({ cls := "WeirfoldLane$Lane", name := "firstStaleDay", desc := "()I" } : Jvm.MethodName)) ∈ lw_all := lw_g (lw_at lw_m7 80 rfl) rfl
theorem q1614 : (Jvm.Cond.instanceMethod ({ cls := "WeirfoldLane$Lane", name := "firstStaleDay", desc := "()I" } : Jvm.MethodName)) ∈ lw_all := lw_g (lw_at lw_m7 81 rfl) rfl
theorem q1615 : (Jvm.Cond.selects "WeirfoldLane$Lane" ({ cls := "WeirfoldLane$Lane", name := "firstStaleDay", desc := "()I" } : Jvm.MethodName) ({ cls := "WeirfoldLane$Lane", name := "firstStaleDay", desc := "()I" } : Jvm.MethodName)) ∈ lw_all := lw_g (lw_at lw_m7 82 rfl) rfl
theorem q1616 : (Jvm.Cond.code ({ cls := "WeirfoldLane$Lane", name := "firstStaleDay", desc := "()I" } : Jvm.MethodName) prog_12_method_10_code (4 : Nat) (Option.some Jvm.ClassFile.FieldType.int)) ∈ lw_all := lw_g (lw_at lw_m7 83 rfl) rfl
theorem q3285 : (Jvm.Cond.selects "WeirfoldLane$Lane" ({ cls := "WeirfoldLane$Lane", name := "number", desc := "(LWeirfoldLane$Step;II)J" } : Jvm.MethodName) ({ cls := "WeirfoldLane$Lane", name := "number", desc := "(LWeirfoldLane$Step;II)J" } : Jvm.MethodName)) ∈ lw_all := lw_g (lw_at lw_m14 72 rfl) rfl
theorem q3302 : (Jvm.Cond.castable "WeirfoldLane$Lane" "java/lang/Object") ∈ lw_tbl := lw_at lw_m14 89 rfl
theorem in_X2 : ∀ w ∈ wsX20, w ∈ lw_all := lw_in wsX20 [217, 219, 221, 223, 225, 227, 229, 231] (by decide +kernel) (by decide +kernel)
