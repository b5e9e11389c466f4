/-! WeirfoldLane$View -/
set_option maxRecDepth 100000
def RX4 : String := "WeirfoldLane$View"
def TX4 : u_T := fun k => match k with
  | 0 => ("WeirfoldLane$View", "numbers", "[J", true)
  | _ => ("WeirfoldLane$View", "isStale", "[Z", true)
def tyX4 : Nat → FieldType := fun k => match k with
  | 0 => .array .long
  | _ => .array .boolean
abbrev wsX40 : List Cond := u_ws RX4 TX4 2
theorem nmX4 : ∀ a, a < 2 → ∀ b, b < 2 → a ≠ b → (TX4 a).2.1 ≠ (TX4 b).2.1 := by decide +kernel
theorem tyX4_ok : ∀ k, k < 2 → parseFieldDescriptor (TX4 k).2.2.1 = some (tyX4 k) := by decide +kernel
abbrev cX4_copy : ByteArray := prog_23_method_2_code
def yX4_copy : MethodName := ⟨RX4, "copy", "()LWeirfoldLane$View;"⟩
def dkwX4_copy_1 : List UInt8 := [184, 0, 20, 42, 180, 0, 15, 3, 43, 180, 0, 15, 3, 16, 7, 184, 0, 20, 43, 176]
abbrev dktX4_copy_1 : List UInt8 := dkwX4_copy_1 ++ []
def dkwX4_copy_0 : List UInt8 := [187, 0, 10, 89, 183, 0, 19, 76, 42, 180, 0, 9, 3, 43, 180, 0, 9, 3, 42, 180, 0, 9, 190]
abbrev dktX4_copy_0 : List UInt8 := dkwX4_copy_0 ++ dktX4_copy_1
theorem dksX4_copy_0 : cX4_copy.data.toList.drop 0 = dktX4_copy_0 := by decide +kernel
theorem dksX4_copy_1 : cX4_copy.data.toList.drop 23 = dktX4_copy_1 := dk_seg dksX4_copy_0 23 rfl rfl
theorem dX4_copy_0 : decode cX4_copy 0 = .ok (.new 10, 3) := dk_187 0 10 (dk_at dksX4_copy_0 0 rfl rfl)
theorem dX4_copy_3 : decode cX4_copy 3 = .ok (.dup, 1) := dk_89 (dk_at dksX4_copy_0 3 rfl rfl)
theorem dX4_copy_4 : decode cX4_copy 4 = .ok (.invokespecial 19, 3) := dk_183 0 19 (dk_at dksX4_copy_0 4 rfl rfl)
theorem dX4_copy_7 : decode cX4_copy 7 = .ok (.astore_n 1, 1) := dk_76 (dk_at dksX4_copy_0 7 rfl rfl)
theorem dX4_copy_8 : decode cX4_copy 8 = .ok (.aload_n 0, 1) := dk_42 (dk_at dksX4_copy_0 8 rfl rfl)
theorem dX4_copy_9 : decode cX4_copy 9 = .ok (.getfield 9, 3) := dk_180 0 9 (dk_at dksX4_copy_0 9 rfl rfl)
theorem dX4_copy_12 : decode cX4_copy 12 = .ok (.iconst 0, 1) := dk_3 (dk_at dksX4_copy_0 12 rfl rfl)
theorem dX4_copy_13 : decode cX4_copy 13 = .ok (.aload_n 1, 1) := dk_43 (dk_at dksX4_copy_0 13 rfl rfl)
theorem dX4_copy_14 : decode cX4_copy 14 = .ok (.getfield 9, 3) := dk_180 0 9 (dk_at dksX4_copy_0 14 rfl rfl)
theorem dX4_copy_17 : decode cX4_copy 17 = .ok (.iconst 0, 1) := dk_3 (dk_at dksX4_copy_0 17 rfl rfl)
theorem dX4_copy_18 : decode cX4_copy 18 = .ok (.aload_n 0, 1) := dk_42 (dk_at dksX4_copy_0 18 rfl rfl)
theorem dX4_copy_19 : decode cX4_copy 19 = .ok (.getfield 9, 3) := dk_180 0 9 (dk_at dksX4_copy_0 19 rfl rfl)
theorem dX4_copy_22 : decode cX4_copy 22 = .ok (.arraylength, 1) := dk_190 (dk_at dksX4_copy_0 22 rfl rfl)
theorem dX4_copy_23 : decode cX4_copy 23 = .ok (.invokestatic 20, 3) := dk_184 0 20 (dk_at dksX4_copy_1 0 rfl rfl)
theorem dX4_copy_26 : decode cX4_copy 26 = .ok (.aload_n 0, 1) := dk_42 (dk_at dksX4_copy_1 3 rfl rfl)
theorem dX4_copy_27 : decode cX4_copy 27 = .ok (.getfield 15, 3) := dk_180 0 15 (dk_at dksX4_copy_1 4 rfl rfl)
theorem dX4_copy_30 : decode cX4_copy 30 = .ok (.iconst 0, 1) := dk_3 (dk_at dksX4_copy_1 7 rfl rfl)
theorem dX4_copy_31 : decode cX4_copy 31 = .ok (.aload_n 1, 1) := dk_43 (dk_at dksX4_copy_1 8 rfl rfl)
theorem dX4_copy_32 : decode cX4_copy 32 = .ok (.getfield 15, 3) := dk_180 0 15 (dk_at dksX4_copy_1 9 rfl rfl)
theorem dX4_copy_35 : decode cX4_copy 35 = .ok (.iconst 0, 1) := dk_3 (dk_at dksX4_copy_1 12 rfl rfl)
theorem dX4_copy_36 : decode cX4_copy 36 = .ok (.bipush 7, 2) := dk_16 7 (dk_at dksX4_copy_1 13 rfl rfl)
theorem dX4_copy_38 : decode cX4_copy 38 = .ok (.invokestatic 20, 3) := dk_184 0 20 (dk_at dksX4_copy_1 15 rfl rfl)
theorem dX4_copy_41 : decode cX4_copy 41 = .ok (.aload_n 1, 1) := dk_43 (dk_at dksX4_copy_1 18 rfl rfl)
theorem dX4_copy_42 : decode cX4_copy 42 = .ok (.areturn, 1) := dk_176 (dk_at dksX4_copy_1 19 rfl rfl)
abbrev cX4_init : ByteArray := prog_23_method_1_code
def yX4_init : MethodName := ⟨RX4, "<init>", "()V"⟩
def dkwX4_init_0 : List UInt8 := [42, 183, 0, 3, 42, 16, 35, 188, 11, 181, 0, 9, 42, 16, 7, 188, 4, 181, 0, 15, 177]
abbrev dktX4_init_0 : List UInt8 := dkwX4_init_0 ++ []
theorem dksX4_init_0 : cX4_init.data.toList.drop 0 = dktX4_init_0 := by decide +kernel
theorem dX4_init_0 : decode cX4_init 0 = .ok (.aload_n 0, 1) := dk_42 (dk_at dksX4_init_0 0 rfl rfl)
theorem dX4_init_1 : decode cX4_init 1 = .ok (.invokespecial 3, 3) := dk_183 0 3 (dk_at dksX4_init_0 1 rfl rfl)
theorem dX4_init_4 : decode cX4_init 4 = .ok (.aload_n 0, 1) := dk_42 (dk_at dksX4_init_0 4 rfl rfl)
theorem dX4_init_5 : decode cX4_init 5 = .ok (.bipush 35, 2) := dk_16 35 (dk_at dksX4_init_0 5 rfl rfl)
theorem dX4_init_7 : decode cX4_init 7 = .ok (.newarray .long, 2) := dk_188_11 (dk_at dksX4_init_0 7 rfl rfl)
theorem dX4_init_9 : decode cX4_init 9 = .ok (.putfield 9, 3) := dk_181 0 9 (dk_at dksX4_init_0 9 rfl rfl)
theorem dX4_init_12 : decode cX4_init 12 = .ok (.aload_n 0, 1) := dk_42 (dk_at dksX4_init_0 12 rfl rfl)
theorem dX4_init_13 : decode cX4_init 13 = .ok (.bipush 7, 2) := dk_16 7 (dk_at dksX4_init_0 13 rfl rfl)
theorem dX4_init_15 : decode cX4_init 15 = .ok (.newarray .boolean, 2) := dk_188_4 (dk_at dksX4_init_0 15 rfl rfl)
theorem dX4_init_17 : decode cX4_init 17 = .ok (.putfield 15, 3) := dk_181 0 15 (dk_at dksX4_init_0 17 rfl rfl)
theorem dX4_init_20 : decode cX4_init 20 = .ok (.return_, 1) := dk_177 (dk_at dksX4_init_0 20 rfl rfl)
theorem q114 : (Jvm.Cond.initialized "WeirfoldLane$View") ∈ lw_all := lw_g (lw_at lw_m1 21 rfl) rfl
theorem q529 : (Jvm.Cond.selects "WeirfoldLane$View" ({ cls := "java/lang/Object", name := "getClass", desc := "()Ljava/lang/Class;" } : Jvm.MethodName) ({ cls := "java/lang/Object", name := "getClass", desc := "()Ljava/lang/Class;" } : Jvm.MethodName)) ∈ lw_all := lw_g (lw_at lw_m2 196 rfl) rfl
theorem q562 : (Jvm.Cond.instanceMethod ({ cls := "WeirfoldLane$View", name := "copy", desc := "()LWeirfoldLane$View;" } : Jvm.MethodName)) ∈ lw_all := lw_g (lw_at lw_m2 229 rfl) rfl
theorem q563 : (Jvm.Cond.selects "WeirfoldLane$View" ({ cls := "WeirfoldLane$View", name := "copy", desc := "()LWeirfoldLane$View;" } : Jvm.MethodName) ({ cls := "WeirfoldLane$View", name := "copy", desc := "()LWeirfoldLane$View;" } : Jvm.MethodName)) ∈ lw_all := lw_g (lw_at lw_m2 230 rfl) rfl
theorem q564 : (Jvm.Cond.code ({ cls := "WeirfoldLane$View", name := "copy", desc := "()LWeirfoldLane$View;" } : Jvm.MethodName) prog_23_method_2_code (2 : Nat) (Option.some (Jvm.ClassFile.FieldType.object "WeirfoldLane$View"))) ∈ lw_all := lw_g (lw_at lw_m2 231 rfl) rfl
theorem q565 : (Jvm.Cond.classLink "WeirfoldLane$View" (10 : Nat) "WeirfoldLane$View") ∈ lw_all := lw_g (lw_at lw_m2 232 rfl) rfl
theorem q566 : (Jvm.Cond.instantiable "WeirfoldLane$View" (2 : Nat)) ∈ lw_all := lw_g (lw_at lw_m2 233 rfl) rfl
theorem q567 : (Jvm.Cond.methodLink "WeirfoldLane$View" (19 : Nat) ({ cls := "WeirfoldLane$View", name := "<init>", desc := "()V" } : Jvm.MethodName)) ∈ lw_all := lw_g (lw_at lw_m2 234 rfl) rfl
theorem q568 : (Jvm.Cond.instanceMethod ({ cls := "WeirfoldLane$View", name := "<init>", desc := "()V" } : Jvm.MethodName)) ∈ lw_all := lw_g (lw_at lw_m2 235 rfl) rfl
theorem q569 : (Jvm.Cond.code ({ cls := "WeirfoldLane$View", name := "<init>", desc := "()V" } : Jvm.MethodName) prog_23_method_1_code (1 : Nat) (Option.none : Option Jvm.ClassFile.FieldType)) ∈ lw_all := lw_g (lw_at lw_m2 236 rfl) rfl
theorem q570 : (Jvm.Cond.methodLink "WeirfoldLane$View" (3 : Nat) ({ cls := "java/lang/Object", name := "<init>", desc := "()V" } : Jvm.MethodName)) ∈ lw_all := lw_g (lw_at lw_m2 237 rfl) rfl
theorem q571 : (Jvm.Cond.fieldLink "WeirfoldLane$View" (9 : Nat) "WeirfoldLane$View" "numbers" "[J") ∈ lw_all := lw_g (lw_at lw_m2 238 rfl) rfl
theorem q574 : (Jvm.Cond.fieldLink "WeirfoldLane$View" (15 : Nat) "WeirfoldLane$View" "isStale" "[Z") ∈ lw_all := lw_g (lw_at lw_m3 1 rfl) rfl
theorem q577 : (Jvm.Cond.laysFinal "WeirfoldLane$View" "WeirfoldLane$View" "numbers" "[J") ∈ lw_all := lw_g (lw_at lw_m3 4 rfl) rfl
theorem q578 : (Jvm.Cond.soleField "WeirfoldLane$View" "numbers") ∈ lw_all := lw_g (lw_at lw_m3 5 rfl) rfl
theorem q579 : (Jvm.Cond.laysFinal "WeirfoldLane$View" "WeirfoldLane$View" "isStale" "[Z") ∈ lw_all := lw_g (lw_at lw_m3 6 rfl) rfl
theorem q580 : (Jvm.Cond.soleField "WeirfoldLane$View" "isStale") ∈ lw_all := lw_g (lw_at lw_m3 7 rfl) rfl
theorem q581 : (Jvm.Cond.superclass "WeirfoldLane$View" "java/lang/Object") ∈ lw_all := lw_g (lw_at lw_m3 8 rfl) rfl
theorem q584 : (Jvm.Cond.methodLink "WeirfoldLane$View" (20 : Nat) ({ cls := "java/lang/System", name := "arraycopy", desc := "(Ljava/lang/Object;ILjava/lang/Object;II)V" } : Jvm.MethodName)) ∈ lw_all := lw_g (lw_at lw_m3 11 rfl) rfl
theorem q639 : (Jvm.Cond.selects "WeirfoldLane$View" ({ cls := "java/lang/Object", name := "equals", desc := "(Ljava/lang/Object;)Z" } : Jvm.MethodName) ({ cls := "java/lang/Object", name := "equals", desc := "(Ljava/lang/Object;)Z" } : Jvm.MethodName)) ∈ lw_all := lw_g (lw_at lw_m3 66 rfl) rfl
theorem q3309 : (Jvm.Cond.castable "WeirfoldLane$View" "java/lang/Object") ∈ lw_tbl := lw_at lw_m14 96 rfl
theorem in_X4 : ∀ w ∈ wsX40, w ∈ lw_all := lw_in wsX40 [577, 579] (by decide +kernel) (by decide +kernel)

/-! WeirfoldLane$Change -/
set_option maxRecDepth 100000
def RX5 : String := "WeirfoldLane$Change"
def TX5 : u_T := fun k => match k with
  | 0 => ("WeirfoldLane$Change", "word", "Ljava/lang/String;", true)
  | 1 => ("WeirfoldLane$Change", "sign", "C", true)
  | 2 => ("WeirfoldLane$Change", "first", "I", true)
  | _ => ("WeirfoldLane$Change", "second", "I", true)
def tyX5 : Nat → FieldType := fun k => match k with
  | 0 => .object "java/lang/String"
  | 1 => .char
  | 2 => .int
  | _ => .int
abbrev wsX50 : List Cond := u_ws RX5 TX5 4
theorem nmX5 : ∀ a, a < 4 → ∀ b, b < 4 → a ≠ b → (TX5 a).2.1 ≠ (TX5 b).2.1 := by decide +kernel
theorem tyX5_ok : ∀ k, k < 4 → parseFieldDescriptor (TX5 k).2.2.1 = some (tyX5 k) := by decide +kernel
abbrev cX5_init : ByteArray := prog_5_method_1_code
def yX5_init : MethodName := ⟨RX5, "<init>", "(Ljava/lang/String;CII)V"⟩
def dkwX5_init_1 : List UInt8 := [181, 0, 21, 177]
abbrev dktX5_init_1 : List UInt8 := dkwX5_init_1 ++ []
def dkwX5_init_0 : List UInt8 := [42, 183, 0, 1, 42, 43, 181, 0, 7, 42, 28, 181, 0, 13, 42, 29, 181, 0, 17, 42, 21, 4]
abbrev dktX5_init_0 : List UInt8 := dkwX5_init_0 ++ dktX5_init_1
theorem dksX5_init_0 : cX5_init.data.toList.drop 0 = dktX5_init_0 := by decide +kernel
theorem dksX5_init_1 : cX5_init.data.toList.drop 22 = dktX5_init_1 := dk_seg dksX5_init_0 22 rfl rfl
theorem dX5_init_0 : decode cX5_init 0 = .ok (.aload_n 0, 1) := dk_42 (dk_at dksX5_init_0 0 rfl rfl)
theorem dX5_init_1 : decode cX5_init 1 = .ok (.invokespecial 1, 3) := dk_183 0 1 (dk_at dksX5_init_0 1 rfl rfl)
theorem dX5_init_4 : decode cX5_init 4 = .ok (.aload_n 0, 1) := dk_42 (dk_at dksX5_init_0 4 rfl rfl)
theorem dX5_init_5 : decode cX5_init 5 = .ok (.aload_n 1, 1) := dk_43 (dk_at dksX5_init_0 5 rfl rfl)
theorem dX5_init_6 : decode cX5_init 6 = .ok (.putfield 7, 3) := dk_181 0 7 (dk_at dksX5_init_0 6 rfl rfl)
theorem dX5_init_9 : decode cX5_init 9 = .ok (.aload_n 0, 1) := dk_42 (dk_at dksX5_init_0 9 rfl rfl)
theorem dX5_init_10 : decode cX5_init 10 = .ok (.iload_n 2, 1) := dk_28 (dk_at dksX5_init_0 10 rfl rfl)
theorem dX5_init_11 : decode cX5_init 11 = .ok (.putfield 13, 3) := dk_181 0 13 (dk_at dksX5_init_0 11 rfl rfl)
theorem dX5_init_14 : decode cX5_init 14 = .ok (.aload_n 0, 1) := dk_42 (dk_at dksX5_init_0 14 rfl rfl)
theorem dX5_init_15 : decode cX5_init 15 = .ok (.iload_n 3, 1) := dk_29 (dk_at dksX5_init_0 15 rfl rfl)
theorem dX5_init_16 : decode cX5_init 16 = .ok (.putfield 17, 3) := dk_181 0 17 (dk_at dksX5_init_0 16 rfl rfl)
theorem dX5_init_19 : decode cX5_init 19 = .ok (.aload_n 0, 1) := dk_42 (dk_at dksX5_init_0 19 rfl rfl)
theorem dX5_init_20 : decode cX5_init 20 = .ok (.iload 4, 2) := dk_21 4 (dk_at dksX5_init_0 20 rfl rfl)
theorem dX5_init_22 : decode cX5_init 22 = .ok (.putfield 21, 3) := dk_181 0 21 (dk_at dksX5_init_1 0 rfl rfl)
theorem dX5_init_25 : decode cX5_init 25 = .ok (.return_, 1) := dk_177 (dk_at dksX5_init_1 3 rfl rfl)
abbrev cX5_apply : ByteArray := prog_5_method_2_code
def yX5_apply : MethodName := ⟨RX5, "apply", "(LWeirfoldLane$Lane;)I"⟩
def dkwX5_apply_13 : List UInt8 := [182, 0, 80, 172]
abbrev dktX5_apply_13 : List UInt8 := dkwX5_apply_13 ++ []
def dkwX5_apply_12 : List UInt8 := [182, 0, 73, 167, 0, 22, 43, 42, 180, 0, 17, 182, 0, 77, 167, 0, 11, 43, 42, 180, 0, 17]
abbrev dktX5_apply_12 : List UInt8 := dkwX5_apply_12 ++ dktX5_apply_13
def dkwX5_apply_11 : List UInt8 := [167, 0, 48, 43, 42, 180, 0, 17, 182, 0, 70, 167, 0, 37, 43, 42, 180, 0, 17, 42, 180, 0, 21]
abbrev dktX5_apply_11 : List UInt8 := dkwX5_apply_11 ++ dktX5_apply_12
def dkwX5_apply_10 : List UInt8 := [182, 0, 63, 167, 0, 67, 43, 42, 180, 0, 13, 42, 180, 0, 17, 42, 180, 0, 21, 182, 0, 67]
abbrev dktX5_apply_10 : List UInt8 := dkwX5_apply_10 ++ dktX5_apply_11
def dkwX5_apply_9 : List UInt8 := [182, 0, 56, 167, 0, 89, 43, 182, 0, 60, 167, 0, 82, 43, 42, 180, 0, 13, 42, 180, 0, 17]
abbrev dktX5_apply_9 : List UInt8 := dkwX5_apply_9 ++ dktX5_apply_10
def dkwX5_apply_8 : List UInt8 := [43, 42, 180, 0, 13, 42, 180, 0, 17, 42, 180, 0, 21, 182, 0, 50, 167, 0, 100, 43, 42, 180, 0, 17]
abbrev dktX5_apply_8 : List UInt8 := dkwX5_apply_8 ++ dktX5_apply_9
def dkwX5_apply_7 : List UInt8 := [170, 0, 0, 0, 0, 0, 0, 156, 0, 0, 0, 0, 0, 0, 0, 7, 0, 0, 0, 48, 0, 0, 0, 67, 0, 0, 0, 78, 0, 0, 0, 85, 0, 0, 0, 100, 0, 0, 0, 119, 0, 0, 0, 130, 0, 0, 0, 145]
abbrev dktX5_apply_7 : List UInt8 := dkwX5_apply_7 ++ dktX5_apply_8
def dkwX5_apply_6 : List UInt8 := [62, 167, 0, 15, 44, 18, 48, 182, 0, 32, 153, 0, 6, 16, 7, 62, 29]
abbrev dktX5_apply_6 : List UInt8 := dkwX5_apply_6 ++ dktX5_apply_7
def dkwX5_apply_5 : List UInt8 := [18, 44, 182, 0, 32, 153, 0, 35, 8, 62, 167, 0, 30, 44, 18, 46, 182, 0, 32, 153, 0, 21, 16, 6]
abbrev dktX5_apply_5 : List UInt8 := dkwX5_apply_5 ++ dktX5_apply_6
def dkwX5_apply_4 : List UInt8 := [153, 0, 63, 6, 62, 167, 0, 58, 44, 18, 42, 182, 0, 32, 153, 0, 49, 7, 62, 167, 0, 44, 44]
abbrev dktX5_apply_4 : List UInt8 := dkwX5_apply_4 ++ dktX5_apply_5
def dkwX5_apply_3 : List UInt8 := [62, 167, 0, 86, 44, 18, 38, 182, 0, 32, 153, 0, 77, 5, 62, 167, 0, 72, 44, 18, 40, 182, 0, 32]
abbrev dktX5_apply_3 : List UInt8 := dkwX5_apply_3 ++ dktX5_apply_4
def dkwX5_apply_2 : List UInt8 := [44, 18, 30, 182, 0, 32, 153, 0, 105, 3, 62, 167, 0, 100, 44, 18, 36, 182, 0, 32, 153, 0, 91, 4]
abbrev dktX5_apply_2 : List UInt8 := dkwX5_apply_2 ++ dktX5_apply_3
def dkwX5_apply_1 : List UInt8 := [171, 0, 0, 0, 184, 0, 0, 0, 8, 0, 1, 130, 66, 0, 0, 0, 172, 0, 1, 185, 218, 0, 0, 0, 73, 0, 1, 186, 139, 0, 0, 0, 143, 0, 46, 6, 209, 0, 0, 0, 115, 0, 48, 128, 159, 0, 0, 0, 87, 0, 50, 43, 133, 0, 0, 0, 157, 0, 51, 138, 243, 0, 0, 0, 101, 0, 52, 98, 218, 0, 0, 0, 129]
abbrev dktX5_apply_1 : List UInt8 := dkwX5_apply_1 ++ dktX5_apply_2
def dkwX5_apply_0 : List UInt8 := [42, 180, 0, 7, 77, 2, 62, 44, 182, 0, 24]
abbrev dktX5_apply_0 : List UInt8 := dkwX5_apply_0 ++ dktX5_apply_1
theorem dksX5_apply_0 : cX5_apply.data.toList.drop 0 = dktX5_apply_0 := by decide +kernel
theorem dksX5_apply_1 : cX5_apply.data.toList.drop 11 = dktX5_apply_1 := dk_seg dksX5_apply_0 11 rfl rfl
theorem dksX5_apply_2 : cX5_apply.data.toList.drop 84 = dktX5_apply_2 := dk_seg dksX5_apply_1 73 rfl rfl
theorem dksX5_apply_3 : cX5_apply.data.toList.drop 108 = dktX5_apply_3 := dk_seg dksX5_apply_2 24 rfl rfl
theorem dksX5_apply_4 : cX5_apply.data.toList.drop 132 = dktX5_apply_4 := dk_seg dksX5_apply_3 24 rfl rfl
theorem dksX5_apply_5 : cX5_apply.data.toList.drop 155 = dktX5_apply_5 := dk_seg dksX5_apply_4 23 rfl rfl
theorem dksX5_apply_6 : cX5_apply.data.toList.drop 179 = dktX5_apply_6 := dk_seg dksX5_apply_5 24 rfl rfl
theorem dksX5_apply_7 : cX5_apply.data.toList.drop 196 = dktX5_apply_7 := dk_seg dksX5_apply_6 17 rfl rfl
theorem dksX5_apply_8 : cX5_apply.data.toList.drop 244 = dktX5_apply_8 := dk_seg dksX5_apply_7 48 rfl rfl
theorem dksX5_apply_9 : cX5_apply.data.toList.drop 268 = dktX5_apply_9 := dk_seg dksX5_apply_8 24 rfl rfl
theorem dksX5_apply_10 : cX5_apply.data.toList.drop 290 = dktX5_apply_10 := dk_seg dksX5_apply_9 22 rfl rfl
theorem dksX5_apply_11 : cX5_apply.data.toList.drop 312 = dktX5_apply_11 := dk_seg dksX5_apply_10 22 rfl rfl
theorem dksX5_apply_12 : cX5_apply.data.toList.drop 335 = dktX5_apply_12 := dk_seg dksX5_apply_11 23 rfl rfl
theorem dksX5_apply_13 : cX5_apply.data.toList.drop 357 = dktX5_apply_13 := dk_seg dksX5_apply_12 22 rfl rfl
theorem dX5_apply_0 : decode cX5_apply 0 = .ok (.aload_n 0, 1) := dk_42 (dk_at dksX5_apply_0 0 rfl rfl)
theorem dX5_apply_1 : decode cX5_apply 1 = .ok (.getfield 7, 3) := dk_180 0 7 (dk_at dksX5_apply_0 1 rfl rfl)
theorem dX5_apply_4 : decode cX5_apply 4 = .ok (.astore_n 2, 1) := dk_77 (dk_at dksX5_apply_0 4 rfl rfl)
theorem dX5_apply_5 : decode cX5_apply 5 = .ok (.iconst (-1), 1) := dk_2 (dk_at dksX5_apply_0 5 rfl rfl)
theorem dX5_apply_6 : decode cX5_apply 6 = .ok (.istore_n 3, 1) := dk_62 (dk_at dksX5_apply_0 6 rfl rfl)
theorem dX5_apply_7 : decode cX5_apply 7 = .ok (.aload_n 2, 1) := dk_44 (dk_at dksX5_apply_0 7 rfl rfl)
theorem dX5_apply_8 : decode cX5_apply 8 = .ok (.invokevirtual 24, 3) := dk_182 0 24 (dk_at dksX5_apply_0 8 rfl rfl)
theorem dX5_apply_11 : decode cX5_apply 11 = .ok (.lookupswitch 184 #[(98882, 172), (113114, 73), (113291, 143), (3016401, 115), (3178655, 87), (3287941, 157), (3377907, 101), (3433178, 129)], 73) := by decide +kernel
theorem dX5_apply_84 : decode cX5_apply 84 = .ok (.aload_n 2, 1) := dk_44 (dk_at dksX5_apply_2 0 rfl rfl)
theorem dX5_apply_85 : decode cX5_apply 85 = .ok (.ldc 30, 2) := dk_18 30 (dk_at dksX5_apply_2 1 rfl rfl)
theorem dX5_apply_87 : decode cX5_apply 87 = .ok (.invokevirtual 32, 3) := dk_182 0 32 (dk_at dksX5_apply_2 3 rfl rfl)
theorem dX5_apply_90 : decode cX5_apply 90 = .ok (.ifCond .eq 105, 3) := dk_153 0 105 (dk_at dksX5_apply_2 6 rfl rfl)
theorem dX5_apply_93 : decode cX5_apply 93 = .ok (.iconst 0, 1) := dk_3 (dk_at dksX5_apply_2 9 rfl rfl)
theorem dX5_apply_94 : decode cX5_apply 94 = .ok (.istore_n 3, 1) := dk_62 (dk_at dksX5_apply_2 10 rfl rfl)
theorem dX5_apply_95 : decode cX5_apply 95 = .ok (.goto 100, 3) := dk_167 0 100 (dk_at dksX5_apply_2 11 rfl rfl)
theorem dX5_apply_98 : decode cX5_apply 98 = .ok (.aload_n 2, 1) := dk_44 (dk_at dksX5_apply_2 14 rfl rfl)
theorem dX5_apply_99 : decode cX5_apply 99 = .ok (.ldc 36, 2) := dk_18 36 (dk_at dksX5_apply_2 15 rfl rfl)
theorem dX5_apply_101 : decode cX5_apply 101 = .ok (.invokevirtual 32, 3) := dk_182 0 32 (dk_at dksX5_apply_2 17 rfl rfl)
theorem dX5_apply_104 : decode cX5_apply 104 = .ok (.ifCond .eq 91, 3) := dk_153 0 91 (dk_at dksX5_apply_2 20 rfl rfl)
theorem dX5_apply_107 : decode cX5_apply 107 = .ok (.iconst 1, 1) := dk_4 (dk_at dksX5_apply_2 23 rfl rfl)
theorem dX5_apply_108 : decode cX5_apply 108 = .ok (.istore_n 3, 1) := dk_62 (dk_at dksX5_apply_3 0 rfl rfl)
theorem dX5_apply_109 : decode cX5_apply 109 = .ok (.goto 86, 3) := dk_167 0 86 (dk_at dksX5_apply_3 1 rfl rfl)
theorem dX5_apply_112 : decode cX5_apply 112 = .ok (.aload_n 2, 1) := dk_44 (dk_at dksX5_apply_3 4 rfl rfl)
theorem dX5_apply_113 : decode cX5_apply 113 = .ok (.ldc 38, 2) := dk_18 38 (dk_at dksX5_apply_3 5 rfl rfl)
theorem dX5_apply_115 : decode cX5_apply 115 = .ok (.invokevirtual 32, 3) := dk_182 0 32 (dk_at dksX5_apply_3 7 rfl rfl)
theorem dX5_apply_118 : decode cX5_apply 118 = .ok (.ifCond .eq 77, 3) := dk_153 0 77 (dk_at dksX5_apply_3 10 rfl rfl)
theorem dX5_apply_121 : decode cX5_apply 121 = .ok (.iconst 2, 1) := dk_5 (dk_at dksX5_apply_3 13 rfl rfl)
theorem dX5_apply_122 : decode cX5_apply 122 = .ok (.istore_n 3, 1) := dk_62 (dk_at dksX5_apply_3 14 rfl rfl)
theorem dX5_apply_123 : decode cX5_apply 123 = .ok (.goto 72, 3) := dk_167 0 72 (dk_at dksX5_apply_3 15 rfl rfl)
theorem dX5_apply_126 : decode cX5_apply 126 = .ok (.aload_n 2, 1) := dk_44 (dk_at dksX5_apply_3 18 rfl rfl)
theorem dX5_apply_127 : decode cX5_apply 127 = .ok (.ldc 40, 2) := dk_18 40 (dk_at dksX5_apply_3 19 rfl rfl)
theorem dX5_apply_129 : decode cX5_apply 129 = .ok (.invokevirtual 32, 3) := dk_182 0 32 (dk_at dksX5_apply_3 21 rfl rfl)
theorem dX5_apply_132 : decode cX5_apply 132 = .ok (.ifCond .eq 63, 3) := dk_153 0 63 (dk_at dksX5_apply_4 0 rfl rfl)
theorem dX5_apply_135 : decode cX5_apply 135 = .ok (.iconst 3, 1) := dk_6 (dk_at dksX5_apply_4 3 rfl rfl)
theorem dX5_apply_136 : decode cX5_apply 136 = .ok (.istore_n 3, 1) := dk_62 (dk_at dksX5_apply_4 4 rfl rfl)
theorem dX5_apply_137 : decode cX5_apply 137 = .ok (.goto 58, 3) := dk_167 0 58 (dk_at dksX5_apply_4 5 rfl rfl)
theorem dX5_apply_140 : decode cX5_apply 140 = .ok (.aload_n 2, 1) := dk_44 (dk_at dksX5_apply_4 8 rfl rfl)
theorem dX5_apply_141 : decode cX5_apply 141 = .ok (.ldc 42, 2) := dk_18 42 (dk_at dksX5_apply_4 9 rfl rfl)
theorem dX5_apply_143 : decode cX5_apply 143 = .ok (.invokevirtual 32, 3) := dk_182 0 32 (dk_at dksX5_apply_4 11 rfl rfl)
theorem dX5_apply_146 : decode cX5_apply 146 = .ok (.ifCond .eq 49, 3) := dk_153 0 49 (dk_at dksX5_apply_4 14 rfl rfl)
theorem dX5_apply_149 : decode cX5_apply 149 = .ok (.iconst 4, 1) := dk_7 (dk_at dksX5_apply_4 17 rfl rfl)
theorem dX5_apply_150 : decode cX5_apply 150 = .ok (.istore_n 3, 1) := dk_62 (dk_at dksX5_apply_4 18 rfl rfl)
theorem dX5_apply_151 : decode cX5_apply 151 = .ok (.goto 44, 3) := dk_167 0 44 (dk_at dksX5_apply_4 19 rfl rfl)
theorem dX5_apply_154 : decode cX5_apply 154 = .ok (.aload_n 2, 1) := dk_44 (dk_at dksX5_apply_4 22 rfl rfl)
theorem dX5_apply_155 : decode cX5_apply 155 = .ok (.ldc 44, 2) := dk_18 44 (dk_at dksX5_apply_5 0 rfl rfl)
theorem dX5_apply_157 : decode cX5_apply 157 = .ok (.invokevirtual 32, 3) := dk_182 0 32 (dk_at dksX5_apply_5 2 rfl rfl)
theorem dX5_apply_160 : decode cX5_apply 160 = .ok (.ifCond .eq 35, 3) := dk_153 0 35 (dk_at dksX5_apply_5 5 rfl rfl)
theorem dX5_apply_163 : decode cX5_apply 163 = .ok (.iconst 5, 1) := dk_8 (dk_at dksX5_apply_5 8 rfl rfl)
theorem dX5_apply_164 : decode cX5_apply 164 = .ok (.istore_n 3, 1) := dk_62 (dk_at dksX5_apply_5 9 rfl rfl)
theorem dX5_apply_165 : decode cX5_apply 165 = .ok (.goto 30, 3) := dk_167 0 30 (dk_at dksX5_apply_5 10 rfl rfl)
theorem dX5_apply_168 : decode cX5_apply 168 = .ok (.aload_n 2, 1) := dk_44 (dk_at dksX5_apply_5 13 rfl rfl)
theorem dX5_apply_169 : decode cX5_apply 169 = .ok (.ldc 46, 2) := dk_18 46 (dk_at dksX5_apply_5 14 rfl rfl)
theorem dX5_apply_171 : decode cX5_apply 171 = .ok (.invokevirtual 32, 3) := dk_182 0 32 (dk_at dksX5_apply_5 16 rfl rfl)
theorem dX5_apply_174 : decode cX5_apply 174 = .ok (.ifCond .eq 21, 3) := dk_153 0 21 (dk_at dksX5_apply_5 19 rfl rfl)
theorem dX5_apply_177 : decode cX5_apply 177 = .ok (.bipush 6, 2) := dk_16 6 (dk_at dksX5_apply_5 22 rfl rfl)
theorem dX5_apply_179 : decode cX5_apply 179 = .ok (.istore_n 3, 1) := dk_62 (dk_at dksX5_apply_6 0 rfl rfl)
theorem dX5_apply_180 : decode cX5_apply 180 = .ok (.goto 15, 3) := dk_167 0 15 (dk_at dksX5_apply_6 1 rfl rfl)
theorem dX5_apply_183 : decode cX5_apply 183 = .ok (.aload_n 2, 1) := dk_44 (dk_at dksX5_apply_6 4 rfl rfl)
theorem dX5_apply_184 : decode cX5_apply 184 = .ok (.ldc 48, 2) := dk_18 48 (dk_at dksX5_apply_6 5 rfl rfl)
theorem dX5_apply_186 : decode cX5_apply 186 = .ok (.invokevirtual 32, 3) := dk_182 0 32 (dk_at dksX5_apply_6 7 rfl rfl)
theorem dX5_apply_189 : decode cX5_apply 189 = .ok (.ifCond .eq 6, 3) := dk_153 0 6 (dk_at dksX5_apply_6 10 rfl rfl)
theorem dX5_apply_192 : decode cX5_apply 192 = .ok (.bipush 7, 2) := dk_16 7 (dk_at dksX5_apply_6 13 rfl rfl)
theorem dX5_apply_194 : decode cX5_apply 194 = .ok (.istore_n 3, 1) := dk_62 (dk_at dksX5_apply_6 15 rfl rfl)
theorem dX5_apply_195 : decode cX5_apply 195 = .ok (.iload_n 3, 1) := dk_29 (dk_at dksX5_apply_6 16 rfl rfl)
theorem dX5_apply_196 : decode cX5_apply 196 = .ok (.tableswitch 156 0 7 #[48, 67, 78, 85, 100, 119, 130, 145], 48) := by decide +kernel
theorem dX5_apply_244 : decode cX5_apply 244 = .ok (.aload_n 1, 1) := dk_43 (dk_at dksX5_apply_8 0 rfl rfl)
theorem dX5_apply_245 : decode cX5_apply 245 = .ok (.aload_n 0, 1) := dk_42 (dk_at dksX5_apply_8 1 rfl rfl)
theorem dX5_apply_246 : decode cX5_apply 246 = .ok (.getfield 13, 3) := dk_180 0 13 (dk_at dksX5_apply_8 2 rfl rfl)
theorem dX5_apply_249 : decode cX5_apply 249 = .ok (.aload_n 0, 1) := dk_42 (dk_at dksX5_apply_8 5 rfl rfl)
theorem dX5_apply_250 : decode cX5_apply 250 = .ok (.getfield 17, 3) := dk_180 0 17 (dk_at dksX5_apply_8 6 rfl rfl)
theorem dX5_apply_253 : decode cX5_apply 253 = .ok (.aload_n 0, 1) := dk_42 (dk_at dksX5_apply_8 9 rfl rfl)
theorem dX5_apply_254 : decode cX5_apply 254 = .ok (.getfield 21, 3) := dk_180 0 21 (dk_at dksX5_apply_8 10 rfl rfl)
theorem dX5_apply_257 : decode cX5_apply 257 = .ok (.invokevirtual 50, 3) := dk_182 0 50 (dk_at dksX5_apply_8 13 rfl rfl)
theorem dX5_apply_260 : decode cX5_apply 260 = .ok (.goto 100, 3) := dk_167 0 100 (dk_at dksX5_apply_8 16 rfl rfl)
theorem dX5_apply_263 : decode cX5_apply 263 = .ok (.aload_n 1, 1) := dk_43 (dk_at dksX5_apply_8 19 rfl rfl)
theorem dX5_apply_264 : decode cX5_apply 264 = .ok (.aload_n 0, 1) := dk_42 (dk_at dksX5_apply_8 20 rfl rfl)
theorem dX5_apply_265 : decode cX5_apply 265 = .ok (.getfield 17, 3) := dk_180 0 17 (dk_at dksX5_apply_8 21 rfl rfl)
theorem dX5_apply_268 : decode cX5_apply 268 = .ok (.invokevirtual 56, 3) := dk_182 0 56 (dk_at dksX5_apply_9 0 rfl rfl)
theorem dX5_apply_271 : decode cX5_apply 271 = .ok (.goto 89, 3) := dk_167 0 89 (dk_at dksX5_apply_9 3 rfl rfl)
theorem dX5_apply_274 : decode cX5_apply 274 = .ok (.aload_n 1, 1) := dk_43 (dk_at dksX5_apply_9 6 rfl rfl)
theorem dX5_apply_275 : decode cX5_apply 275 = .ok (.invokevirtual 60, 3) := dk_182 0 60 (dk_at dksX5_apply_9 7 rfl rfl)
theorem dX5_apply_278 : decode cX5_apply 278 = .ok (.goto 82, 3) := dk_167 0 82 (dk_at dksX5_apply_9 10 rfl rfl)
theorem dX5_apply_281 : decode cX5_apply 281 = .ok (.aload_n 1, 1) := dk_43 (dk_at dksX5_apply_9 13 rfl rfl)
theorem dX5_apply_282 : decode cX5_apply 282 = .ok (.aload_n 0, 1) := dk_42 (dk_at dksX5_apply_9 14 rfl rfl)
theorem dX5_apply_283 : decode cX5_apply 283 = .ok (.getfield 13, 3) := dk_180 0 13 (dk_at dksX5_apply_9 15 rfl rfl)
theorem dX5_apply_286 : decode cX5_apply 286 = .ok (.aload_n 0, 1) := dk_42 (dk_at dksX5_apply_9 18 rfl rfl)
theorem dX5_apply_287 : decode cX5_apply 287 = .ok (.getfield 17, 3) := dk_180 0 17 (dk_at dksX5_apply_9 19 rfl rfl)
theorem dX5_apply_290 : decode cX5_apply 290 = .ok (.invokevirtual 63, 3) := dk_182 0 63 (dk_at dksX5_apply_10 0 rfl rfl)
theorem dX5_apply_293 : decode cX5_apply 293 = .ok (.goto 67, 3) := dk_167 0 67 (dk_at dksX5_apply_10 3 rfl rfl)
theorem dX5_apply_296 : decode cX5_apply 296 = .ok (.aload_n 1, 1) := dk_43 (dk_at dksX5_apply_10 6 rfl rfl)
theorem dX5_apply_297 : decode cX5_apply 297 = .ok (.aload_n 0, 1) := dk_42 (dk_at dksX5_apply_10 7 rfl rfl)
theorem dX5_apply_298 : decode cX5_apply 298 = .ok (.getfield 13, 3) := dk_180 0 13 (dk_at dksX5_apply_10 8 rfl rfl)
theorem dX5_apply_301 : decode cX5_apply 301 = .ok (.aload_n 0, 1) := dk_42 (dk_at dksX5_apply_10 11 rfl rfl)
theorem dX5_apply_302 : decode cX5_apply 302 = .ok (.getfield 17, 3) := dk_180 0 17 (dk_at dksX5_apply_10 12 rfl rfl)
theorem dX5_apply_305 : decode cX5_apply 305 = .ok (.aload_n 0, 1) := dk_42 (dk_at dksX5_apply_10 15 rfl rfl)
theorem dX5_apply_306 : decode cX5_apply 306 = .ok (.getfield 21, 3) := dk_180 0 21 (dk_at dksX5_apply_10 16 rfl rfl)
theorem dX5_apply_309 : decode cX5_apply 309 = .ok (.invokevirtual 67, 3) := dk_182 0 67 (dk_at dksX5_apply_10 19 rfl rfl)
theorem dX5_apply_312 : decode cX5_apply 312 = .ok (.goto 48, 3) := dk_167 0 48 (dk_at dksX5_apply_11 0 rfl rfl)
theorem dX5_apply_315 : decode cX5_apply 315 = .ok (.aload_n 1, 1) := dk_43 (dk_at dksX5_apply_11 3 rfl rfl)
theorem dX5_apply_316 : decode cX5_apply 316 = .ok (.aload_n 0, 1) := dk_42 (dk_at dksX5_apply_11 4 rfl rfl)
theorem dX5_apply_317 : decode cX5_apply 317 = .ok (.getfield 17, 3) := dk_180 0 17 (dk_at dksX5_apply_11 5 rfl rfl)
theorem dX5_apply_320 : decode cX5_apply 320 = .ok (.invokevirtual 70, 3) := dk_182 0 70 (dk_at dksX5_apply_11 8 rfl rfl)
theorem dX5_apply_323 : decode cX5_apply 323 = .ok (.goto 37, 3) := dk_167 0 37 (dk_at dksX5_apply_11 11 rfl rfl)
theorem dX5_apply_326 : decode cX5_apply 326 = .ok (.aload_n 1, 1) := dk_43 (dk_at dksX5_apply_11 14 rfl rfl)
theorem dX5_apply_327 : decode cX5_apply 327 = .ok (.aload_n 0, 1) := dk_42 (dk_at dksX5_apply_11 15 rfl rfl)
theorem dX5_apply_328 : decode cX5_apply 328 = .ok (.getfield 17, 3) := dk_180 0 17 (dk_at dksX5_apply_11 16 rfl rfl)
theorem dX5_apply_331 : decode cX5_apply 331 = .ok (.aload_n 0, 1) := dk_42 (dk_at dksX5_apply_11 19 rfl rfl)
theorem dX5_apply_332 : decode cX5_apply 332 = .ok (.getfield 21, 3) := dk_180 0 21 (dk_at dksX5_apply_11 20 rfl rfl)
theorem dX5_apply_335 : decode cX5_apply 335 = .ok (.invokevirtual 73, 3) := dk_182 0 73 (dk_at dksX5_apply_12 0 rfl rfl)
theorem dX5_apply_338 : decode cX5_apply 338 = .ok (.goto 22, 3) := dk_167 0 22 (dk_at dksX5_apply_12 3 rfl rfl)
theorem dX5_apply_341 : decode cX5_apply 341 = .ok (.aload_n 1, 1) := dk_43 (dk_at dksX5_apply_12 6 rfl rfl)
theorem dX5_apply_342 : decode cX5_apply 342 = .ok (.aload_n 0, 1) := dk_42 (dk_at dksX5_apply_12 7 rfl rfl)
theorem dX5_apply_343 : decode cX5_apply 343 = .ok (.getfield 17, 3) := dk_180 0 17 (dk_at dksX5_apply_12 8 rfl rfl)
theorem dX5_apply_346 : decode cX5_apply 346 = .ok (.invokevirtual 77, 3) := dk_182 0 77 (dk_at dksX5_apply_12 11 rfl rfl)
theorem dX5_apply_349 : decode cX5_apply 349 = .ok (.goto 11, 3) := dk_167 0 11 (dk_at dksX5_apply_12 14 rfl rfl)
theorem dX5_apply_352 : decode cX5_apply 352 = .ok (.aload_n 1, 1) := dk_43 (dk_at dksX5_apply_12 17 rfl rfl)
theorem dX5_apply_353 : decode cX5_apply 353 = .ok (.aload_n 0, 1) := dk_42 (dk_at dksX5_apply_12 18 rfl rfl)
theorem dX5_apply_354 : decode cX5_apply 354 = .ok (.getfield 17, 3) := dk_180 0 17 (dk_at dksX5_apply_12 19 rfl rfl)
theorem dX5_apply_357 : decode cX5_apply 357 = .ok (.invokevirtual 80, 3) := dk_182 0 80 (dk_at dksX5_apply_13 0 rfl rfl)
theorem dX5_apply_360 : decode cX5_apply 360 = .ok (.ireturn, 1) := dk_172 (dk_at dksX5_apply_13 3 rfl rfl)
theorem q115 : (Jvm.Cond.initialized "WeirfoldLane$Change") ∈ lw_all := lw_g (lw_at lw_m1 22 rfl) rfl
theorem q514 : (Jvm.Cond.selects "WeirfoldLane$Change" ({ cls := "java/lang/Object", name := "getClass", desc := "()Ljava/lang/Class;" } : Jvm.MethodName) ({ cls := "java/lang/Object", name := "getClass", desc := "()Ljava/lang/Class;" } : Jvm.MethodName)) ∈ lw_all := lw_g (lw_at lw_m2 181 rfl) rfl
theorem q624 : (Jvm.Cond.selects "WeirfoldLane$Change" ({ cls := "java/lang/Object", name := "equals", desc := "(Ljava/lang/Object;)Z" } : Jvm.MethodName) ({ cls := "java/lang/Object", name := "equals", desc := "(Ljava/lang/Object;)Z" } : Jvm.MethodName)) ∈ lw_all := lw_g (lw_at lw_m3 51 rfl) rfl
theorem q818 : (Jvm.Cond.instantiable "WeirfoldLane$Change" (4 : Nat)) ∈ lw_all := lw_g (lw_at lw_m4 5 rfl) rfl
theorem q820 : (Jvm.Cond.instanceMethod ({ cls := "WeirfoldLane$Change", name := "<init>", desc := "(Ljava/lang/String;CII)V" } : Jvm.MethodName)) ∈ lw_all := lw_g (lw_at lw_m4 7 rfl) rfl
theorem q821 : (Jvm.Cond.code ({ cls := "WeirfoldLane$Change", name := "<init>", desc := "(Ljava/lang/String;CII)V" } : Jvm.MethodName) prog_5_method_1_code (5 : Nat) (Option.none : Option Jvm.ClassFile.FieldType)) ∈ lw_all := lw_g (lw_at lw_m4 8 rfl) rfl
theorem q822 : (Jvm.Cond.methodLink "WeirfoldLane$Change" (1 : Nat) ({ cls := "java/lang/Object", name := "<init>", desc := "()V" } : Jvm.MethodName)) ∈ lw_all := lw_g (lw_at lw_m4 9 rfl) rfl
theorem q823 : (Jvm.Cond.fieldLink "WeirfoldLane$Change" (7 : Nat) "WeirfoldLane$Change" "word" "Ljava/lang/String;") ∈ lw_all := lw_g (lw_at lw_m4 10 rfl) rfl
theorem q824 : (Jvm.Cond.fieldLink "WeirfoldLane$Change" (13 : Nat) "WeirfoldLane$Change" "sign" "C") ∈ lw_all := lw_g (lw_at lw_m4 11 rfl) rfl
theorem q825 : (Jvm.Cond.fieldLink "WeirfoldLane$Change" (17 : Nat) "WeirfoldLane$Change" "first" "I") ∈ lw_all := lw_g (lw_at lw_m4 12 rfl) rfl
theorem q826 : (Jvm.Cond.fieldLink "WeirfoldLane$Change" (21 : Nat) "WeirfoldLane$Change" "second" "I") ∈ lw_all := lw_g (lw_at lw_m4 13 rfl) rfl
theorem q827 : (Jvm.Cond.laysFinal "WeirfoldLane$Change" "WeirfoldLane$Change" "word" "Ljava/lang/String;") ∈ lw_all := lw_g (lw_at lw_m4 14 rfl) rfl
theorem q828 : (Jvm.Cond.soleField "WeirfoldLane$Change" "word") ∈ lw_all := lw_g (lw_at lw_m4 15 rfl) rfl
theorem q829 : (Jvm.Cond.laysFinal "WeirfoldLane$Change" "WeirfoldLane$Change" "sign" "C") ∈ lw_all := lw_g (lw_at lw_m4 16 rfl) rfl
theorem q830 : (Jvm.Cond.soleField "WeirfoldLane$Change" "sign") ∈ lw_all := lw_g (lw_at lw_m4 17 rfl) rfl
theorem q831 : (Jvm.Cond.laysFinal "WeirfoldLane$Change" "WeirfoldLane$Change" "first" "I") ∈ lw_all := lw_g (lw_at lw_m4 18 rfl) rfl
theorem q832 : (Jvm.Cond.soleField "WeirfoldLane$Change" "first") ∈ lw_all := lw_g (lw_at lw_m4 19 rfl) rfl
theorem q833 : (Jvm.Cond.laysFinal "WeirfoldLane$Change" "WeirfoldLane$Change" "second" "I") ∈ lw_all := lw_g (lw_at lw_m4 20 rfl) rfl
theorem q834 : (Jvm.Cond.soleField "WeirfoldLane$Change" "second") ∈ lw_all := lw_g (lw_at lw_m4 21 rfl) rfl
theorem q835 : (Jvm.Cond.superclass "WeirfoldLane$Change" "java/lang/Object") ∈ lw_all := lw_g (lw_at lw_m4 22 rfl) rfl
theorem q837 : (Jvm.Cond.instanceMethod ({ cls := "WeirfoldLane$Change", name := "apply", desc := "(LWeirfoldLane$Lane;)I" } : Jvm.MethodName)) ∈ lw_all := lw_g (lw_at lw_m4 24 rfl) rfl
theorem q838 : (Jvm.Cond.selects "WeirfoldLane$Change" ({ cls := "WeirfoldLane$Change", name := "apply", desc := "(LWeirfoldLane$Lane;)I" } : Jvm.MethodName) ({ cls := "WeirfoldLane$Change", name := "apply", desc := "(LWeirfoldLane$Lane;)I" } : Jvm.MethodName)) ∈ lw_all := lw_g (lw_at lw_m4 25 rfl) rfl
theorem q839 : (Jvm.Cond.code ({ cls := "WeirfoldLane$Change", name := "apply", desc := "(LWeirfoldLane$Lane;)I" } : Jvm.MethodName) prog_5_method_2_code (4 : Nat) (Option.some Jvm.ClassFile.FieldType.int)) ∈ lw_all := lw_g (lw_at lw_m4 26 rfl) rfl
theorem q840 : (Jvm.Cond.methodLink "WeirfoldLane$Change" (24 : Nat) ({ cls := "java/lang/String", name := "hashCode", desc := "()I" } : Jvm.MethodName)) ∈ lw_all := lw_g (lw_at lw_m4 27 rfl) rfl
theorem q1118 : (Jvm.Cond.stringRef "WeirfoldLane$Change" (30 : Nat) "row") ∈ lw_tbl := lw_at lw_m5 65 rfl
theorem q1119 : (Jvm.Cond.methodLink "WeirfoldLane$Change" (32 : Nat) ({ cls := "java/lang/String", name := "equals", desc := "(Ljava/lang/Object;)Z" } : Jvm.MethodName)) ∈ lw_all := lw_g (lw_at lw_m5 66 rfl) rfl
theorem q1120 : (Jvm.Cond.stringRef "WeirfoldLane$Change" (36 : Nat) "gone") ∈ lw_tbl := lw_at lw_m5 67 rfl
theorem q1121 : (Jvm.Cond.stringRef "WeirfoldLane$Change" (38 : Nat) "next") ∈ lw_tbl := lw_at lw_m5 68 rfl
theorem q1122 : (Jvm.Cond.stringRef "WeirfoldLane$Change" (40 : Nat) "base") ∈ lw_tbl := lw_at lw_m5 69 rfl
theorem q1123 : (Jvm.Cond.stringRef "WeirfoldLane$Change" (42 : Nat) "pair") ∈ lw_tbl := lw_at lw_m5 70 rfl
theorem q1124 : (Jvm.Cond.stringRef "WeirfoldLane$Change" (44 : Nat) "run") ∈ lw_tbl := lw_at lw_m5 71 rfl
theorem q1125 : (Jvm.Cond.stringRef "WeirfoldLane$Change" (46 : Nat) "keep") ∈ lw_tbl := lw_at lw_m5 72 rfl
theorem q1126 : (Jvm.Cond.stringRef "WeirfoldLane$Change" (48 : Nat) "cut") ∈ lw_tbl := lw_at lw_m5 73 rfl
theorem q1127 : (Jvm.Cond.methodLink "WeirfoldLane$Change" (50 : Nat) ({ cls := "WeirfoldLane$Lane", name := "addRow", desc := "(CII)I" } : Jvm.MethodName)) ∈ lw_all := lw_g (lw_at lw_m5 74 rfl) rfl
theorem q1334 : (Jvm.Cond.methodLink "WeirfoldLane$Change" (56 : Nat) ({ cls := "WeirfoldLane$Lane", name := "removeRow", desc := "(I)I" } : Jvm.MethodName)) ∈ lw_all := lw_g (lw_at lw_m6 41 rfl) rfl
theorem q1396 : (Jvm.Cond.methodLink "WeirfoldLane$Change" (60 : Nat) ({ cls := "WeirfoldLane$Lane", name := "beginDay", desc := "()I" } : Jvm.MethodName)) ∈ lw_all := lw_g (lw_at lw_m6 103 rfl) rfl
theorem q1406 : (Jvm.Cond.methodLink "WeirfoldLane$Change" (63 : Nat) ({ cls := "WeirfoldLane$Lane", name := "addBase", desc := "(CI)I" } : Jvm.MethodName)) ∈ lw_all := lw_g (lw_at lw_m6 113 rfl) rfl
theorem q1500 : (Jvm.Cond.methodLink "WeirfoldLane$Change" (67 : Nat) ({ cls := "WeirfoldLane$Lane", name := "addPair", desc := "(CII)I" } : Jvm.MethodName)) ∈ lw_all := lw_g (lw_at lw_m6 207 rfl) rfl
theorem q1544 : (Jvm.Cond.methodLink "WeirfoldLane$Change" (70 : Nat) ({ cls := "WeirfoldLane$Lane", name := "addRunning", desc := "(I)I" } : Jvm.MethodName)) ∈ lw_all := lw_g (lw_at lw_m7 11 rfl) rfl
theorem q1562 : (Jvm.Cond.methodLink "WeirfoldLane$Change" (73 : Nat) ({ cls := "WeirfoldLane$Lane", name := "addBounded", desc := "(II)I" } : Jvm.MethodName)) ∈ lw_all := lw_g (lw_at lw_m7 29 rfl) rfl
theorem q1577 : (Jvm.Cond.methodLink "WeirfoldLane$Change" (77 : Nat) ({ cls := "WeirfoldLane$Lane", name := "removeStep", desc := "(I)I" } : Jvm.MethodName)) ∈ lw_all := lw_g (lw_at lw_m7 44 rfl) rfl
theorem q1605 : (Jvm.Cond.methodLink "WeirfoldLane$Change" (80 : Nat) ({ cls := "WeirfoldLane$Lane", name := "repair", desc := "(I)I" } : Jvm.MethodName)) ∈ lw_all := lw_g (lw_at lw_m7 72 rfl) rfl
theorem q3310 : (Jvm.Cond.castable "WeirfoldLane$Change" "java/lang/Object") ∈ lw_tbl := lw_at lw_m14 97 rfl
theorem in_X5 : ∀ w ∈ wsX50, w ∈ lw_all := lw_in wsX50 [827, 829, 831, 833] (by decide +kernel) (by decide +kernel)

/-! WeirfoldLane$Denial -/
set_option maxRecDepth 100000
def RX6 : String := "WeirfoldLane$Denial"
def TX6 : u_T := fun k => match k with
  | 0 => ("java/lang/Throwable", "cause", "Ljava/lang/Throwable;", false)
  | 1 => ("java/lang/Throwable", "stackTrace", "[Ljava/lang/StackTraceElement;", false)
  | 2 => ("java/lang/Throwable", "suppressedExceptions", "Ljava/util/List;", false)
  | 3 => ("java/lang/Throwable", "detailMessage", "Ljava/lang/String;", false)
  | 4 => ("java/lang/Throwable", "backtrace", "Ljava/lang/Object;", false)
  | 5 => ("java/lang/Throwable", "depth", "I", false)
  | 6 => ("WeirfoldLane$Denial", "number", "I", true)
  | _ => ("WeirfoldLane$Denial", "detail", "I", true)
def tyX6 : Nat → FieldType := fun k => match k with
  | 0 => .object "java/lang/Throwable"
  | 1 => .array (.object "java/lang/StackTraceElement")
  | 2 => .object "java/util/List"
  | 3 => .object "java/lang/String"
  | 4 => .object "java/lang/Object"
  | 5 => .int
  | 6 => .int
  | _ => .int
abbrev wsX60 : List Cond := u_ws RX6 TX6 8
theorem nmX6 : ∀ a, a < 8 → ∀ b, b < 8 → a ≠ b → (TX6 a).2.1 ≠ (TX6 b).2.1 := by decide +kernel
theorem tyX6_ok : ∀ k, k < 8 → parseFieldDescriptor (TX6 k).2.2.1 = some (tyX6 k) := by decide +kernel
abbrev cX6_init : ByteArray := prog_10_method_1_code
def yX6_init : MethodName := ⟨RX6, "<init>", "(II)V"⟩
def dkwX6_init_0 : List UInt8 := [42, 27, 28, 1, 183, 0, 1, 177]
abbrev dktX6_init_0 : List UInt8 := dkwX6_init_0 ++ []
theorem dksX6_init_0 : cX6_init.data.toList.drop 0 = dktX6_init_0 := by decide +kernel
theorem dX6_init_0 : decode cX6_init 0 = .ok (.aload_n 0, 1) := dk_42 (dk_at dksX6_init_0 0 rfl rfl)
theorem dX6_init_1 : decode cX6_init 1 = .ok (.iload_n 1, 1) := dk_27 (dk_at dksX6_init_0 1 rfl rfl)
theorem dX6_init_2 : decode cX6_init 2 = .ok (.iload_n 2, 1) := dk_28 (dk_at dksX6_init_0 2 rfl rfl)
theorem dX6_init_3 : decode cX6_init 3 = .ok (.aconst_null, 1) := dk_1 (dk_at dksX6_init_0 3 rfl rfl)
theorem dX6_init_4 : decode cX6_init 4 = .ok (.invokespecial 1, 3) := dk_183 0 1 (dk_at dksX6_init_0 4 rfl rfl)
theorem dX6_init_7 : decode cX6_init 7 = .ok (.return_, 1) := dk_177 (dk_at dksX6_init_0 7 rfl rfl)
abbrev cX6_init_2 : ByteArray := prog_10_method_2_code
def yX6_init_2 : MethodName := ⟨RX6, "<init>", "(IILWeirfoldLane$Denial;)V"⟩
def dkwX6_init_2_0 : List UInt8 := [42, 1, 45, 3, 3, 183, 0, 7, 42, 27, 181, 0, 12, 42, 28, 181, 0, 16, 177]
abbrev dktX6_init_2_0 : List UInt8 := dkwX6_init_2_0 ++ []
theorem dksX6_init_2_0 : cX6_init_2.data.toList.drop 0 = dktX6_init_2_0 := by decide +kernel
theorem dX6_init_2_0 : decode cX6_init_2 0 = .ok (.aload_n 0, 1) := dk_42 (dk_at dksX6_init_2_0 0 rfl rfl)
theorem dX6_init_2_1 : decode cX6_init_2 1 = .ok (.aconst_null, 1) := dk_1 (dk_at dksX6_init_2_0 1 rfl rfl)
theorem dX6_init_2_2 : decode cX6_init_2 2 = .ok (.aload_n 3, 1) := dk_45 (dk_at dksX6_init_2_0 2 rfl rfl)
theorem dX6_init_2_3 : decode cX6_init_2 3 = .ok (.iconst 0, 1) := dk_3 (dk_at dksX6_init_2_0 3 rfl rfl)
theorem dX6_init_2_4 : decode cX6_init_2 4 = .ok (.iconst 0, 1) := dk_3 (dk_at dksX6_init_2_0 4 rfl rfl)
theorem dX6_init_2_5 : decode cX6_init_2 5 = .ok (.invokespecial 7, 3) := dk_183 0 7 (dk_at dksX6_init_2_0 5 rfl rfl)
theorem dX6_init_2_8 : decode cX6_init_2 8 = .ok (.aload_n 0, 1) := dk_42 (dk_at dksX6_init_2_0 8 rfl rfl)
theorem dX6_init_2_9 : decode cX6_init_2 9 = .ok (.iload_n 1, 1) := dk_27 (dk_at dksX6_init_2_0 9 rfl rfl)
theorem dX6_init_2_10 : decode cX6_init_2 10 = .ok (.putfield 12, 3) := dk_181 0 12 (dk_at dksX6_init_2_0 10 rfl rfl)
theorem dX6_init_2_13 : decode cX6_init_2 13 = .ok (.aload_n 0, 1) := dk_42 (dk_at dksX6_init_2_0 13 rfl rfl)
theorem dX6_init_2_14 : decode cX6_init_2 14 = .ok (.iload_n 2, 1) := dk_28 (dk_at dksX6_init_2_0 14 rfl rfl)
theorem dX6_init_2_15 : decode cX6_init_2 15 = .ok (.putfield 16, 3) := dk_181 0 16 (dk_at dksX6_init_2_0 15 rfl rfl)
theorem dX6_init_2_18 : decode cX6_init_2 18 = .ok (.return_, 1) := dk_177 (dk_at dksX6_init_2_0 18 rfl rfl)
abbrev cX6_behind : ByteArray := prog_10_method_3_code
def yX6_behind : MethodName := ⟨RX6, "behind", "()Ljava/util/Optional;"⟩
def dkwX6_behind_1 : List UInt8 := [184, 0, 29, 176]
abbrev dktX6_behind_1 : List UInt8 := dkwX6_behind_1 ++ []
def dkwX6_behind_0 : List UInt8 := [42, 182, 0, 19, 77, 44, 193, 0, 2, 153, 0, 15, 44, 192, 0, 2, 76, 43, 184, 0, 23, 167, 0, 6]
abbrev dktX6_behind_0 : List UInt8 := dkwX6_behind_0 ++ dktX6_behind_1
theorem dksX6_behind_0 : cX6_behind.data.toList.drop 0 = dktX6_behind_0 := by decide +kernel
theorem dksX6_behind_1 : cX6_behind.data.toList.drop 24 = dktX6_behind_1 := dk_seg dksX6_behind_0 24 rfl rfl
theorem dX6_behind_0 : decode cX6_behind 0 = .ok (.aload_n 0, 1) := dk_42 (dk_at dksX6_behind_0 0 rfl rfl)
theorem dX6_behind_1 : decode cX6_behind 1 = .ok (.invokevirtual 19, 3) := dk_182 0 19 (dk_at dksX6_behind_0 1 rfl rfl)
theorem dX6_behind_4 : decode cX6_behind 4 = .ok (.astore_n 2, 1) := dk_77 (dk_at dksX6_behind_0 4 rfl rfl)
theorem dX6_behind_5 : decode cX6_behind 5 = .ok (.aload_n 2, 1) := dk_44 (dk_at dksX6_behind_0 5 rfl rfl)
theorem dX6_behind_6 : decode cX6_behind 6 = .ok (.instanceof 2, 3) := dk_193 0 2 (dk_at dksX6_behind_0 6 rfl rfl)
theorem dX6_behind_9 : decode cX6_behind 9 = .ok (.ifCond .eq 15, 3) := dk_153 0 15 (dk_at dksX6_behind_0 9 rfl rfl)
theorem dX6_behind_12 : decode cX6_behind 12 = .ok (.aload_n 2, 1) := dk_44 (dk_at dksX6_behind_0 12 rfl rfl)
theorem dX6_behind_13 : decode cX6_behind 13 = .ok (.checkcast 2, 3) := dk_192 0 2 (dk_at dksX6_behind_0 13 rfl rfl)
theorem dX6_behind_16 : decode cX6_behind 16 = .ok (.astore_n 1, 1) := dk_76 (dk_at dksX6_behind_0 16 rfl rfl)
theorem dX6_behind_17 : decode cX6_behind 17 = .ok (.aload_n 1, 1) := dk_43 (dk_at dksX6_behind_0 17 rfl rfl)
theorem dX6_behind_18 : decode cX6_behind 18 = .ok (.invokestatic 23, 3) := dk_184 0 23 (dk_at dksX6_behind_0 18 rfl rfl)
theorem dX6_behind_21 : decode cX6_behind 21 = .ok (.goto 6, 3) := dk_167 0 6 (dk_at dksX6_behind_0 21 rfl rfl)
theorem dX6_behind_24 : decode cX6_behind 24 = .ok (.invokestatic 29, 3) := dk_184 0 29 (dk_at dksX6_behind_1 0 rfl rfl)
theorem dX6_behind_27 : decode cX6_behind 27 = .ok (.areturn, 1) := dk_176 (dk_at dksX6_behind_1 3 rfl rfl)
theorem q121 : (Jvm.Cond.initialized "WeirfoldLane$Denial") ∈ lw_all := lw_g (lw_at lw_m1 28 rfl) rfl
theorem q423 : (Jvm.Cond.selects "WeirfoldLane$Denial" ({ cls := "java/lang/Throwable", name := "fillInStackTrace", desc := "()Ljava/lang/Throwable;" } : Jvm.MethodName) ({ cls := "java/lang/Throwable", name := "fillInStackTrace", desc := "()Ljava/lang/Throwable;" } : Jvm.MethodName)) ∈ lw_all := lw_g (lw_at lw_m2 90 rfl) rfl
theorem q519 : (Jvm.Cond.selects "WeirfoldLane$Denial" ({ cls := "java/lang/Object", name := "getClass", desc := "()Ljava/lang/Class;" } : Jvm.MethodName) ({ cls := "java/lang/Object", name := "getClass", desc := "()Ljava/lang/Class;" } : Jvm.MethodName)) ∈ lw_all := lw_g (lw_at lw_m2 186 rfl) rfl
theorem q629 : (Jvm.Cond.selects "WeirfoldLane$Denial" ({ cls := "java/lang/Object", name := "equals", desc := "(Ljava/lang/Object;)Z" } : Jvm.MethodName) ({ cls := "java/lang/Object", name := "equals", desc := "(Ljava/lang/Object;)Z" } : Jvm.MethodName)) ∈ lw_all := lw_g (lw_at lw_m3 56 rfl) rfl
theorem q1152 : (Jvm.Cond.instantiable "WeirfoldLane$Denial" (8 : Nat)) ∈ lw_all := lw_g (lw_at lw_m5 99 rfl) rfl
theorem q1153 : (Jvm.Cond.castable "WeirfoldLane$Denial" "WeirfoldLane$Denial") ∈ lw_tbl := lw_at lw_m5 100 rfl
theorem q1154 : (Jvm.Cond.selects "WeirfoldLane$Denial" ({ cls := "java/lang/Throwable", name := "fillInStackTrace", desc := "(I)Ljava/lang/Throwable;" } : Jvm.MethodName) ({ cls := "java/lang/Throwable", name := "fillInStackTrace", desc := "(I)Ljava/lang/Throwable;" } : Jvm.MethodName)) ∈ lw_all := lw_g (lw_at lw_m5 101 rfl) rfl
theorem q1155 : (Jvm.Cond.lays "WeirfoldLane$Denial" "java/lang/Throwable" "cause" "Ljava/lang/Throwable;") ∈ lw_all := lw_g (lw_at lw_m5 102 rfl) rfl
theorem q1156 : (Jvm.Cond.lays "WeirfoldLane$Denial" "java/lang/Throwable" "stackTrace" "[Ljava/lang/StackTraceElement;") ∈ lw_all := lw_g (lw_at lw_m5 103 rfl) rfl
theorem q1157 : (Jvm.Cond.lays "WeirfoldLane$Denial" "java/lang/Throwable" "suppressedExceptions" "Ljava/util/List;") ∈ lw_all := lw_g (lw_at lw_m5 104 rfl) rfl
theorem q1158 : (Jvm.Cond.lays "WeirfoldLane$Denial" "java/lang/Throwable" "detailMessage" "Ljava/lang/String;") ∈ lw_all := lw_g (lw_at lw_m5 105 rfl) rfl
theorem q1159 : (Jvm.Cond.lays "WeirfoldLane$Denial" "java/lang/Throwable" "backtrace" "Ljava/lang/Object;") ∈ lw_all := lw_g (lw_at lw_m5 106 rfl) rfl
theorem q1161 : (Jvm.Cond.instanceMethod ({ cls := "WeirfoldLane$Denial", name := "<init>", desc := "(II)V" } : Jvm.MethodName)) ∈ lw_all := lw_g (lw_at lw_m5 108 rfl) rfl
theorem q1162 : (Jvm.Cond.code ({ cls := "WeirfoldLane$Denial", name := "<init>", desc := "(II)V" } : Jvm.MethodName) prog_10_method_1_code (3 : Nat) (Option.none : Option Jvm.ClassFile.FieldType)) ∈ lw_all := lw_g (lw_at lw_m5 109 rfl) rfl
theorem q1163 : (Jvm.Cond.methodLink "WeirfoldLane$Denial" (1 : Nat) ({ cls := "WeirfoldLane$Denial", name := "<init>", desc := "(IILWeirfoldLane$Denial;)V" } : Jvm.MethodName)) ∈ lw_all := lw_g (lw_at lw_m5 110 rfl) rfl
theorem q1164 : (Jvm.Cond.instanceMethod ({ cls := "WeirfoldLane$Denial", name := "<init>", desc := "(IILWeirfoldLane$Denial;)V" } : Jvm.MethodName)) ∈ lw_all := lw_g (lw_at lw_m5 111 rfl) rfl
theorem q1165 : (Jvm.Cond.code ({ cls := "WeirfoldLane$Denial", name := "<init>", desc := "(IILWeirfoldLane$Denial;)V" } : Jvm.MethodName) prog_10_method_2_code (4 : Nat) (Option.none : Option Jvm.ClassFile.FieldType)) ∈ lw_all := lw_g (lw_at lw_m5 112 rfl) rfl
theorem q1166 : (Jvm.Cond.methodLink "WeirfoldLane$Denial" (7 : Nat) ({ cls := "java/lang/Exception", name := "<init>", desc := "(Ljava/lang/String;Ljava/lang/Throwable;ZZ)V" } : Jvm.MethodName)) ∈ lw_all := lw_g (lw_at lw_m5 113 rfl) rfl
theorem q1172 : (Jvm.Cond.fieldLink "WeirfoldLane$Denial" (12 : Nat) "WeirfoldLane$Denial" "number" "I") ∈ lw_all := lw_g (lw_at lw_m5 119 rfl) rfl
theorem q1174 : (Jvm.Cond.fieldLink "WeirfoldLane$Denial" (16 : Nat) "WeirfoldLane$Denial" "detail" "I") ∈ lw_all := lw_g (lw_at lw_m5 121 rfl) rfl
theorem q1176 : (Jvm.Cond.laysFinal "WeirfoldLane$Denial" "WeirfoldLane$Denial" "number" "I") ∈ lw_all := lw_g (lw_at lw_m5 123 rfl) rfl
theorem q1177 : (Jvm.Cond.soleField "WeirfoldLane$Denial" "number") ∈ lw_all := lw_g (lw_at lw_m5 124 rfl) rfl
theorem q1178 : (Jvm.Cond.laysFinal "WeirfoldLane$Denial" "WeirfoldLane$Denial" "detail" "I") ∈ lw_all := lw_g (lw_at lw_m5 125 rfl) rfl
theorem q1179 : (Jvm.Cond.soleField "WeirfoldLane$Denial" "detail") ∈ lw_all := lw_g (lw_at lw_m5 126 rfl) rfl
theorem q1180 : (Jvm.Cond.lays "WeirfoldLane$Denial" "java/lang/Throwable" "depth" "I") ∈ lw_all := lw_g (lw_at lw_m5 127 rfl) rfl
theorem q1181 : (Jvm.Cond.superclass "WeirfoldLane$Denial" "java/lang/Exception") ∈ lw_all := lw_g (lw_at lw_m5 128 rfl) rfl
theorem q2637 : (Jvm.Cond.instanceMethod ({ cls := "WeirfoldLane$Denial", name := "behind", desc := "()Ljava/util/Optional;" } : Jvm.MethodName)) ∈ lw_all := lw_g (lw_at lw_m11 144 rfl) rfl
theorem q2638 : (Jvm.Cond.selects "WeirfoldLane$Denial" ({ cls := "WeirfoldLane$Denial", name := "behind", desc := "()Ljava/util/Optional;" } : Jvm.MethodName) ({ cls := "WeirfoldLane$Denial", name := "behind", desc := "()Ljava/util/Optional;" } : Jvm.MethodName)) ∈ lw_all := lw_g (lw_at lw_m11 145 rfl) rfl
theorem q2639 : (Jvm.Cond.code ({ cls := "WeirfoldLane$Denial", name := "behind", desc := "()Ljava/util/Optional;" } : Jvm.MethodName) prog_10_method_3_code (3 : Nat) (Option.some (Jvm.ClassFile.FieldType.object "java/util/Optional"))) ∈ lw_all := lw_g (lw_at lw_m11 146 rfl) rfl
theorem q2640 : (Jvm.Cond.methodLink "WeirfoldLane$Denial" (19 : Nat) ({ cls := "WeirfoldLane$Denial", name := "getCause", desc := "()Ljava/lang/Throwable;" } : Jvm.MethodName)) ∈ lw_all := lw_g (lw_at lw_m11 147 rfl) rfl
theorem q2641 : (Jvm.Cond.sameMethod "WeirfoldLane$Denial" "java/lang/Throwable" "getCause" "()Ljava/lang/Throwable;") ∈ lw_all := lw_g (lw_at lw_m11 148 rfl) rfl
theorem q2643 : (Jvm.Cond.selects "WeirfoldLane$Denial" ({ cls := "WeirfoldLane$Denial", name := "getCause", desc := "()Ljava/lang/Throwable;" } : Jvm.MethodName) ({ cls := "java/lang/Throwable", name := "getCause", desc := "()Ljava/lang/Throwable;" } : Jvm.MethodName)) ∈ lw_all := lw_g (lw_at lw_m11 150 rfl) rfl
theorem q2646 : (Jvm.Cond.classLink "WeirfoldLane$Denial" (2 : Nat) "WeirfoldLane$Denial") ∈ lw_all := lw_g (lw_at lw_m11 153 rfl) rfl
theorem q2647 : (Jvm.Cond.methodLink "WeirfoldLane$Denial" (23 : Nat) ({ cls := "java/util/Optional", name := "of", desc := "(Ljava/lang/Object;)Ljava/util/Optional;" } : Jvm.MethodName)) ∈ lw_all := lw_g (lw_at lw_m11 154 rfl) rfl
theorem q2648 : (Jvm.Cond.methodLink "WeirfoldLane$Denial" (29 : Nat) ({ cls := "java/util/Optional", name := "empty", desc := "()Ljava/util/Optional;" } : Jvm.MethodName)) ∈ lw_all := lw_g (lw_at lw_m11 155 rfl) rfl
theorem q3314 : (Jvm.Cond.castable "WeirfoldLane$Denial" "java/lang/Object") ∈ lw_tbl := lw_at lw_m14 101 rfl
theorem in_X6 : ∀ w ∈ wsX60, w ∈ lw_all := lw_in wsX60 [1155, 1156, 1157, 1158, 1159, 1180, 1176, 1178] (by decide +kernel) (by decide +kernel)

/-! WeirfoldLane$Row -/
set_option maxRecDepth 100000
def RX7 : String := "WeirfoldLane$Row"
def TX7 : u_T := fun k => match k with
  | 0 => ("WeirfoldLane$Row", "number", "I", true)
  | 1 => ("WeirfoldLane$Row", "day", "I", true)
  | 2 => ("WeirfoldLane$Row", "group", "I", true)
  | _ => ("WeirfoldLane$Row", "amount", "I", true)
def tyX7 : Nat → FieldType := fun k => match k with
  | 0 => .int
  | 1 => .int
  | 2 => .int
  | _ => .int
abbrev wsX70 : List Cond := u_ws RX7 TX7 4
theorem nmX7 : ∀ a, a < 4 → ∀ b, b < 4 → a ≠ b → (TX7 a).2.1 ≠ (TX7 b).2.1 := by decide +kernel
theorem tyX7_ok : ∀ k, k < 4 → parseFieldDescriptor (TX7 k).2.2.1 = some (tyX7 k) := by decide +kernel
abbrev cX7_isOf : ByteArray := prog_17_method_2_code
def yX7_isOf : MethodName := ⟨RX7, "isOf", "(II)Z"⟩
def dkwX7_isOf_0 : List UInt8 := [42, 180, 0, 13, 27, 160, 0, 15, 42, 180, 0, 16, 28, 160, 0, 7, 4, 167, 0, 4, 3, 172]
abbrev dktX7_isOf_0 : List UInt8 := dkwX7_isOf_0 ++ []
theorem dksX7_isOf_0 : cX7_isOf.data.toList.drop 0 = dktX7_isOf_0 := by decide +kernel
theorem dX7_isOf_0 : decode cX7_isOf 0 = .ok (.aload_n 0, 1) := dk_42 (dk_at dksX7_isOf_0 0 rfl rfl)
theorem dX7_isOf_1 : decode cX7_isOf 1 = .ok (.getfield 13, 3) := dk_180 0 13 (dk_at dksX7_isOf_0 1 rfl rfl)
theorem dX7_isOf_4 : decode cX7_isOf 4 = .ok (.iload_n 1, 1) := dk_27 (dk_at dksX7_isOf_0 4 rfl rfl)
theorem dX7_isOf_5 : decode cX7_isOf 5 = .ok (.if_icmp .ne 15, 3) := dk_160 0 15 (dk_at dksX7_isOf_0 5 rfl rfl)
theorem dX7_isOf_8 : decode cX7_isOf 8 = .ok (.aload_n 0, 1) := dk_42 (dk_at dksX7_isOf_0 8 rfl rfl)
theorem dX7_isOf_9 : decode cX7_isOf 9 = .ok (.getfield 16, 3) := dk_180 0 16 (dk_at dksX7_isOf_0 9 rfl rfl)
theorem dX7_isOf_12 : decode cX7_isOf 12 = .ok (.iload_n 2, 1) := dk_28 (dk_at dksX7_isOf_0 12 rfl rfl)
theorem dX7_isOf_13 : decode cX7_isOf 13 = .ok (.if_icmp .ne 7, 3) := dk_160 0 7 (dk_at dksX7_isOf_0 13 rfl rfl)
theorem dX7_isOf_16 : decode cX7_isOf 16 = .ok (.iconst 1, 1) := dk_4 (dk_at dksX7_isOf_0 16 rfl rfl)
theorem dX7_isOf_17 : decode cX7_isOf 17 = .ok (.goto 4, 3) := dk_167 0 4 (dk_at dksX7_isOf_0 17 rfl rfl)
theorem dX7_isOf_20 : decode cX7_isOf 20 = .ok (.iconst 0, 1) := dk_3 (dk_at dksX7_isOf_0 20 rfl rfl)
theorem dX7_isOf_21 : decode cX7_isOf 21 = .ok (.ireturn, 1) := dk_172 (dk_at dksX7_isOf_0 21 rfl rfl)
abbrev cX7_init : ByteArray := prog_17_method_1_code
def yX7_init : MethodName := ⟨RX7, "<init>", "(IIII)V"⟩
def dkwX7_init_1 : List UInt8 := [181, 0, 19, 177]
abbrev dktX7_init_1 : List UInt8 := dkwX7_init_1 ++ []
def dkwX7_init_0 : List UInt8 := [42, 183, 0, 1, 42, 27, 181, 0, 7, 42, 28, 181, 0, 13, 42, 29, 181, 0, 16, 42, 21, 4]
abbrev dktX7_init_0 : List UInt8 := dkwX7_init_0 ++ dktX7_init_1
theorem dksX7_init_0 : cX7_init.data.toList.drop 0 = dktX7_init_0 := by decide +kernel
theorem dksX7_init_1 : cX7_init.data.toList.drop 22 = dktX7_init_1 := dk_seg dksX7_init_0 22 rfl rfl
theorem dX7_init_0 : decode cX7_init 0 = .ok (.aload_n 0, 1) := dk_42 (dk_at dksX7_init_0 0 rfl rfl)
theorem dX7_init_1 : decode cX7_init 1 = .ok (.invokespecial 1, 3) := dk_183 0 1 (dk_at dksX7_init_0 1 rfl rfl)
theorem dX7_init_4 : decode cX7_init 4 = .ok (.aload_n 0, 1) := dk_42 (dk_at dksX7_init_0 4 rfl rfl)
theorem dX7_init_5 : decode cX7_init 5 = .ok (.iload_n 1, 1) := dk_27 (dk_at dksX7_init_0 5 rfl rfl)
theorem dX7_init_6 : decode cX7_init 6 = .ok (.putfield 7, 3) := dk_181 0 7 (dk_at dksX7_init_0 6 rfl rfl)
theorem dX7_init_9 : decode cX7_init 9 = .ok (.aload_n 0, 1) := dk_42 (dk_at dksX7_init_0 9 rfl rfl)
theorem dX7_init_10 : decode cX7_init 10 = .ok (.iload_n 2, 1) := dk_28 (dk_at dksX7_init_0 10 rfl rfl)
theorem dX7_init_11 : decode cX7_init 11 = .ok (.putfield 13, 3) := dk_181 0 13 (dk_at dksX7_init_0 11 rfl rfl)
theorem dX7_init_14 : decode cX7_init 14 = .ok (.aload_n 0, 1) := dk_42 (dk_at dksX7_init_0 14 rfl rfl)
theorem dX7_init_15 : decode cX7_init 15 = .ok (.iload_n 3, 1) := dk_29 (dk_at dksX7_init_0 15 rfl rfl)
theorem dX7_init_16 : decode cX7_init 16 = .ok (.putfield 16, 3) := dk_181 0 16 (dk_at dksX7_init_0 16 rfl rfl)
theorem dX7_init_19 : decode cX7_init 19 = .ok (.aload_n 0, 1) := dk_42 (dk_at dksX7_init_0 19 rfl rfl)
theorem dX7_init_20 : decode cX7_init 20 = .ok (.iload 4, 2) := dk_21 4 (dk_at dksX7_init_0 20 rfl rfl)
theorem dX7_init_22 : decode cX7_init 22 = .ok (.putfield 19, 3) := dk_181 0 19 (dk_at dksX7_init_1 0 rfl rfl)
theorem dX7_init_25 : decode cX7_init 25 = .ok (.return_, 1) := dk_177 (dk_at dksX7_init_1 3 rfl rfl)
theorem q122 : (Jvm.Cond.initialized "WeirfoldLane$Row") ∈ lw_all := lw_g (lw_at lw_m1 29 rfl) rfl
theorem q525 : (Jvm.Cond.selects "WeirfoldLane$Row" ({ cls := "java/lang/Object", name := "getClass", desc := "()Ljava/lang/Class;" } : Jvm.MethodName) ({ cls := "java/lang/Object", name := "getClass", desc := "()Ljava/lang/Class;" } : Jvm.MethodName)) ∈ lw_all := lw_g (lw_at lw_m2 192 rfl) rfl
theorem q635 : (Jvm.Cond.selects "WeirfoldLane$Row" ({ cls := "java/lang/Object", name := "equals", desc := "(Ljava/lang/Object;)Z" } : Jvm.MethodName) ({ cls := "java/lang/Object", name := "equals", desc := "(Ljava/lang/Object;)Z" } : Jvm.MethodName)) ∈ lw_all := lw_g (lw_at lw_m3 62 rfl) rfl
theorem q714 : (Jvm.Cond.instanceMethod ({ cls := "WeirfoldLane$Row", name := "isOf", desc := "(II)Z" } : Jvm.MethodName)) ∈ lw_all := lw_g (lw_at lw_m3 141 rfl) rfl
theorem q715 : (Jvm.Cond.selects "WeirfoldLane$Row" ({ cls := "WeirfoldLane$Row", name := "isOf", desc := "(II)Z" } : Jvm.MethodName) ({ cls := "WeirfoldLane$Row", name := "isOf", desc := "(II)Z" } : Jvm.MethodName)) ∈ lw_all := lw_g (lw_at lw_m3 142 rfl) rfl
theorem q716 : (Jvm.Cond.code ({ cls := "WeirfoldLane$Row", name := "isOf", desc := "(II)Z" } : Jvm.MethodName) prog_17_method_2_code (3 : Nat) (Option.some Jvm.ClassFile.FieldType.boolean)) ∈ lw_all := lw_g (lw_at lw_m3 143 rfl) rfl
theorem q1184 : (Jvm.Cond.instantiable "WeirfoldLane$Row" (4 : Nat)) ∈ lw_all := lw_g (lw_at lw_m5 131 rfl) rfl
theorem q1186 : (Jvm.Cond.instanceMethod ({ cls := "WeirfoldLane$Row", name := "<init>", desc := "(IIII)V" } : Jvm.MethodName)) ∈ lw_all := lw_g (lw_at lw_m5 133 rfl) rfl
theorem q1187 : (Jvm.Cond.code ({ cls := "WeirfoldLane$Row", name := "<init>", desc := "(IIII)V" } : Jvm.MethodName) prog_17_method_1_code (5 : Nat) (Option.none : Option Jvm.ClassFile.FieldType)) ∈ lw_all := lw_g (lw_at lw_m5 134 rfl) rfl
theorem q1188 : (Jvm.Cond.methodLink "WeirfoldLane$Row" (1 : Nat) ({ cls := "java/lang/Object", name := "<init>", desc := "()V" } : Jvm.MethodName)) ∈ lw_all := lw_g (lw_at lw_m5 135 rfl) rfl
theorem q1189 : (Jvm.Cond.fieldLink "WeirfoldLane$Row" (7 : Nat) "WeirfoldLane$Row" "number" "I") ∈ lw_all := lw_g (lw_at lw_m5 136 rfl) rfl
theorem q1192 : (Jvm.Cond.fieldLink "WeirfoldLane$Row" (13 : Nat) "WeirfoldLane$Row" "day" "I") ∈ lw_all := lw_g (lw_at lw_m5 139 rfl) rfl
theorem q1199 : (Jvm.Cond.fieldLink "WeirfoldLane$Row" (16 : Nat) "WeirfoldLane$Row" "group" "I") ∈ lw_all := lw_g (lw_at lw_m5 146 rfl) rfl
theorem q1204 : (Jvm.Cond.fieldLink "WeirfoldLane$Row" (19 : Nat) "WeirfoldLane$Row" "amount" "I") ∈ lw_all := lw_g (lw_at lw_m5 151 rfl) rfl
theorem q1210 : (Jvm.Cond.laysFinal "WeirfoldLane$Row" "WeirfoldLane$Row" "number" "I") ∈ lw_all := lw_g (lw_at lw_m5 157 rfl) rfl
theorem q1211 : (Jvm.Cond.soleField "WeirfoldLane$Row" "number") ∈ lw_all := lw_g (lw_at lw_m5 158 rfl) rfl
theorem q1212 : (Jvm.Cond.laysFinal "WeirfoldLane$Row" "WeirfoldLane$Row" "day" "I") ∈ lw_all := lw_g (lw_at lw_m5 159 rfl) rfl
theorem q1213 : (Jvm.Cond.soleField "WeirfoldLane$Row" "day") ∈ lw_all := lw_g (lw_at lw_m5 160 rfl) rfl
theorem q1214 : (Jvm.Cond.laysFinal "WeirfoldLane$Row" "WeirfoldLane$Row" "group" "I") ∈ lw_all := lw_g (lw_at lw_m5 161 rfl) rfl
theorem q1215 : (Jvm.Cond.soleField "WeirfoldLane$Row" "group") ∈ lw_all := lw_g (lw_at lw_m5 162 rfl) rfl
theorem q1216 : (Jvm.Cond.laysFinal "WeirfoldLane$Row" "WeirfoldLane$Row" "amount" "I") ∈ lw_all := lw_g (lw_at lw_m5 163 rfl) rfl
theorem q1217 : (Jvm.Cond.soleField "WeirfoldLane$Row" "amount") ∈ lw_all := lw_g (lw_at lw_m5 164 rfl) rfl
theorem q1218 : (Jvm.Cond.superclass "WeirfoldLane$Row" "java/lang/Object") ∈ lw_all := lw_g (lw_at lw_m5 165 rfl) rfl
theorem q3315 : (Jvm.Cond.castable "WeirfoldLane$Row" "java/lang/Object") ∈ lw_tbl := lw_at lw_m14 102 rfl
theorem in_X7 : ∀ w ∈ wsX70, w ∈ lw_all := lw_in wsX70 [1210, 1212, 1214, 1216] (by decide +kernel) (by decide +kernel)

/-! WeirfoldLane$Changes -/
set_option maxRecDepth 100000
def RX8 : String := "WeirfoldLane$Changes"
def TX8 : u_T := fun k => match k with
  | 0 => ("WeirfoldLane$Changes", "steps", "Ljava/util/List;", true)
  | _ => ("WeirfoldLane$Changes", "changes", "[J", true)
def tyX8 : Nat → FieldType := fun k => match k with
  | 0 => .object "java/util/List"
  | _ => .array .long
abbrev wsX80 : List Cond := u_ws RX8 TX8 2
theorem nmX8 : ∀ a, a < 2 → ∀ b, b < 2 → a ≠ b → (TX8 a).2.1 ≠ (TX8 b).2.1 := by decide +kernel
theorem tyX8_ok : ∀ k, k < 2 → parseFieldDescriptor (TX8 k).2.2.1 = some (tyX8 k) := by decide +kernel
abbrev cX8_init : ByteArray := prog_6_method_1_code
def yX8_init : MethodName := ⟨RX8, "<init>", "(LWeirfoldLane$Lane;LWeirfoldLane$Row;I)V"⟩
def dkwX8_init_4 : List UInt8 := [192, 0, 47, 43, 44, 29, 42, 182, 0, 49, 167, 0, 4, 9, 80, 132, 4, 1, 167, 255, 170, 177]
abbrev dktX8_init_4 : List UInt8 := dkwX8_init_4 ++ []
def dkwX8_init_3 : List UInt8 := [54, 5, 42, 180, 0, 9, 21, 4, 21, 5, 153, 0, 27, 42, 180, 0, 21, 21, 4, 185, 0, 31, 2, 0]
abbrev dktX8_init_3 : List UInt8 := dkwX8_init_3 ++ dktX8_init_4
def dkwX8_init_2 : List UInt8 := [185, 0, 31, 2, 0, 192, 0, 35, 180, 0, 37, 44, 180, 0, 41, 51, 154, 0, 7, 4, 167, 0, 4, 3]
abbrev dktX8_init_2 : List UInt8 := dkwX8_init_2 ++ dktX8_init_3
def dkwX8_init_1 : List UInt8 := [21, 4, 42, 180, 0, 21, 185, 0, 22, 1, 0, 162, 0, 78, 43, 180, 0, 28, 21, 4]
abbrev dktX8_init_1 : List UInt8 := dkwX8_init_1 ++ dktX8_init_2
def dkwX8_init_0 : List UInt8 := [42, 183, 0, 3, 42, 16, 8, 188, 11, 181, 0, 9, 42, 43, 180, 0, 15, 181, 0, 21, 3, 54, 4]
abbrev dktX8_init_0 : List UInt8 := dkwX8_init_0 ++ dktX8_init_1
theorem dksX8_init_0 : cX8_init.data.toList.drop 0 = dktX8_init_0 := by decide +kernel
theorem dksX8_init_1 : cX8_init.data.toList.drop 23 = dktX8_init_1 := dk_seg dksX8_init_0 23 rfl rfl
theorem dksX8_init_2 : cX8_init.data.toList.drop 43 = dktX8_init_2 := dk_seg dksX8_init_1 20 rfl rfl
theorem dksX8_init_3 : cX8_init.data.toList.drop 67 = dktX8_init_3 := dk_seg dksX8_init_2 24 rfl rfl
theorem dksX8_init_4 : cX8_init.data.toList.drop 91 = dktX8_init_4 := dk_seg dksX8_init_3 24 rfl rfl
theorem dX8_init_0 : decode cX8_init 0 = .ok (.aload_n 0, 1) := dk_42 (dk_at dksX8_init_0 0 rfl rfl)
theorem dX8_init_1 : decode cX8_init 1 = .ok (.invokespecial 3, 3) := dk_183 0 3 (dk_at dksX8_init_0 1 rfl rfl)
theorem dX8_init_4 : decode cX8_init 4 = .ok (.aload_n 0, 1) := dk_42 (dk_at dksX8_init_0 4 rfl rfl)
theorem dX8_init_5 : decode cX8_init 5 = .ok (.bipush 8, 2) := dk_16 8 (dk_at dksX8_init_0 5 rfl rfl)
theorem dX8_init_7 : decode cX8_init 7 = .ok (.newarray .long, 2) := dk_188_11 (dk_at dksX8_init_0 7 rfl rfl)
theorem dX8_init_9 : decode cX8_init 9 = .ok (.putfield 9, 3) := dk_181 0 9 (dk_at dksX8_init_0 9 rfl rfl)
theorem dX8_init_12 : decode cX8_init 12 = .ok (.aload_n 0, 1) := dk_42 (dk_at dksX8_init_0 12 rfl rfl)
theorem dX8_init_13 : decode cX8_init 13 = .ok (.aload_n 1, 1) := dk_43 (dk_at dksX8_init_0 13 rfl rfl)
theorem dX8_init_14 : decode cX8_init 14 = .ok (.getfield 15, 3) := dk_180 0 15 (dk_at dksX8_init_0 14 rfl rfl)
theorem dX8_init_17 : decode cX8_init 17 = .ok (.putfield 21, 3) := dk_181 0 21 (dk_at dksX8_init_0 17 rfl rfl)
theorem dX8_init_20 : decode cX8_init 20 = .ok (.iconst 0, 1) := dk_3 (dk_at dksX8_init_0 20 rfl rfl)
theorem dX8_init_21 : decode cX8_init 21 = .ok (.istore 4, 2) := dk_54 4 (dk_at dksX8_init_0 21 rfl rfl)
theorem dX8_init_23 : decode cX8_init 23 = .ok (.iload 4, 2) := dk_21 4 (dk_at dksX8_init_1 0 rfl rfl)
theorem dX8_init_25 : decode cX8_init 25 = .ok (.aload_n 0, 1) := dk_42 (dk_at dksX8_init_1 2 rfl rfl)
theorem dX8_init_26 : decode cX8_init 26 = .ok (.getfield 21, 3) := dk_180 0 21 (dk_at dksX8_init_1 3 rfl rfl)
theorem dX8_init_29 : decode cX8_init 29 = .ok (.invokeinterface 22 1, 5) := by decide +kernel
theorem dX8_init_34 : decode cX8_init 34 = .ok (.if_icmp .ge 78, 3) := dk_162 0 78 (dk_at dksX8_init_1 11 rfl rfl)
theorem dX8_init_37 : decode cX8_init 37 = .ok (.aload_n 1, 1) := dk_43 (dk_at dksX8_init_1 14 rfl rfl)
theorem dX8_init_38 : decode cX8_init 38 = .ok (.getfield 28, 3) := dk_180 0 28 (dk_at dksX8_init_1 15 rfl rfl)
theorem dX8_init_41 : decode cX8_init 41 = .ok (.iload 4, 2) := dk_21 4 (dk_at dksX8_init_1 18 rfl rfl)
theorem dX8_init_43 : decode cX8_init 43 = .ok (.invokeinterface 31 2, 5) := by decide +kernel
theorem dX8_init_48 : decode cX8_init 48 = .ok (.checkcast 35, 3) := dk_192 0 35 (dk_at dksX8_init_2 5 rfl rfl)
theorem dX8_init_51 : decode cX8_init 51 = .ok (.getfield 37, 3) := dk_180 0 37 (dk_at dksX8_init_2 8 rfl rfl)
theorem dX8_init_54 : decode cX8_init 54 = .ok (.aload_n 2, 1) := dk_44 (dk_at dksX8_init_2 11 rfl rfl)
theorem dX8_init_55 : decode cX8_init 55 = .ok (.getfield 41, 3) := dk_180 0 41 (dk_at dksX8_init_2 12 rfl rfl)
theorem dX8_init_58 : decode cX8_init 58 = .ok (.baload, 1) := dk_51 (dk_at dksX8_init_2 15 rfl rfl)
theorem dX8_init_59 : decode cX8_init 59 = .ok (.ifCond .ne 7, 3) := dk_154 0 7 (dk_at dksX8_init_2 16 rfl rfl)
theorem dX8_init_62 : decode cX8_init 62 = .ok (.iconst 1, 1) := dk_4 (dk_at dksX8_init_2 19 rfl rfl)
theorem dX8_init_63 : decode cX8_init 63 = .ok (.goto 4, 3) := dk_167 0 4 (dk_at dksX8_init_2 20 rfl rfl)
theorem dX8_init_66 : decode cX8_init 66 = .ok (.iconst 0, 1) := dk_3 (dk_at dksX8_init_2 23 rfl rfl)
theorem dX8_init_67 : decode cX8_init 67 = .ok (.istore 5, 2) := dk_54 5 (dk_at dksX8_init_3 0 rfl rfl)
theorem dX8_init_69 : decode cX8_init 69 = .ok (.aload_n 0, 1) := dk_42 (dk_at dksX8_init_3 2 rfl rfl)
theorem dX8_init_70 : decode cX8_init 70 = .ok (.getfield 9, 3) := dk_180 0 9 (dk_at dksX8_init_3 3 rfl rfl)
theorem dX8_init_73 : decode cX8_init 73 = .ok (.iload 4, 2) := dk_21 4 (dk_at dksX8_init_3 6 rfl rfl)
theorem dX8_init_75 : decode cX8_init 75 = .ok (.iload 5, 2) := dk_21 5 (dk_at dksX8_init_3 8 rfl rfl)
theorem dX8_init_77 : decode cX8_init 77 = .ok (.ifCond .eq 27, 3) := dk_153 0 27 (dk_at dksX8_init_3 10 rfl rfl)
theorem dX8_init_80 : decode cX8_init 80 = .ok (.aload_n 0, 1) := dk_42 (dk_at dksX8_init_3 13 rfl rfl)
theorem dX8_init_81 : decode cX8_init 81 = .ok (.getfield 21, 3) := dk_180 0 21 (dk_at dksX8_init_3 14 rfl rfl)
theorem dX8_init_84 : decode cX8_init 84 = .ok (.iload 4, 2) := dk_21 4 (dk_at dksX8_init_3 17 rfl rfl)
theorem dX8_init_86 : decode cX8_init 86 = .ok (.invokeinterface 31 2, 5) := by decide +kernel
theorem dX8_init_91 : decode cX8_init 91 = .ok (.checkcast 47, 3) := dk_192 0 47 (dk_at dksX8_init_4 0 rfl rfl)
theorem dX8_init_94 : decode cX8_init 94 = .ok (.aload_n 1, 1) := dk_43 (dk_at dksX8_init_4 3 rfl rfl)
theorem dX8_init_95 : decode cX8_init 95 = .ok (.aload_n 2, 1) := dk_44 (dk_at dksX8_init_4 4 rfl rfl)
theorem dX8_init_96 : decode cX8_init 96 = .ok (.iload_n 3, 1) := dk_29 (dk_at dksX8_init_4 5 rfl rfl)
theorem dX8_init_97 : decode cX8_init 97 = .ok (.aload_n 0, 1) := dk_42 (dk_at dksX8_init_4 6 rfl rfl)
theorem dX8_init_98 : decode cX8_init 98 = .ok (.invokevirtual 49, 3) := dk_182 0 49 (dk_at dksX8_init_4 7 rfl rfl)
theorem dX8_init_101 : decode cX8_init 101 = .ok (.goto 4, 3) := dk_167 0 4 (dk_at dksX8_init_4 10 rfl rfl)
theorem dX8_init_104 : decode cX8_init 104 = .ok (.lconst 0, 1) := dk_9 (dk_at dksX8_init_4 13 rfl rfl)
theorem dX8_init_105 : decode cX8_init 105 = .ok (.lastore, 1) := dk_80 (dk_at dksX8_init_4 14 rfl rfl)
theorem dX8_init_106 : decode cX8_init 106 = .ok (.iinc 4 1, 3) := dk_132 4 1 (dk_at dksX8_init_4 15 rfl rfl)
theorem dX8_init_109 : decode cX8_init 109 = .ok (.goto (-86), 3) := dk_167 255 170 (dk_at dksX8_init_4 18 rfl rfl)
theorem dX8_init_112 : decode cX8_init 112 = .ok (.return_, 1) := dk_177 (dk_at dksX8_init_4 21 rfl rfl)
abbrev cX8_of : ByteArray := prog_6_method_2_code
def yX8_of : MethodName := ⟨RX8, "of", "(LWeirfoldLane$Step;)J"⟩
def dkwX8_of_0 : List UInt8 := [42, 180, 0, 9, 42, 180, 0, 21, 43, 185, 0, 53, 2, 0, 47, 173]
abbrev dktX8_of_0 : List UInt8 := dkwX8_of_0 ++ []
theorem dksX8_of_0 : cX8_of.data.toList.drop 0 = dktX8_of_0 := by decide +kernel
theorem dX8_of_0 : decode cX8_of 0 = .ok (.aload_n 0, 1) := dk_42 (dk_at dksX8_of_0 0 rfl rfl)
theorem dX8_of_1 : decode cX8_of 1 = .ok (.getfield 9, 3) := dk_180 0 9 (dk_at dksX8_of_0 1 rfl rfl)
theorem dX8_of_4 : decode cX8_of 4 = .ok (.aload_n 0, 1) := dk_42 (dk_at dksX8_of_0 4 rfl rfl)
theorem dX8_of_5 : decode cX8_of 5 = .ok (.getfield 21, 3) := dk_180 0 21 (dk_at dksX8_of_0 5 rfl rfl)
theorem dX8_of_8 : decode cX8_of 8 = .ok (.aload_n 1, 1) := dk_43 (dk_at dksX8_of_0 8 rfl rfl)
theorem dX8_of_9 : decode cX8_of 9 = .ok (.invokeinterface 53 2, 5) := by decide +kernel
theorem dX8_of_14 : decode cX8_of 14 = .ok (.laload, 1) := dk_47 (dk_at dksX8_of_0 14 rfl rfl)
theorem dX8_of_15 : decode cX8_of 15 = .ok (.lreturn, 1) := dk_173 (dk_at dksX8_of_0 15 rfl rfl)
theorem q123 : (Jvm.Cond.initialized "WeirfoldLane$Changes") ∈ lw_all := lw_g (lw_at lw_m1 30 rfl) rfl
theorem q197 : (Jvm.Cond.fieldLinkNest "WeirfoldLane$Changes" (15 : Nat) "WeirfoldLane$Lane" "steps" "Ljava/util/List;" "WeirfoldLane") ∈ lw_tbl := lw_at lw_m1 104 rfl
theorem q204 : (Jvm.Cond.fieldLinkNest "WeirfoldLane$Changes" (28 : Nat) "WeirfoldLane$Lane" "views" "Ljava/util/List;" "WeirfoldLane") ∈ lw_tbl := lw_at lw_m1 111 rfl
theorem q515 : (Jvm.Cond.selects "WeirfoldLane$Changes" ({ cls := "java/lang/Object", name := "getClass", desc := "()Ljava/lang/Class;" } : Jvm.MethodName) ({ cls := "java/lang/Object", name := "getClass", desc := "()Ljava/lang/Class;" } : Jvm.MethodName)) ∈ lw_all := lw_g (lw_at lw_m2 182 rfl) rfl
theorem q575 : (Jvm.Cond.fieldLinkNest "WeirfoldLane$Changes" (37 : Nat) "WeirfoldLane$View" "isStale" "[Z" "WeirfoldLane") ∈ lw_tbl := lw_at lw_m3 2 rfl
theorem q625 : (Jvm.Cond.selects "WeirfoldLane$Changes" ({ cls := "java/lang/Object", name := "equals", desc := "(Ljava/lang/Object;)Z" } : Jvm.MethodName) ({ cls := "java/lang/Object", name := "equals", desc := "(Ljava/lang/Object;)Z" } : Jvm.MethodName)) ∈ lw_all := lw_g (lw_at lw_m3 52 rfl) rfl
theorem q1193 : (Jvm.Cond.fieldLinkNest "WeirfoldLane$Changes" (41 : Nat) "WeirfoldLane$Row" "day" "I" "WeirfoldLane") ∈ lw_tbl := lw_at lw_m5 140 rfl
theorem q1228 : (Jvm.Cond.instantiable "WeirfoldLane$Changes" (2 : Nat)) ∈ lw_all := lw_g (lw_at lw_m5 175 rfl) rfl
theorem q1230 : (Jvm.Cond.instanceMethod ({ cls := "WeirfoldLane$Changes", name := "<init>", desc := "(LWeirfoldLane$Lane;LWeirfoldLane$Row;I)V" } : Jvm.MethodName)) ∈ lw_all := lw_g (lw_at lw_m5 177 rfl) rfl
theorem q1231 : (Jvm.Cond.code ({ cls := "WeirfoldLane$Changes", name := "<init>", desc := "(LWeirfoldLane$Lane;LWeirfoldLane$Row;I)V" } : Jvm.MethodName) prog_6_method_1_code (6 : Nat) (Option.none : Option Jvm.ClassFile.FieldType)) ∈ lw_all := lw_g (lw_at lw_m5 178 rfl) rfl
theorem q1232 : (Jvm.Cond.methodLink "WeirfoldLane$Changes" (3 : Nat) ({ cls := "java/lang/Object", name := "<init>", desc := "()V" } : Jvm.MethodName)) ∈ lw_all := lw_g (lw_at lw_m5 179 rfl) rfl
theorem q1233 : (Jvm.Cond.interfaceEntry "WeirfoldLane$Changes" (22 : Nat)) ∈ lw_tbl := lw_at lw_m5 180 rfl
theorem q1234 : (Jvm.Cond.methodLink "WeirfoldLane$Changes" (22 : Nat) ({ cls := "java/util/List", name := "size", desc := "()I" } : Jvm.MethodName)) ∈ lw_all := lw_g (lw_at lw_m5 181 rfl) rfl
theorem q1235 : (Jvm.Cond.interfaceEntry "WeirfoldLane$Changes" (31 : Nat)) ∈ lw_tbl := lw_at lw_m5 182 rfl
theorem q1236 : (Jvm.Cond.methodLink "WeirfoldLane$Changes" (31 : Nat) ({ cls := "java/util/List", name := "get", desc := "(I)Ljava/lang/Object;" } : Jvm.MethodName)) ∈ lw_all := lw_g (lw_at lw_m5 183 rfl) rfl
theorem q1237 : (Jvm.Cond.classLink "WeirfoldLane$Changes" (35 : Nat) "WeirfoldLane$View") ∈ lw_all := lw_g (lw_at lw_m5 184 rfl) rfl
theorem q1238 : (Jvm.Cond.classLink "WeirfoldLane$Changes" (47 : Nat) "WeirfoldLane$Step") ∈ lw_all := lw_g (lw_at lw_m5 185 rfl) rfl
theorem q1239 : (Jvm.Cond.methodLink "WeirfoldLane$Changes" (49 : Nat) ({ cls := "WeirfoldLane$Step", name := "change", desc := "(LWeirfoldLane$Lane;LWeirfoldLane$Row;ILWeirfoldLane$Changes;)J" } : Jvm.MethodName)) ∈ lw_all := lw_g (lw_at lw_m5 186 rfl) rfl
theorem q1247 : (Jvm.Cond.instanceMethod ({ cls := "WeirfoldLane$Changes", name := "of", desc := "(LWeirfoldLane$Step;)J" } : Jvm.MethodName)) ∈ lw_all := lw_g (lw_at lw_m5 194 rfl) rfl
theorem q1248 : (Jvm.Cond.selects "WeirfoldLane$Changes" ({ cls := "WeirfoldLane$Changes", name := "of", desc := "(LWeirfoldLane$Step;)J" } : Jvm.MethodName) ({ cls := "WeirfoldLane$Changes", name := "of", desc := "(LWeirfoldLane$Step;)J" } : Jvm.MethodName)) ∈ lw_all := lw_g (lw_at lw_m5 195 rfl) rfl
theorem q1249 : (Jvm.Cond.code ({ cls := "WeirfoldLane$Changes", name := "of", desc := "(LWeirfoldLane$Step;)J" } : Jvm.MethodName) prog_6_method_2_code (2 : Nat) (Option.some Jvm.ClassFile.FieldType.long)) ∈ lw_all := lw_g (lw_at lw_m5 196 rfl) rfl
theorem q1250 : (Jvm.Cond.interfaceEntry "WeirfoldLane$Changes" (53 : Nat)) ∈ lw_tbl := lw_at lw_m5 197 rfl
theorem q1251 : (Jvm.Cond.methodLink "WeirfoldLane$Changes" (53 : Nat) ({ cls := "java/util/List", name := "indexOf", desc := "(Ljava/lang/Object;)I" } : Jvm.MethodName)) ∈ lw_all := lw_g (lw_at lw_m5 198 rfl) rfl
theorem q1281 : (Jvm.Cond.fieldLink "WeirfoldLane$Changes" (21 : Nat) "WeirfoldLane$Changes" "steps" "Ljava/util/List;") ∈ lw_all := lw_g (lw_at lw_m5 228 rfl) rfl
theorem q1282 : (Jvm.Cond.fieldLink "WeirfoldLane$Changes" (9 : Nat) "WeirfoldLane$Changes" "changes" "[J") ∈ lw_all := lw_g (lw_at lw_m5 229 rfl) rfl
theorem q1283 : (Jvm.Cond.laysFinal "WeirfoldLane$Changes" "WeirfoldLane$Changes" "steps" "Ljava/util/List;") ∈ lw_all := lw_g (lw_at lw_m5 230 rfl) rfl
theorem q1284 : (Jvm.Cond.soleField "WeirfoldLane$Changes" "steps") ∈ lw_all := lw_g (lw_at lw_m5 231 rfl) rfl
theorem q1285 : (Jvm.Cond.laysFinal "WeirfoldLane$Changes" "WeirfoldLane$Changes" "changes" "[J") ∈ lw_all := lw_g (lw_at lw_m5 232 rfl) rfl
theorem q1286 : (Jvm.Cond.soleField "WeirfoldLane$Changes" "changes") ∈ lw_all := lw_g (lw_at lw_m5 233 rfl) rfl
theorem q1287 : (Jvm.Cond.superclass "WeirfoldLane$Changes" "java/lang/Object") ∈ lw_all := lw_g (lw_at lw_m5 234 rfl) rfl
theorem q3316 : (Jvm.Cond.castable "WeirfoldLane$Changes" "java/lang/Object") ∈ lw_tbl := lw_at lw_m14 103 rfl
theorem in_X8 : ∀ w ∈ wsX80, w ∈ lw_all := lw_in wsX80 [1283, 1285] (by decide +kernel) (by decide +kernel)

/-! WeirfoldLane$Step -/
set_option maxRecDepth 100000
def RX9 : String := "WeirfoldLane$Step"
abbrev cX9_init : ByteArray := prog_20_method_1_code
def yX9_init : MethodName := ⟨RX9, "<init>", "(C)V"⟩
def dkwX9_init_0 : List UInt8 := [42, 183, 0, 1, 42, 27, 181, 0, 7, 177]
abbrev dktX9_init_0 : List UInt8 := dkwX9_init_0 ++ []
theorem dksX9_init_0 : cX9_init.data.toList.drop 0 = dktX9_init_0 := by decide +kernel
theorem dX9_init_0 : decode cX9_init 0 = .ok (.aload_n 0, 1) := dk_42 (dk_at dksX9_init_0 0 rfl rfl)
theorem dX9_init_1 : decode cX9_init 1 = .ok (.invokespecial 1, 3) := dk_183 0 1 (dk_at dksX9_init_0 1 rfl rfl)
theorem dX9_init_4 : decode cX9_init 4 = .ok (.aload_n 0, 1) := dk_42 (dk_at dksX9_init_0 4 rfl rfl)
theorem dX9_init_5 : decode cX9_init 5 = .ok (.iload_n 1, 1) := dk_27 (dk_at dksX9_init_0 5 rfl rfl)
theorem dX9_init_6 : decode cX9_init 6 = .ok (.putfield 7, 3) := dk_181 0 7 (dk_at dksX9_init_0 6 rfl rfl)
theorem dX9_init_9 : decode cX9_init 9 = .ok (.return_, 1) := dk_177 (dk_at dksX9_init_0 9 rfl rfl)
abbrev cX9_kind : ByteArray := prog_20_method_2_code
def yX9_kind : MethodName := ⟨RX9, "kind", "()C"⟩
theorem dX9_kind_0 : decode cX9_kind 0 = .ok (.aload_n 0, 1) := by decide +kernel
theorem dX9_kind_1 : decode cX9_kind 1 = .ok (.getfield 7, 3) := by decide +kernel
theorem dX9_kind_4 : decode cX9_kind 4 = .ok (.ireturn, 1) := by decide +kernel
abbrev cX9_dependsOn : ByteArray := prog_20_method_12_code
def yX9_dependsOn : MethodName := ⟨RX9, "dependsOn", "(LWeirfoldLane$Step;Ljava/util/List;)Z"⟩
def dkwX9_dependsOn_2 : List UInt8 := [43, 44, 182, 0, 33, 153, 0, 7, 4, 167, 0, 4, 3, 128, 62, 167, 255, 207, 29, 172]
abbrev dktX9_dependsOn_2 : List UInt8 := dkwX9_dependsOn_2 ++ []
def dkwX9_dependsOn_1 : List UInt8 := [25, 4, 185, 0, 29, 1, 0, 192, 0, 8, 58, 5, 29, 42, 25, 5, 182, 0, 13, 153, 0, 17, 25, 5]
abbrev dktX9_dependsOn_1 : List UInt8 := dkwX9_dependsOn_1 ++ dktX9_dependsOn_2
def dkwX9_dependsOn_0 : List UInt8 := [42, 43, 182, 0, 13, 62, 44, 185, 0, 17, 1, 0, 58, 4, 25, 4, 185, 0, 23, 1, 0, 153, 0, 45]
abbrev dktX9_dependsOn_0 : List UInt8 := dkwX9_dependsOn_0 ++ dktX9_dependsOn_1
theorem dksX9_dependsOn_0 : cX9_dependsOn.data.toList.drop 0 = dktX9_dependsOn_0 := by decide +kernel
theorem dksX9_dependsOn_1 : cX9_dependsOn.data.toList.drop 24 = dktX9_dependsOn_1 := dk_seg dksX9_dependsOn_0 24 rfl rfl
theorem dksX9_dependsOn_2 : cX9_dependsOn.data.toList.drop 48 = dktX9_dependsOn_2 := dk_seg dksX9_dependsOn_1 24 rfl rfl
theorem dX9_dependsOn_0 : decode cX9_dependsOn 0 = .ok (.aload_n 0, 1) := dk_42 (dk_at dksX9_dependsOn_0 0 rfl rfl)
theorem dX9_dependsOn_1 : decode cX9_dependsOn 1 = .ok (.aload_n 1, 1) := dk_43 (dk_at dksX9_dependsOn_0 1 rfl rfl)
theorem dX9_dependsOn_2 : decode cX9_dependsOn 2 = .ok (.invokevirtual 13, 3) := dk_182 0 13 (dk_at dksX9_dependsOn_0 2 rfl rfl)
theorem dX9_dependsOn_5 : decode cX9_dependsOn 5 = .ok (.istore_n 3, 1) := dk_62 (dk_at dksX9_dependsOn_0 5 rfl rfl)
theorem dX9_dependsOn_6 : decode cX9_dependsOn 6 = .ok (.aload_n 2, 1) := dk_44 (dk_at dksX9_dependsOn_0 6 rfl rfl)
theorem dX9_dependsOn_7 : decode cX9_dependsOn 7 = .ok (.invokeinterface 17 1, 5) := by decide +kernel
theorem dX9_dependsOn_12 : decode cX9_dependsOn 12 = .ok (.astore 4, 2) := dk_58 4 (dk_at dksX9_dependsOn_0 12 rfl rfl)
theorem dX9_dependsOn_14 : decode cX9_dependsOn 14 = .ok (.aload 4, 2) := dk_25 4 (dk_at dksX9_dependsOn_0 14 rfl rfl)
theorem dX9_dependsOn_16 : decode cX9_dependsOn 16 = .ok (.invokeinterface 23 1, 5) := by decide +kernel
theorem dX9_dependsOn_21 : decode cX9_dependsOn 21 = .ok (.ifCond .eq 45, 3) := dk_153 0 45 (dk_at dksX9_dependsOn_0 21 rfl rfl)
theorem dX9_dependsOn_24 : decode cX9_dependsOn 24 = .ok (.aload 4, 2) := dk_25 4 (dk_at dksX9_dependsOn_1 0 rfl rfl)
theorem dX9_dependsOn_26 : decode cX9_dependsOn 26 = .ok (.invokeinterface 29 1, 5) := by decide +kernel
theorem dX9_dependsOn_31 : decode cX9_dependsOn 31 = .ok (.checkcast 8, 3) := dk_192 0 8 (dk_at dksX9_dependsOn_1 7 rfl rfl)
theorem dX9_dependsOn_34 : decode cX9_dependsOn 34 = .ok (.astore 5, 2) := dk_58 5 (dk_at dksX9_dependsOn_1 10 rfl rfl)
theorem dX9_dependsOn_36 : decode cX9_dependsOn 36 = .ok (.iload_n 3, 1) := dk_29 (dk_at dksX9_dependsOn_1 12 rfl rfl)
theorem dX9_dependsOn_37 : decode cX9_dependsOn 37 = .ok (.aload_n 0, 1) := dk_42 (dk_at dksX9_dependsOn_1 13 rfl rfl)
theorem dX9_dependsOn_38 : decode cX9_dependsOn 38 = .ok (.aload 5, 2) := dk_25 5 (dk_at dksX9_dependsOn_1 14 rfl rfl)
theorem dX9_dependsOn_40 : decode cX9_dependsOn 40 = .ok (.invokevirtual 13, 3) := dk_182 0 13 (dk_at dksX9_dependsOn_1 16 rfl rfl)
theorem dX9_dependsOn_43 : decode cX9_dependsOn 43 = .ok (.ifCond .eq 17, 3) := dk_153 0 17 (dk_at dksX9_dependsOn_1 19 rfl rfl)
theorem dX9_dependsOn_46 : decode cX9_dependsOn 46 = .ok (.aload 5, 2) := dk_25 5 (dk_at dksX9_dependsOn_1 22 rfl rfl)
theorem dX9_dependsOn_48 : decode cX9_dependsOn 48 = .ok (.aload_n 1, 1) := dk_43 (dk_at dksX9_dependsOn_2 0 rfl rfl)
theorem dX9_dependsOn_49 : decode cX9_dependsOn 49 = .ok (.aload_n 2, 1) := dk_44 (dk_at dksX9_dependsOn_2 1 rfl rfl)
theorem dX9_dependsOn_50 : decode cX9_dependsOn 50 = .ok (.invokevirtual 33, 3) := dk_182 0 33 (dk_at dksX9_dependsOn_2 2 rfl rfl)
theorem dX9_dependsOn_53 : decode cX9_dependsOn 53 = .ok (.ifCond .eq 7, 3) := dk_153 0 7 (dk_at dksX9_dependsOn_2 5 rfl rfl)
theorem dX9_dependsOn_56 : decode cX9_dependsOn 56 = .ok (.iconst 1, 1) := dk_4 (dk_at dksX9_dependsOn_2 8 rfl rfl)
theorem dX9_dependsOn_57 : decode cX9_dependsOn 57 = .ok (.goto 4, 3) := dk_167 0 4 (dk_at dksX9_dependsOn_2 9 rfl rfl)
theorem dX9_dependsOn_60 : decode cX9_dependsOn 60 = .ok (.iconst 0, 1) := dk_3 (dk_at dksX9_dependsOn_2 12 rfl rfl)
theorem dX9_dependsOn_61 : decode cX9_dependsOn 61 = .ok (.ior, 1) := dk_128 (dk_at dksX9_dependsOn_2 13 rfl rfl)
theorem dX9_dependsOn_62 : decode cX9_dependsOn 62 = .ok (.istore_n 3, 1) := dk_62 (dk_at dksX9_dependsOn_2 14 rfl rfl)
theorem dX9_dependsOn_63 : decode cX9_dependsOn 63 = .ok (.goto (-49), 3) := dk_167 255 207 (dk_at dksX9_dependsOn_2 15 rfl rfl)
theorem dX9_dependsOn_66 : decode cX9_dependsOn 66 = .ok (.iload_n 3, 1) := dk_29 (dk_at dksX9_dependsOn_2 18 rfl rfl)
theorem dX9_dependsOn_67 : decode cX9_dependsOn 67 = .ok (.ireturn, 1) := dk_172 (dk_at dksX9_dependsOn_2 19 rfl rfl)
theorem q127 : (Jvm.Cond.initialized "WeirfoldLane$Step") ∈ lw_all := lw_g (lw_at lw_m1 34 rfl) rfl
theorem q682 : (Jvm.Cond.declares ({ cls := "WeirfoldLane$Step", name := "compute", desc := "(Ljava/util/List;LWeirfoldLane$Numbers;II)J" } : Jvm.MethodName)) ∈ lw_tbl := lw_at lw_m3 109 rfl
theorem q683 : (Jvm.Cond.sameMethod "WeirfoldLane$Step" "WeirfoldLane$Step" "compute" "(Ljava/util/List;LWeirfoldLane$Numbers;II)J") ∈ lw_all := lw_g (lw_at lw_m3 110 rfl) rfl
theorem q1240 : (Jvm.Cond.declares ({ cls := "WeirfoldLane$Step", name := "change", desc := "(LWeirfoldLane$Lane;LWeirfoldLane$Row;ILWeirfoldLane$Changes;)J" } : Jvm.MethodName)) ∈ lw_tbl := lw_at lw_m5 187 rfl
theorem q1241 : (Jvm.Cond.sameMethod "WeirfoldLane$Step" "WeirfoldLane$Step" "change" "(LWeirfoldLane$Lane;LWeirfoldLane$Row;ILWeirfoldLane$Changes;)J") ∈ lw_all := lw_g (lw_at lw_m5 188 rfl) rfl
theorem q1294 : (Jvm.Cond.declares ({ cls := "WeirfoldLane$Step", name := "level", desc := "()I" } : Jvm.MethodName)) ∈ lw_tbl := lw_at lw_m6 1 rfl
theorem q1295 : (Jvm.Cond.sameMethod "WeirfoldLane$Step" "WeirfoldLane$Step" "level" "()I") ∈ lw_all := lw_g (lw_at lw_m6 2 rfl) rfl
theorem q1312 : (Jvm.Cond.declares ({ cls := "WeirfoldLane$Step", name := "isFromStale", desc := "(LWeirfoldLane$Lane;I)Z" } : Jvm.MethodName)) ∈ lw_tbl := lw_at lw_m6 19 rfl
theorem q1313 : (Jvm.Cond.sameMethod "WeirfoldLane$Step" "WeirfoldLane$Step" "isFromStale" "(LWeirfoldLane$Lane;I)Z") ∈ lw_all := lw_g (lw_at lw_m6 20 rfl) rfl
theorem q1467 : (Jvm.Cond.instanceMethod ({ cls := "WeirfoldLane$Step", name := "<init>", desc := "(C)V" } : Jvm.MethodName)) ∈ lw_all := lw_g (lw_at lw_m6 174 rfl) rfl
theorem q1468 : (Jvm.Cond.code ({ cls := "WeirfoldLane$Step", name := "<init>", desc := "(C)V" } : Jvm.MethodName) prog_20_method_1_code (2 : Nat) (Option.none : Option Jvm.ClassFile.FieldType)) ∈ lw_all := lw_g (lw_at lw_m6 175 rfl) rfl
theorem q1469 : (Jvm.Cond.methodLink "WeirfoldLane$Step" (1 : Nat) ({ cls := "java/lang/Object", name := "<init>", desc := "()V" } : Jvm.MethodName)) ∈ lw_all := lw_g (lw_at lw_m6 176 rfl) rfl
theorem q1471 : (Jvm.Cond.fieldLink "WeirfoldLane$Step" (7 : Nat) "WeirfoldLane$Step" "kind" "C") ∈ lw_all := lw_g (lw_at lw_m6 178 rfl) rfl
theorem q1475 : (Jvm.Cond.soleField "WeirfoldLane$Step" "kind") ∈ lw_all := lw_g (lw_at lw_m6 182 rfl) rfl
theorem q1582 : (Jvm.Cond.declares ({ cls := "WeirfoldLane$Step", name := "hasInput", desc := "(LWeirfoldLane$Step;)Z" } : Jvm.MethodName)) ∈ lw_tbl := lw_at lw_m7 49 rfl
theorem q1583 : (Jvm.Cond.sameMethod "WeirfoldLane$Step" "WeirfoldLane$Step" "hasInput" "(LWeirfoldLane$Step;)Z") ∈ lw_all := lw_g (lw_at lw_m7 50 rfl) rfl
theorem q1844 : (Jvm.Cond.instanceMethod ({ cls := "WeirfoldLane$Step", name := "kind", desc := "()C" } : Jvm.MethodName)) ∈ lw_all := lw_g (lw_at lw_m8 71 rfl) rfl
theorem q1845 : (Jvm.Cond.sameMethod "WeirfoldLane$Step" "WeirfoldLane$Step" "kind" "()C") ∈ lw_all := lw_g (lw_at lw_m8 72 rfl) rfl
theorem q1852 : (Jvm.Cond.code ({ cls := "WeirfoldLane$Step", name := "kind", desc := "()C" } : Jvm.MethodName) prog_20_method_2_code (1 : Nat) (Option.some Jvm.ClassFile.FieldType.char)) ∈ lw_all := lw_g (lw_at lw_m8 79 rfl) rfl
theorem q1861 : (Jvm.Cond.instanceMethod ({ cls := "WeirfoldLane$Step", name := "dependsOn", desc := "(LWeirfoldLane$Step;Ljava/util/List;)Z" } : Jvm.MethodName)) ∈ lw_all := lw_g (lw_at lw_m8 88 rfl) rfl
theorem q1862 : (Jvm.Cond.sameMethod "WeirfoldLane$Step" "WeirfoldLane$Step" "dependsOn" "(LWeirfoldLane$Step;Ljava/util/List;)Z") ∈ lw_all := lw_g (lw_at lw_m8 89 rfl) rfl
theorem q1869 : (Jvm.Cond.code ({ cls := "WeirfoldLane$Step", name := "dependsOn", desc := "(LWeirfoldLane$Step;Ljava/util/List;)Z" } : Jvm.MethodName) prog_20_method_12_code (6 : Nat) (Option.some Jvm.ClassFile.FieldType.boolean)) ∈ lw_all := lw_g (lw_at lw_m8 96 rfl) rfl
theorem q1870 : (Jvm.Cond.methodLink "WeirfoldLane$Step" (13 : Nat) ({ cls := "WeirfoldLane$Step", name := "hasInput", desc := "(LWeirfoldLane$Step;)Z" } : Jvm.MethodName)) ∈ lw_all := lw_g (lw_at lw_m8 97 rfl) rfl
theorem q1871 : (Jvm.Cond.interfaceEntry "WeirfoldLane$Step" (17 : Nat)) ∈ lw_tbl := lw_at lw_m8 98 rfl
theorem q1872 : (Jvm.Cond.methodLink "WeirfoldLane$Step" (17 : Nat) ({ cls := "java/util/List", name := "iterator", desc := "()Ljava/util/Iterator;" } : Jvm.MethodName)) ∈ lw_all := lw_g (lw_at lw_m8 99 rfl) rfl
theorem q1873 : (Jvm.Cond.interfaceEntry "WeirfoldLane$Step" (23 : Nat)) ∈ lw_tbl := lw_at lw_m8 100 rfl
theorem q1874 : (Jvm.Cond.methodLink "WeirfoldLane$Step" (23 : Nat) ({ cls := "java/util/Iterator", name := "hasNext", desc := "()Z" } : Jvm.MethodName)) ∈ lw_all := lw_g (lw_at lw_m8 101 rfl) rfl
theorem q1875 : (Jvm.Cond.interfaceEntry "WeirfoldLane$Step" (29 : Nat)) ∈ lw_tbl := lw_at lw_m8 102 rfl
theorem q1876 : (Jvm.Cond.methodLink "WeirfoldLane$Step" (29 : Nat) ({ cls := "java/util/Iterator", name := "next", desc := "()Ljava/lang/Object;" } : Jvm.MethodName)) ∈ lw_all := lw_g (lw_at lw_m8 103 rfl) rfl
theorem q1877 : (Jvm.Cond.classLink "WeirfoldLane$Step" (8 : Nat) "WeirfoldLane$Step") ∈ lw_all := lw_g (lw_at lw_m8 104 rfl) rfl
theorem q1878 : (Jvm.Cond.methodLink "WeirfoldLane$Step" (33 : Nat) ({ cls := "WeirfoldLane$Step", name := "dependsOn", desc := "(LWeirfoldLane$Step;Ljava/util/List;)Z" } : Jvm.MethodName)) ∈ lw_all := lw_g (lw_at lw_m8 105 rfl) rfl
theorem q1946 : (Jvm.Cond.declares ({ cls := "WeirfoldLane$Step", name := "rowsBehind", desc := "(Ljava/util/List;II)J" } : Jvm.MethodName)) ∈ lw_tbl := lw_at lw_m8 173 rfl
theorem q1947 : (Jvm.Cond.sameMethod "WeirfoldLane$Step" "WeirfoldLane$Step" "rowsBehind" "(Ljava/util/List;II)J") ∈ lw_all := lw_g (lw_at lw_m8 174 rfl) rfl
theorem q1994 : (Jvm.Cond.declares ({ cls := "WeirfoldLane$Step", name := "isMarked", desc := "(LWeirfoldLane$Row;LWeirfoldLane$Marks;I)Z" } : Jvm.MethodName)) ∈ lw_tbl := lw_at lw_m8 221 rfl
theorem q1995 : (Jvm.Cond.sameMethod "WeirfoldLane$Step" "WeirfoldLane$Step" "isMarked" "(LWeirfoldLane$Row;LWeirfoldLane$Marks;I)Z") ∈ lw_all := lw_g (lw_at lw_m8 222 rfl) rfl
theorem q2079 : (Jvm.Cond.declares ({ cls := "WeirfoldLane$Step", name := "costWith", desc := "(LWeirfoldLane$Costs;)J" } : Jvm.MethodName)) ∈ lw_tbl := lw_at lw_m9 66 rfl
theorem q2080 : (Jvm.Cond.sameMethod "WeirfoldLane$Step" "WeirfoldLane$Step" "costWith" "(LWeirfoldLane$Costs;)J") ∈ lw_all := lw_g (lw_at lw_m9 67 rfl) rfl
theorem q2491 : (Jvm.Cond.declares ({ cls := "WeirfoldLane$Step", name := "text", desc := "(LWeirfoldLane$Lane;)Ljava/lang/String;" } : Jvm.MethodName)) ∈ lw_tbl := lw_at lw_m10 238 rfl
theorem q2492 : (Jvm.Cond.sameMethod "WeirfoldLane$Step" "WeirfoldLane$Step" "text" "(LWeirfoldLane$Lane;)Ljava/lang/String;") ∈ lw_all := lw_g (lw_at lw_m10 239 rfl) rfl
theorem q2502 : (Jvm.Cond.declares ({ cls := "WeirfoldLane$Step", name := "kind", desc := "()C" } : Jvm.MethodName)) ∈ lw_tbl := lw_at lw_m11 9 rfl

/-! WeirfoldLane$BaseStep -/
set_option maxRecDepth 100000
def RX10 : String := "WeirfoldLane$BaseStep"
abbrev cX10_compute : ByteArray := prog_3_method_4_code
def yX10_compute : MethodName := ⟨RX10, "compute", "(Ljava/util/List;LWeirfoldLane$Numbers;II)J"⟩
def dkwX10_compute_3 : List UInt8 := [22, 5, 173]
abbrev dktX10_compute_3 : List UInt8 := dkwX10_compute_3 ++ []
def dkwX10_compute_2 : List UInt8 := [182, 0, 38, 153, 0, 14, 42, 22, 5, 25, 8, 182, 0, 42, 167, 0, 5, 22, 5, 55, 5, 167, 255, 199]
abbrev dktX10_compute_2 : List UInt8 := dkwX10_compute_2 ++ dktX10_compute_3
def dkwX10_compute_1 : List UInt8 := [185, 0, 30, 1, 0, 192, 0, 14, 58, 8, 25, 8, 29, 21, 4, 182, 0, 34, 153, 0, 23, 42, 25, 8]
abbrev dktX10_compute_1 : List UInt8 := dkwX10_compute_1 ++ dktX10_compute_2
def dkwX10_compute_0 : List UInt8 := [9, 55, 5, 43, 185, 0, 18, 1, 0, 58, 7, 25, 7, 185, 0, 24, 1, 0, 153, 0, 53, 25, 7]
abbrev dktX10_compute_0 : List UInt8 := dkwX10_compute_0 ++ dktX10_compute_1
theorem dksX10_compute_0 : cX10_compute.data.toList.drop 0 = dktX10_compute_0 := by decide +kernel
theorem dksX10_compute_1 : cX10_compute.data.toList.drop 23 = dktX10_compute_1 := dk_seg dksX10_compute_0 23 rfl rfl
theorem dksX10_compute_2 : cX10_compute.data.toList.drop 47 = dktX10_compute_2 := dk_seg dksX10_compute_1 24 rfl rfl
theorem dksX10_compute_3 : cX10_compute.data.toList.drop 71 = dktX10_compute_3 := dk_seg dksX10_compute_2 24 rfl rfl
theorem dX10_compute_0 : decode cX10_compute 0 = .ok (.lconst 0, 1) := dk_9 (dk_at dksX10_compute_0 0 rfl rfl)
theorem dX10_compute_1 : decode cX10_compute 1 = .ok (.lstore 5, 2) := dk_55 5 (dk_at dksX10_compute_0 1 rfl rfl)
theorem dX10_compute_3 : decode cX10_compute 3 = .ok (.aload_n 1, 1) := dk_43 (dk_at dksX10_compute_0 3 rfl rfl)
theorem dX10_compute_4 : decode cX10_compute 4 = .ok (.invokeinterface 18 1, 5) := by decide +kernel
theorem dX10_compute_9 : decode cX10_compute 9 = .ok (.astore 7, 2) := dk_58 7 (dk_at dksX10_compute_0 9 rfl rfl)
theorem dX10_compute_11 : decode cX10_compute 11 = .ok (.aload 7, 2) := dk_25 7 (dk_at dksX10_compute_0 11 rfl rfl)
theorem dX10_compute_13 : decode cX10_compute 13 = .ok (.invokeinterface 24 1, 5) := by decide +kernel
theorem dX10_compute_18 : decode cX10_compute 18 = .ok (.ifCond .eq 53, 3) := dk_153 0 53 (dk_at dksX10_compute_0 18 rfl rfl)
theorem dX10_compute_21 : decode cX10_compute 21 = .ok (.aload 7, 2) := dk_25 7 (dk_at dksX10_compute_0 21 rfl rfl)
theorem dX10_compute_23 : decode cX10_compute 23 = .ok (.invokeinterface 30 1, 5) := by decide +kernel
theorem dX10_compute_28 : decode cX10_compute 28 = .ok (.checkcast 14, 3) := dk_192 0 14 (dk_at dksX10_compute_1 5 rfl rfl)
theorem dX10_compute_31 : decode cX10_compute 31 = .ok (.astore 8, 2) := dk_58 8 (dk_at dksX10_compute_1 8 rfl rfl)
theorem dX10_compute_33 : decode cX10_compute 33 = .ok (.aload 8, 2) := dk_25 8 (dk_at dksX10_compute_1 10 rfl rfl)
theorem dX10_compute_35 : decode cX10_compute 35 = .ok (.iload_n 3, 1) := dk_29 (dk_at dksX10_compute_1 12 rfl rfl)
theorem dX10_compute_36 : decode cX10_compute 36 = .ok (.iload 4, 2) := dk_21 4 (dk_at dksX10_compute_1 13 rfl rfl)
theorem dX10_compute_38 : decode cX10_compute 38 = .ok (.invokevirtual 34, 3) := dk_182 0 34 (dk_at dksX10_compute_1 15 rfl rfl)
theorem dX10_compute_41 : decode cX10_compute 41 = .ok (.ifCond .eq 23, 3) := dk_153 0 23 (dk_at dksX10_compute_1 18 rfl rfl)
theorem dX10_compute_44 : decode cX10_compute 44 = .ok (.aload_n 0, 1) := dk_42 (dk_at dksX10_compute_1 21 rfl rfl)
theorem dX10_compute_45 : decode cX10_compute 45 = .ok (.aload 8, 2) := dk_25 8 (dk_at dksX10_compute_1 22 rfl rfl)
theorem dX10_compute_47 : decode cX10_compute 47 = .ok (.invokevirtual 38, 3) := dk_182 0 38 (dk_at dksX10_compute_2 0 rfl rfl)
theorem dX10_compute_50 : decode cX10_compute 50 = .ok (.ifCond .eq 14, 3) := dk_153 0 14 (dk_at dksX10_compute_2 3 rfl rfl)
theorem dX10_compute_53 : decode cX10_compute 53 = .ok (.aload_n 0, 1) := dk_42 (dk_at dksX10_compute_2 6 rfl rfl)
theorem dX10_compute_54 : decode cX10_compute 54 = .ok (.lload 5, 2) := dk_22 5 (dk_at dksX10_compute_2 7 rfl rfl)
theorem dX10_compute_56 : decode cX10_compute 56 = .ok (.aload 8, 2) := dk_25 8 (dk_at dksX10_compute_2 9 rfl rfl)
theorem dX10_compute_58 : decode cX10_compute 58 = .ok (.invokevirtual 42, 3) := dk_182 0 42 (dk_at dksX10_compute_2 11 rfl rfl)
theorem dX10_compute_61 : decode cX10_compute 61 = .ok (.goto 5, 3) := dk_167 0 5 (dk_at dksX10_compute_2 14 rfl rfl)
theorem dX10_compute_64 : decode cX10_compute 64 = .ok (.lload 5, 2) := dk_22 5 (dk_at dksX10_compute_2 17 rfl rfl)
theorem dX10_compute_66 : decode cX10_compute 66 = .ok (.lstore 5, 2) := dk_55 5 (dk_at dksX10_compute_2 19 rfl rfl)
theorem dX10_compute_68 : decode cX10_compute 68 = .ok (.goto (-57), 3) := dk_167 255 199 (dk_at dksX10_compute_2 21 rfl rfl)
theorem dX10_compute_71 : decode cX10_compute 71 = .ok (.lload 5, 2) := dk_22 5 (dk_at dksX10_compute_3 0 rfl rfl)
theorem dX10_compute_73 : decode cX10_compute 73 = .ok (.lreturn, 1) := dk_173 (dk_at dksX10_compute_3 2 rfl rfl)
abbrev cX10_takes : ByteArray := prog_3_method_2_code
def yX10_takes : MethodName := ⟨RX10, "takes", "(LWeirfoldLane$Row;)Z"⟩
def dkwX10_takes_0 : List UInt8 := [43, 180, 0, 13, 42, 180, 0, 7, 161, 0, 7, 4, 167, 0, 4, 3, 172]
abbrev dktX10_takes_0 : List UInt8 := dkwX10_takes_0 ++ []
theorem dksX10_takes_0 : cX10_takes.data.toList.drop 0 = dktX10_takes_0 := by decide +kernel
theorem dX10_takes_0 : decode cX10_takes 0 = .ok (.aload_n 1, 1) := dk_43 (dk_at dksX10_takes_0 0 rfl rfl)
theorem dX10_takes_1 : decode cX10_takes 1 = .ok (.getfield 13, 3) := dk_180 0 13 (dk_at dksX10_takes_0 1 rfl rfl)
theorem dX10_takes_4 : decode cX10_takes 4 = .ok (.aload_n 0, 1) := dk_42 (dk_at dksX10_takes_0 4 rfl rfl)
theorem dX10_takes_5 : decode cX10_takes 5 = .ok (.getfield 7, 3) := dk_180 0 7 (dk_at dksX10_takes_0 5 rfl rfl)
theorem dX10_takes_8 : decode cX10_takes 8 = .ok (.if_icmp .lt 7, 3) := dk_161 0 7 (dk_at dksX10_takes_0 8 rfl rfl)
theorem dX10_takes_11 : decode cX10_takes 11 = .ok (.iconst 1, 1) := dk_4 (dk_at dksX10_takes_0 11 rfl rfl)
theorem dX10_takes_12 : decode cX10_takes 12 = .ok (.goto 4, 3) := dk_167 0 4 (dk_at dksX10_takes_0 12 rfl rfl)
theorem dX10_takes_15 : decode cX10_takes 15 = .ok (.iconst 0, 1) := dk_3 (dk_at dksX10_takes_0 15 rfl rfl)
theorem dX10_takes_16 : decode cX10_takes 16 = .ok (.ireturn, 1) := dk_172 (dk_at dksX10_takes_0 16 rfl rfl)
abbrev cX10_level : ByteArray := prog_3_method_6_code
def yX10_level : MethodName := ⟨RX10, "level", "()I"⟩
theorem dX10_level_0 : decode cX10_level 0 = .ok (.iconst 0, 1) := by decide +kernel
theorem dX10_level_1 : decode cX10_level 1 = .ok (.ireturn, 1) := by decide +kernel
abbrev cX10_isFromStale : ByteArray := prog_3_method_7_code
def yX10_isFromStale : MethodName := ⟨RX10, "isFromStale", "(LWeirfoldLane$Lane;I)Z"⟩
theorem dX10_isFromStale_0 : decode cX10_isFromStale 0 = .ok (.iconst 0, 1) := by decide +kernel
theorem dX10_isFromStale_1 : decode cX10_isFromStale 1 = .ok (.ireturn, 1) := by decide +kernel
abbrev cX10_init : ByteArray := prog_3_method_1_code
def yX10_init : MethodName := ⟨RX10, "<init>", "(CI)V"⟩
def dkwX10_init_0 : List UInt8 := [42, 27, 183, 0, 1, 42, 28, 181, 0, 7, 177]
abbrev dktX10_init_0 : List UInt8 := dkwX10_init_0 ++ []
theorem dksX10_init_0 : cX10_init.data.toList.drop 0 = dktX10_init_0 := by decide +kernel
theorem dX10_init_0 : decode cX10_init 0 = .ok (.aload_n 0, 1) := dk_42 (dk_at dksX10_init_0 0 rfl rfl)
theorem dX10_init_1 : decode cX10_init 1 = .ok (.iload_n 1, 1) := dk_27 (dk_at dksX10_init_0 1 rfl rfl)
theorem dX10_init_2 : decode cX10_init 2 = .ok (.invokespecial 1, 3) := dk_183 0 1 (dk_at dksX10_init_0 2 rfl rfl)
theorem dX10_init_5 : decode cX10_init 5 = .ok (.aload_n 0, 1) := dk_42 (dk_at dksX10_init_0 5 rfl rfl)
theorem dX10_init_6 : decode cX10_init 6 = .ok (.iload_n 2, 1) := dk_28 (dk_at dksX10_init_0 6 rfl rfl)
theorem dX10_init_7 : decode cX10_init 7 = .ok (.putfield 7, 3) := dk_181 0 7 (dk_at dksX10_init_0 7 rfl rfl)
theorem dX10_init_10 : decode cX10_init 10 = .ok (.return_, 1) := dk_177 (dk_at dksX10_init_0 10 rfl rfl)
abbrev cX10_hasInput : ByteArray := prog_3_method_5_code
def yX10_hasInput : MethodName := ⟨RX10, "hasInput", "(LWeirfoldLane$Step;)Z"⟩
theorem dX10_hasInput_0 : decode cX10_hasInput 0 = .ok (.iconst 0, 1) := by decide +kernel
theorem dX10_hasInput_1 : decode cX10_hasInput 1 = .ok (.ireturn, 1) := by decide +kernel
abbrev cX10_rowsBehind : ByteArray := prog_3_method_8_code
def yX10_rowsBehind : MethodName := ⟨RX10, "rowsBehind", "(Ljava/util/List;II)J"⟩
def dkwX10_rowsBehind_3 : List UInt8 := [167, 255, 197, 22, 4, 173]
abbrev dktX10_rowsBehind_3 : List UInt8 := dkwX10_rowsBehind_3 ++ []
def dkwX10_rowsBehind_2 : List UInt8 := [25, 7, 182, 0, 38, 153, 0, 10, 10, 21, 6, 121, 167, 0, 4, 9, 129, 55, 4, 132, 6, 1]
abbrev dktX10_rowsBehind_2 : List UInt8 := dkwX10_rowsBehind_2 ++ dktX10_rowsBehind_3
def dkwX10_rowsBehind_1 : List UInt8 := [185, 0, 50, 2, 0, 192, 0, 14, 58, 7, 22, 4, 25, 7, 28, 29, 182, 0, 34, 153, 0, 19, 42]
abbrev dktX10_rowsBehind_1 : List UInt8 := dkwX10_rowsBehind_1 ++ dktX10_rowsBehind_2
def dkwX10_rowsBehind_0 : List UInt8 := [9, 55, 4, 3, 54, 6, 21, 6, 43, 185, 0, 46, 1, 0, 162, 0, 54, 43, 21, 6]
abbrev dktX10_rowsBehind_0 : List UInt8 := dkwX10_rowsBehind_0 ++ dktX10_rowsBehind_1
theorem dksX10_rowsBehind_0 : cX10_rowsBehind.data.toList.drop 0 = dktX10_rowsBehind_0 := by decide +kernel
theorem dksX10_rowsBehind_1 : cX10_rowsBehind.data.toList.drop 20 = dktX10_rowsBehind_1 := dk_seg dksX10_rowsBehind_0 20 rfl rfl
theorem dksX10_rowsBehind_2 : cX10_rowsBehind.data.toList.drop 43 = dktX10_rowsBehind_2 := dk_seg dksX10_rowsBehind_1 23 rfl rfl
theorem dksX10_rowsBehind_3 : cX10_rowsBehind.data.toList.drop 65 = dktX10_rowsBehind_3 := dk_seg dksX10_rowsBehind_2 22 rfl rfl
theorem dX10_rowsBehind_0 : decode cX10_rowsBehind 0 = .ok (.lconst 0, 1) := dk_9 (dk_at dksX10_rowsBehind_0 0 rfl rfl)
theorem dX10_rowsBehind_1 : decode cX10_rowsBehind 1 = .ok (.lstore 4, 2) := dk_55 4 (dk_at dksX10_rowsBehind_0 1 rfl rfl)
theorem dX10_rowsBehind_3 : decode cX10_rowsBehind 3 = .ok (.iconst 0, 1) := dk_3 (dk_at dksX10_rowsBehind_0 3 rfl rfl)
theorem dX10_rowsBehind_4 : decode cX10_rowsBehind 4 = .ok (.istore 6, 2) := dk_54 6 (dk_at dksX10_rowsBehind_0 4 rfl rfl)
theorem dX10_rowsBehind_6 : decode cX10_rowsBehind 6 = .ok (.iload 6, 2) := dk_21 6 (dk_at dksX10_rowsBehind_0 6 rfl rfl)
theorem dX10_rowsBehind_8 : decode cX10_rowsBehind 8 = .ok (.aload_n 1, 1) := dk_43 (dk_at dksX10_rowsBehind_0 8 rfl rfl)
theorem dX10_rowsBehind_9 : decode cX10_rowsBehind 9 = .ok (.invokeinterface 46 1, 5) := by decide +kernel
theorem dX10_rowsBehind_14 : decode cX10_rowsBehind 14 = .ok (.if_icmp .ge 54, 3) := dk_162 0 54 (dk_at dksX10_rowsBehind_0 14 rfl rfl)
theorem dX10_rowsBehind_17 : decode cX10_rowsBehind 17 = .ok (.aload_n 1, 1) := dk_43 (dk_at dksX10_rowsBehind_0 17 rfl rfl)
theorem dX10_rowsBehind_18 : decode cX10_rowsBehind 18 = .ok (.iload 6, 2) := dk_21 6 (dk_at dksX10_rowsBehind_0 18 rfl rfl)
theorem dX10_rowsBehind_20 : decode cX10_rowsBehind 20 = .ok (.invokeinterface 50 2, 5) := by decide +kernel
theorem dX10_rowsBehind_25 : decode cX10_rowsBehind 25 = .ok (.checkcast 14, 3) := dk_192 0 14 (dk_at dksX10_rowsBehind_1 5 rfl rfl)
theorem dX10_rowsBehind_28 : decode cX10_rowsBehind 28 = .ok (.astore 7, 2) := dk_58 7 (dk_at dksX10_rowsBehind_1 8 rfl rfl)
theorem dX10_rowsBehind_30 : decode cX10_rowsBehind 30 = .ok (.lload 4, 2) := dk_22 4 (dk_at dksX10_rowsBehind_1 10 rfl rfl)
theorem dX10_rowsBehind_32 : decode cX10_rowsBehind 32 = .ok (.aload 7, 2) := dk_25 7 (dk_at dksX10_rowsBehind_1 12 rfl rfl)
theorem dX10_rowsBehind_34 : decode cX10_rowsBehind 34 = .ok (.iload_n 2, 1) := dk_28 (dk_at dksX10_rowsBehind_1 14 rfl rfl)
theorem dX10_rowsBehind_35 : decode cX10_rowsBehind 35 = .ok (.iload_n 3, 1) := dk_29 (dk_at dksX10_rowsBehind_1 15 rfl rfl)
theorem dX10_rowsBehind_36 : decode cX10_rowsBehind 36 = .ok (.invokevirtual 34, 3) := dk_182 0 34 (dk_at dksX10_rowsBehind_1 16 rfl rfl)
theorem dX10_rowsBehind_39 : decode cX10_rowsBehind 39 = .ok (.ifCond .eq 19, 3) := dk_153 0 19 (dk_at dksX10_rowsBehind_1 19 rfl rfl)
theorem dX10_rowsBehind_42 : decode cX10_rowsBehind 42 = .ok (.aload_n 0, 1) := dk_42 (dk_at dksX10_rowsBehind_1 22 rfl rfl)
theorem dX10_rowsBehind_43 : decode cX10_rowsBehind 43 = .ok (.aload 7, 2) := dk_25 7 (dk_at dksX10_rowsBehind_2 0 rfl rfl)
theorem dX10_rowsBehind_45 : decode cX10_rowsBehind 45 = .ok (.invokevirtual 38, 3) := dk_182 0 38 (dk_at dksX10_rowsBehind_2 2 rfl rfl)
theorem dX10_rowsBehind_48 : decode cX10_rowsBehind 48 = .ok (.ifCond .eq 10, 3) := dk_153 0 10 (dk_at dksX10_rowsBehind_2 5 rfl rfl)
theorem dX10_rowsBehind_51 : decode cX10_rowsBehind 51 = .ok (.lconst 1, 1) := dk_10 (dk_at dksX10_rowsBehind_2 8 rfl rfl)
theorem dX10_rowsBehind_52 : decode cX10_rowsBehind 52 = .ok (.iload 6, 2) := dk_21 6 (dk_at dksX10_rowsBehind_2 9 rfl rfl)
theorem dX10_rowsBehind_54 : decode cX10_rowsBehind 54 = .ok (.lshl, 1) := dk_121 (dk_at dksX10_rowsBehind_2 11 rfl rfl)
theorem dX10_rowsBehind_55 : decode cX10_rowsBehind 55 = .ok (.goto 4, 3) := dk_167 0 4 (dk_at dksX10_rowsBehind_2 12 rfl rfl)
theorem dX10_rowsBehind_58 : decode cX10_rowsBehind 58 = .ok (.lconst 0, 1) := dk_9 (dk_at dksX10_rowsBehind_2 15 rfl rfl)
theorem dX10_rowsBehind_59 : decode cX10_rowsBehind 59 = .ok (.lor, 1) := dk_129 (dk_at dksX10_rowsBehind_2 16 rfl rfl)
theorem dX10_rowsBehind_60 : decode cX10_rowsBehind 60 = .ok (.lstore 4, 2) := dk_55 4 (dk_at dksX10_rowsBehind_2 17 rfl rfl)
theorem dX10_rowsBehind_62 : decode cX10_rowsBehind 62 = .ok (.iinc 6 1, 3) := dk_132 6 1 (dk_at dksX10_rowsBehind_2 19 rfl rfl)
theorem dX10_rowsBehind_65 : decode cX10_rowsBehind 65 = .ok (.goto (-59), 3) := dk_167 255 197 (dk_at dksX10_rowsBehind_3 0 rfl rfl)
theorem dX10_rowsBehind_68 : decode cX10_rowsBehind 68 = .ok (.lload 4, 2) := dk_22 4 (dk_at dksX10_rowsBehind_3 3 rfl rfl)
theorem dX10_rowsBehind_70 : decode cX10_rowsBehind 70 = .ok (.lreturn, 1) := dk_173 (dk_at dksX10_rowsBehind_3 5 rfl rfl)
abbrev cX10_isMarked : ByteArray := prog_3_method_9_code
def yX10_isMarked : MethodName := ⟨RX10, "isMarked", "(LWeirfoldLane$Row;LWeirfoldLane$Marks;I)Z"⟩
def dkwX10_isMarked_0 : List UInt8 := [43, 180, 0, 54, 29, 160, 0, 15, 42, 43, 182, 0, 38, 153, 0, 7, 4, 167, 0, 4, 3, 172]
abbrev dktX10_isMarked_0 : List UInt8 := dkwX10_isMarked_0 ++ []
theorem dksX10_isMarked_0 : cX10_isMarked.data.toList.drop 0 = dktX10_isMarked_0 := by decide +kernel
theorem dX10_isMarked_0 : decode cX10_isMarked 0 = .ok (.aload_n 1, 1) := dk_43 (dk_at dksX10_isMarked_0 0 rfl rfl)
theorem dX10_isMarked_1 : decode cX10_isMarked 1 = .ok (.getfield 54, 3) := dk_180 0 54 (dk_at dksX10_isMarked_0 1 rfl rfl)
theorem dX10_isMarked_4 : decode cX10_isMarked 4 = .ok (.iload_n 3, 1) := dk_29 (dk_at dksX10_isMarked_0 4 rfl rfl)
theorem dX10_isMarked_5 : decode cX10_isMarked 5 = .ok (.if_icmp .ne 15, 3) := dk_160 0 15 (dk_at dksX10_isMarked_0 5 rfl rfl)
theorem dX10_isMarked_8 : decode cX10_isMarked 8 = .ok (.aload_n 0, 1) := dk_42 (dk_at dksX10_isMarked_0 8 rfl rfl)
theorem dX10_isMarked_9 : decode cX10_isMarked 9 = .ok (.aload_n 1, 1) := dk_43 (dk_at dksX10_isMarked_0 9 rfl rfl)
theorem dX10_isMarked_10 : decode cX10_isMarked 10 = .ok (.invokevirtual 38, 3) := dk_182 0 38 (dk_at dksX10_isMarked_0 10 rfl rfl)
theorem dX10_isMarked_13 : decode cX10_isMarked 13 = .ok (.ifCond .eq 7, 3) := dk_153 0 7 (dk_at dksX10_isMarked_0 13 rfl rfl)
theorem dX10_isMarked_16 : decode cX10_isMarked 16 = .ok (.iconst 1, 1) := dk_4 (dk_at dksX10_isMarked_0 16 rfl rfl)
theorem dX10_isMarked_17 : decode cX10_isMarked 17 = .ok (.goto 4, 3) := dk_167 0 4 (dk_at dksX10_isMarked_0 17 rfl rfl)
theorem dX10_isMarked_20 : decode cX10_isMarked 20 = .ok (.iconst 0, 1) := dk_3 (dk_at dksX10_isMarked_0 20 rfl rfl)
theorem dX10_isMarked_21 : decode cX10_isMarked 21 = .ok (.ireturn, 1) := dk_172 (dk_at dksX10_isMarked_0 21 rfl rfl)
abbrev cX10_costWith : ByteArray := prog_3_method_10_code
def yX10_costWith : MethodName := ⟨RX10, "costWith", "(LWeirfoldLane$Costs;)J"⟩
def dkwX10_costWith_0 : List UInt8 := [4, 43, 180, 0, 57, 96, 133, 173]
abbrev dktX10_costWith_0 : List UInt8 := dkwX10_costWith_0 ++ []
theorem dksX10_costWith_0 : cX10_costWith.data.toList.drop 0 = dktX10_costWith_0 := by decide +kernel
theorem dX10_costWith_0 : decode cX10_costWith 0 = .ok (.iconst 1, 1) := dk_4 (dk_at dksX10_costWith_0 0 rfl rfl)
theorem dX10_costWith_1 : decode cX10_costWith 1 = .ok (.aload_n 1, 1) := dk_43 (dk_at dksX10_costWith_0 1 rfl rfl)
theorem dX10_costWith_2 : decode cX10_costWith 2 = .ok (.getfield 57, 3) := dk_180 0 57 (dk_at dksX10_costWith_0 2 rfl rfl)
theorem dX10_costWith_5 : decode cX10_costWith 5 = .ok (.iadd, 1) := dk_96 (dk_at dksX10_costWith_0 5 rfl rfl)
theorem dX10_costWith_6 : decode cX10_costWith 6 = .ok (.i2l, 1) := dk_133 (dk_at dksX10_costWith_0 6 rfl rfl)
theorem dX10_costWith_7 : decode cX10_costWith 7 = .ok (.lreturn, 1) := dk_173 (dk_at dksX10_costWith_0 7 rfl rfl)
abbrev cX10_text : ByteArray := prog_3_method_11_code
def yX10_text : MethodName := ⟨RX10, "text", "(LWeirfoldLane$Lane;)Ljava/lang/String;"⟩
def dkwX10_text_1 : List UInt8 := [182, 0, 80, 182, 0, 83, 176]
abbrev dktX10_text_1 : List UInt8 := dkwX10_text_1 ++ []
def dkwX10_text_0 : List UInt8 := [187, 0, 62, 89, 183, 0, 64, 18, 67, 182, 0, 69, 42, 182, 0, 73, 182, 0, 77, 42, 180, 0, 7]
abbrev dktX10_text_0 : List UInt8 := dkwX10_text_0 ++ dktX10_text_1
theorem dksX10_text_0 : cX10_text.data.toList.drop 0 = dktX10_text_0 := by decide +kernel
theorem dksX10_text_1 : cX10_text.data.toList.drop 23 = dktX10_text_1 := dk_seg dksX10_text_0 23 rfl rfl
theorem dX10_text_0 : decode cX10_text 0 = .ok (.new 62, 3) := dk_187 0 62 (dk_at dksX10_text_0 0 rfl rfl)
theorem dX10_text_3 : decode cX10_text 3 = .ok (.dup, 1) := dk_89 (dk_at dksX10_text_0 3 rfl rfl)
theorem dX10_text_4 : decode cX10_text 4 = .ok (.invokespecial 64, 3) := dk_183 0 64 (dk_at dksX10_text_0 4 rfl rfl)
theorem dX10_text_7 : decode cX10_text 7 = .ok (.ldc 67, 2) := dk_18 67 (dk_at dksX10_text_0 7 rfl rfl)
theorem dX10_text_9 : decode cX10_text 9 = .ok (.invokevirtual 69, 3) := dk_182 0 69 (dk_at dksX10_text_0 9 rfl rfl)
theorem dX10_text_12 : decode cX10_text 12 = .ok (.aload_n 0, 1) := dk_42 (dk_at dksX10_text_0 12 rfl rfl)
theorem dX10_text_13 : decode cX10_text 13 = .ok (.invokevirtual 73, 3) := dk_182 0 73 (dk_at dksX10_text_0 13 rfl rfl)
theorem dX10_text_16 : decode cX10_text 16 = .ok (.invokevirtual 77, 3) := dk_182 0 77 (dk_at dksX10_text_0 16 rfl rfl)
theorem dX10_text_19 : decode cX10_text 19 = .ok (.aload_n 0, 1) := dk_42 (dk_at dksX10_text_0 19 rfl rfl)
theorem dX10_text_20 : decode cX10_text 20 = .ok (.getfield 7, 3) := dk_180 0 7 (dk_at dksX10_text_0 20 rfl rfl)
theorem dX10_text_23 : decode cX10_text 23 = .ok (.invokevirtual 80, 3) := dk_182 0 80 (dk_at dksX10_text_1 0 rfl rfl)
theorem dX10_text_26 : decode cX10_text 26 = .ok (.invokevirtual 83, 3) := dk_182 0 83 (dk_at dksX10_text_1 3 rfl rfl)
theorem dX10_text_29 : decode cX10_text 29 = .ok (.areturn, 1) := dk_176 (dk_at dksX10_text_1 6 rfl rfl)
theorem q128 : (Jvm.Cond.initialized "WeirfoldLane$BaseStep") ∈ lw_all := lw_g (lw_at lw_m1 35 rfl) rfl
theorem q704 : (Jvm.Cond.instanceMethod ({ cls := "WeirfoldLane$BaseStep", name := "compute", desc := "(Ljava/util/List;LWeirfoldLane$Numbers;II)J" } : Jvm.MethodName)) ∈ lw_all := lw_g (lw_at lw_m3 131 rfl) rfl
theorem q705 : (Jvm.Cond.code ({ cls := "WeirfoldLane$BaseStep", name := "compute", desc := "(Ljava/util/List;LWeirfoldLane$Numbers;II)J" } : Jvm.MethodName) prog_3_method_4_code (9 : Nat) (Option.some Jvm.ClassFile.FieldType.long)) ∈ lw_all := lw_g (lw_at lw_m3 132 rfl) rfl
theorem q706 : (Jvm.Cond.interfaceEntry "WeirfoldLane$BaseStep" (18 : Nat)) ∈ lw_tbl := lw_at lw_m3 133 rfl
theorem q707 : (Jvm.Cond.methodLink "WeirfoldLane$BaseStep" (18 : Nat) ({ cls := "java/util/List", name := "iterator", desc := "()Ljava/util/Iterator;" } : Jvm.MethodName)) ∈ lw_all := lw_g (lw_at lw_m3 134 rfl) rfl
theorem q708 : (Jvm.Cond.interfaceEntry "WeirfoldLane$BaseStep" (24 : Nat)) ∈ lw_tbl := lw_at lw_m3 135 rfl
theorem q709 : (Jvm.Cond.methodLink "WeirfoldLane$BaseStep" (24 : Nat) ({ cls := "java/util/Iterator", name := "hasNext", desc := "()Z" } : Jvm.MethodName)) ∈ lw_all := lw_g (lw_at lw_m3 136 rfl) rfl
theorem q710 : (Jvm.Cond.interfaceEntry "WeirfoldLane$BaseStep" (30 : Nat)) ∈ lw_tbl := lw_at lw_m3 137 rfl
theorem q711 : (Jvm.Cond.methodLink "WeirfoldLane$BaseStep" (30 : Nat) ({ cls := "java/util/Iterator", name := "next", desc := "()Ljava/lang/Object;" } : Jvm.MethodName)) ∈ lw_all := lw_g (lw_at lw_m3 138 rfl) rfl
theorem q712 : (Jvm.Cond.classLink "WeirfoldLane$BaseStep" (14 : Nat) "WeirfoldLane$Row") ∈ lw_all := lw_g (lw_at lw_m3 139 rfl) rfl
theorem q713 : (Jvm.Cond.methodLink "WeirfoldLane$BaseStep" (34 : Nat) ({ cls := "WeirfoldLane$Row", name := "isOf", desc := "(II)Z" } : Jvm.MethodName)) ∈ lw_all := lw_g (lw_at lw_m3 140 rfl) rfl
theorem q717 : (Jvm.Cond.methodLink "WeirfoldLane$BaseStep" (38 : Nat) ({ cls := "WeirfoldLane$BaseStep", name := "takes", desc := "(LWeirfoldLane$Row;)Z" } : Jvm.MethodName)) ∈ lw_all := lw_g (lw_at lw_m3 144 rfl) rfl
theorem q718 : (Jvm.Cond.instanceMethod ({ cls := "WeirfoldLane$BaseStep", name := "takes", desc := "(LWeirfoldLane$Row;)Z" } : Jvm.MethodName)) ∈ lw_all := lw_g (lw_at lw_m3 145 rfl) rfl
theorem q719 : (Jvm.Cond.sameMethod "WeirfoldLane$BaseStep" "WeirfoldLane$BaseStep" "takes" "(LWeirfoldLane$Row;)Z") ∈ lw_all := lw_g (lw_at lw_m3 146 rfl) rfl
theorem q723 : (Jvm.Cond.code ({ cls := "WeirfoldLane$BaseStep", name := "takes", desc := "(LWeirfoldLane$Row;)Z" } : Jvm.MethodName) prog_3_method_2_code (2 : Nat) (Option.some Jvm.ClassFile.FieldType.boolean)) ∈ lw_all := lw_g (lw_at lw_m3 150 rfl) rfl
theorem q724 : (Jvm.Cond.methodLink "WeirfoldLane$BaseStep" (42 : Nat) ({ cls := "WeirfoldLane$BaseStep", name := "with", desc := "(JLWeirfoldLane$Row;)J" } : Jvm.MethodName)) ∈ lw_all := lw_g (lw_at lw_m3 151 rfl) rfl
theorem q725 : (Jvm.Cond.declares ({ cls := "WeirfoldLane$BaseStep", name := "with", desc := "(JLWeirfoldLane$Row;)J" } : Jvm.MethodName)) ∈ lw_tbl := lw_at lw_m3 152 rfl
theorem q726 : (Jvm.Cond.sameMethod "WeirfoldLane$BaseStep" "WeirfoldLane$BaseStep" "with" "(JLWeirfoldLane$Row;)J") ∈ lw_all := lw_g (lw_at lw_m3 153 rfl) rfl
theorem q1196 : (Jvm.Cond.fieldLinkNest "WeirfoldLane$BaseStep" (54 : Nat) "WeirfoldLane$Row" "day" "I" "WeirfoldLane") ∈ lw_tbl := lw_at lw_m5 143 rfl
theorem q1205 : (Jvm.Cond.fieldLinkNest "WeirfoldLane$BaseStep" (13 : Nat) "WeirfoldLane$Row" "amount" "I" "WeirfoldLane") ∈ lw_tbl := lw_at lw_m5 152 rfl
theorem q1257 : (Jvm.Cond.declares ({ cls := "WeirfoldLane$BaseStep", name := "takes", desc := "(LWeirfoldLane$Row;)Z" } : Jvm.MethodName)) ∈ lw_tbl := lw_at lw_m5 204 rfl
theorem q1264 : (Jvm.Cond.declares ({ cls := "WeirfoldLane$BaseStep", name := "compute", desc := "(Ljava/util/List;LWeirfoldLane$Numbers;II)J" } : Jvm.MethodName)) ∈ lw_tbl := lw_at lw_m5 211 rfl
theorem q1300 : (Jvm.Cond.instanceMethod ({ cls := "WeirfoldLane$BaseStep", name := "level", desc := "()I" } : Jvm.MethodName)) ∈ lw_all := lw_g (lw_at lw_m6 7 rfl) rfl
theorem q1301 : (Jvm.Cond.code ({ cls := "WeirfoldLane$BaseStep", name := "level", desc := "()I" } : Jvm.MethodName) prog_3_method_6_code (1 : Nat) (Option.some Jvm.ClassFile.FieldType.int)) ∈ lw_all := lw_g (lw_at lw_m6 8 rfl) rfl
theorem q1322 : (Jvm.Cond.instanceMethod ({ cls := "WeirfoldLane$BaseStep", name := "isFromStale", desc := "(LWeirfoldLane$Lane;I)Z" } : Jvm.MethodName)) ∈ lw_all := lw_g (lw_at lw_m6 29 rfl) rfl
theorem q1323 : (Jvm.Cond.code ({ cls := "WeirfoldLane$BaseStep", name := "isFromStale", desc := "(LWeirfoldLane$Lane;I)Z" } : Jvm.MethodName) prog_3_method_7_code (3 : Nat) (Option.some Jvm.ClassFile.FieldType.boolean)) ∈ lw_all := lw_g (lw_at lw_m6 30 rfl) rfl
theorem q1464 : (Jvm.Cond.instanceMethod ({ cls := "WeirfoldLane$BaseStep", name := "<init>", desc := "(CI)V" } : Jvm.MethodName)) ∈ lw_all := lw_g (lw_at lw_m6 171 rfl) rfl
theorem q1465 : (Jvm.Cond.code ({ cls := "WeirfoldLane$BaseStep", name := "<init>", desc := "(CI)V" } : Jvm.MethodName) prog_3_method_1_code (3 : Nat) (Option.none : Option Jvm.ClassFile.FieldType)) ∈ lw_all := lw_g (lw_at lw_m6 172 rfl) rfl
theorem q1466 : (Jvm.Cond.methodLink "WeirfoldLane$BaseStep" (1 : Nat) ({ cls := "WeirfoldLane$Step", name := "<init>", desc := "(C)V" } : Jvm.MethodName)) ∈ lw_all := lw_g (lw_at lw_m6 173 rfl) rfl
theorem q1470 : (Jvm.Cond.fieldLink "WeirfoldLane$BaseStep" (7 : Nat) "WeirfoldLane$BaseStep" "bound" "I") ∈ lw_all := lw_g (lw_at lw_m6 177 rfl) rfl
theorem q1473 : (Jvm.Cond.soleField "WeirfoldLane$BaseStep" "bound") ∈ lw_all := lw_g (lw_at lw_m6 180 rfl) rfl
theorem q1588 : (Jvm.Cond.instanceMethod ({ cls := "WeirfoldLane$BaseStep", name := "hasInput", desc := "(LWeirfoldLane$Step;)Z" } : Jvm.MethodName)) ∈ lw_all := lw_g (lw_at lw_m7 55 rfl) rfl
theorem q1589 : (Jvm.Cond.code ({ cls := "WeirfoldLane$BaseStep", name := "hasInput", desc := "(LWeirfoldLane$Step;)Z" } : Jvm.MethodName) prog_3_method_5_code (2 : Nat) (Option.some Jvm.ClassFile.FieldType.boolean)) ∈ lw_all := lw_g (lw_at lw_m7 56 rfl) rfl
theorem q1952 : (Jvm.Cond.instanceMethod ({ cls := "WeirfoldLane$BaseStep", name := "rowsBehind", desc := "(Ljava/util/List;II)J" } : Jvm.MethodName)) ∈ lw_all := lw_g (lw_at lw_m8 179 rfl) rfl
theorem q1953 : (Jvm.Cond.code ({ cls := "WeirfoldLane$BaseStep", name := "rowsBehind", desc := "(Ljava/util/List;II)J" } : Jvm.MethodName) prog_3_method_8_code (8 : Nat) (Option.some Jvm.ClassFile.FieldType.long)) ∈ lw_all := lw_g (lw_at lw_m8 180 rfl) rfl
theorem q1954 : (Jvm.Cond.interfaceEntry "WeirfoldLane$BaseStep" (46 : Nat)) ∈ lw_tbl := lw_at lw_m8 181 rfl
theorem q1955 : (Jvm.Cond.methodLink "WeirfoldLane$BaseStep" (46 : Nat) ({ cls := "java/util/List", name := "size", desc := "()I" } : Jvm.MethodName)) ∈ lw_all := lw_g (lw_at lw_m8 182 rfl) rfl
theorem q1956 : (Jvm.Cond.interfaceEntry "WeirfoldLane$BaseStep" (50 : Nat)) ∈ lw_tbl := lw_at lw_m8 183 rfl
theorem q1957 : (Jvm.Cond.methodLink "WeirfoldLane$BaseStep" (50 : Nat) ({ cls := "java/util/List", name := "get", desc := "(I)Ljava/lang/Object;" } : Jvm.MethodName)) ∈ lw_all := lw_g (lw_at lw_m8 184 rfl) rfl
theorem q2006 : (Jvm.Cond.instanceMethod ({ cls := "WeirfoldLane$BaseStep", name := "isMarked", desc := "(LWeirfoldLane$Row;LWeirfoldLane$Marks;I)Z" } : Jvm.MethodName)) ∈ lw_all := lw_g (lw_at lw_m8 233 rfl) rfl
theorem q2007 : (Jvm.Cond.code ({ cls := "WeirfoldLane$BaseStep", name := "isMarked", desc := "(LWeirfoldLane$Row;LWeirfoldLane$Marks;I)Z" } : Jvm.MethodName) prog_3_method_9_code (4 : Nat) (Option.some Jvm.ClassFile.FieldType.boolean)) ∈ lw_all := lw_g (lw_at lw_m8 234 rfl) rfl
theorem q2058 : (Jvm.Cond.fieldLinkNest "WeirfoldLane$BaseStep" (57 : Nat) "WeirfoldLane$Costs" "rows" "I" "WeirfoldLane") ∈ lw_tbl := lw_at lw_m9 45 rfl
theorem q2091 : (Jvm.Cond.instanceMethod ({ cls := "WeirfoldLane$BaseStep", name := "costWith", desc := "(LWeirfoldLane$Costs;)J" } : Jvm.MethodName)) ∈ lw_all := lw_g (lw_at lw_m9 78 rfl) rfl
theorem q2092 : (Jvm.Cond.code ({ cls := "WeirfoldLane$BaseStep", name := "costWith", desc := "(LWeirfoldLane$Costs;)J" } : Jvm.MethodName) prog_3_method_10_code (2 : Nat) (Option.some Jvm.ClassFile.FieldType.long)) ∈ lw_all := lw_g (lw_at lw_m9 79 rfl) rfl
theorem q2510 : (Jvm.Cond.instanceMethod ({ cls := "WeirfoldLane$BaseStep", name := "text", desc := "(LWeirfoldLane$Lane;)Ljava/lang/String;" } : Jvm.MethodName)) ∈ lw_all := lw_g (lw_at lw_m11 17 rfl) rfl
theorem q2511 : (Jvm.Cond.code ({ cls := "WeirfoldLane$BaseStep", name := "text", desc := "(LWeirfoldLane$Lane;)Ljava/lang/String;" } : Jvm.MethodName) prog_3_method_11_code (2 : Nat) (Option.some (Jvm.ClassFile.FieldType.object "java/lang/String"))) ∈ lw_all := lw_g (lw_at lw_m11 18 rfl) rfl
theorem q2512 : (Jvm.Cond.classLink "WeirfoldLane$BaseStep" (62 : Nat) "java/lang/StringBuilder") ∈ lw_all := lw_g (lw_at lw_m11 19 rfl) rfl
theorem q2513 : (Jvm.Cond.methodLink "WeirfoldLane$BaseStep" (64 : Nat) ({ cls := "java/lang/StringBuilder", name := "<init>", desc := "()V" } : Jvm.MethodName)) ∈ lw_all := lw_g (lw_at lw_m11 20 rfl) rfl
theorem q2514 : (Jvm.Cond.stringRef "WeirfoldLane$BaseStep" (67 : Nat) "") ∈ lw_tbl := lw_at lw_m11 21 rfl
theorem q2515 : (Jvm.Cond.methodLink "WeirfoldLane$BaseStep" (69 : Nat) ({ cls := "java/lang/StringBuilder", name := "append", desc := "(Ljava/lang/String;)Ljava/lang/StringBuilder;" } : Jvm.MethodName)) ∈ lw_all := lw_g (lw_at lw_m11 22 rfl) rfl
theorem q2516 : (Jvm.Cond.methodLink "WeirfoldLane$BaseStep" (73 : Nat) ({ cls := "WeirfoldLane$BaseStep", name := "kind", desc := "()C" } : Jvm.MethodName)) ∈ lw_all := lw_g (lw_at lw_m11 23 rfl) rfl
theorem q2517 : (Jvm.Cond.sameMethod "WeirfoldLane$BaseStep" "WeirfoldLane$Step" "kind" "()C") ∈ lw_all := lw_g (lw_at lw_m11 24 rfl) rfl
theorem q2521 : (Jvm.Cond.methodLink "WeirfoldLane$BaseStep" (77 : Nat) ({ cls := "java/lang/StringBuilder", name := "append", desc := "(C)Ljava/lang/StringBuilder;" } : Jvm.MethodName)) ∈ lw_all := lw_g (lw_at lw_m11 28 rfl) rfl
theorem q2522 : (Jvm.Cond.methodLink "WeirfoldLane$BaseStep" (80 : Nat) ({ cls := "java/lang/StringBuilder", name := "append", desc := "(I)Ljava/lang/StringBuilder;" } : Jvm.MethodName)) ∈ lw_all := lw_g (lw_at lw_m11 29 rfl) rfl
theorem q2523 : (Jvm.Cond.methodLink "WeirfoldLane$BaseStep" (83 : Nat) ({ cls := "java/lang/StringBuilder", name := "toString", desc := "()Ljava/lang/String;" } : Jvm.MethodName)) ∈ lw_all := lw_g (lw_at lw_m11 30 rfl) rfl

/-! WeirfoldLane$SumStep -/
set_option maxRecDepth 100000
def RX11 : String := "WeirfoldLane$SumStep"
def TX11 : u_T := fun k => match k with
  | 0 => ("WeirfoldLane$BaseStep", "bound", "I", true)
  | _ => ("WeirfoldLane$Step", "kind", "C", true)
def tyX11 : Nat → FieldType := fun k => match k with
  | 0 => .int
  | _ => .char
abbrev wsX110 : List Cond := u_ws RX11 TX11 2
theorem nmX11 : ∀ a, a < 2 → ∀ b, b < 2 → a ≠ b → (TX11 a).2.1 ≠ (TX11 b).2.1 := by decide +kernel
theorem tyX11_ok : ∀ k, k < 2 → parseFieldDescriptor (TX11 k).2.2.1 = some (tyX11 k) := by decide +kernel
abbrev cX11_with : ByteArray := prog_21_method_2_code
def yX11_with : MethodName := ⟨RX11, "with", "(JLWeirfoldLane$Row;)J"⟩
def dkwX11_with_0 : List UInt8 := [31, 45, 180, 0, 7, 133, 97, 173]
abbrev dktX11_with_0 : List UInt8 := dkwX11_with_0 ++ []
theorem dksX11_with_0 : cX11_with.data.toList.drop 0 = dktX11_with_0 := by decide +kernel
theorem dX11_with_0 : decode cX11_with 0 = .ok (.lload_n 1, 1) := dk_31 (dk_at dksX11_with_0 0 rfl rfl)
theorem dX11_with_1 : decode cX11_with 1 = .ok (.aload_n 3, 1) := dk_45 (dk_at dksX11_with_0 1 rfl rfl)
theorem dX11_with_2 : decode cX11_with 2 = .ok (.getfield 7, 3) := dk_180 0 7 (dk_at dksX11_with_0 2 rfl rfl)
theorem dX11_with_5 : decode cX11_with 5 = .ok (.i2l, 1) := dk_133 (dk_at dksX11_with_0 5 rfl rfl)
theorem dX11_with_6 : decode cX11_with 6 = .ok (.ladd, 1) := dk_97 (dk_at dksX11_with_0 6 rfl rfl)
theorem dX11_with_7 : decode cX11_with 7 = .ok (.lreturn, 1) := dk_173 (dk_at dksX11_with_0 7 rfl rfl)
abbrev cX11_change : ByteArray := prog_21_method_3_code
def yX11_change : MethodName := ⟨RX11, "change", "(LWeirfoldLane$Lane;LWeirfoldLane$Row;ILWeirfoldLane$Changes;)J"⟩
def dkwX11_change_0 : List UInt8 := [42, 44, 182, 0, 13, 153, 0, 13, 29, 44, 180, 0, 7, 104, 133, 167, 0, 4, 9, 173]
abbrev dktX11_change_0 : List UInt8 := dkwX11_change_0 ++ []
theorem dksX11_change_0 : cX11_change.data.toList.drop 0 = dktX11_change_0 := by decide +kernel
theorem dX11_change_0 : decode cX11_change 0 = .ok (.aload_n 0, 1) := dk_42 (dk_at dksX11_change_0 0 rfl rfl)
theorem dX11_change_1 : decode cX11_change 1 = .ok (.aload_n 2, 1) := dk_44 (dk_at dksX11_change_0 1 rfl rfl)
theorem dX11_change_2 : decode cX11_change 2 = .ok (.invokevirtual 13, 3) := dk_182 0 13 (dk_at dksX11_change_0 2 rfl rfl)
theorem dX11_change_5 : decode cX11_change 5 = .ok (.ifCond .eq 13, 3) := dk_153 0 13 (dk_at dksX11_change_0 5 rfl rfl)
theorem dX11_change_8 : decode cX11_change 8 = .ok (.iload_n 3, 1) := dk_29 (dk_at dksX11_change_0 8 rfl rfl)
theorem dX11_change_9 : decode cX11_change 9 = .ok (.aload_n 2, 1) := dk_44 (dk_at dksX11_change_0 9 rfl rfl)
theorem dX11_change_10 : decode cX11_change 10 = .ok (.getfield 7, 3) := dk_180 0 7 (dk_at dksX11_change_0 10 rfl rfl)
theorem dX11_change_13 : decode cX11_change 13 = .ok (.imul, 1) := dk_104 (dk_at dksX11_change_0 13 rfl rfl)
theorem dX11_change_14 : decode cX11_change 14 = .ok (.i2l, 1) := dk_133 (dk_at dksX11_change_0 14 rfl rfl)
theorem dX11_change_15 : decode cX11_change 15 = .ok (.goto 4, 3) := dk_167 0 4 (dk_at dksX11_change_0 15 rfl rfl)
theorem dX11_change_18 : decode cX11_change 18 = .ok (.lconst 0, 1) := dk_9 (dk_at dksX11_change_0 18 rfl rfl)
theorem dX11_change_19 : decode cX11_change 19 = .ok (.lreturn, 1) := dk_173 (dk_at dksX11_change_0 19 rfl rfl)
abbrev cX11_init : ByteArray := prog_21_method_1_code
def yX11_init : MethodName := ⟨RX11, "<init>", "(I)V"⟩
def dkwX11_init_0 : List UInt8 := [42, 16, 115, 27, 183, 0, 1, 177]
abbrev dktX11_init_0 : List UInt8 := dkwX11_init_0 ++ []
theorem dksX11_init_0 : cX11_init.data.toList.drop 0 = dktX11_init_0 := by decide +kernel
theorem dX11_init_0 : decode cX11_init 0 = .ok (.aload_n 0, 1) := dk_42 (dk_at dksX11_init_0 0 rfl rfl)
theorem dX11_init_1 : decode cX11_init 1 = .ok (.bipush 115, 2) := dk_16 115 (dk_at dksX11_init_0 1 rfl rfl)
theorem dX11_init_3 : decode cX11_init 3 = .ok (.iload_n 1, 1) := dk_27 (dk_at dksX11_init_0 3 rfl rfl)
theorem dX11_init_4 : decode cX11_init 4 = .ok (.invokespecial 1, 3) := dk_183 0 1 (dk_at dksX11_init_0 4 rfl rfl)
theorem dX11_init_7 : decode cX11_init 7 = .ok (.return_, 1) := dk_177 (dk_at dksX11_init_0 7 rfl rfl)
theorem q129 : (Jvm.Cond.initialized "WeirfoldLane$SumStep") ∈ lw_all := lw_g (lw_at lw_m1 36 rfl) rfl
theorem q527 : (Jvm.Cond.selects "WeirfoldLane$SumStep" ({ cls := "java/lang/Object", name := "getClass", desc := "()Ljava/lang/Class;" } : Jvm.MethodName) ({ cls := "java/lang/Object", name := "getClass", desc := "()Ljava/lang/Class;" } : Jvm.MethodName)) ∈ lw_all := lw_g (lw_at lw_m2 194 rfl) rfl
theorem q637 : (Jvm.Cond.selects "WeirfoldLane$SumStep" ({ cls := "java/lang/Object", name := "equals", desc := "(Ljava/lang/Object;)Z" } : Jvm.MethodName) ({ cls := "java/lang/Object", name := "equals", desc := "(Ljava/lang/Object;)Z" } : Jvm.MethodName)) ∈ lw_all := lw_g (lw_at lw_m3 64 rfl) rfl
theorem q722 : (Jvm.Cond.selects "WeirfoldLane$SumStep" ({ cls := "WeirfoldLane$BaseStep", name := "takes", desc := "(LWeirfoldLane$Row;)Z" } : Jvm.MethodName) ({ cls := "WeirfoldLane$BaseStep", name := "takes", desc := "(LWeirfoldLane$Row;)Z" } : Jvm.MethodName)) ∈ lw_all := lw_g (lw_at lw_m3 149 rfl) rfl
theorem q736 : (Jvm.Cond.selects "WeirfoldLane$SumStep" ({ cls := "WeirfoldLane$BaseStep", name := "with", desc := "(JLWeirfoldLane$Row;)J" } : Jvm.MethodName) ({ cls := "WeirfoldLane$SumStep", name := "with", desc := "(JLWeirfoldLane$Row;)J" } : Jvm.MethodName)) ∈ lw_all := lw_g (lw_at lw_m3 163 rfl) rfl
theorem q737 : (Jvm.Cond.instanceMethod ({ cls := "WeirfoldLane$SumStep", name := "with", desc := "(JLWeirfoldLane$Row;)J" } : Jvm.MethodName)) ∈ lw_all := lw_g (lw_at lw_m3 164 rfl) rfl
theorem q738 : (Jvm.Cond.code ({ cls := "WeirfoldLane$SumStep", name := "with", desc := "(JLWeirfoldLane$Row;)J" } : Jvm.MethodName) prog_21_method_2_code (4 : Nat) (Option.some Jvm.ClassFile.FieldType.long)) ∈ lw_all := lw_g (lw_at lw_m3 165 rfl) rfl
theorem q765 : (Jvm.Cond.selects "WeirfoldLane$SumStep" ({ cls := "WeirfoldLane$Step", name := "compute", desc := "(Ljava/util/List;LWeirfoldLane$Numbers;II)J" } : Jvm.MethodName) ({ cls := "WeirfoldLane$BaseStep", name := "compute", desc := "(Ljava/util/List;LWeirfoldLane$Numbers;II)J" } : Jvm.MethodName)) ∈ lw_all := lw_g (lw_at lw_m3 192 rfl) rfl
theorem q1207 : (Jvm.Cond.fieldLinkNest "WeirfoldLane$SumStep" (7 : Nat) "WeirfoldLane$Row" "amount" "I" "WeirfoldLane") ∈ lw_tbl := lw_at lw_m5 154 rfl
theorem q1275 : (Jvm.Cond.selects "WeirfoldLane$SumStep" ({ cls := "WeirfoldLane$Step", name := "change", desc := "(LWeirfoldLane$Lane;LWeirfoldLane$Row;ILWeirfoldLane$Changes;)J" } : Jvm.MethodName) ({ cls := "WeirfoldLane$SumStep", name := "change", desc := "(LWeirfoldLane$Lane;LWeirfoldLane$Row;ILWeirfoldLane$Changes;)J" } : Jvm.MethodName)) ∈ lw_all := lw_g (lw_at lw_m5 222 rfl) rfl
theorem q1276 : (Jvm.Cond.instanceMethod ({ cls := "WeirfoldLane$SumStep", name := "change", desc := "(LWeirfoldLane$Lane;LWeirfoldLane$Row;ILWeirfoldLane$Changes;)J" } : Jvm.MethodName)) ∈ lw_all := lw_g (lw_at lw_m5 223 rfl) rfl
theorem q1277 : (Jvm.Cond.code ({ cls := "WeirfoldLane$SumStep", name := "change", desc := "(LWeirfoldLane$Lane;LWeirfoldLane$Row;ILWeirfoldLane$Changes;)J" } : Jvm.MethodName) prog_21_method_3_code (5 : Nat) (Option.some Jvm.ClassFile.FieldType.long)) ∈ lw_all := lw_g (lw_at lw_m5 224 rfl) rfl
theorem q1278 : (Jvm.Cond.methodLink "WeirfoldLane$SumStep" (13 : Nat) ({ cls := "WeirfoldLane$SumStep", name := "takes", desc := "(LWeirfoldLane$Row;)Z" } : Jvm.MethodName)) ∈ lw_all := lw_g (lw_at lw_m5 225 rfl) rfl
theorem q1279 : (Jvm.Cond.sameMethod "WeirfoldLane$SumStep" "WeirfoldLane$BaseStep" "takes" "(LWeirfoldLane$Row;)Z") ∈ lw_all := lw_g (lw_at lw_m5 226 rfl) rfl
theorem q1280 : (Jvm.Cond.selects "WeirfoldLane$SumStep" ({ cls := "WeirfoldLane$SumStep", name := "takes", desc := "(LWeirfoldLane$Row;)Z" } : Jvm.MethodName) ({ cls := "WeirfoldLane$BaseStep", name := "takes", desc := "(LWeirfoldLane$Row;)Z" } : Jvm.MethodName)) ∈ lw_all := lw_g (lw_at lw_m5 227 rfl) rfl
theorem q1310 : (Jvm.Cond.selects "WeirfoldLane$SumStep" ({ cls := "WeirfoldLane$Step", name := "level", desc := "()I" } : Jvm.MethodName) ({ cls := "WeirfoldLane$BaseStep", name := "level", desc := "()I" } : Jvm.MethodName)) ∈ lw_all := lw_g (lw_at lw_m6 17 rfl) rfl
theorem q1333 : (Jvm.Cond.selects "WeirfoldLane$SumStep" ({ cls := "WeirfoldLane$Step", name := "isFromStale", desc := "(LWeirfoldLane$Lane;I)Z" } : Jvm.MethodName) ({ cls := "WeirfoldLane$BaseStep", name := "isFromStale", desc := "(LWeirfoldLane$Lane;I)Z" } : Jvm.MethodName)) ∈ lw_all := lw_g (lw_at lw_m6 40 rfl) rfl
theorem q1459 : (Jvm.Cond.instantiable "WeirfoldLane$SumStep" (2 : Nat)) ∈ lw_all := lw_g (lw_at lw_m6 166 rfl) rfl
theorem q1461 : (Jvm.Cond.instanceMethod ({ cls := "WeirfoldLane$SumStep", name := "<init>", desc := "(I)V" } : Jvm.MethodName)) ∈ lw_all := lw_g (lw_at lw_m6 168 rfl) rfl
theorem q1462 : (Jvm.Cond.code ({ cls := "WeirfoldLane$SumStep", name := "<init>", desc := "(I)V" } : Jvm.MethodName) prog_21_method_1_code (2 : Nat) (Option.none : Option Jvm.ClassFile.FieldType)) ∈ lw_all := lw_g (lw_at lw_m6 169 rfl) rfl
theorem q1463 : (Jvm.Cond.methodLink "WeirfoldLane$SumStep" (1 : Nat) ({ cls := "WeirfoldLane$BaseStep", name := "<init>", desc := "(CI)V" } : Jvm.MethodName)) ∈ lw_all := lw_g (lw_at lw_m6 170 rfl) rfl
theorem q1472 : (Jvm.Cond.laysFinal "WeirfoldLane$SumStep" "WeirfoldLane$BaseStep" "bound" "I") ∈ lw_all := lw_g (lw_at lw_m6 179 rfl) rfl
theorem q1474 : (Jvm.Cond.laysFinal "WeirfoldLane$SumStep" "WeirfoldLane$Step" "kind" "C") ∈ lw_all := lw_g (lw_at lw_m6 181 rfl) rfl
theorem q1476 : (Jvm.Cond.superclass "WeirfoldLane$SumStep" "WeirfoldLane$BaseStep") ∈ lw_all := lw_g (lw_at lw_m6 183 rfl) rfl
theorem q1595 : (Jvm.Cond.selects "WeirfoldLane$SumStep" ({ cls := "WeirfoldLane$Step", name := "hasInput", desc := "(LWeirfoldLane$Step;)Z" } : Jvm.MethodName) ({ cls := "WeirfoldLane$BaseStep", name := "hasInput", desc := "(LWeirfoldLane$Step;)Z" } : Jvm.MethodName)) ∈ lw_all := lw_g (lw_at lw_m7 62 rfl) rfl
theorem q1851 : (Jvm.Cond.selects "WeirfoldLane$SumStep" ({ cls := "WeirfoldLane$Step", name := "kind", desc := "()C" } : Jvm.MethodName) ({ cls := "WeirfoldLane$Step", name := "kind", desc := "()C" } : Jvm.MethodName)) ∈ lw_all := lw_g (lw_at lw_m8 78 rfl) rfl
theorem q1868 : (Jvm.Cond.selects "WeirfoldLane$SumStep" ({ cls := "WeirfoldLane$Step", name := "dependsOn", desc := "(LWeirfoldLane$Step;Ljava/util/List;)Z" } : Jvm.MethodName) ({ cls := "WeirfoldLane$Step", name := "dependsOn", desc := "(LWeirfoldLane$Step;Ljava/util/List;)Z" } : Jvm.MethodName)) ∈ lw_all := lw_g (lw_at lw_m8 95 rfl) rfl
theorem q1968 : (Jvm.Cond.selects "WeirfoldLane$SumStep" ({ cls := "WeirfoldLane$Step", name := "rowsBehind", desc := "(Ljava/util/List;II)J" } : Jvm.MethodName) ({ cls := "WeirfoldLane$BaseStep", name := "rowsBehind", desc := "(Ljava/util/List;II)J" } : Jvm.MethodName)) ∈ lw_all := lw_g (lw_at lw_m8 195 rfl) rfl
theorem q2017 : (Jvm.Cond.selects "WeirfoldLane$SumStep" ({ cls := "WeirfoldLane$Step", name := "isMarked", desc := "(LWeirfoldLane$Row;LWeirfoldLane$Marks;I)Z" } : Jvm.MethodName) ({ cls := "WeirfoldLane$BaseStep", name := "isMarked", desc := "(LWeirfoldLane$Row;LWeirfoldLane$Marks;I)Z" } : Jvm.MethodName)) ∈ lw_all := lw_g (lw_at lw_m9 4 rfl) rfl
theorem q2103 : (Jvm.Cond.selects "WeirfoldLane$SumStep" ({ cls := "WeirfoldLane$Step", name := "costWith", desc := "(LWeirfoldLane$Costs;)J" } : Jvm.MethodName) ({ cls := "WeirfoldLane$BaseStep", name := "costWith", desc := "(LWeirfoldLane$Costs;)J" } : Jvm.MethodName)) ∈ lw_all := lw_g (lw_at lw_m9 90 rfl) rfl
theorem q2520 : (Jvm.Cond.selects "WeirfoldLane$SumStep" ({ cls := "WeirfoldLane$BaseStep", name := "kind", desc := "()C" } : Jvm.MethodName) ({ cls := "WeirfoldLane$Step", name := "kind", desc := "()C" } : Jvm.MethodName)) ∈ lw_all := lw_g (lw_at lw_m11 27 rfl) rfl
theorem q2553 : (Jvm.Cond.selects "WeirfoldLane$SumStep" ({ cls := "WeirfoldLane$Step", name := "text", desc := "(LWeirfoldLane$Lane;)Ljava/lang/String;" } : Jvm.MethodName) ({ cls := "WeirfoldLane$BaseStep", name := "text", desc := "(LWeirfoldLane$Lane;)Ljava/lang/String;" } : Jvm.MethodName)) ∈ lw_all := lw_g (lw_at lw_m11 60 rfl) rfl
theorem q3300 : (Jvm.Cond.castable "WeirfoldLane$SumStep" "WeirfoldLane$Step") ∈ lw_tbl := lw_at lw_m14 87 rfl
theorem q3318 : (Jvm.Cond.castable "WeirfoldLane$SumStep" "java/lang/Object") ∈ lw_tbl := lw_at lw_m14 105 rfl
theorem in_X11 : ∀ w ∈ wsX110, w ∈ lw_all := lw_in wsX110 [1472, 1474] (by decide +kernel) (by decide +kernel)

/-! WeirfoldLane$CountStep -/
set_option maxRecDepth 100000
def RX12 : String := "WeirfoldLane$CountStep"
def TX12 : u_T := fun k => match k with
  | 0 => ("WeirfoldLane$BaseStep", "bound", "I", true)
  | _ => ("WeirfoldLane$Step", "kind", "C", true)
def tyX12 : Nat → FieldType := fun k => match k with
  | 0 => .int
  | _ => .char
abbrev wsX120 : List Cond := u_ws RX12 TX12 2
theorem nmX12 : ∀ a, a < 2 → ∀ b, b < 2 → a ≠ b → (TX12 a).2.1 ≠ (TX12 b).2.1 := by decide +kernel
theorem tyX12_ok : ∀ k, k < 2 → parseFieldDescriptor (TX12 k).2.2.1 = some (tyX12 k) := by decide +kernel
abbrev cX12_with : ByteArray := prog_8_method_2_code
def yX12_with : MethodName := ⟨RX12, "with", "(JLWeirfoldLane$Row;)J"⟩
def dkwX12_with_0 : List UInt8 := [31, 10, 97, 173]
abbrev dktX12_with_0 : List UInt8 := dkwX12_with_0 ++ []
theorem dksX12_with_0 : cX12_with.data.toList.drop 0 = dktX12_with_0 := by decide +kernel
theorem dX12_with_0 : decode cX12_with 0 = .ok (.lload_n 1, 1) := dk_31 (dk_at dksX12_with_0 0 rfl rfl)
theorem dX12_with_1 : decode cX12_with 1 = .ok (.lconst 1, 1) := dk_10 (dk_at dksX12_with_0 1 rfl rfl)
theorem dX12_with_2 : decode cX12_with 2 = .ok (.ladd, 1) := dk_97 (dk_at dksX12_with_0 2 rfl rfl)
theorem dX12_with_3 : decode cX12_with 3 = .ok (.lreturn, 1) := dk_173 (dk_at dksX12_with_0 3 rfl rfl)
abbrev cX12_change : ByteArray := prog_8_method_3_code
def yX12_change : MethodName := ⟨RX12, "change", "(LWeirfoldLane$Lane;LWeirfoldLane$Row;ILWeirfoldLane$Changes;)J"⟩
def dkwX12_change_0 : List UInt8 := [42, 44, 182, 0, 7, 153, 0, 8, 29, 133, 167, 0, 4, 9, 173]
abbrev dktX12_change_0 : List UInt8 := dkwX12_change_0 ++ []
theorem dksX12_change_0 : cX12_change.data.toList.drop 0 = dktX12_change_0 := by decide +kernel
theorem dX12_change_0 : decode cX12_change 0 = .ok (.aload_n 0, 1) := dk_42 (dk_at dksX12_change_0 0 rfl rfl)
theorem dX12_change_1 : decode cX12_change 1 = .ok (.aload_n 2, 1) := dk_44 (dk_at dksX12_change_0 1 rfl rfl)
theorem dX12_change_2 : decode cX12_change 2 = .ok (.invokevirtual 7, 3) := dk_182 0 7 (dk_at dksX12_change_0 2 rfl rfl)
theorem dX12_change_5 : decode cX12_change 5 = .ok (.ifCond .eq 8, 3) := dk_153 0 8 (dk_at dksX12_change_0 5 rfl rfl)
theorem dX12_change_8 : decode cX12_change 8 = .ok (.iload_n 3, 1) := dk_29 (dk_at dksX12_change_0 8 rfl rfl)
theorem dX12_change_9 : decode cX12_change 9 = .ok (.i2l, 1) := dk_133 (dk_at dksX12_change_0 9 rfl rfl)
theorem dX12_change_10 : decode cX12_change 10 = .ok (.goto 4, 3) := dk_167 0 4 (dk_at dksX12_change_0 10 rfl rfl)
theorem dX12_change_13 : decode cX12_change 13 = .ok (.lconst 0, 1) := dk_9 (dk_at dksX12_change_0 13 rfl rfl)
theorem dX12_change_14 : decode cX12_change 14 = .ok (.lreturn, 1) := dk_173 (dk_at dksX12_change_0 14 rfl rfl)
abbrev cX12_init : ByteArray := prog_8_method_1_code
def yX12_init : MethodName := ⟨RX12, "<init>", "(I)V"⟩
def dkwX12_init_0 : List UInt8 := [42, 16, 110, 27, 183, 0, 1, 177]
abbrev dktX12_init_0 : List UInt8 := dkwX12_init_0 ++ []
theorem dksX12_init_0 : cX12_init.data.toList.drop 0 = dktX12_init_0 := by decide +kernel
theorem dX12_init_0 : decode cX12_init 0 = .ok (.aload_n 0, 1) := dk_42 (dk_at dksX12_init_0 0 rfl rfl)
theorem dX12_init_1 : decode cX12_init 1 = .ok (.bipush 110, 2) := dk_16 110 (dk_at dksX12_init_0 1 rfl rfl)
theorem dX12_init_3 : decode cX12_init 3 = .ok (.iload_n 1, 1) := dk_27 (dk_at dksX12_init_0 3 rfl rfl)
theorem dX12_init_4 : decode cX12_init 4 = .ok (.invokespecial 1, 3) := dk_183 0 1 (dk_at dksX12_init_0 4 rfl rfl)
theorem dX12_init_7 : decode cX12_init 7 = .ok (.return_, 1) := dk_177 (dk_at dksX12_init_0 7 rfl rfl)
theorem q130 : (Jvm.Cond.initialized "WeirfoldLane$CountStep") ∈ lw_all := lw_g (lw_at lw_m1 37 rfl) rfl
theorem q517 : (Jvm.Cond.selects "WeirfoldLane$CountStep" ({ cls := "java/lang/Object", name := "getClass", desc := "()Ljava/lang/Class;" } : Jvm.MethodName) ({ cls := "java/lang/Object", name := "getClass", desc := "()Ljava/lang/Class;" } : Jvm.MethodName)) ∈ lw_all := lw_g (lw_at lw_m2 184 rfl) rfl
theorem q627 : (Jvm.Cond.selects "WeirfoldLane$CountStep" ({ cls := "java/lang/Object", name := "equals", desc := "(Ljava/lang/Object;)Z" } : Jvm.MethodName) ({ cls := "java/lang/Object", name := "equals", desc := "(Ljava/lang/Object;)Z" } : Jvm.MethodName)) ∈ lw_all := lw_g (lw_at lw_m3 54 rfl) rfl
theorem q720 : (Jvm.Cond.selects "WeirfoldLane$CountStep" ({ cls := "WeirfoldLane$BaseStep", name := "takes", desc := "(LWeirfoldLane$Row;)Z" } : Jvm.MethodName) ({ cls := "WeirfoldLane$BaseStep", name := "takes", desc := "(LWeirfoldLane$Row;)Z" } : Jvm.MethodName)) ∈ lw_all := lw_g (lw_at lw_m3 147 rfl) rfl
theorem q727 : (Jvm.Cond.selects "WeirfoldLane$CountStep" ({ cls := "WeirfoldLane$BaseStep", name := "with", desc := "(JLWeirfoldLane$Row;)J" } : Jvm.MethodName) ({ cls := "WeirfoldLane$CountStep", name := "with", desc := "(JLWeirfoldLane$Row;)J" } : Jvm.MethodName)) ∈ lw_all := lw_g (lw_at lw_m3 154 rfl) rfl
theorem q728 : (Jvm.Cond.instanceMethod ({ cls := "WeirfoldLane$CountStep", name := "with", desc := "(JLWeirfoldLane$Row;)J" } : Jvm.MethodName)) ∈ lw_all := lw_g (lw_at lw_m3 155 rfl) rfl
theorem q729 : (Jvm.Cond.code ({ cls := "WeirfoldLane$CountStep", name := "with", desc := "(JLWeirfoldLane$Row;)J" } : Jvm.MethodName) prog_8_method_2_code (4 : Nat) (Option.some Jvm.ClassFile.FieldType.long)) ∈ lw_all := lw_g (lw_at lw_m3 156 rfl) rfl
theorem q761 : (Jvm.Cond.selects "WeirfoldLane$CountStep" ({ cls := "WeirfoldLane$Step", name := "compute", desc := "(Ljava/util/List;LWeirfoldLane$Numbers;II)J" } : Jvm.MethodName) ({ cls := "WeirfoldLane$BaseStep", name := "compute", desc := "(Ljava/util/List;LWeirfoldLane$Numbers;II)J" } : Jvm.MethodName)) ∈ lw_all := lw_g (lw_at lw_m3 188 rfl) rfl
theorem q1252 : (Jvm.Cond.selects "WeirfoldLane$CountStep" ({ cls := "WeirfoldLane$Step", name := "change", desc := "(LWeirfoldLane$Lane;LWeirfoldLane$Row;ILWeirfoldLane$Changes;)J" } : Jvm.MethodName) ({ cls := "WeirfoldLane$CountStep", name := "change", desc := "(LWeirfoldLane$Lane;LWeirfoldLane$Row;ILWeirfoldLane$Changes;)J" } : Jvm.MethodName)) ∈ lw_all := lw_g (lw_at lw_m5 199 rfl) rfl
theorem q1253 : (Jvm.Cond.instanceMethod ({ cls := "WeirfoldLane$CountStep", name := "change", desc := "(LWeirfoldLane$Lane;LWeirfoldLane$Row;ILWeirfoldLane$Changes;)J" } : Jvm.MethodName)) ∈ lw_all := lw_g (lw_at lw_m5 200 rfl) rfl
theorem q1254 : (Jvm.Cond.code ({ cls := "WeirfoldLane$CountStep", name := "change", desc := "(LWeirfoldLane$Lane;LWeirfoldLane$Row;ILWeirfoldLane$Changes;)J" } : Jvm.MethodName) prog_8_method_3_code (5 : Nat) (Option.some Jvm.ClassFile.FieldType.long)) ∈ lw_all := lw_g (lw_at lw_m5 201 rfl) rfl
theorem q1255 : (Jvm.Cond.methodLink "WeirfoldLane$CountStep" (7 : Nat) ({ cls := "WeirfoldLane$CountStep", name := "takes", desc := "(LWeirfoldLane$Row;)Z" } : Jvm.MethodName)) ∈ lw_all := lw_g (lw_at lw_m5 202 rfl) rfl
theorem q1256 : (Jvm.Cond.sameMethod "WeirfoldLane$CountStep" "WeirfoldLane$BaseStep" "takes" "(LWeirfoldLane$Row;)Z") ∈ lw_all := lw_g (lw_at lw_m5 203 rfl) rfl
theorem q1258 : (Jvm.Cond.selects "WeirfoldLane$CountStep" ({ cls := "WeirfoldLane$CountStep", name := "takes", desc := "(LWeirfoldLane$Row;)Z" } : Jvm.MethodName) ({ cls := "WeirfoldLane$BaseStep", name := "takes", desc := "(LWeirfoldLane$Row;)Z" } : Jvm.MethodName)) ∈ lw_all := lw_g (lw_at lw_m5 205 rfl) rfl
theorem q1306 : (Jvm.Cond.selects "WeirfoldLane$CountStep" ({ cls := "WeirfoldLane$Step", name := "level", desc := "()I" } : Jvm.MethodName) ({ cls := "WeirfoldLane$BaseStep", name := "level", desc := "()I" } : Jvm.MethodName)) ∈ lw_all := lw_g (lw_at lw_m6 13 rfl) rfl
theorem q1321 : (Jvm.Cond.selects "WeirfoldLane$CountStep" ({ cls := "WeirfoldLane$Step", name := "isFromStale", desc := "(LWeirfoldLane$Lane;I)Z" } : Jvm.MethodName) ({ cls := "WeirfoldLane$BaseStep", name := "isFromStale", desc := "(LWeirfoldLane$Lane;I)Z" } : Jvm.MethodName)) ∈ lw_all := lw_g (lw_at lw_m6 28 rfl) rfl
theorem q1483 : (Jvm.Cond.instantiable "WeirfoldLane$CountStep" (2 : Nat)) ∈ lw_all := lw_g (lw_at lw_m6 190 rfl) rfl
theorem q1485 : (Jvm.Cond.instanceMethod ({ cls := "WeirfoldLane$CountStep", name := "<init>", desc := "(I)V" } : Jvm.MethodName)) ∈ lw_all := lw_g (lw_at lw_m6 192 rfl) rfl
theorem q1486 : (Jvm.Cond.code ({ cls := "WeirfoldLane$CountStep", name := "<init>", desc := "(I)V" } : Jvm.MethodName) prog_8_method_1_code (2 : Nat) (Option.none : Option Jvm.ClassFile.FieldType)) ∈ lw_all := lw_g (lw_at lw_m6 193 rfl) rfl
theorem q1487 : (Jvm.Cond.methodLink "WeirfoldLane$CountStep" (1 : Nat) ({ cls := "WeirfoldLane$BaseStep", name := "<init>", desc := "(CI)V" } : Jvm.MethodName)) ∈ lw_all := lw_g (lw_at lw_m6 194 rfl) rfl
theorem q1488 : (Jvm.Cond.laysFinal "WeirfoldLane$CountStep" "WeirfoldLane$BaseStep" "bound" "I") ∈ lw_all := lw_g (lw_at lw_m6 195 rfl) rfl
theorem q1489 : (Jvm.Cond.laysFinal "WeirfoldLane$CountStep" "WeirfoldLane$Step" "kind" "C") ∈ lw_all := lw_g (lw_at lw_m6 196 rfl) rfl
theorem q1490 : (Jvm.Cond.superclass "WeirfoldLane$CountStep" "WeirfoldLane$BaseStep") ∈ lw_all := lw_g (lw_at lw_m6 197 rfl) rfl
theorem q1587 : (Jvm.Cond.selects "WeirfoldLane$CountStep" ({ cls := "WeirfoldLane$Step", name := "hasInput", desc := "(LWeirfoldLane$Step;)Z" } : Jvm.MethodName) ({ cls := "WeirfoldLane$BaseStep", name := "hasInput", desc := "(LWeirfoldLane$Step;)Z" } : Jvm.MethodName)) ∈ lw_all := lw_g (lw_at lw_m7 54 rfl) rfl
theorem q1847 : (Jvm.Cond.selects "WeirfoldLane$CountStep" ({ cls := "WeirfoldLane$Step", name := "kind", desc := "()C" } : Jvm.MethodName) ({ cls := "WeirfoldLane$Step", name := "kind", desc := "()C" } : Jvm.MethodName)) ∈ lw_all := lw_g (lw_at lw_m8 74 rfl) rfl
theorem q1864 : (Jvm.Cond.selects "WeirfoldLane$CountStep" ({ cls := "WeirfoldLane$Step", name := "dependsOn", desc := "(LWeirfoldLane$Step;Ljava/util/List;)Z" } : Jvm.MethodName) ({ cls := "WeirfoldLane$Step", name := "dependsOn", desc := "(LWeirfoldLane$Step;Ljava/util/List;)Z" } : Jvm.MethodName)) ∈ lw_all := lw_g (lw_at lw_m8 91 rfl) rfl
theorem q1964 : (Jvm.Cond.selects "WeirfoldLane$CountStep" ({ cls := "WeirfoldLane$Step", name := "rowsBehind", desc := "(Ljava/util/List;II)J" } : Jvm.MethodName) ({ cls := "WeirfoldLane$BaseStep", name := "rowsBehind", desc := "(Ljava/util/List;II)J" } : Jvm.MethodName)) ∈ lw_all := lw_g (lw_at lw_m8 191 rfl) rfl
theorem q2005 : (Jvm.Cond.selects "WeirfoldLane$CountStep" ({ cls := "WeirfoldLane$Step", name := "isMarked", desc := "(LWeirfoldLane$Row;LWeirfoldLane$Marks;I)Z" } : Jvm.MethodName) ({ cls := "WeirfoldLane$BaseStep", name := "isMarked", desc := "(LWeirfoldLane$Row;LWeirfoldLane$Marks;I)Z" } : Jvm.MethodName)) ∈ lw_all := lw_g (lw_at lw_m8 232 rfl) rfl
theorem q2090 : (Jvm.Cond.selects "WeirfoldLane$CountStep" ({ cls := "WeirfoldLane$Step", name := "costWith", desc := "(LWeirfoldLane$Costs;)J" } : Jvm.MethodName) ({ cls := "WeirfoldLane$BaseStep", name := "costWith", desc := "(LWeirfoldLane$Costs;)J" } : Jvm.MethodName)) ∈ lw_all := lw_g (lw_at lw_m9 77 rfl) rfl
theorem q2509 : (Jvm.Cond.selects "WeirfoldLane$CountStep" ({ cls := "WeirfoldLane$Step", name := "text", desc := "(LWeirfoldLane$Lane;)Ljava/lang/String;" } : Jvm.MethodName) ({ cls := "WeirfoldLane$BaseStep", name := "text", desc := "(LWeirfoldLane$Lane;)Ljava/lang/String;" } : Jvm.MethodName)) ∈ lw_all := lw_g (lw_at lw_m11 16 rfl) rfl
theorem q2518 : (Jvm.Cond.selects "WeirfoldLane$CountStep" ({ cls := "WeirfoldLane$BaseStep", name := "kind", desc := "()C" } : Jvm.MethodName) ({ cls := "WeirfoldLane$Step", name := "kind", desc := "()C" } : Jvm.MethodName)) ∈ lw_all := lw_g (lw_at lw_m11 25 rfl) rfl
theorem q3296 : (Jvm.Cond.castable "WeirfoldLane$CountStep" "WeirfoldLane$Step") ∈ lw_tbl := lw_at lw_m14 83 rfl
theorem q3319 : (Jvm.Cond.castable "WeirfoldLane$CountStep" "java/lang/Object") ∈ lw_tbl := lw_at lw_m14 106 rfl
theorem in_X12 : ∀ w ∈ wsX120, w ∈ lw_all := lw_in wsX120 [1488, 1489] (by decide +kernel) (by decide +kernel)

/-! WeirfoldLane$GreatestStep -/
set_option maxRecDepth 100000
def RX13 : String := "WeirfoldLane$GreatestStep"
def TX13 : u_T := fun k => match k with
  | 0 => ("WeirfoldLane$BaseStep", "bound", "I", true)
  | _ => ("WeirfoldLane$Step", "kind", "C", true)
def tyX13 : Nat → FieldType := fun k => match k with
  | 0 => .int
  | _ => .char
abbrev wsX130 : List Cond := u_ws RX13 TX13 2
theorem nmX13 : ∀ a, a < 2 → ∀ b, b < 2 → a ≠ b → (TX13 a).2.1 ≠ (TX13 b).2.1 := by decide +kernel
theorem tyX13_ok : ∀ k, k < 2 → parseFieldDescriptor (TX13 k).2.2.1 = some (tyX13 k) := by decide +kernel
abbrev cX13_with : ByteArray := prog_11_method_2_code
def yX13_with : MethodName := ⟨RX13, "with", "(JLWeirfoldLane$Row;)J"⟩
def dkwX13_with_0 : List UInt8 := [31, 45, 180, 0, 7, 133, 184, 0, 13, 173]
abbrev dktX13_with_0 : List UInt8 := dkwX13_with_0 ++ []
theorem dksX13_with_0 : cX13_with.data.toList.drop 0 = dktX13_with_0 := by decide +kernel
theorem dX13_with_0 : decode cX13_with 0 = .ok (.lload_n 1, 1) := dk_31 (dk_at dksX13_with_0 0 rfl rfl)
theorem dX13_with_1 : decode cX13_with 1 = .ok (.aload_n 3, 1) := dk_45 (dk_at dksX13_with_0 1 rfl rfl)
theorem dX13_with_2 : decode cX13_with 2 = .ok (.getfield 7, 3) := dk_180 0 7 (dk_at dksX13_with_0 2 rfl rfl)
theorem dX13_with_5 : decode cX13_with 5 = .ok (.i2l, 1) := dk_133 (dk_at dksX13_with_0 5 rfl rfl)
theorem dX13_with_6 : decode cX13_with 6 = .ok (.invokestatic 13, 3) := dk_184 0 13 (dk_at dksX13_with_0 6 rfl rfl)
theorem dX13_with_9 : decode cX13_with 9 = .ok (.lreturn, 1) := dk_173 (dk_at dksX13_with_0 9 rfl rfl)
abbrev cX13_change : ByteArray := prog_11_method_3_code
def yX13_change : MethodName := ⟨RX13, "change", "(LWeirfoldLane$Lane;LWeirfoldLane$Row;ILWeirfoldLane$Changes;)J"⟩
def dkwX13_change_1 : List UInt8 := [180, 0, 28, 182, 0, 37, 101, 173]
abbrev dktX13_change_1 : List UInt8 := dkwX13_change_1 ++ []
def dkwX13_change_0 : List UInt8 := [42, 43, 180, 0, 19, 43, 44, 180, 0, 25, 44, 180, 0, 28, 182, 0, 31, 43, 42, 44, 180, 0, 25, 44]
abbrev dktX13_change_0 : List UInt8 := dkwX13_change_0 ++ dktX13_change_1
theorem dksX13_change_0 : cX13_change.data.toList.drop 0 = dktX13_change_0 := by decide +kernel
theorem dksX13_change_1 : cX13_change.data.toList.drop 24 = dktX13_change_1 := dk_seg dksX13_change_0 24 rfl rfl
theorem dX13_change_0 : decode cX13_change 0 = .ok (.aload_n 0, 1) := dk_42 (dk_at dksX13_change_0 0 rfl rfl)
theorem dX13_change_1 : decode cX13_change 1 = .ok (.aload_n 1, 1) := dk_43 (dk_at dksX13_change_0 1 rfl rfl)
theorem dX13_change_2 : decode cX13_change 2 = .ok (.getfield 19, 3) := dk_180 0 19 (dk_at dksX13_change_0 2 rfl rfl)
theorem dX13_change_5 : decode cX13_change 5 = .ok (.aload_n 1, 1) := dk_43 (dk_at dksX13_change_0 5 rfl rfl)
theorem dX13_change_6 : decode cX13_change 6 = .ok (.aload_n 2, 1) := dk_44 (dk_at dksX13_change_0 6 rfl rfl)
theorem dX13_change_7 : decode cX13_change 7 = .ok (.getfield 25, 3) := dk_180 0 25 (dk_at dksX13_change_0 7 rfl rfl)
theorem dX13_change_10 : decode cX13_change 10 = .ok (.aload_n 2, 1) := dk_44 (dk_at dksX13_change_0 10 rfl rfl)
theorem dX13_change_11 : decode cX13_change 11 = .ok (.getfield 28, 3) := dk_180 0 28 (dk_at dksX13_change_0 11 rfl rfl)
theorem dX13_change_14 : decode cX13_change 14 = .ok (.invokevirtual 31, 3) := dk_182 0 31 (dk_at dksX13_change_0 14 rfl rfl)
theorem dX13_change_17 : decode cX13_change 17 = .ok (.aload_n 1, 1) := dk_43 (dk_at dksX13_change_0 17 rfl rfl)
theorem dX13_change_18 : decode cX13_change 18 = .ok (.aload_n 0, 1) := dk_42 (dk_at dksX13_change_0 18 rfl rfl)
theorem dX13_change_19 : decode cX13_change 19 = .ok (.aload_n 2, 1) := dk_44 (dk_at dksX13_change_0 19 rfl rfl)
theorem dX13_change_20 : decode cX13_change 20 = .ok (.getfield 25, 3) := dk_180 0 25 (dk_at dksX13_change_0 20 rfl rfl)
theorem dX13_change_23 : decode cX13_change 23 = .ok (.aload_n 2, 1) := dk_44 (dk_at dksX13_change_0 23 rfl rfl)
theorem dX13_change_24 : decode cX13_change 24 = .ok (.getfield 28, 3) := dk_180 0 28 (dk_at dksX13_change_1 0 rfl rfl)
theorem dX13_change_27 : decode cX13_change 27 = .ok (.invokevirtual 37, 3) := dk_182 0 37 (dk_at dksX13_change_1 3 rfl rfl)
theorem dX13_change_30 : decode cX13_change 30 = .ok (.lsub, 1) := dk_101 (dk_at dksX13_change_1 6 rfl rfl)
theorem dX13_change_31 : decode cX13_change 31 = .ok (.lreturn, 1) := dk_173 (dk_at dksX13_change_1 7 rfl rfl)
abbrev cX13_init : ByteArray := prog_11_method_1_code
def yX13_init : MethodName := ⟨RX13, "<init>", "(I)V"⟩
def dkwX13_init_0 : List UInt8 := [42, 16, 120, 27, 183, 0, 1, 177]
abbrev dktX13_init_0 : List UInt8 := dkwX13_init_0 ++ []
theorem dksX13_init_0 : cX13_init.data.toList.drop 0 = dktX13_init_0 := by decide +kernel
theorem dX13_init_0 : decode cX13_init 0 = .ok (.aload_n 0, 1) := dk_42 (dk_at dksX13_init_0 0 rfl rfl)
theorem dX13_init_1 : decode cX13_init 1 = .ok (.bipush 120, 2) := dk_16 120 (dk_at dksX13_init_0 1 rfl rfl)
theorem dX13_init_3 : decode cX13_init 3 = .ok (.iload_n 1, 1) := dk_27 (dk_at dksX13_init_0 3 rfl rfl)
theorem dX13_init_4 : decode cX13_init 4 = .ok (.invokespecial 1, 3) := dk_183 0 1 (dk_at dksX13_init_0 4 rfl rfl)
theorem dX13_init_7 : decode cX13_init 7 = .ok (.return_, 1) := dk_177 (dk_at dksX13_init_0 7 rfl rfl)
theorem q131 : (Jvm.Cond.initialized "WeirfoldLane$GreatestStep") ∈ lw_all := lw_g (lw_at lw_m1 38 rfl) rfl
theorem q195 : (Jvm.Cond.fieldLinkNest "WeirfoldLane$GreatestStep" (19 : Nat) "WeirfoldLane$Lane" "rows" "Ljava/util/List;" "WeirfoldLane") ∈ lw_tbl := lw_at lw_m1 102 rfl
theorem q520 : (Jvm.Cond.selects "WeirfoldLane$GreatestStep" ({ cls := "java/lang/Object", name := "getClass", desc := "()Ljava/lang/Class;" } : Jvm.MethodName) ({ cls := "java/lang/Object", name := "getClass", desc := "()Ljava/lang/Class;" } : Jvm.MethodName)) ∈ lw_all := lw_g (lw_at lw_m2 187 rfl) rfl
theorem q630 : (Jvm.Cond.selects "WeirfoldLane$GreatestStep" ({ cls := "java/lang/Object", name := "equals", desc := "(Ljava/lang/Object;)Z" } : Jvm.MethodName) ({ cls := "java/lang/Object", name := "equals", desc := "(Ljava/lang/Object;)Z" } : Jvm.MethodName)) ∈ lw_all := lw_g (lw_at lw_m3 57 rfl) rfl
theorem q721 : (Jvm.Cond.selects "WeirfoldLane$GreatestStep" ({ cls := "WeirfoldLane$BaseStep", name := "takes", desc := "(LWeirfoldLane$Row;)Z" } : Jvm.MethodName) ({ cls := "WeirfoldLane$BaseStep", name := "takes", desc := "(LWeirfoldLane$Row;)Z" } : Jvm.MethodName)) ∈ lw_all := lw_g (lw_at lw_m3 148 rfl) rfl
theorem q730 : (Jvm.Cond.selects "WeirfoldLane$GreatestStep" ({ cls := "WeirfoldLane$BaseStep", name := "with", desc := "(JLWeirfoldLane$Row;)J" } : Jvm.MethodName) ({ cls := "WeirfoldLane$GreatestStep", name := "with", desc := "(JLWeirfoldLane$Row;)J" } : Jvm.MethodName)) ∈ lw_all := lw_g (lw_at lw_m3 157 rfl) rfl
theorem q731 : (Jvm.Cond.instanceMethod ({ cls := "WeirfoldLane$GreatestStep", name := "with", desc := "(JLWeirfoldLane$Row;)J" } : Jvm.MethodName)) ∈ lw_all := lw_g (lw_at lw_m3 158 rfl) rfl
theorem q732 : (Jvm.Cond.code ({ cls := "WeirfoldLane$GreatestStep", name := "with", desc := "(JLWeirfoldLane$Row;)J" } : Jvm.MethodName) prog_11_method_2_code (4 : Nat) (Option.some Jvm.ClassFile.FieldType.long)) ∈ lw_all := lw_g (lw_at lw_m3 159 rfl) rfl
theorem q733 : (Jvm.Cond.methodLink "WeirfoldLane$GreatestStep" (13 : Nat) ({ cls := "java/lang/Math", name := "max", desc := "(JJ)J" } : Jvm.MethodName)) ∈ lw_all := lw_g (lw_at lw_m3 160 rfl) rfl
theorem q762 : (Jvm.Cond.selects "WeirfoldLane$GreatestStep" ({ cls := "WeirfoldLane$Step", name := "compute", desc := "(Ljava/util/List;LWeirfoldLane$Numbers;II)J" } : Jvm.MethodName) ({ cls := "WeirfoldLane$BaseStep", name := "compute", desc := "(Ljava/util/List;LWeirfoldLane$Numbers;II)J" } : Jvm.MethodName)) ∈ lw_all := lw_g (lw_at lw_m3 189 rfl) rfl
theorem q1194 : (Jvm.Cond.fieldLinkNest "WeirfoldLane$GreatestStep" (25 : Nat) "WeirfoldLane$Row" "day" "I" "WeirfoldLane") ∈ lw_tbl := lw_at lw_m5 141 rfl
theorem q1200 : (Jvm.Cond.fieldLinkNest "WeirfoldLane$GreatestStep" (28 : Nat) "WeirfoldLane$Row" "group" "I" "WeirfoldLane") ∈ lw_tbl := lw_at lw_m5 147 rfl
theorem q1206 : (Jvm.Cond.fieldLinkNest "WeirfoldLane$GreatestStep" (7 : Nat) "WeirfoldLane$Row" "amount" "I" "WeirfoldLane") ∈ lw_tbl := lw_at lw_m5 153 rfl
theorem q1259 : (Jvm.Cond.selects "WeirfoldLane$GreatestStep" ({ cls := "WeirfoldLane$Step", name := "change", desc := "(LWeirfoldLane$Lane;LWeirfoldLane$Row;ILWeirfoldLane$Changes;)J" } : Jvm.MethodName) ({ cls := "WeirfoldLane$GreatestStep", name := "change", desc := "(LWeirfoldLane$Lane;LWeirfoldLane$Row;ILWeirfoldLane$Changes;)J" } : Jvm.MethodName)) ∈ lw_all := lw_g (lw_at lw_m5 206 rfl) rfl
theorem q1260 : (Jvm.Cond.instanceMethod ({ cls := "WeirfoldLane$GreatestStep", name := "change", desc := "(LWeirfoldLane$Lane;LWeirfoldLane$Row;ILWeirfoldLane$Changes;)J" } : Jvm.MethodName)) ∈ lw_all := lw_g (lw_at lw_m5 207 rfl) rfl
theorem q1261 : (Jvm.Cond.code ({ cls := "WeirfoldLane$GreatestStep", name := "change", desc := "(LWeirfoldLane$Lane;LWeirfoldLane$Row;ILWeirfoldLane$Changes;)J" } : Jvm.MethodName) prog_11_method_3_code (5 : Nat) (Option.some Jvm.ClassFile.FieldType.long)) ∈ lw_all := lw_g (lw_at lw_m5 208 rfl) rfl
theorem q1262 : (Jvm.Cond.methodLink "WeirfoldLane$GreatestStep" (31 : Nat) ({ cls := "WeirfoldLane$GreatestStep", name := "compute", desc := "(Ljava/util/List;LWeirfoldLane$Numbers;II)J" } : Jvm.MethodName)) ∈ lw_all := lw_g (lw_at lw_m5 209 rfl) rfl
theorem q1263 : (Jvm.Cond.sameMethod "WeirfoldLane$GreatestStep" "WeirfoldLane$BaseStep" "compute" "(Ljava/util/List;LWeirfoldLane$Numbers;II)J") ∈ lw_all := lw_g (lw_at lw_m5 210 rfl) rfl
theorem q1265 : (Jvm.Cond.selects "WeirfoldLane$GreatestStep" ({ cls := "WeirfoldLane$GreatestStep", name := "compute", desc := "(Ljava/util/List;LWeirfoldLane$Numbers;II)J" } : Jvm.MethodName) ({ cls := "WeirfoldLane$BaseStep", name := "compute", desc := "(Ljava/util/List;LWeirfoldLane$Numbers;II)J" } : Jvm.MethodName)) ∈ lw_all := lw_g (lw_at lw_m5 212 rfl) rfl
theorem q1266 : (Jvm.Cond.methodLink "WeirfoldLane$GreatestStep" (37 : Nat) ({ cls := "WeirfoldLane$Lane", name := "number", desc := "(LWeirfoldLane$Step;II)J" } : Jvm.MethodName)) ∈ lw_all := lw_g (lw_at lw_m5 213 rfl) rfl
theorem q1307 : (Jvm.Cond.selects "WeirfoldLane$GreatestStep" ({ cls := "WeirfoldLane$Step", name := "level", desc := "()I" } : Jvm.MethodName) ({ cls := "WeirfoldLane$BaseStep", name := "level", desc := "()I" } : Jvm.MethodName)) ∈ lw_all := lw_g (lw_at lw_m6 14 rfl) rfl
theorem q1324 : (Jvm.Cond.selects "WeirfoldLane$GreatestStep" ({ cls := "WeirfoldLane$Step", name := "isFromStale", desc := "(LWeirfoldLane$Lane;I)Z" } : Jvm.MethodName) ({ cls := "WeirfoldLane$BaseStep", name := "isFromStale", desc := "(LWeirfoldLane$Lane;I)Z" } : Jvm.MethodName)) ∈ lw_all := lw_g (lw_at lw_m6 31 rfl) rfl
theorem q1492 : (Jvm.Cond.instantiable "WeirfoldLane$GreatestStep" (2 : Nat)) ∈ lw_all := lw_g (lw_at lw_m6 199 rfl) rfl
theorem q1494 : (Jvm.Cond.instanceMethod ({ cls := "WeirfoldLane$GreatestStep", name := "<init>", desc := "(I)V" } : Jvm.MethodName)) ∈ lw_all := lw_g (lw_at lw_m6 201 rfl) rfl
theorem q1495 : (Jvm.Cond.code ({ cls := "WeirfoldLane$GreatestStep", name := "<init>", desc := "(I)V" } : Jvm.MethodName) prog_11_method_1_code (2 : Nat) (Option.none : Option Jvm.ClassFile.FieldType)) ∈ lw_all := lw_g (lw_at lw_m6 202 rfl) rfl
theorem q1496 : (Jvm.Cond.methodLink "WeirfoldLane$GreatestStep" (1 : Nat) ({ cls := "WeirfoldLane$BaseStep", name := "<init>", desc := "(CI)V" } : Jvm.MethodName)) ∈ lw_all := lw_g (lw_at lw_m6 203 rfl) rfl
theorem q1497 : (Jvm.Cond.laysFinal "WeirfoldLane$GreatestStep" "WeirfoldLane$BaseStep" "bound" "I") ∈ lw_all := lw_g (lw_at lw_m6 204 rfl) rfl
theorem q1498 : (Jvm.Cond.laysFinal "WeirfoldLane$GreatestStep" "WeirfoldLane$Step" "kind" "C") ∈ lw_all := lw_g (lw_at lw_m6 205 rfl) rfl
theorem q1499 : (Jvm.Cond.superclass "WeirfoldLane$GreatestStep" "WeirfoldLane$BaseStep") ∈ lw_all := lw_g (lw_at lw_m6 206 rfl) rfl
theorem q1590 : (Jvm.Cond.selects "WeirfoldLane$GreatestStep" ({ cls := "WeirfoldLane$Step", name := "hasInput", desc := "(LWeirfoldLane$Step;)Z" } : Jvm.MethodName) ({ cls := "WeirfoldLane$BaseStep", name := "hasInput", desc := "(LWeirfoldLane$Step;)Z" } : Jvm.MethodName)) ∈ lw_all := lw_g (lw_at lw_m7 57 rfl) rfl
theorem q1848 : (Jvm.Cond.selects "WeirfoldLane$GreatestStep" ({ cls := "WeirfoldLane$Step", name := "kind", desc := "()C" } : Jvm.MethodName) ({ cls := "WeirfoldLane$Step", name := "kind", desc := "()C" } : Jvm.MethodName)) ∈ lw_all := lw_g (lw_at lw_m8 75 rfl) rfl
theorem q1865 : (Jvm.Cond.selects "WeirfoldLane$GreatestStep" ({ cls := "WeirfoldLane$Step", name := "dependsOn", desc := "(LWeirfoldLane$Step;Ljava/util/List;)Z" } : Jvm.MethodName) ({ cls := "WeirfoldLane$Step", name := "dependsOn", desc := "(LWeirfoldLane$Step;Ljava/util/List;)Z" } : Jvm.MethodName)) ∈ lw_all := lw_g (lw_at lw_m8 92 rfl) rfl
theorem q1965 : (Jvm.Cond.selects "WeirfoldLane$GreatestStep" ({ cls := "WeirfoldLane$Step", name := "rowsBehind", desc := "(Ljava/util/List;II)J" } : Jvm.MethodName) ({ cls := "WeirfoldLane$BaseStep", name := "rowsBehind", desc := "(Ljava/util/List;II)J" } : Jvm.MethodName)) ∈ lw_all := lw_g (lw_at lw_m8 192 rfl) rfl
theorem q2008 : (Jvm.Cond.selects "WeirfoldLane$GreatestStep" ({ cls := "WeirfoldLane$Step", name := "isMarked", desc := "(LWeirfoldLane$Row;LWeirfoldLane$Marks;I)Z" } : Jvm.MethodName) ({ cls := "WeirfoldLane$BaseStep", name := "isMarked", desc := "(LWeirfoldLane$Row;LWeirfoldLane$Marks;I)Z" } : Jvm.MethodName)) ∈ lw_all := lw_g (lw_at lw_m8 235 rfl) rfl
theorem q2093 : (Jvm.Cond.selects "WeirfoldLane$GreatestStep" ({ cls := "WeirfoldLane$Step", name := "costWith", desc := "(LWeirfoldLane$Costs;)J" } : Jvm.MethodName) ({ cls := "WeirfoldLane$BaseStep", name := "costWith", desc := "(LWeirfoldLane$Costs;)J" } : Jvm.MethodName)) ∈ lw_all := lw_g (lw_at lw_m9 80 rfl) rfl
theorem q2519 : (Jvm.Cond.selects "WeirfoldLane$GreatestStep" ({ cls := "WeirfoldLane$BaseStep", name := "kind", desc := "()C" } : Jvm.MethodName) ({ cls := "WeirfoldLane$Step", name := "kind", desc := "()C" } : Jvm.MethodName)) ∈ lw_all := lw_g (lw_at lw_m11 26 rfl) rfl
theorem q2524 : (Jvm.Cond.selects "WeirfoldLane$GreatestStep" ({ cls := "WeirfoldLane$Step", name := "text", desc := "(LWeirfoldLane$Lane;)Ljava/lang/String;" } : Jvm.MethodName) ({ cls := "WeirfoldLane$BaseStep", name := "text", desc := "(LWeirfoldLane$Lane;)Ljava/lang/String;" } : Jvm.MethodName)) ∈ lw_all := lw_g (lw_at lw_m11 31 rfl) rfl
theorem q3297 : (Jvm.Cond.castable "WeirfoldLane$GreatestStep" "WeirfoldLane$Step") ∈ lw_tbl := lw_at lw_m14 84 rfl
theorem q3320 : (Jvm.Cond.castable "WeirfoldLane$GreatestStep" "java/lang/Object") ∈ lw_tbl := lw_at lw_m14 107 rfl
theorem in_X13 : ∀ w ∈ wsX130, w ∈ lw_all := lw_in wsX130 [1497, 1498] (by decide +kernel) (by decide +kernel)

/-! WeirfoldLane$PairStep -/
set_option maxRecDepth 100000
def RX14 : String := "WeirfoldLane$PairStep"
def TX14 : u_T := fun k => match k with
  | 0 => ("WeirfoldLane$Step", "kind", "C", true)
  | 1 => ("WeirfoldLane$PairStep", "first", "LWeirfoldLane$Step;", true)
  | 2 => ("WeirfoldLane$PairStep", "second", "LWeirfoldLane$Step;", true)
  | _ => ("WeirfoldLane$PairStep", "sign", "I", true)
def tyX14 : Nat → FieldType := fun k => match k with
  | 0 => .char
  | 1 => .object "WeirfoldLane$Step"
  | 2 => .object "WeirfoldLane$Step"
  | _ => .int
abbrev wsX140 : List Cond := u_ws RX14 TX14 4
theorem nmX14 : ∀ a, a < 4 → ∀ b, b < 4 → a ≠ b → (TX14 a).2.1 ≠ (TX14 b).2.1 := by decide +kernel
theorem tyX14_ok : ∀ k, k < 4 → parseFieldDescriptor (TX14 k).2.2.1 = some (tyX14 k) := by decide +kernel
abbrev cX14_compute : ByteArray := prog_15_method_2_code
def yX14_compute : MethodName := ⟨RX14, "compute", "(Ljava/util/List;LWeirfoldLane$Numbers;II)J"⟩
def dkwX14_compute_1 : List UInt8 := [21, 4, 185, 0, 20, 4, 0, 105, 97, 173]
abbrev dktX14_compute_1 : List UInt8 := dkwX14_compute_1 ++ []
def dkwX14_compute_0 : List UInt8 := [44, 42, 180, 0, 7, 29, 21, 4, 185, 0, 20, 4, 0, 42, 180, 0, 16, 133, 44, 42, 180, 0, 13, 29]
abbrev dktX14_compute_0 : List UInt8 := dkwX14_compute_0 ++ dktX14_compute_1
theorem dksX14_compute_0 : cX14_compute.data.toList.drop 0 = dktX14_compute_0 := by decide +kernel
theorem dksX14_compute_1 : cX14_compute.data.toList.drop 24 = dktX14_compute_1 := dk_seg dksX14_compute_0 24 rfl rfl
theorem dX14_compute_0 : decode cX14_compute 0 = .ok (.aload_n 2, 1) := dk_44 (dk_at dksX14_compute_0 0 rfl rfl)
theorem dX14_compute_1 : decode cX14_compute 1 = .ok (.aload_n 0, 1) := dk_42 (dk_at dksX14_compute_0 1 rfl rfl)
theorem dX14_compute_2 : decode cX14_compute 2 = .ok (.getfield 7, 3) := dk_180 0 7 (dk_at dksX14_compute_0 2 rfl rfl)
theorem dX14_compute_5 : decode cX14_compute 5 = .ok (.iload_n 3, 1) := dk_29 (dk_at dksX14_compute_0 5 rfl rfl)
theorem dX14_compute_6 : decode cX14_compute 6 = .ok (.iload 4, 2) := dk_21 4 (dk_at dksX14_compute_0 6 rfl rfl)
theorem dX14_compute_8 : decode cX14_compute 8 = .ok (.invokeinterface 20 4, 5) := by decide +kernel
theorem dX14_compute_13 : decode cX14_compute 13 = .ok (.aload_n 0, 1) := dk_42 (dk_at dksX14_compute_0 13 rfl rfl)
theorem dX14_compute_14 : decode cX14_compute 14 = .ok (.getfield 16, 3) := dk_180 0 16 (dk_at dksX14_compute_0 14 rfl rfl)
theorem dX14_compute_17 : decode cX14_compute 17 = .ok (.i2l, 1) := dk_133 (dk_at dksX14_compute_0 17 rfl rfl)
theorem dX14_compute_18 : decode cX14_compute 18 = .ok (.aload_n 2, 1) := dk_44 (dk_at dksX14_compute_0 18 rfl rfl)
theorem dX14_compute_19 : decode cX14_compute 19 = .ok (.aload_n 0, 1) := dk_42 (dk_at dksX14_compute_0 19 rfl rfl)
theorem dX14_compute_20 : decode cX14_compute 20 = .ok (.getfield 13, 3) := dk_180 0 13 (dk_at dksX14_compute_0 20 rfl rfl)
theorem dX14_compute_23 : decode cX14_compute 23 = .ok (.iload_n 3, 1) := dk_29 (dk_at dksX14_compute_0 23 rfl rfl)
theorem dX14_compute_24 : decode cX14_compute 24 = .ok (.iload 4, 2) := dk_21 4 (dk_at dksX14_compute_1 0 rfl rfl)
theorem dX14_compute_26 : decode cX14_compute 26 = .ok (.invokeinterface 20 4, 5) := by decide +kernel
theorem dX14_compute_31 : decode cX14_compute 31 = .ok (.lmul, 1) := dk_105 (dk_at dksX14_compute_1 7 rfl rfl)
theorem dX14_compute_32 : decode cX14_compute 32 = .ok (.ladd, 1) := dk_97 (dk_at dksX14_compute_1 8 rfl rfl)
theorem dX14_compute_33 : decode cX14_compute 33 = .ok (.lreturn, 1) := dk_173 (dk_at dksX14_compute_1 9 rfl rfl)
abbrev cX14_change : ByteArray := prog_15_method_3_code
def yX14_change : MethodName := ⟨RX14, "change", "(LWeirfoldLane$Lane;LWeirfoldLane$Row;ILWeirfoldLane$Changes;)J"⟩
def dkwX14_change_1 : List UInt8 := [97, 173]
abbrev dktX14_change_1 : List UInt8 := dkwX14_change_1 ++ []
def dkwX14_change_0 : List UInt8 := [25, 4, 42, 180, 0, 7, 182, 0, 26, 42, 180, 0, 16, 133, 25, 4, 42, 180, 0, 13, 182, 0, 26, 105]
abbrev dktX14_change_0 : List UInt8 := dkwX14_change_0 ++ dktX14_change_1
theorem dksX14_change_0 : cX14_change.data.toList.drop 0 = dktX14_change_0 := by decide +kernel
theorem dksX14_change_1 : cX14_change.data.toList.drop 24 = dktX14_change_1 := dk_seg dksX14_change_0 24 rfl rfl
theorem dX14_change_0 : decode cX14_change 0 = .ok (.aload 4, 2) := dk_25 4 (dk_at dksX14_change_0 0 rfl rfl)
theorem dX14_change_2 : decode cX14_change 2 = .ok (.aload_n 0, 1) := dk_42 (dk_at dksX14_change_0 2 rfl rfl)
theorem dX14_change_3 : decode cX14_change 3 = .ok (.getfield 7, 3) := dk_180 0 7 (dk_at dksX14_change_0 3 rfl rfl)
theorem dX14_change_6 : decode cX14_change 6 = .ok (.invokevirtual 26, 3) := dk_182 0 26 (dk_at dksX14_change_0 6 rfl rfl)
theorem dX14_change_9 : decode cX14_change 9 = .ok (.aload_n 0, 1) := dk_42 (dk_at dksX14_change_0 9 rfl rfl)
theorem dX14_change_10 : decode cX14_change 10 = .ok (.getfield 16, 3) := dk_180 0 16 (dk_at dksX14_change_0 10 rfl rfl)
theorem dX14_change_13 : decode cX14_change 13 = .ok (.i2l, 1) := dk_133 (dk_at dksX14_change_0 13 rfl rfl)
theorem dX14_change_14 : decode cX14_change 14 = .ok (.aload 4, 2) := dk_25 4 (dk_at dksX14_change_0 14 rfl rfl)
theorem dX14_change_16 : decode cX14_change 16 = .ok (.aload_n 0, 1) := dk_42 (dk_at dksX14_change_0 16 rfl rfl)
theorem dX14_change_17 : decode cX14_change 17 = .ok (.getfield 13, 3) := dk_180 0 13 (dk_at dksX14_change_0 17 rfl rfl)
theorem dX14_change_20 : decode cX14_change 20 = .ok (.invokevirtual 26, 3) := dk_182 0 26 (dk_at dksX14_change_0 20 rfl rfl)
theorem dX14_change_23 : decode cX14_change 23 = .ok (.lmul, 1) := dk_105 (dk_at dksX14_change_0 23 rfl rfl)
theorem dX14_change_24 : decode cX14_change 24 = .ok (.ladd, 1) := dk_97 (dk_at dksX14_change_1 0 rfl rfl)
theorem dX14_change_25 : decode cX14_change 25 = .ok (.lreturn, 1) := dk_173 (dk_at dksX14_change_1 1 rfl rfl)
abbrev cX14_level : ByteArray := prog_15_method_5_code
def yX14_level : MethodName := ⟨RX14, "level", "()I"⟩
def dkwX14_level_0 : List UInt8 := [4, 42, 180, 0, 7, 182, 0, 32, 42, 180, 0, 13, 182, 0, 32, 184, 0, 36, 96, 172]
abbrev dktX14_level_0 : List UInt8 := dkwX14_level_0 ++ []
theorem dksX14_level_0 : cX14_level.data.toList.drop 0 = dktX14_level_0 := by decide +kernel
theorem dX14_level_0 : decode cX14_level 0 = .ok (.iconst 1, 1) := dk_4 (dk_at dksX14_level_0 0 rfl rfl)
theorem dX14_level_1 : decode cX14_level 1 = .ok (.aload_n 0, 1) := dk_42 (dk_at dksX14_level_0 1 rfl rfl)
theorem dX14_level_2 : decode cX14_level 2 = .ok (.getfield 7, 3) := dk_180 0 7 (dk_at dksX14_level_0 2 rfl rfl)
theorem dX14_level_5 : decode cX14_level 5 = .ok (.invokevirtual 32, 3) := dk_182 0 32 (dk_at dksX14_level_0 5 rfl rfl)
theorem dX14_level_8 : decode cX14_level 8 = .ok (.aload_n 0, 1) := dk_42 (dk_at dksX14_level_0 8 rfl rfl)
theorem dX14_level_9 : decode cX14_level 9 = .ok (.getfield 13, 3) := dk_180 0 13 (dk_at dksX14_level_0 9 rfl rfl)
theorem dX14_level_12 : decode cX14_level 12 = .ok (.invokevirtual 32, 3) := dk_182 0 32 (dk_at dksX14_level_0 12 rfl rfl)
theorem dX14_level_15 : decode cX14_level 15 = .ok (.invokestatic 36, 3) := dk_184 0 36 (dk_at dksX14_level_0 15 rfl rfl)
theorem dX14_level_18 : decode cX14_level 18 = .ok (.iadd, 1) := dk_96 (dk_at dksX14_level_0 18 rfl rfl)
theorem dX14_level_19 : decode cX14_level 19 = .ok (.ireturn, 1) := dk_172 (dk_at dksX14_level_0 19 rfl rfl)
abbrev cX14_isFromStale : ByteArray := prog_15_method_6_code
def yX14_isFromStale : MethodName := ⟨RX14, "isFromStale", "(LWeirfoldLane$Lane;I)Z"⟩
def dkwX14_isFromStale_1 : List UInt8 := [4, 167, 0, 4, 3, 172]
abbrev dktX14_isFromStale_1 : List UInt8 := dkwX14_isFromStale_1 ++ []
def dkwX14_isFromStale_0 : List UInt8 := [43, 42, 180, 0, 7, 28, 182, 0, 42, 154, 0, 15, 43, 42, 180, 0, 13, 28, 182, 0, 42, 153, 0, 7]
abbrev dktX14_isFromStale_0 : List UInt8 := dkwX14_isFromStale_0 ++ dktX14_isFromStale_1
theorem dksX14_isFromStale_0 : cX14_isFromStale.data.toList.drop 0 = dktX14_isFromStale_0 := by decide +kernel
theorem dksX14_isFromStale_1 : cX14_isFromStale.data.toList.drop 24 = dktX14_isFromStale_1 := dk_seg dksX14_isFromStale_0 24 rfl rfl
theorem dX14_isFromStale_0 : decode cX14_isFromStale 0 = .ok (.aload_n 1, 1) := dk_43 (dk_at dksX14_isFromStale_0 0 rfl rfl)
theorem dX14_isFromStale_1 : decode cX14_isFromStale 1 = .ok (.aload_n 0, 1) := dk_42 (dk_at dksX14_isFromStale_0 1 rfl rfl)
theorem dX14_isFromStale_2 : decode cX14_isFromStale 2 = .ok (.getfield 7, 3) := dk_180 0 7 (dk_at dksX14_isFromStale_0 2 rfl rfl)
theorem dX14_isFromStale_5 : decode cX14_isFromStale 5 = .ok (.iload_n 2, 1) := dk_28 (dk_at dksX14_isFromStale_0 5 rfl rfl)
theorem dX14_isFromStale_6 : decode cX14_isFromStale 6 = .ok (.invokevirtual 42, 3) := dk_182 0 42 (dk_at dksX14_isFromStale_0 6 rfl rfl)
theorem dX14_isFromStale_9 : decode cX14_isFromStale 9 = .ok (.ifCond .ne 15, 3) := dk_154 0 15 (dk_at dksX14_isFromStale_0 9 rfl rfl)
theorem dX14_isFromStale_12 : decode cX14_isFromStale 12 = .ok (.aload_n 1, 1) := dk_43 (dk_at dksX14_isFromStale_0 12 rfl rfl)
theorem dX14_isFromStale_13 : decode cX14_isFromStale 13 = .ok (.aload_n 0, 1) := dk_42 (dk_at dksX14_isFromStale_0 13 rfl rfl)
theorem dX14_isFromStale_14 : decode cX14_isFromStale 14 = .ok (.getfield 13, 3) := dk_180 0 13 (dk_at dksX14_isFromStale_0 14 rfl rfl)
theorem dX14_isFromStale_17 : decode cX14_isFromStale 17 = .ok (.iload_n 2, 1) := dk_28 (dk_at dksX14_isFromStale_0 17 rfl rfl)
theorem dX14_isFromStale_18 : decode cX14_isFromStale 18 = .ok (.invokevirtual 42, 3) := dk_182 0 42 (dk_at dksX14_isFromStale_0 18 rfl rfl)
theorem dX14_isFromStale_21 : decode cX14_isFromStale 21 = .ok (.ifCond .eq 7, 3) := dk_153 0 7 (dk_at dksX14_isFromStale_0 21 rfl rfl)
theorem dX14_isFromStale_24 : decode cX14_isFromStale 24 = .ok (.iconst 1, 1) := dk_4 (dk_at dksX14_isFromStale_1 0 rfl rfl)
theorem dX14_isFromStale_25 : decode cX14_isFromStale 25 = .ok (.goto 4, 3) := dk_167 0 4 (dk_at dksX14_isFromStale_1 1 rfl rfl)
theorem dX14_isFromStale_28 : decode cX14_isFromStale 28 = .ok (.iconst 0, 1) := dk_3 (dk_at dksX14_isFromStale_1 4 rfl rfl)
theorem dX14_isFromStale_29 : decode cX14_isFromStale 29 = .ok (.ireturn, 1) := dk_172 (dk_at dksX14_isFromStale_1 5 rfl rfl)
abbrev cX14_init : ByteArray := prog_15_method_1_code
def yX14_init : MethodName := ⟨RX14, "<init>", "(CLWeirfoldLane$Step;LWeirfoldLane$Step;)V"⟩
def dkwX14_init_1 : List UInt8 := [167, 0, 4, 2, 181, 0, 16, 177]
abbrev dktX14_init_1 : List UInt8 := dkwX14_init_1 ++ []
def dkwX14_init_0 : List UInt8 := [42, 27, 183, 0, 1, 42, 44, 181, 0, 7, 42, 45, 181, 0, 13, 42, 27, 16, 43, 160, 0, 7, 4]
abbrev dktX14_init_0 : List UInt8 := dkwX14_init_0 ++ dktX14_init_1
theorem dksX14_init_0 : cX14_init.data.toList.drop 0 = dktX14_init_0 := by decide +kernel
theorem dksX14_init_1 : cX14_init.data.toList.drop 23 = dktX14_init_1 := dk_seg dksX14_init_0 23 rfl rfl
theorem dX14_init_0 : decode cX14_init 0 = .ok (.aload_n 0, 1) := dk_42 (dk_at dksX14_init_0 0 rfl rfl)
theorem dX14_init_1 : decode cX14_init 1 = .ok (.iload_n 1, 1) := dk_27 (dk_at dksX14_init_0 1 rfl rfl)
theorem dX14_init_2 : decode cX14_init 2 = .ok (.invokespecial 1, 3) := dk_183 0 1 (dk_at dksX14_init_0 2 rfl rfl)
theorem dX14_init_5 : decode cX14_init 5 = .ok (.aload_n 0, 1) := dk_42 (dk_at dksX14_init_0 5 rfl rfl)
theorem dX14_init_6 : decode cX14_init 6 = .ok (.aload_n 2, 1) := dk_44 (dk_at dksX14_init_0 6 rfl rfl)
theorem dX14_init_7 : decode cX14_init 7 = .ok (.putfield 7, 3) := dk_181 0 7 (dk_at dksX14_init_0 7 rfl rfl)
theorem dX14_init_10 : decode cX14_init 10 = .ok (.aload_n 0, 1) := dk_42 (dk_at dksX14_init_0 10 rfl rfl)
theorem dX14_init_11 : decode cX14_init 11 = .ok (.aload_n 3, 1) := dk_45 (dk_at dksX14_init_0 11 rfl rfl)
theorem dX14_init_12 : decode cX14_init 12 = .ok (.putfield 13, 3) := dk_181 0 13 (dk_at dksX14_init_0 12 rfl rfl)
theorem dX14_init_15 : decode cX14_init 15 = .ok (.aload_n 0, 1) := dk_42 (dk_at dksX14_init_0 15 rfl rfl)
theorem dX14_init_16 : decode cX14_init 16 = .ok (.iload_n 1, 1) := dk_27 (dk_at dksX14_init_0 16 rfl rfl)
theorem dX14_init_17 : decode cX14_init 17 = .ok (.bipush 43, 2) := dk_16 43 (dk_at dksX14_init_0 17 rfl rfl)
theorem dX14_init_19 : decode cX14_init 19 = .ok (.if_icmp .ne 7, 3) := dk_160 0 7 (dk_at dksX14_init_0 19 rfl rfl)
theorem dX14_init_22 : decode cX14_init 22 = .ok (.iconst 1, 1) := dk_4 (dk_at dksX14_init_0 22 rfl rfl)
theorem dX14_init_23 : decode cX14_init 23 = .ok (.goto 4, 3) := dk_167 0 4 (dk_at dksX14_init_1 0 rfl rfl)
theorem dX14_init_26 : decode cX14_init 26 = .ok (.iconst (-1), 1) := dk_2 (dk_at dksX14_init_1 3 rfl rfl)
theorem dX14_init_27 : decode cX14_init 27 = .ok (.putfield 16, 3) := dk_181 0 16 (dk_at dksX14_init_1 4 rfl rfl)
theorem dX14_init_30 : decode cX14_init 30 = .ok (.return_, 1) := dk_177 (dk_at dksX14_init_1 7 rfl rfl)
abbrev cX14_hasInput : ByteArray := prog_15_method_4_code
def yX14_hasInput : MethodName := ⟨RX14, "hasInput", "(LWeirfoldLane$Step;)Z"⟩
def dkwX14_hasInput_0 : List UInt8 := [42, 180, 0, 7, 43, 165, 0, 11, 42, 180, 0, 13, 43, 166, 0, 7, 4, 167, 0, 4, 3, 172]
abbrev dktX14_hasInput_0 : List UInt8 := dkwX14_hasInput_0 ++ []
theorem dksX14_hasInput_0 : cX14_hasInput.data.toList.drop 0 = dktX14_hasInput_0 := by decide +kernel
theorem dX14_hasInput_0 : decode cX14_hasInput 0 = .ok (.aload_n 0, 1) := dk_42 (dk_at dksX14_hasInput_0 0 rfl rfl)
theorem dX14_hasInput_1 : decode cX14_hasInput 1 = .ok (.getfield 7, 3) := dk_180 0 7 (dk_at dksX14_hasInput_0 1 rfl rfl)
theorem dX14_hasInput_4 : decode cX14_hasInput 4 = .ok (.aload_n 1, 1) := dk_43 (dk_at dksX14_hasInput_0 4 rfl rfl)
theorem dX14_hasInput_5 : decode cX14_hasInput 5 = .ok (.if_acmp .eq 11, 3) := dk_165 0 11 (dk_at dksX14_hasInput_0 5 rfl rfl)
theorem dX14_hasInput_8 : decode cX14_hasInput 8 = .ok (.aload_n 0, 1) := dk_42 (dk_at dksX14_hasInput_0 8 rfl rfl)
theorem dX14_hasInput_9 : decode cX14_hasInput 9 = .ok (.getfield 13, 3) := dk_180 0 13 (dk_at dksX14_hasInput_0 9 rfl rfl)
theorem dX14_hasInput_12 : decode cX14_hasInput 12 = .ok (.aload_n 1, 1) := dk_43 (dk_at dksX14_hasInput_0 12 rfl rfl)
theorem dX14_hasInput_13 : decode cX14_hasInput 13 = .ok (.if_acmp .ne 7, 3) := dk_166 0 7 (dk_at dksX14_hasInput_0 13 rfl rfl)
theorem dX14_hasInput_16 : decode cX14_hasInput 16 = .ok (.iconst 1, 1) := dk_4 (dk_at dksX14_hasInput_0 16 rfl rfl)
theorem dX14_hasInput_17 : decode cX14_hasInput 17 = .ok (.goto 4, 3) := dk_167 0 4 (dk_at dksX14_hasInput_0 17 rfl rfl)
theorem dX14_hasInput_20 : decode cX14_hasInput 20 = .ok (.iconst 0, 1) := dk_3 (dk_at dksX14_hasInput_0 20 rfl rfl)
theorem dX14_hasInput_21 : decode cX14_hasInput 21 = .ok (.ireturn, 1) := dk_172 (dk_at dksX14_hasInput_0 21 rfl rfl)
abbrev cX14_rowsBehind : ByteArray := prog_15_method_7_code
def yX14_rowsBehind : MethodName := ⟨RX14, "rowsBehind", "(Ljava/util/List;II)J"⟩
def dkwX14_rowsBehind_0 : List UInt8 := [42, 180, 0, 7, 43, 28, 29, 182, 0, 48, 42, 180, 0, 13, 43, 28, 29, 182, 0, 48, 129, 173]
abbrev dktX14_rowsBehind_0 : List UInt8 := dkwX14_rowsBehind_0 ++ []
theorem dksX14_rowsBehind_0 : cX14_rowsBehind.data.toList.drop 0 = dktX14_rowsBehind_0 := by decide +kernel
theorem dX14_rowsBehind_0 : decode cX14_rowsBehind 0 = .ok (.aload_n 0, 1) := dk_42 (dk_at dksX14_rowsBehind_0 0 rfl rfl)
theorem dX14_rowsBehind_1 : decode cX14_rowsBehind 1 = .ok (.getfield 7, 3) := dk_180 0 7 (dk_at dksX14_rowsBehind_0 1 rfl rfl)
theorem dX14_rowsBehind_4 : decode cX14_rowsBehind 4 = .ok (.aload_n 1, 1) := dk_43 (dk_at dksX14_rowsBehind_0 4 rfl rfl)
theorem dX14_rowsBehind_5 : decode cX14_rowsBehind 5 = .ok (.iload_n 2, 1) := dk_28 (dk_at dksX14_rowsBehind_0 5 rfl rfl)
theorem dX14_rowsBehind_6 : decode cX14_rowsBehind 6 = .ok (.iload_n 3, 1) := dk_29 (dk_at dksX14_rowsBehind_0 6 rfl rfl)
theorem dX14_rowsBehind_7 : decode cX14_rowsBehind 7 = .ok (.invokevirtual 48, 3) := dk_182 0 48 (dk_at dksX14_rowsBehind_0 7 rfl rfl)
theorem dX14_rowsBehind_10 : decode cX14_rowsBehind 10 = .ok (.aload_n 0, 1) := dk_42 (dk_at dksX14_rowsBehind_0 10 rfl rfl)
theorem dX14_rowsBehind_11 : decode cX14_rowsBehind 11 = .ok (.getfield 13, 3) := dk_180 0 13 (dk_at dksX14_rowsBehind_0 11 rfl rfl)
theorem dX14_rowsBehind_14 : decode cX14_rowsBehind 14 = .ok (.aload_n 1, 1) := dk_43 (dk_at dksX14_rowsBehind_0 14 rfl rfl)
theorem dX14_rowsBehind_15 : decode cX14_rowsBehind 15 = .ok (.iload_n 2, 1) := dk_28 (dk_at dksX14_rowsBehind_0 15 rfl rfl)
theorem dX14_rowsBehind_16 : decode cX14_rowsBehind 16 = .ok (.iload_n 3, 1) := dk_29 (dk_at dksX14_rowsBehind_0 16 rfl rfl)
theorem dX14_rowsBehind_17 : decode cX14_rowsBehind 17 = .ok (.invokevirtual 48, 3) := dk_182 0 48 (dk_at dksX14_rowsBehind_0 17 rfl rfl)
theorem dX14_rowsBehind_20 : decode cX14_rowsBehind 20 = .ok (.lor, 1) := dk_129 (dk_at dksX14_rowsBehind_0 20 rfl rfl)
theorem dX14_rowsBehind_21 : decode cX14_rowsBehind 21 = .ok (.lreturn, 1) := dk_173 (dk_at dksX14_rowsBehind_0 21 rfl rfl)
abbrev cX14_isMarked : ByteArray := prog_15_method_8_code
def yX14_isMarked : MethodName := ⟨RX14, "isMarked", "(LWeirfoldLane$Row;LWeirfoldLane$Marks;I)Z"⟩
def dkwX14_isMarked_1 : List UInt8 := [4, 167, 0, 4, 3, 172]
abbrev dktX14_isMarked_1 : List UInt8 := dkwX14_isMarked_1 ++ []
def dkwX14_isMarked_0 : List UInt8 := [44, 42, 180, 0, 7, 29, 182, 0, 52, 154, 0, 15, 44, 42, 180, 0, 13, 29, 182, 0, 52, 153, 0, 7]
abbrev dktX14_isMarked_0 : List UInt8 := dkwX14_isMarked_0 ++ dktX14_isMarked_1
theorem dksX14_isMarked_0 : cX14_isMarked.data.toList.drop 0 = dktX14_isMarked_0 := by decide +kernel
theorem dksX14_isMarked_1 : cX14_isMarked.data.toList.drop 24 = dktX14_isMarked_1 := dk_seg dksX14_isMarked_0 24 rfl rfl
theorem dX14_isMarked_0 : decode cX14_isMarked 0 = .ok (.aload_n 2, 1) := dk_44 (dk_at dksX14_isMarked_0 0 rfl rfl)
theorem dX14_isMarked_1 : decode cX14_isMarked 1 = .ok (.aload_n 0, 1) := dk_42 (dk_at dksX14_isMarked_0 1 rfl rfl)
theorem dX14_isMarked_2 : decode cX14_isMarked 2 = .ok (.getfield 7, 3) := dk_180 0 7 (dk_at dksX14_isMarked_0 2 rfl rfl)
theorem dX14_isMarked_5 : decode cX14_isMarked 5 = .ok (.iload_n 3, 1) := dk_29 (dk_at dksX14_isMarked_0 5 rfl rfl)
theorem dX14_isMarked_6 : decode cX14_isMarked 6 = .ok (.invokevirtual 52, 3) := dk_182 0 52 (dk_at dksX14_isMarked_0 6 rfl rfl)
theorem dX14_isMarked_9 : decode cX14_isMarked 9 = .ok (.ifCond .ne 15, 3) := dk_154 0 15 (dk_at dksX14_isMarked_0 9 rfl rfl)
theorem dX14_isMarked_12 : decode cX14_isMarked 12 = .ok (.aload_n 2, 1) := dk_44 (dk_at dksX14_isMarked_0 12 rfl rfl)
theorem dX14_isMarked_13 : decode cX14_isMarked 13 = .ok (.aload_n 0, 1) := dk_42 (dk_at dksX14_isMarked_0 13 rfl rfl)
theorem dX14_isMarked_14 : decode cX14_isMarked 14 = .ok (.getfield 13, 3) := dk_180 0 13 (dk_at dksX14_isMarked_0 14 rfl rfl)
theorem dX14_isMarked_17 : decode cX14_isMarked 17 = .ok (.iload_n 3, 1) := dk_29 (dk_at dksX14_isMarked_0 17 rfl rfl)
theorem dX14_isMarked_18 : decode cX14_isMarked 18 = .ok (.invokevirtual 52, 3) := dk_182 0 52 (dk_at dksX14_isMarked_0 18 rfl rfl)
theorem dX14_isMarked_21 : decode cX14_isMarked 21 = .ok (.ifCond .eq 7, 3) := dk_153 0 7 (dk_at dksX14_isMarked_0 21 rfl rfl)
theorem dX14_isMarked_24 : decode cX14_isMarked 24 = .ok (.iconst 1, 1) := dk_4 (dk_at dksX14_isMarked_1 0 rfl rfl)
theorem dX14_isMarked_25 : decode cX14_isMarked 25 = .ok (.goto 4, 3) := dk_167 0 4 (dk_at dksX14_isMarked_1 1 rfl rfl)
theorem dX14_isMarked_28 : decode cX14_isMarked 28 = .ok (.iconst 0, 1) := dk_3 (dk_at dksX14_isMarked_1 4 rfl rfl)
theorem dX14_isMarked_29 : decode cX14_isMarked 29 = .ok (.ireturn, 1) := dk_172 (dk_at dksX14_isMarked_1 5 rfl rfl)
abbrev cX14_costWith : ByteArray := prog_15_method_9_code
def yX14_costWith : MethodName := ⟨RX14, "costWith", "(LWeirfoldLane$Costs;)J"⟩
def dkwX14_costWith_0 : List UInt8 := [10, 43, 42, 180, 0, 7, 182, 0, 57, 97, 43, 42, 180, 0, 13, 182, 0, 57, 97, 173]
abbrev dktX14_costWith_0 : List UInt8 := dkwX14_costWith_0 ++ []
theorem dksX14_costWith_0 : cX14_costWith.data.toList.drop 0 = dktX14_costWith_0 := by decide +kernel
theorem dX14_costWith_0 : decode cX14_costWith 0 = .ok (.lconst 1, 1) := dk_10 (dk_at dksX14_costWith_0 0 rfl rfl)
theorem dX14_costWith_1 : decode cX14_costWith 1 = .ok (.aload_n 1, 1) := dk_43 (dk_at dksX14_costWith_0 1 rfl rfl)
theorem dX14_costWith_2 : decode cX14_costWith 2 = .ok (.aload_n 0, 1) := dk_42 (dk_at dksX14_costWith_0 2 rfl rfl)
theorem dX14_costWith_3 : decode cX14_costWith 3 = .ok (.getfield 7, 3) := dk_180 0 7 (dk_at dksX14_costWith_0 3 rfl rfl)
theorem dX14_costWith_6 : decode cX14_costWith 6 = .ok (.invokevirtual 57, 3) := dk_182 0 57 (dk_at dksX14_costWith_0 6 rfl rfl)
theorem dX14_costWith_9 : decode cX14_costWith 9 = .ok (.ladd, 1) := dk_97 (dk_at dksX14_costWith_0 9 rfl rfl)
theorem dX14_costWith_10 : decode cX14_costWith 10 = .ok (.aload_n 1, 1) := dk_43 (dk_at dksX14_costWith_0 10 rfl rfl)
theorem dX14_costWith_11 : decode cX14_costWith 11 = .ok (.aload_n 0, 1) := dk_42 (dk_at dksX14_costWith_0 11 rfl rfl)
theorem dX14_costWith_12 : decode cX14_costWith 12 = .ok (.getfield 13, 3) := dk_180 0 13 (dk_at dksX14_costWith_0 12 rfl rfl)
theorem dX14_costWith_15 : decode cX14_costWith 15 = .ok (.invokevirtual 57, 3) := dk_182 0 57 (dk_at dksX14_costWith_0 15 rfl rfl)
theorem dX14_costWith_18 : decode cX14_costWith 18 = .ok (.ladd, 1) := dk_97 (dk_at dksX14_costWith_0 18 rfl rfl)
theorem dX14_costWith_19 : decode cX14_costWith 19 = .ok (.lreturn, 1) := dk_173 (dk_at dksX14_costWith_0 19 rfl rfl)
abbrev cX14_text : ByteArray := prog_15_method_10_code
def yX14_text : MethodName := ⟨RX14, "text", "(LWeirfoldLane$Lane;)Ljava/lang/String;"⟩
def dkwX14_text_1 : List UInt8 := [182, 0, 78, 182, 0, 82, 43, 42, 180, 0, 13, 182, 0, 71, 182, 0, 75, 182, 0, 85, 176]
abbrev dktX14_text_1 : List UInt8 := dkwX14_text_1 ++ []
def dkwX14_text_0 : List UInt8 := [187, 0, 60, 89, 183, 0, 62, 18, 65, 182, 0, 67, 43, 42, 180, 0, 7, 182, 0, 71, 182, 0, 75, 42]
abbrev dktX14_text_0 : List UInt8 := dkwX14_text_0 ++ dktX14_text_1
theorem dksX14_text_0 : cX14_text.data.toList.drop 0 = dktX14_text_0 := by decide +kernel
theorem dksX14_text_1 : cX14_text.data.toList.drop 24 = dktX14_text_1 := dk_seg dksX14_text_0 24 rfl rfl
theorem dX14_text_0 : decode cX14_text 0 = .ok (.new 60, 3) := dk_187 0 60 (dk_at dksX14_text_0 0 rfl rfl)
theorem dX14_text_3 : decode cX14_text 3 = .ok (.dup, 1) := dk_89 (dk_at dksX14_text_0 3 rfl rfl)
theorem dX14_text_4 : decode cX14_text 4 = .ok (.invokespecial 62, 3) := dk_183 0 62 (dk_at dksX14_text_0 4 rfl rfl)
theorem dX14_text_7 : decode cX14_text 7 = .ok (.ldc 65, 2) := dk_18 65 (dk_at dksX14_text_0 7 rfl rfl)
theorem dX14_text_9 : decode cX14_text 9 = .ok (.invokevirtual 67, 3) := dk_182 0 67 (dk_at dksX14_text_0 9 rfl rfl)
theorem dX14_text_12 : decode cX14_text 12 = .ok (.aload_n 1, 1) := dk_43 (dk_at dksX14_text_0 12 rfl rfl)
theorem dX14_text_13 : decode cX14_text 13 = .ok (.aload_n 0, 1) := dk_42 (dk_at dksX14_text_0 13 rfl rfl)
theorem dX14_text_14 : decode cX14_text 14 = .ok (.getfield 7, 3) := dk_180 0 7 (dk_at dksX14_text_0 14 rfl rfl)
theorem dX14_text_17 : decode cX14_text 17 = .ok (.invokevirtual 71, 3) := dk_182 0 71 (dk_at dksX14_text_0 17 rfl rfl)
theorem dX14_text_20 : decode cX14_text 20 = .ok (.invokevirtual 75, 3) := dk_182 0 75 (dk_at dksX14_text_0 20 rfl rfl)
theorem dX14_text_23 : decode cX14_text 23 = .ok (.aload_n 0, 1) := dk_42 (dk_at dksX14_text_0 23 rfl rfl)
theorem dX14_text_24 : decode cX14_text 24 = .ok (.invokevirtual 78, 3) := dk_182 0 78 (dk_at dksX14_text_1 0 rfl rfl)
theorem dX14_text_27 : decode cX14_text 27 = .ok (.invokevirtual 82, 3) := dk_182 0 82 (dk_at dksX14_text_1 3 rfl rfl)
theorem dX14_text_30 : decode cX14_text 30 = .ok (.aload_n 1, 1) := dk_43 (dk_at dksX14_text_1 6 rfl rfl)
theorem dX14_text_31 : decode cX14_text 31 = .ok (.aload_n 0, 1) := dk_42 (dk_at dksX14_text_1 7 rfl rfl)
theorem dX14_text_32 : decode cX14_text 32 = .ok (.getfield 13, 3) := dk_180 0 13 (dk_at dksX14_text_1 8 rfl rfl)
theorem dX14_text_35 : decode cX14_text 35 = .ok (.invokevirtual 71, 3) := dk_182 0 71 (dk_at dksX14_text_1 11 rfl rfl)
theorem dX14_text_38 : decode cX14_text 38 = .ok (.invokevirtual 75, 3) := dk_182 0 75 (dk_at dksX14_text_1 14 rfl rfl)
theorem dX14_text_41 : decode cX14_text 41 = .ok (.invokevirtual 85, 3) := dk_182 0 85 (dk_at dksX14_text_1 17 rfl rfl)
theorem dX14_text_44 : decode cX14_text 44 = .ok (.areturn, 1) := dk_176 (dk_at dksX14_text_1 20 rfl rfl)
theorem q133 : (Jvm.Cond.initialized "WeirfoldLane$PairStep") ∈ lw_all := lw_g (lw_at lw_m1 40 rfl) rfl
theorem q523 : (Jvm.Cond.selects "WeirfoldLane$PairStep" ({ cls := "java/lang/Object", name := "getClass", desc := "()Ljava/lang/Class;" } : Jvm.MethodName) ({ cls := "java/lang/Object", name := "getClass", desc := "()Ljava/lang/Class;" } : Jvm.MethodName)) ∈ lw_all := lw_g (lw_at lw_m2 190 rfl) rfl
theorem q633 : (Jvm.Cond.selects "WeirfoldLane$PairStep" ({ cls := "java/lang/Object", name := "equals", desc := "(Ljava/lang/Object;)Z" } : Jvm.MethodName) ({ cls := "java/lang/Object", name := "equals", desc := "(Ljava/lang/Object;)Z" } : Jvm.MethodName)) ∈ lw_all := lw_g (lw_at lw_m3 60 rfl) rfl
theorem q739 : (Jvm.Cond.instanceMethod ({ cls := "WeirfoldLane$PairStep", name := "compute", desc := "(Ljava/util/List;LWeirfoldLane$Numbers;II)J" } : Jvm.MethodName)) ∈ lw_all := lw_g (lw_at lw_m3 166 rfl) rfl
theorem q740 : (Jvm.Cond.code ({ cls := "WeirfoldLane$PairStep", name := "compute", desc := "(Ljava/util/List;LWeirfoldLane$Numbers;II)J" } : Jvm.MethodName) prog_15_method_2_code (5 : Nat) (Option.some Jvm.ClassFile.FieldType.long)) ∈ lw_all := lw_g (lw_at lw_m3 167 rfl) rfl
theorem q741 : (Jvm.Cond.interfaceEntry "WeirfoldLane$PairStep" (20 : Nat)) ∈ lw_tbl := lw_at lw_m3 168 rfl
theorem q742 : (Jvm.Cond.methodLink "WeirfoldLane$PairStep" (20 : Nat) ({ cls := "WeirfoldLane$Numbers", name := "number", desc := "(LWeirfoldLane$Step;II)J" } : Jvm.MethodName)) ∈ lw_all := lw_g (lw_at lw_m3 169 rfl) rfl
theorem q763 : (Jvm.Cond.selects "WeirfoldLane$PairStep" ({ cls := "WeirfoldLane$Step", name := "compute", desc := "(Ljava/util/List;LWeirfoldLane$Numbers;II)J" } : Jvm.MethodName) ({ cls := "WeirfoldLane$PairStep", name := "compute", desc := "(Ljava/util/List;LWeirfoldLane$Numbers;II)J" } : Jvm.MethodName)) ∈ lw_all := lw_g (lw_at lw_m3 190 rfl) rfl
theorem q1267 : (Jvm.Cond.selects "WeirfoldLane$PairStep" ({ cls := "WeirfoldLane$Step", name := "change", desc := "(LWeirfoldLane$Lane;LWeirfoldLane$Row;ILWeirfoldLane$Changes;)J" } : Jvm.MethodName) ({ cls := "WeirfoldLane$PairStep", name := "change", desc := "(LWeirfoldLane$Lane;LWeirfoldLane$Row;ILWeirfoldLane$Changes;)J" } : Jvm.MethodName)) ∈ lw_all := lw_g (lw_at lw_m5 214 rfl) rfl
theorem q1268 : (Jvm.Cond.instanceMethod ({ cls := "WeirfoldLane$PairStep", name := "change", desc := "(LWeirfoldLane$Lane;LWeirfoldLane$Row;ILWeirfoldLane$Changes;)J" } : Jvm.MethodName)) ∈ lw_all := lw_g (lw_at lw_m5 215 rfl) rfl
theorem q1269 : (Jvm.Cond.code ({ cls := "WeirfoldLane$PairStep", name := "change", desc := "(LWeirfoldLane$Lane;LWeirfoldLane$Row;ILWeirfoldLane$Changes;)J" } : Jvm.MethodName) prog_15_method_3_code (5 : Nat) (Option.some Jvm.ClassFile.FieldType.long)) ∈ lw_all := lw_g (lw_at lw_m5 216 rfl) rfl
theorem q1270 : (Jvm.Cond.methodLink "WeirfoldLane$PairStep" (26 : Nat) ({ cls := "WeirfoldLane$Changes", name := "of", desc := "(LWeirfoldLane$Step;)J" } : Jvm.MethodName)) ∈ lw_all := lw_g (lw_at lw_m5 217 rfl) rfl
theorem q1302 : (Jvm.Cond.instanceMethod ({ cls := "WeirfoldLane$PairStep", name := "level", desc := "()I" } : Jvm.MethodName)) ∈ lw_all := lw_g (lw_at lw_m6 9 rfl) rfl
theorem q1303 : (Jvm.Cond.code ({ cls := "WeirfoldLane$PairStep", name := "level", desc := "()I" } : Jvm.MethodName) prog_15_method_5_code (1 : Nat) (Option.some Jvm.ClassFile.FieldType.int)) ∈ lw_all := lw_g (lw_at lw_m6 10 rfl) rfl
theorem q1304 : (Jvm.Cond.methodLink "WeirfoldLane$PairStep" (32 : Nat) ({ cls := "WeirfoldLane$Step", name := "level", desc := "()I" } : Jvm.MethodName)) ∈ lw_all := lw_g (lw_at lw_m6 11 rfl) rfl
theorem q1305 : (Jvm.Cond.methodLink "WeirfoldLane$PairStep" (36 : Nat) ({ cls := "java/lang/Math", name := "max", desc := "(II)I" } : Jvm.MethodName)) ∈ lw_all := lw_g (lw_at lw_m6 12 rfl) rfl
theorem q1308 : (Jvm.Cond.selects "WeirfoldLane$PairStep" ({ cls := "WeirfoldLane$Step", name := "level", desc := "()I" } : Jvm.MethodName) ({ cls := "WeirfoldLane$PairStep", name := "level", desc := "()I" } : Jvm.MethodName)) ∈ lw_all := lw_g (lw_at lw_m6 15 rfl) rfl
theorem q1325 : (Jvm.Cond.selects "WeirfoldLane$PairStep" ({ cls := "WeirfoldLane$Step", name := "isFromStale", desc := "(LWeirfoldLane$Lane;I)Z" } : Jvm.MethodName) ({ cls := "WeirfoldLane$PairStep", name := "isFromStale", desc := "(LWeirfoldLane$Lane;I)Z" } : Jvm.MethodName)) ∈ lw_all := lw_g (lw_at lw_m6 32 rfl) rfl
theorem q1326 : (Jvm.Cond.instanceMethod ({ cls := "WeirfoldLane$PairStep", name := "isFromStale", desc := "(LWeirfoldLane$Lane;I)Z" } : Jvm.MethodName)) ∈ lw_all := lw_g (lw_at lw_m6 33 rfl) rfl
theorem q1327 : (Jvm.Cond.code ({ cls := "WeirfoldLane$PairStep", name := "isFromStale", desc := "(LWeirfoldLane$Lane;I)Z" } : Jvm.MethodName) prog_15_method_6_code (3 : Nat) (Option.some Jvm.ClassFile.FieldType.boolean)) ∈ lw_all := lw_g (lw_at lw_m6 34 rfl) rfl
theorem q1328 : (Jvm.Cond.methodLink "WeirfoldLane$PairStep" (42 : Nat) ({ cls := "WeirfoldLane$Lane", name := "isStale", desc := "(LWeirfoldLane$Step;I)Z" } : Jvm.MethodName)) ∈ lw_all := lw_g (lw_at lw_m6 35 rfl) rfl
theorem q1528 : (Jvm.Cond.instantiable "WeirfoldLane$PairStep" (4 : Nat)) ∈ lw_all := lw_g (lw_at lw_m6 235 rfl) rfl
theorem q1530 : (Jvm.Cond.instanceMethod ({ cls := "WeirfoldLane$PairStep", name := "<init>", desc := "(CLWeirfoldLane$Step;LWeirfoldLane$Step;)V" } : Jvm.MethodName)) ∈ lw_all := lw_g (lw_at lw_m6 237 rfl) rfl
theorem q1531 : (Jvm.Cond.code ({ cls := "WeirfoldLane$PairStep", name := "<init>", desc := "(CLWeirfoldLane$Step;LWeirfoldLane$Step;)V" } : Jvm.MethodName) prog_15_method_1_code (4 : Nat) (Option.none : Option Jvm.ClassFile.FieldType)) ∈ lw_all := lw_g (lw_at lw_m6 238 rfl) rfl
theorem q1532 : (Jvm.Cond.methodLink "WeirfoldLane$PairStep" (1 : Nat) ({ cls := "WeirfoldLane$Step", name := "<init>", desc := "(C)V" } : Jvm.MethodName)) ∈ lw_all := lw_g (lw_at lw_m6 239 rfl) rfl
theorem q1533 : (Jvm.Cond.fieldLink "WeirfoldLane$PairStep" (7 : Nat) "WeirfoldLane$PairStep" "first" "LWeirfoldLane$Step;") ∈ lw_all := lw_g (lw_at lw_m7 0 rfl) rfl
theorem q1534 : (Jvm.Cond.fieldLink "WeirfoldLane$PairStep" (13 : Nat) "WeirfoldLane$PairStep" "second" "LWeirfoldLane$Step;") ∈ lw_all := lw_g (lw_at lw_m7 1 rfl) rfl
theorem q1535 : (Jvm.Cond.fieldLink "WeirfoldLane$PairStep" (16 : Nat) "WeirfoldLane$PairStep" "sign" "I") ∈ lw_all := lw_g (lw_at lw_m7 2 rfl) rfl
theorem q1536 : (Jvm.Cond.laysFinal "WeirfoldLane$PairStep" "WeirfoldLane$PairStep" "first" "LWeirfoldLane$Step;") ∈ lw_all := lw_g (lw_at lw_m7 3 rfl) rfl
theorem q1537 : (Jvm.Cond.soleField "WeirfoldLane$PairStep" "first") ∈ lw_all := lw_g (lw_at lw_m7 4 rfl) rfl
theorem q1538 : (Jvm.Cond.laysFinal "WeirfoldLane$PairStep" "WeirfoldLane$PairStep" "second" "LWeirfoldLane$Step;") ∈ lw_all := lw_g (lw_at lw_m7 5 rfl) rfl
theorem q1539 : (Jvm.Cond.soleField "WeirfoldLane$PairStep" "second") ∈ lw_all := lw_g (lw_at lw_m7 6 rfl) rfl
theorem q1540 : (Jvm.Cond.laysFinal "WeirfoldLane$PairStep" "WeirfoldLane$PairStep" "sign" "I") ∈ lw_all := lw_g (lw_at lw_m7 7 rfl) rfl
theorem q1541 : (Jvm.Cond.soleField "WeirfoldLane$PairStep" "sign") ∈ lw_all := lw_g (lw_at lw_m7 8 rfl) rfl
theorem q1542 : (Jvm.Cond.laysFinal "WeirfoldLane$PairStep" "WeirfoldLane$Step" "kind" "C") ∈ lw_all := lw_g (lw_at lw_m7 9 rfl) rfl
theorem q1543 : (Jvm.Cond.superclass "WeirfoldLane$PairStep" "WeirfoldLane$Step") ∈ lw_all := lw_g (lw_at lw_m7 10 rfl) rfl
theorem q1591 : (Jvm.Cond.selects "WeirfoldLane$PairStep" ({ cls := "WeirfoldLane$Step", name := "hasInput", desc := "(LWeirfoldLane$Step;)Z" } : Jvm.MethodName) ({ cls := "WeirfoldLane$PairStep", name := "hasInput", desc := "(LWeirfoldLane$Step;)Z" } : Jvm.MethodName)) ∈ lw_all := lw_g (lw_at lw_m7 58 rfl) rfl
theorem q1592 : (Jvm.Cond.instanceMethod ({ cls := "WeirfoldLane$PairStep", name := "hasInput", desc := "(LWeirfoldLane$Step;)Z" } : Jvm.MethodName)) ∈ lw_all := lw_g (lw_at lw_m7 59 rfl) rfl
theorem q1593 : (Jvm.Cond.code ({ cls := "WeirfoldLane$PairStep", name := "hasInput", desc := "(LWeirfoldLane$Step;)Z" } : Jvm.MethodName) prog_15_method_4_code (2 : Nat) (Option.some Jvm.ClassFile.FieldType.boolean)) ∈ lw_all := lw_g (lw_at lw_m7 60 rfl) rfl
theorem q1849 : (Jvm.Cond.selects "WeirfoldLane$PairStep" ({ cls := "WeirfoldLane$Step", name := "kind", desc := "()C" } : Jvm.MethodName) ({ cls := "WeirfoldLane$Step", name := "kind", desc := "()C" } : Jvm.MethodName)) ∈ lw_all := lw_g (lw_at lw_m8 76 rfl) rfl
theorem q1866 : (Jvm.Cond.selects "WeirfoldLane$PairStep" ({ cls := "WeirfoldLane$Step", name := "dependsOn", desc := "(LWeirfoldLane$Step;Ljava/util/List;)Z" } : Jvm.MethodName) ({ cls := "WeirfoldLane$Step", name := "dependsOn", desc := "(LWeirfoldLane$Step;Ljava/util/List;)Z" } : Jvm.MethodName)) ∈ lw_all := lw_g (lw_at lw_m8 93 rfl) rfl
theorem q1958 : (Jvm.Cond.instanceMethod ({ cls := "WeirfoldLane$PairStep", name := "rowsBehind", desc := "(Ljava/util/List;II)J" } : Jvm.MethodName)) ∈ lw_all := lw_g (lw_at lw_m8 185 rfl) rfl
theorem q1959 : (Jvm.Cond.code ({ cls := "WeirfoldLane$PairStep", name := "rowsBehind", desc := "(Ljava/util/List;II)J" } : Jvm.MethodName) prog_15_method_7_code (4 : Nat) (Option.some Jvm.ClassFile.FieldType.long)) ∈ lw_all := lw_g (lw_at lw_m8 186 rfl) rfl
theorem q1960 : (Jvm.Cond.methodLink "WeirfoldLane$PairStep" (48 : Nat) ({ cls := "WeirfoldLane$Step", name := "rowsBehind", desc := "(Ljava/util/List;II)J" } : Jvm.MethodName)) ∈ lw_all := lw_g (lw_at lw_m8 187 rfl) rfl
theorem q1966 : (Jvm.Cond.selects "WeirfoldLane$PairStep" ({ cls := "WeirfoldLane$Step", name := "rowsBehind", desc := "(Ljava/util/List;II)J" } : Jvm.MethodName) ({ cls := "WeirfoldLane$PairStep", name := "rowsBehind", desc := "(Ljava/util/List;II)J" } : Jvm.MethodName)) ∈ lw_all := lw_g (lw_at lw_m8 193 rfl) rfl
theorem q2009 : (Jvm.Cond.selects "WeirfoldLane$PairStep" ({ cls := "WeirfoldLane$Step", name := "isMarked", desc := "(LWeirfoldLane$Row;LWeirfoldLane$Marks;I)Z" } : Jvm.MethodName) ({ cls := "WeirfoldLane$PairStep", name := "isMarked", desc := "(LWeirfoldLane$Row;LWeirfoldLane$Marks;I)Z" } : Jvm.MethodName)) ∈ lw_all := lw_g (lw_at lw_m8 236 rfl) rfl
theorem q2010 : (Jvm.Cond.instanceMethod ({ cls := "WeirfoldLane$PairStep", name := "isMarked", desc := "(LWeirfoldLane$Row;LWeirfoldLane$Marks;I)Z" } : Jvm.MethodName)) ∈ lw_all := lw_g (lw_at lw_m8 237 rfl) rfl
theorem q2011 : (Jvm.Cond.code ({ cls := "WeirfoldLane$PairStep", name := "isMarked", desc := "(LWeirfoldLane$Row;LWeirfoldLane$Marks;I)Z" } : Jvm.MethodName) prog_15_method_8_code (4 : Nat) (Option.some Jvm.ClassFile.FieldType.boolean)) ∈ lw_all := lw_g (lw_at lw_m8 238 rfl) rfl
theorem q2012 : (Jvm.Cond.methodLink "WeirfoldLane$PairStep" (52 : Nat) ({ cls := "WeirfoldLane$Marks", name := "has", desc := "(LWeirfoldLane$Step;I)Z" } : Jvm.MethodName)) ∈ lw_all := lw_g (lw_at lw_m8 239 rfl) rfl
theorem q2094 : (Jvm.Cond.selects "WeirfoldLane$PairStep" ({ cls := "WeirfoldLane$Step", name := "costWith", desc := "(LWeirfoldLane$Costs;)J" } : Jvm.MethodName) ({ cls := "WeirfoldLane$PairStep", name := "costWith", desc := "(LWeirfoldLane$Costs;)J" } : Jvm.MethodName)) ∈ lw_all := lw_g (lw_at lw_m9 81 rfl) rfl
theorem q2095 : (Jvm.Cond.instanceMethod ({ cls := "WeirfoldLane$PairStep", name := "costWith", desc := "(LWeirfoldLane$Costs;)J" } : Jvm.MethodName)) ∈ lw_all := lw_g (lw_at lw_m9 82 rfl) rfl
theorem q2096 : (Jvm.Cond.code ({ cls := "WeirfoldLane$PairStep", name := "costWith", desc := "(LWeirfoldLane$Costs;)J" } : Jvm.MethodName) prog_15_method_9_code (2 : Nat) (Option.some Jvm.ClassFile.FieldType.long)) ∈ lw_all := lw_g (lw_at lw_m9 83 rfl) rfl
theorem q2097 : (Jvm.Cond.methodLink "WeirfoldLane$PairStep" (57 : Nat) ({ cls := "WeirfoldLane$Costs", name := "of", desc := "(LWeirfoldLane$Step;)J" } : Jvm.MethodName)) ∈ lw_all := lw_g (lw_at lw_m9 84 rfl) rfl
theorem q2525 : (Jvm.Cond.selects "WeirfoldLane$PairStep" ({ cls := "WeirfoldLane$Step", name := "text", desc := "(LWeirfoldLane$Lane;)Ljava/lang/String;" } : Jvm.MethodName) ({ cls := "WeirfoldLane$PairStep", name := "text", desc := "(LWeirfoldLane$Lane;)Ljava/lang/String;" } : Jvm.MethodName)) ∈ lw_all := lw_g (lw_at lw_m11 32 rfl) rfl
theorem q2526 : (Jvm.Cond.instanceMethod ({ cls := "WeirfoldLane$PairStep", name := "text", desc := "(LWeirfoldLane$Lane;)Ljava/lang/String;" } : Jvm.MethodName)) ∈ lw_all := lw_g (lw_at lw_m11 33 rfl) rfl
theorem q2527 : (Jvm.Cond.code ({ cls := "WeirfoldLane$PairStep", name := "text", desc := "(LWeirfoldLane$Lane;)Ljava/lang/String;" } : Jvm.MethodName) prog_15_method_10_code (2 : Nat) (Option.some (Jvm.ClassFile.FieldType.object "java/lang/String"))) ∈ lw_all := lw_g (lw_at lw_m11 34 rfl) rfl
theorem q2528 : (Jvm.Cond.classLink "WeirfoldLane$PairStep" (60 : Nat) "java/lang/StringBuilder") ∈ lw_all := lw_g (lw_at lw_m11 35 rfl) rfl
theorem q2529 : (Jvm.Cond.methodLink "WeirfoldLane$PairStep" (62 : Nat) ({ cls := "java/lang/StringBuilder", name := "<init>", desc := "()V" } : Jvm.MethodName)) ∈ lw_all := lw_g (lw_at lw_m11 36 rfl) rfl
theorem q2530 : (Jvm.Cond.stringRef "WeirfoldLane$PairStep" (65 : Nat) "") ∈ lw_tbl := lw_at lw_m11 37 rfl
theorem q2531 : (Jvm.Cond.methodLink "WeirfoldLane$PairStep" (67 : Nat) ({ cls := "java/lang/StringBuilder", name := "append", desc := "(Ljava/lang/String;)Ljava/lang/StringBuilder;" } : Jvm.MethodName)) ∈ lw_all := lw_g (lw_at lw_m11 38 rfl) rfl
theorem q2532 : (Jvm.Cond.methodLink "WeirfoldLane$PairStep" (71 : Nat) ({ cls := "WeirfoldLane$Lane", name := "indexOf", desc := "(LWeirfoldLane$Step;)I" } : Jvm.MethodName)) ∈ lw_all := lw_g (lw_at lw_m11 39 rfl) rfl
theorem q2533 : (Jvm.Cond.methodLink "WeirfoldLane$PairStep" (75 : Nat) ({ cls := "java/lang/StringBuilder", name := "append", desc := "(I)Ljava/lang/StringBuilder;" } : Jvm.MethodName)) ∈ lw_all := lw_g (lw_at lw_m11 40 rfl) rfl
theorem q2534 : (Jvm.Cond.methodLink "WeirfoldLane$PairStep" (78 : Nat) ({ cls := "WeirfoldLane$PairStep", name := "kind", desc := "()C" } : Jvm.MethodName)) ∈ lw_all := lw_g (lw_at lw_m11 41 rfl) rfl
theorem q2535 : (Jvm.Cond.sameMethod "WeirfoldLane$PairStep" "WeirfoldLane$Step" "kind" "()C") ∈ lw_all := lw_g (lw_at lw_m11 42 rfl) rfl
theorem q2536 : (Jvm.Cond.selects "WeirfoldLane$PairStep" ({ cls := "WeirfoldLane$PairStep", name := "kind", desc := "()C" } : Jvm.MethodName) ({ cls := "WeirfoldLane$Step", name := "kind", desc := "()C" } : Jvm.MethodName)) ∈ lw_all := lw_g (lw_at lw_m11 43 rfl) rfl
theorem q2537 : (Jvm.Cond.methodLink "WeirfoldLane$PairStep" (82 : Nat) ({ cls := "java/lang/StringBuilder", name := "append", desc := "(C)Ljava/lang/StringBuilder;" } : Jvm.MethodName)) ∈ lw_all := lw_g (lw_at lw_m11 44 rfl) rfl
theorem q2538 : (Jvm.Cond.methodLink "WeirfoldLane$PairStep" (85 : Nat) ({ cls := "java/lang/StringBuilder", name := "toString", desc := "()Ljava/lang/String;" } : Jvm.MethodName)) ∈ lw_all := lw_g (lw_at lw_m11 45 rfl) rfl
theorem q3298 : (Jvm.Cond.castable "WeirfoldLane$PairStep" "WeirfoldLane$Step") ∈ lw_tbl := lw_at lw_m14 85 rfl
theorem q3322 : (Jvm.Cond.castable "WeirfoldLane$PairStep" "java/lang/Object") ∈ lw_tbl := lw_at lw_m14 109 rfl
theorem in_X14 : ∀ w ∈ wsX140, w ∈ lw_all := lw_in wsX140 [1542, 1536, 1538, 1540] (by decide +kernel) (by decide +kernel)

/-! WeirfoldLane$SingleStep -/
set_option maxRecDepth 100000
def RX15 : String := "WeirfoldLane$SingleStep"
abbrev cX15_input : ByteArray := prog_19_method_2_code
def yX15_input : MethodName := ⟨RX15, "input", "()LWeirfoldLane$Step;"⟩
theorem dX15_input_0 : decode cX15_input 0 = .ok (.aload_n 0, 1) := by decide +kernel
theorem dX15_input_1 : decode cX15_input 1 = .ok (.getfield 7, 3) := by decide +kernel
theorem dX15_input_4 : decode cX15_input 4 = .ok (.areturn, 1) := by decide +kernel
abbrev cX15_level : ByteArray := prog_19_method_4_code
def yX15_level : MethodName := ⟨RX15, "level", "()I"⟩
def dkwX15_level_0 : List UInt8 := [4, 42, 180, 0, 7, 182, 0, 13, 96, 172]
abbrev dktX15_level_0 : List UInt8 := dkwX15_level_0 ++ []
theorem dksX15_level_0 : cX15_level.data.toList.drop 0 = dktX15_level_0 := by decide +kernel
theorem dX15_level_0 : decode cX15_level 0 = .ok (.iconst 1, 1) := dk_4 (dk_at dksX15_level_0 0 rfl rfl)
theorem dX15_level_1 : decode cX15_level 1 = .ok (.aload_n 0, 1) := dk_42 (dk_at dksX15_level_0 1 rfl rfl)
theorem dX15_level_2 : decode cX15_level 2 = .ok (.getfield 7, 3) := dk_180 0 7 (dk_at dksX15_level_0 2 rfl rfl)
theorem dX15_level_5 : decode cX15_level 5 = .ok (.invokevirtual 13, 3) := dk_182 0 13 (dk_at dksX15_level_0 5 rfl rfl)
theorem dX15_level_8 : decode cX15_level 8 = .ok (.iadd, 1) := dk_96 (dk_at dksX15_level_0 8 rfl rfl)
theorem dX15_level_9 : decode cX15_level 9 = .ok (.ireturn, 1) := dk_172 (dk_at dksX15_level_0 9 rfl rfl)
abbrev cX15_init : ByteArray := prog_19_method_1_code
def yX15_init : MethodName := ⟨RX15, "<init>", "(CLWeirfoldLane$Step;)V"⟩
def dkwX15_init_0 : List UInt8 := [42, 27, 183, 0, 1, 42, 44, 181, 0, 7, 177]
abbrev dktX15_init_0 : List UInt8 := dkwX15_init_0 ++ []
theorem dksX15_init_0 : cX15_init.data.toList.drop 0 = dktX15_init_0 := by decide +kernel
theorem dX15_init_0 : decode cX15_init 0 = .ok (.aload_n 0, 1) := dk_42 (dk_at dksX15_init_0 0 rfl rfl)
theorem dX15_init_1 : decode cX15_init 1 = .ok (.iload_n 1, 1) := dk_27 (dk_at dksX15_init_0 1 rfl rfl)
theorem dX15_init_2 : decode cX15_init 2 = .ok (.invokespecial 1, 3) := dk_183 0 1 (dk_at dksX15_init_0 2 rfl rfl)
theorem dX15_init_5 : decode cX15_init 5 = .ok (.aload_n 0, 1) := dk_42 (dk_at dksX15_init_0 5 rfl rfl)
theorem dX15_init_6 : decode cX15_init 6 = .ok (.aload_n 2, 1) := dk_44 (dk_at dksX15_init_0 6 rfl rfl)
theorem dX15_init_7 : decode cX15_init 7 = .ok (.putfield 7, 3) := dk_181 0 7 (dk_at dksX15_init_0 7 rfl rfl)
theorem dX15_init_10 : decode cX15_init 10 = .ok (.return_, 1) := dk_177 (dk_at dksX15_init_0 10 rfl rfl)
abbrev cX15_hasInput : ByteArray := prog_19_method_3_code
def yX15_hasInput : MethodName := ⟨RX15, "hasInput", "(LWeirfoldLane$Step;)Z"⟩
def dkwX15_hasInput_0 : List UInt8 := [42, 180, 0, 7, 43, 166, 0, 7, 4, 167, 0, 4, 3, 172]
abbrev dktX15_hasInput_0 : List UInt8 := dkwX15_hasInput_0 ++ []
theorem dksX15_hasInput_0 : cX15_hasInput.data.toList.drop 0 = dktX15_hasInput_0 := by decide +kernel
theorem dX15_hasInput_0 : decode cX15_hasInput 0 = .ok (.aload_n 0, 1) := dk_42 (dk_at dksX15_hasInput_0 0 rfl rfl)
theorem dX15_hasInput_1 : decode cX15_hasInput 1 = .ok (.getfield 7, 3) := dk_180 0 7 (dk_at dksX15_hasInput_0 1 rfl rfl)
theorem dX15_hasInput_4 : decode cX15_hasInput 4 = .ok (.aload_n 1, 1) := dk_43 (dk_at dksX15_hasInput_0 4 rfl rfl)
theorem dX15_hasInput_5 : decode cX15_hasInput 5 = .ok (.if_acmp .ne 7, 3) := dk_166 0 7 (dk_at dksX15_hasInput_0 5 rfl rfl)
theorem dX15_hasInput_8 : decode cX15_hasInput 8 = .ok (.iconst 1, 1) := dk_4 (dk_at dksX15_hasInput_0 8 rfl rfl)
theorem dX15_hasInput_9 : decode cX15_hasInput 9 = .ok (.goto 4, 3) := dk_167 0 4 (dk_at dksX15_hasInput_0 9 rfl rfl)
theorem dX15_hasInput_12 : decode cX15_hasInput 12 = .ok (.iconst 0, 1) := dk_3 (dk_at dksX15_hasInput_0 12 rfl rfl)
theorem dX15_hasInput_13 : decode cX15_hasInput 13 = .ok (.ireturn, 1) := dk_172 (dk_at dksX15_hasInput_0 13 rfl rfl)
theorem q134 : (Jvm.Cond.initialized "WeirfoldLane$SingleStep") ∈ lw_all := lw_g (lw_at lw_m1 41 rfl) rfl
theorem q689 : (Jvm.Cond.declares ({ cls := "WeirfoldLane$SingleStep", name := "input", desc := "()LWeirfoldLane$Step;" } : Jvm.MethodName)) ∈ lw_tbl := lw_at lw_m3 116 rfl
theorem q691 : (Jvm.Cond.instanceMethod ({ cls := "WeirfoldLane$SingleStep", name := "input", desc := "()LWeirfoldLane$Step;" } : Jvm.MethodName)) ∈ lw_all := lw_g (lw_at lw_m3 118 rfl) rfl
theorem q692 : (Jvm.Cond.code ({ cls := "WeirfoldLane$SingleStep", name := "input", desc := "()LWeirfoldLane$Step;" } : Jvm.MethodName) prog_19_method_2_code (1 : Nat) (Option.some (Jvm.ClassFile.FieldType.object "WeirfoldLane$Step"))) ∈ lw_all := lw_g (lw_at lw_m3 119 rfl) rfl
theorem q1297 : (Jvm.Cond.instanceMethod ({ cls := "WeirfoldLane$SingleStep", name := "level", desc := "()I" } : Jvm.MethodName)) ∈ lw_all := lw_g (lw_at lw_m6 4 rfl) rfl
theorem q1298 : (Jvm.Cond.code ({ cls := "WeirfoldLane$SingleStep", name := "level", desc := "()I" } : Jvm.MethodName) prog_19_method_4_code (1 : Nat) (Option.some Jvm.ClassFile.FieldType.int)) ∈ lw_all := lw_g (lw_at lw_m6 5 rfl) rfl
theorem q1299 : (Jvm.Cond.methodLink "WeirfoldLane$SingleStep" (13 : Nat) ({ cls := "WeirfoldLane$Step", name := "level", desc := "()I" } : Jvm.MethodName)) ∈ lw_all := lw_g (lw_at lw_m6 6 rfl) rfl
theorem q1554 : (Jvm.Cond.instanceMethod ({ cls := "WeirfoldLane$SingleStep", name := "<init>", desc := "(CLWeirfoldLane$Step;)V" } : Jvm.MethodName)) ∈ lw_all := lw_g (lw_at lw_m7 21 rfl) rfl
theorem q1555 : (Jvm.Cond.code ({ cls := "WeirfoldLane$SingleStep", name := "<init>", desc := "(CLWeirfoldLane$Step;)V" } : Jvm.MethodName) prog_19_method_1_code (3 : Nat) (Option.none : Option Jvm.ClassFile.FieldType)) ∈ lw_all := lw_g (lw_at lw_m7 22 rfl) rfl
theorem q1556 : (Jvm.Cond.methodLink "WeirfoldLane$SingleStep" (1 : Nat) ({ cls := "WeirfoldLane$Step", name := "<init>", desc := "(C)V" } : Jvm.MethodName)) ∈ lw_all := lw_g (lw_at lw_m7 23 rfl) rfl
theorem q1557 : (Jvm.Cond.fieldLink "WeirfoldLane$SingleStep" (7 : Nat) "WeirfoldLane$SingleStep" "input" "LWeirfoldLane$Step;") ∈ lw_all := lw_g (lw_at lw_m7 24 rfl) rfl
theorem q1559 : (Jvm.Cond.soleField "WeirfoldLane$SingleStep" "input") ∈ lw_all := lw_g (lw_at lw_m7 26 rfl) rfl
theorem q1585 : (Jvm.Cond.instanceMethod ({ cls := "WeirfoldLane$SingleStep", name := "hasInput", desc := "(LWeirfoldLane$Step;)Z" } : Jvm.MethodName)) ∈ lw_all := lw_g (lw_at lw_m7 52 rfl) rfl
theorem q1586 : (Jvm.Cond.code ({ cls := "WeirfoldLane$SingleStep", name := "hasInput", desc := "(LWeirfoldLane$Step;)Z" } : Jvm.MethodName) prog_19_method_3_code (2 : Nat) (Option.some Jvm.ClassFile.FieldType.boolean)) ∈ lw_all := lw_g (lw_at lw_m7 53 rfl) rfl

/-! WeirfoldLane$RunningStep -/
set_option maxRecDepth 100000
def RX16 : String := "WeirfoldLane$RunningStep"
def TX16 : u_T := fun k => match k with
  | 0 => ("WeirfoldLane$SingleStep", "input", "LWeirfoldLane$Step;", true)
  | _ => ("WeirfoldLane$Step", "kind", "C", true)
def tyX16 : Nat → FieldType := fun k => match k with
  | 0 => .object "WeirfoldLane$Step"
  | _ => .char
abbrev wsX160 : List Cond := u_ws RX16 TX16 2
theorem nmX16 : ∀ a, a < 2 → ∀ b, b < 2 → a ≠ b → (TX16 a).2.1 ≠ (TX16 b).2.1 := by decide +kernel
theorem tyX16_ok : ∀ k, k < 2 → parseFieldDescriptor (TX16 k).2.2.1 = some (tyX16 k) := by decide +kernel
abbrev cX16_compute : ByteArray := prog_18_method_2_code
def yX16_compute : MethodName := ⟨RX16, "compute", "(Ljava/util/List;LWeirfoldLane$Numbers;II)J"⟩
def dkwX16_compute_1 : List UInt8 := [185, 0, 15, 4, 0, 97, 55, 5, 132, 7, 1, 167, 255, 228, 22, 5, 173]
abbrev dktX16_compute_1 : List UInt8 := dkwX16_compute_1 ++ []
def dkwX16_compute_0 : List UInt8 := [9, 55, 5, 3, 54, 7, 21, 7, 29, 163, 0, 28, 22, 5, 44, 42, 182, 0, 9, 21, 7, 21, 4]
abbrev dktX16_compute_0 : List UInt8 := dkwX16_compute_0 ++ dktX16_compute_1
theorem dksX16_compute_0 : cX16_compute.data.toList.drop 0 = dktX16_compute_0 := by decide +kernel
theorem dksX16_compute_1 : cX16_compute.data.toList.drop 23 = dktX16_compute_1 := dk_seg dksX16_compute_0 23 rfl rfl
theorem dX16_compute_0 : decode cX16_compute 0 = .ok (.lconst 0, 1) := dk_9 (dk_at dksX16_compute_0 0 rfl rfl)
theorem dX16_compute_1 : decode cX16_compute 1 = .ok (.lstore 5, 2) := dk_55 5 (dk_at dksX16_compute_0 1 rfl rfl)
theorem dX16_compute_3 : decode cX16_compute 3 = .ok (.iconst 0, 1) := dk_3 (dk_at dksX16_compute_0 3 rfl rfl)
theorem dX16_compute_4 : decode cX16_compute 4 = .ok (.istore 7, 2) := dk_54 7 (dk_at dksX16_compute_0 4 rfl rfl)
theorem dX16_compute_6 : decode cX16_compute 6 = .ok (.iload 7, 2) := dk_21 7 (dk_at dksX16_compute_0 6 rfl rfl)
theorem dX16_compute_8 : decode cX16_compute 8 = .ok (.iload_n 3, 1) := dk_29 (dk_at dksX16_compute_0 8 rfl rfl)
theorem dX16_compute_9 : decode cX16_compute 9 = .ok (.if_icmp .gt 28, 3) := dk_163 0 28 (dk_at dksX16_compute_0 9 rfl rfl)
theorem dX16_compute_12 : decode cX16_compute 12 = .ok (.lload 5, 2) := dk_22 5 (dk_at dksX16_compute_0 12 rfl rfl)
theorem dX16_compute_14 : decode cX16_compute 14 = .ok (.aload_n 2, 1) := dk_44 (dk_at dksX16_compute_0 14 rfl rfl)
theorem dX16_compute_15 : decode cX16_compute 15 = .ok (.aload_n 0, 1) := dk_42 (dk_at dksX16_compute_0 15 rfl rfl)
theorem dX16_compute_16 : decode cX16_compute 16 = .ok (.invokevirtual 9, 3) := dk_182 0 9 (dk_at dksX16_compute_0 16 rfl rfl)
theorem dX16_compute_19 : decode cX16_compute 19 = .ok (.iload 7, 2) := dk_21 7 (dk_at dksX16_compute_0 19 rfl rfl)
theorem dX16_compute_21 : decode cX16_compute 21 = .ok (.iload 4, 2) := dk_21 4 (dk_at dksX16_compute_0 21 rfl rfl)
theorem dX16_compute_23 : decode cX16_compute 23 = .ok (.invokeinterface 15 4, 5) := by decide +kernel
theorem dX16_compute_28 : decode cX16_compute 28 = .ok (.ladd, 1) := dk_97 (dk_at dksX16_compute_1 5 rfl rfl)
theorem dX16_compute_29 : decode cX16_compute 29 = .ok (.lstore 5, 2) := dk_55 5 (dk_at dksX16_compute_1 6 rfl rfl)
theorem dX16_compute_31 : decode cX16_compute 31 = .ok (.iinc 7 1, 3) := dk_132 7 1 (dk_at dksX16_compute_1 8 rfl rfl)
theorem dX16_compute_34 : decode cX16_compute 34 = .ok (.goto (-28), 3) := dk_167 255 228 (dk_at dksX16_compute_1 11 rfl rfl)
theorem dX16_compute_37 : decode cX16_compute 37 = .ok (.lload 5, 2) := dk_22 5 (dk_at dksX16_compute_1 14 rfl rfl)
theorem dX16_compute_39 : decode cX16_compute 39 = .ok (.lreturn, 1) := dk_173 (dk_at dksX16_compute_1 16 rfl rfl)
abbrev cX16_change : ByteArray := prog_18_method_3_code
def yX16_change : MethodName := ⟨RX16, "change", "(LWeirfoldLane$Lane;LWeirfoldLane$Row;ILWeirfoldLane$Changes;)J"⟩
def dkwX16_change_0 : List UInt8 := [25, 4, 42, 182, 0, 9, 182, 0, 21, 173]
abbrev dktX16_change_0 : List UInt8 := dkwX16_change_0 ++ []
theorem dksX16_change_0 : cX16_change.data.toList.drop 0 = dktX16_change_0 := by decide +kernel
theorem dX16_change_0 : decode cX16_change 0 = .ok (.aload 4, 2) := dk_25 4 (dk_at dksX16_change_0 0 rfl rfl)
theorem dX16_change_2 : decode cX16_change 2 = .ok (.aload_n 0, 1) := dk_42 (dk_at dksX16_change_0 2 rfl rfl)
theorem dX16_change_3 : decode cX16_change 3 = .ok (.invokevirtual 9, 3) := dk_182 0 9 (dk_at dksX16_change_0 3 rfl rfl)
theorem dX16_change_6 : decode cX16_change 6 = .ok (.invokevirtual 21, 3) := dk_182 0 21 (dk_at dksX16_change_0 6 rfl rfl)
theorem dX16_change_9 : decode cX16_change 9 = .ok (.lreturn, 1) := dk_173 (dk_at dksX16_change_0 9 rfl rfl)
abbrev cX16_isFromStale : ByteArray := prog_18_method_4_code
def yX16_isFromStale : MethodName := ⟨RX16, "isFromStale", "(LWeirfoldLane$Lane;I)Z"⟩
def dkwX16_isFromStale_1 : List UInt8 := [132, 4, 1, 167, 255, 234, 29, 172]
abbrev dktX16_isFromStale_1 : List UInt8 := dkwX16_isFromStale_1 ++ []
def dkwX16_isFromStale_0 : List UInt8 := [3, 62, 3, 54, 4, 21, 4, 28, 163, 0, 22, 29, 43, 42, 182, 0, 9, 21, 4, 182, 0, 27, 128, 62]
abbrev dktX16_isFromStale_0 : List UInt8 := dkwX16_isFromStale_0 ++ dktX16_isFromStale_1
theorem dksX16_isFromStale_0 : cX16_isFromStale.data.toList.drop 0 = dktX16_isFromStale_0 := by decide +kernel
theorem dksX16_isFromStale_1 : cX16_isFromStale.data.toList.drop 24 = dktX16_isFromStale_1 := dk_seg dksX16_isFromStale_0 24 rfl rfl
theorem dX16_isFromStale_0 : decode cX16_isFromStale 0 = .ok (.iconst 0, 1) := dk_3 (dk_at dksX16_isFromStale_0 0 rfl rfl)
theorem dX16_isFromStale_1 : decode cX16_isFromStale 1 = .ok (.istore_n 3, 1) := dk_62 (dk_at dksX16_isFromStale_0 1 rfl rfl)
theorem dX16_isFromStale_2 : decode cX16_isFromStale 2 = .ok (.iconst 0, 1) := dk_3 (dk_at dksX16_isFromStale_0 2 rfl rfl)
theorem dX16_isFromStale_3 : decode cX16_isFromStale 3 = .ok (.istore 4, 2) := dk_54 4 (dk_at dksX16_isFromStale_0 3 rfl rfl)
theorem dX16_isFromStale_5 : decode cX16_isFromStale 5 = .ok (.iload 4, 2) := dk_21 4 (dk_at dksX16_isFromStale_0 5 rfl rfl)
theorem dX16_isFromStale_7 : decode cX16_isFromStale 7 = .ok (.iload_n 2, 1) := dk_28 (dk_at dksX16_isFromStale_0 7 rfl rfl)
theorem dX16_isFromStale_8 : decode cX16_isFromStale 8 = .ok (.if_icmp .gt 22, 3) := dk_163 0 22 (dk_at dksX16_isFromStale_0 8 rfl rfl)
theorem dX16_isFromStale_11 : decode cX16_isFromStale 11 = .ok (.iload_n 3, 1) := dk_29 (dk_at dksX16_isFromStale_0 11 rfl rfl)
theorem dX16_isFromStale_12 : decode cX16_isFromStale 12 = .ok (.aload_n 1, 1) := dk_43 (dk_at dksX16_isFromStale_0 12 rfl rfl)
theorem dX16_isFromStale_13 : decode cX16_isFromStale 13 = .ok (.aload_n 0, 1) := dk_42 (dk_at dksX16_isFromStale_0 13 rfl rfl)
theorem dX16_isFromStale_14 : decode cX16_isFromStale 14 = .ok (.invokevirtual 9, 3) := dk_182 0 9 (dk_at dksX16_isFromStale_0 14 rfl rfl)
theorem dX16_isFromStale_17 : decode cX16_isFromStale 17 = .ok (.iload 4, 2) := dk_21 4 (dk_at dksX16_isFromStale_0 17 rfl rfl)
theorem dX16_isFromStale_19 : decode cX16_isFromStale 19 = .ok (.invokevirtual 27, 3) := dk_182 0 27 (dk_at dksX16_isFromStale_0 19 rfl rfl)
theorem dX16_isFromStale_22 : decode cX16_isFromStale 22 = .ok (.ior, 1) := dk_128 (dk_at dksX16_isFromStale_0 22 rfl rfl)
theorem dX16_isFromStale_23 : decode cX16_isFromStale 23 = .ok (.istore_n 3, 1) := dk_62 (dk_at dksX16_isFromStale_0 23 rfl rfl)
theorem dX16_isFromStale_24 : decode cX16_isFromStale 24 = .ok (.iinc 4 1, 3) := dk_132 4 1 (dk_at dksX16_isFromStale_1 0 rfl rfl)
theorem dX16_isFromStale_27 : decode cX16_isFromStale 27 = .ok (.goto (-22), 3) := dk_167 255 234 (dk_at dksX16_isFromStale_1 3 rfl rfl)
theorem dX16_isFromStale_30 : decode cX16_isFromStale 30 = .ok (.iload_n 3, 1) := dk_29 (dk_at dksX16_isFromStale_1 6 rfl rfl)
theorem dX16_isFromStale_31 : decode cX16_isFromStale 31 = .ok (.ireturn, 1) := dk_172 (dk_at dksX16_isFromStale_1 7 rfl rfl)
abbrev cX16_init : ByteArray := prog_18_method_1_code
def yX16_init : MethodName := ⟨RX16, "<init>", "(LWeirfoldLane$Step;)V"⟩
def dkwX16_init_0 : List UInt8 := [42, 16, 114, 43, 183, 0, 3, 177]
abbrev dktX16_init_0 : List UInt8 := dkwX16_init_0 ++ []
theorem dksX16_init_0 : cX16_init.data.toList.drop 0 = dktX16_init_0 := by decide +kernel
theorem dX16_init_0 : decode cX16_init 0 = .ok (.aload_n 0, 1) := dk_42 (dk_at dksX16_init_0 0 rfl rfl)
theorem dX16_init_1 : decode cX16_init 1 = .ok (.bipush 114, 2) := dk_16 114 (dk_at dksX16_init_0 1 rfl rfl)
theorem dX16_init_3 : decode cX16_init 3 = .ok (.aload_n 1, 1) := dk_43 (dk_at dksX16_init_0 3 rfl rfl)
theorem dX16_init_4 : decode cX16_init 4 = .ok (.invokespecial 3, 3) := dk_183 0 3 (dk_at dksX16_init_0 4 rfl rfl)
theorem dX16_init_7 : decode cX16_init 7 = .ok (.return_, 1) := dk_177 (dk_at dksX16_init_0 7 rfl rfl)
abbrev cX16_rowsBehind : ByteArray := prog_18_method_5_code
def yX16_rowsBehind : MethodName := ⟨RX16, "rowsBehind", "(Ljava/util/List;II)J"⟩
def dkwX16_rowsBehind_1 : List UInt8 := [182, 0, 33, 129, 55, 4, 132, 6, 1, 167, 255, 231, 22, 4, 173]
abbrev dktX16_rowsBehind_1 : List UInt8 := dkwX16_rowsBehind_1 ++ []
def dkwX16_rowsBehind_0 : List UInt8 := [9, 55, 4, 3, 54, 6, 21, 6, 28, 163, 0, 25, 22, 4, 42, 182, 0, 9, 43, 21, 6, 29]
abbrev dktX16_rowsBehind_0 : List UInt8 := dkwX16_rowsBehind_0 ++ dktX16_rowsBehind_1
theorem dksX16_rowsBehind_0 : cX16_rowsBehind.data.toList.drop 0 = dktX16_rowsBehind_0 := by decide +kernel
theorem dksX16_rowsBehind_1 : cX16_rowsBehind.data.toList.drop 22 = dktX16_rowsBehind_1 := dk_seg dksX16_rowsBehind_0 22 rfl rfl
theorem dX16_rowsBehind_0 : decode cX16_rowsBehind 0 = .ok (.lconst 0, 1) := dk_9 (dk_at dksX16_rowsBehind_0 0 rfl rfl)
theorem dX16_rowsBehind_1 : decode cX16_rowsBehind 1 = .ok (.lstore 4, 2) := dk_55 4 (dk_at dksX16_rowsBehind_0 1 rfl rfl)
theorem dX16_rowsBehind_3 : decode cX16_rowsBehind 3 = .ok (.iconst 0, 1) := dk_3 (dk_at dksX16_rowsBehind_0 3 rfl rfl)
theorem dX16_rowsBehind_4 : decode cX16_rowsBehind 4 = .ok (.istore 6, 2) := dk_54 6 (dk_at dksX16_rowsBehind_0 4 rfl rfl)
theorem dX16_rowsBehind_6 : decode cX16_rowsBehind 6 = .ok (.iload 6, 2) := dk_21 6 (dk_at dksX16_rowsBehind_0 6 rfl rfl)
theorem dX16_rowsBehind_8 : decode cX16_rowsBehind 8 = .ok (.iload_n 2, 1) := dk_28 (dk_at dksX16_rowsBehind_0 8 rfl rfl)
theorem dX16_rowsBehind_9 : decode cX16_rowsBehind 9 = .ok (.if_icmp .gt 25, 3) := dk_163 0 25 (dk_at dksX16_rowsBehind_0 9 rfl rfl)
theorem dX16_rowsBehind_12 : decode cX16_rowsBehind 12 = .ok (.lload 4, 2) := dk_22 4 (dk_at dksX16_rowsBehind_0 12 rfl rfl)
theorem dX16_rowsBehind_14 : decode cX16_rowsBehind 14 = .ok (.aload_n 0, 1) := dk_42 (dk_at dksX16_rowsBehind_0 14 rfl rfl)
theorem dX16_rowsBehind_15 : decode cX16_rowsBehind 15 = .ok (.invokevirtual 9, 3) := dk_182 0 9 (dk_at dksX16_rowsBehind_0 15 rfl rfl)
theorem dX16_rowsBehind_18 : decode cX16_rowsBehind 18 = .ok (.aload_n 1, 1) := dk_43 (dk_at dksX16_rowsBehind_0 18 rfl rfl)
theorem dX16_rowsBehind_19 : decode cX16_rowsBehind 19 = .ok (.iload 6, 2) := dk_21 6 (dk_at dksX16_rowsBehind_0 19 rfl rfl)
theorem dX16_rowsBehind_21 : decode cX16_rowsBehind 21 = .ok (.iload_n 3, 1) := dk_29 (dk_at dksX16_rowsBehind_0 21 rfl rfl)
theorem dX16_rowsBehind_22 : decode cX16_rowsBehind 22 = .ok (.invokevirtual 33, 3) := dk_182 0 33 (dk_at dksX16_rowsBehind_1 0 rfl rfl)
theorem dX16_rowsBehind_25 : decode cX16_rowsBehind 25 = .ok (.lor, 1) := dk_129 (dk_at dksX16_rowsBehind_1 3 rfl rfl)
theorem dX16_rowsBehind_26 : decode cX16_rowsBehind 26 = .ok (.lstore 4, 2) := dk_55 4 (dk_at dksX16_rowsBehind_1 4 rfl rfl)
theorem dX16_rowsBehind_28 : decode cX16_rowsBehind 28 = .ok (.iinc 6 1, 3) := dk_132 6 1 (dk_at dksX16_rowsBehind_1 6 rfl rfl)
theorem dX16_rowsBehind_31 : decode cX16_rowsBehind 31 = .ok (.goto (-25), 3) := dk_167 255 231 (dk_at dksX16_rowsBehind_1 9 rfl rfl)
theorem dX16_rowsBehind_34 : decode cX16_rowsBehind 34 = .ok (.lload 4, 2) := dk_22 4 (dk_at dksX16_rowsBehind_1 12 rfl rfl)
theorem dX16_rowsBehind_36 : decode cX16_rowsBehind 36 = .ok (.lreturn, 1) := dk_173 (dk_at dksX16_rowsBehind_1 14 rfl rfl)
abbrev cX16_isMarked : ByteArray := prog_18_method_6_code
def yX16_isMarked : MethodName := ⟨RX16, "isMarked", "(LWeirfoldLane$Row;LWeirfoldLane$Marks;I)Z"⟩
def dkwX16_isMarked_1 : List UInt8 := [128, 54, 4, 132, 5, 1, 167, 255, 232, 21, 4, 172]
abbrev dktX16_isMarked_1 : List UInt8 := dkwX16_isMarked_1 ++ []
def dkwX16_isMarked_0 : List UInt8 := [3, 54, 4, 3, 54, 5, 21, 5, 29, 163, 0, 24, 21, 4, 44, 42, 182, 0, 9, 21, 5, 182, 0, 39]
abbrev dktX16_isMarked_0 : List UInt8 := dkwX16_isMarked_0 ++ dktX16_isMarked_1
theorem dksX16_isMarked_0 : cX16_isMarked.data.toList.drop 0 = dktX16_isMarked_0 := by decide +kernel
theorem dksX16_isMarked_1 : cX16_isMarked.data.toList.drop 24 = dktX16_isMarked_1 := dk_seg dksX16_isMarked_0 24 rfl rfl
theorem dX16_isMarked_0 : decode cX16_isMarked 0 = .ok (.iconst 0, 1) := dk_3 (dk_at dksX16_isMarked_0 0 rfl rfl)
theorem dX16_isMarked_1 : decode cX16_isMarked 1 = .ok (.istore 4, 2) := dk_54 4 (dk_at dksX16_isMarked_0 1 rfl rfl)
theorem dX16_isMarked_3 : decode cX16_isMarked 3 = .ok (.iconst 0, 1) := dk_3 (dk_at dksX16_isMarked_0 3 rfl rfl)
theorem dX16_isMarked_4 : decode cX16_isMarked 4 = .ok (.istore 5, 2) := dk_54 5 (dk_at dksX16_isMarked_0 4 rfl rfl)
theorem dX16_isMarked_6 : decode cX16_isMarked 6 = .ok (.iload 5, 2) := dk_21 5 (dk_at dksX16_isMarked_0 6 rfl rfl)
theorem dX16_isMarked_8 : decode cX16_isMarked 8 = .ok (.iload_n 3, 1) := dk_29 (dk_at dksX16_isMarked_0 8 rfl rfl)
theorem dX16_isMarked_9 : decode cX16_isMarked 9 = .ok (.if_icmp .gt 24, 3) := dk_163 0 24 (dk_at dksX16_isMarked_0 9 rfl rfl)
theorem dX16_isMarked_12 : decode cX16_isMarked 12 = .ok (.iload 4, 2) := dk_21 4 (dk_at dksX16_isMarked_0 12 rfl rfl)
theorem dX16_isMarked_14 : decode cX16_isMarked 14 = .ok (.aload_n 2, 1) := dk_44 (dk_at dksX16_isMarked_0 14 rfl rfl)
theorem dX16_isMarked_15 : decode cX16_isMarked 15 = .ok (.aload_n 0, 1) := dk_42 (dk_at dksX16_isMarked_0 15 rfl rfl)
theorem dX16_isMarked_16 : decode cX16_isMarked 16 = .ok (.invokevirtual 9, 3) := dk_182 0 9 (dk_at dksX16_isMarked_0 16 rfl rfl)
theorem dX16_isMarked_19 : decode cX16_isMarked 19 = .ok (.iload 5, 2) := dk_21 5 (dk_at dksX16_isMarked_0 19 rfl rfl)
theorem dX16_isMarked_21 : decode cX16_isMarked 21 = .ok (.invokevirtual 39, 3) := dk_182 0 39 (dk_at dksX16_isMarked_0 21 rfl rfl)
theorem dX16_isMarked_24 : decode cX16_isMarked 24 = .ok (.ior, 1) := dk_128 (dk_at dksX16_isMarked_1 0 rfl rfl)
theorem dX16_isMarked_25 : decode cX16_isMarked 25 = .ok (.istore 4, 2) := dk_54 4 (dk_at dksX16_isMarked_1 1 rfl rfl)
theorem dX16_isMarked_27 : decode cX16_isMarked 27 = .ok (.iinc 5 1, 3) := dk_132 5 1 (dk_at dksX16_isMarked_1 3 rfl rfl)
theorem dX16_isMarked_30 : decode cX16_isMarked 30 = .ok (.goto (-24), 3) := dk_167 255 232 (dk_at dksX16_isMarked_1 6 rfl rfl)
theorem dX16_isMarked_33 : decode cX16_isMarked 33 = .ok (.iload 4, 2) := dk_21 4 (dk_at dksX16_isMarked_1 9 rfl rfl)
theorem dX16_isMarked_35 : decode cX16_isMarked 35 = .ok (.ireturn, 1) := dk_172 (dk_at dksX16_isMarked_1 11 rfl rfl)
abbrev cX16_costWith : ByteArray := prog_18_method_7_code
def yX16_costWith : MethodName := ⟨RX16, "costWith", "(LWeirfoldLane$Costs;)J"⟩
def dkwX16_costWith_0 : List UInt8 := [10, 20, 0, 44, 43, 42, 182, 0, 9, 182, 0, 46, 105, 97, 173]
abbrev dktX16_costWith_0 : List UInt8 := dkwX16_costWith_0 ++ []
theorem dksX16_costWith_0 : cX16_costWith.data.toList.drop 0 = dktX16_costWith_0 := by decide +kernel
theorem dX16_costWith_0 : decode cX16_costWith 0 = .ok (.lconst 1, 1) := dk_10 (dk_at dksX16_costWith_0 0 rfl rfl)
theorem dX16_costWith_1 : decode cX16_costWith 1 = .ok (.ldc2_w 44, 3) := dk_20 0 44 (dk_at dksX16_costWith_0 1 rfl rfl)
theorem dX16_costWith_4 : decode cX16_costWith 4 = .ok (.aload_n 1, 1) := dk_43 (dk_at dksX16_costWith_0 4 rfl rfl)
theorem dX16_costWith_5 : decode cX16_costWith 5 = .ok (.aload_n 0, 1) := dk_42 (dk_at dksX16_costWith_0 5 rfl rfl)
theorem dX16_costWith_6 : decode cX16_costWith 6 = .ok (.invokevirtual 9, 3) := dk_182 0 9 (dk_at dksX16_costWith_0 6 rfl rfl)
theorem dX16_costWith_9 : decode cX16_costWith 9 = .ok (.invokevirtual 46, 3) := dk_182 0 46 (dk_at dksX16_costWith_0 9 rfl rfl)
theorem dX16_costWith_12 : decode cX16_costWith 12 = .ok (.lmul, 1) := dk_105 (dk_at dksX16_costWith_0 12 rfl rfl)
theorem dX16_costWith_13 : decode cX16_costWith 13 = .ok (.ladd, 1) := dk_97 (dk_at dksX16_costWith_0 13 rfl rfl)
theorem dX16_costWith_14 : decode cX16_costWith 14 = .ok (.lreturn, 1) := dk_173 (dk_at dksX16_costWith_0 14 rfl rfl)
abbrev cX16_text : ByteArray := prog_18_method_8_code
def yX16_text : MethodName := ⟨RX16, "text", "(LWeirfoldLane$Lane;)Ljava/lang/String;"⟩
def dkwX16_text_1 : List UInt8 := [182, 0, 67, 182, 0, 71, 182, 0, 74, 176]
abbrev dktX16_text_1 : List UInt8 := dkwX16_text_1 ++ []
def dkwX16_text_0 : List UInt8 := [187, 0, 49, 89, 183, 0, 51, 18, 54, 182, 0, 56, 42, 182, 0, 60, 182, 0, 64, 43, 42, 182, 0, 9]
abbrev dktX16_text_0 : List UInt8 := dkwX16_text_0 ++ dktX16_text_1
theorem dksX16_text_0 : cX16_text.data.toList.drop 0 = dktX16_text_0 := by decide +kernel
theorem dksX16_text_1 : cX16_text.data.toList.drop 24 = dktX16_text_1 := dk_seg dksX16_text_0 24 rfl rfl
theorem dX16_text_0 : decode cX16_text 0 = .ok (.new 49, 3) := dk_187 0 49 (dk_at dksX16_text_0 0 rfl rfl)
theorem dX16_text_3 : decode cX16_text 3 = .ok (.dup, 1) := dk_89 (dk_at dksX16_text_0 3 rfl rfl)
theorem dX16_text_4 : decode cX16_text 4 = .ok (.invokespecial 51, 3) := dk_183 0 51 (dk_at dksX16_text_0 4 rfl rfl)
theorem dX16_text_7 : decode cX16_text 7 = .ok (.ldc 54, 2) := dk_18 54 (dk_at dksX16_text_0 7 rfl rfl)
theorem dX16_text_9 : decode cX16_text 9 = .ok (.invokevirtual 56, 3) := dk_182 0 56 (dk_at dksX16_text_0 9 rfl rfl)
theorem dX16_text_12 : decode cX16_text 12 = .ok (.aload_n 0, 1) := dk_42 (dk_at dksX16_text_0 12 rfl rfl)
theorem dX16_text_13 : decode cX16_text 13 = .ok (.invokevirtual 60, 3) := dk_182 0 60 (dk_at dksX16_text_0 13 rfl rfl)
theorem dX16_text_16 : decode cX16_text 16 = .ok (.invokevirtual 64, 3) := dk_182 0 64 (dk_at dksX16_text_0 16 rfl rfl)
theorem dX16_text_19 : decode cX16_text 19 = .ok (.aload_n 1, 1) := dk_43 (dk_at dksX16_text_0 19 rfl rfl)
theorem dX16_text_20 : decode cX16_text 20 = .ok (.aload_n 0, 1) := dk_42 (dk_at dksX16_text_0 20 rfl rfl)
theorem dX16_text_21 : decode cX16_text 21 = .ok (.invokevirtual 9, 3) := dk_182 0 9 (dk_at dksX16_text_0 21 rfl rfl)
theorem dX16_text_24 : decode cX16_text 24 = .ok (.invokevirtual 67, 3) := dk_182 0 67 (dk_at dksX16_text_1 0 rfl rfl)
theorem dX16_text_27 : decode cX16_text 27 = .ok (.invokevirtual 71, 3) := dk_182 0 71 (dk_at dksX16_text_1 3 rfl rfl)
theorem dX16_text_30 : decode cX16_text 30 = .ok (.invokevirtual 74, 3) := dk_182 0 74 (dk_at dksX16_text_1 6 rfl rfl)
theorem dX16_text_33 : decode cX16_text 33 = .ok (.areturn, 1) := dk_176 (dk_at dksX16_text_1 9 rfl rfl)
theorem q135 : (Jvm.Cond.initialized "WeirfoldLane$RunningStep") ∈ lw_all := lw_g (lw_at lw_m1 42 rfl) rfl
theorem q526 : (Jvm.Cond.selects "WeirfoldLane$RunningStep" ({ cls := "java/lang/Object", name := "getClass", desc := "()Ljava/lang/Class;" } : Jvm.MethodName) ({ cls := "java/lang/Object", name := "getClass", desc := "()Ljava/lang/Class;" } : Jvm.MethodName)) ∈ lw_all := lw_g (lw_at lw_m2 193 rfl) rfl
theorem q636 : (Jvm.Cond.selects "WeirfoldLane$RunningStep" ({ cls := "java/lang/Object", name := "equals", desc := "(Ljava/lang/Object;)Z" } : Jvm.MethodName) ({ cls := "java/lang/Object", name := "equals", desc := "(Ljava/lang/Object;)Z" } : Jvm.MethodName)) ∈ lw_all := lw_g (lw_at lw_m3 63 rfl) rfl
theorem q749 : (Jvm.Cond.instanceMethod ({ cls := "WeirfoldLane$RunningStep", name := "compute", desc := "(Ljava/util/List;LWeirfoldLane$Numbers;II)J" } : Jvm.MethodName)) ∈ lw_all := lw_g (lw_at lw_m3 176 rfl) rfl
theorem q750 : (Jvm.Cond.code ({ cls := "WeirfoldLane$RunningStep", name := "compute", desc := "(Ljava/util/List;LWeirfoldLane$Numbers;II)J" } : Jvm.MethodName) prog_18_method_2_code (8 : Nat) (Option.some Jvm.ClassFile.FieldType.long)) ∈ lw_all := lw_g (lw_at lw_m3 177 rfl) rfl
theorem q751 : (Jvm.Cond.methodLink "WeirfoldLane$RunningStep" (9 : Nat) ({ cls := "WeirfoldLane$RunningStep", name := "input", desc := "()LWeirfoldLane$Step;" } : Jvm.MethodName)) ∈ lw_all := lw_g (lw_at lw_m3 178 rfl) rfl
theorem q752 : (Jvm.Cond.sameMethod "WeirfoldLane$RunningStep" "WeirfoldLane$SingleStep" "input" "()LWeirfoldLane$Step;") ∈ lw_all := lw_g (lw_at lw_m3 179 rfl) rfl
theorem q753 : (Jvm.Cond.selects "WeirfoldLane$RunningStep" ({ cls := "WeirfoldLane$RunningStep", name := "input", desc := "()LWeirfoldLane$Step;" } : Jvm.MethodName) ({ cls := "WeirfoldLane$SingleStep", name := "input", desc := "()LWeirfoldLane$Step;" } : Jvm.MethodName)) ∈ lw_all := lw_g (lw_at lw_m3 180 rfl) rfl
theorem q754 : (Jvm.Cond.interfaceEntry "WeirfoldLane$RunningStep" (15 : Nat)) ∈ lw_tbl := lw_at lw_m3 181 rfl
theorem q755 : (Jvm.Cond.methodLink "WeirfoldLane$RunningStep" (15 : Nat) ({ cls := "WeirfoldLane$Numbers", name := "number", desc := "(LWeirfoldLane$Step;II)J" } : Jvm.MethodName)) ∈ lw_all := lw_g (lw_at lw_m3 182 rfl) rfl
theorem q764 : (Jvm.Cond.selects "WeirfoldLane$RunningStep" ({ cls := "WeirfoldLane$Step", name := "compute", desc := "(Ljava/util/List;LWeirfoldLane$Numbers;II)J" } : Jvm.MethodName) ({ cls := "WeirfoldLane$RunningStep", name := "compute", desc := "(Ljava/util/List;LWeirfoldLane$Numbers;II)J" } : Jvm.MethodName)) ∈ lw_all := lw_g (lw_at lw_m3 191 rfl) rfl
theorem q1271 : (Jvm.Cond.selects "WeirfoldLane$RunningStep" ({ cls := "WeirfoldLane$Step", name := "change", desc := "(LWeirfoldLane$Lane;LWeirfoldLane$Row;ILWeirfoldLane$Changes;)J" } : Jvm.MethodName) ({ cls := "WeirfoldLane$RunningStep", name := "change", desc := "(LWeirfoldLane$Lane;LWeirfoldLane$Row;ILWeirfoldLane$Changes;)J" } : Jvm.MethodName)) ∈ lw_all := lw_g (lw_at lw_m5 218 rfl) rfl
theorem q1272 : (Jvm.Cond.instanceMethod ({ cls := "WeirfoldLane$RunningStep", name := "change", desc := "(LWeirfoldLane$Lane;LWeirfoldLane$Row;ILWeirfoldLane$Changes;)J" } : Jvm.MethodName)) ∈ lw_all := lw_g (lw_at lw_m5 219 rfl) rfl
theorem q1273 : (Jvm.Cond.code ({ cls := "WeirfoldLane$RunningStep", name := "change", desc := "(LWeirfoldLane$Lane;LWeirfoldLane$Row;ILWeirfoldLane$Changes;)J" } : Jvm.MethodName) prog_18_method_3_code (5 : Nat) (Option.some Jvm.ClassFile.FieldType.long)) ∈ lw_all := lw_g (lw_at lw_m5 220 rfl) rfl
theorem q1274 : (Jvm.Cond.methodLink "WeirfoldLane$RunningStep" (21 : Nat) ({ cls := "WeirfoldLane$Changes", name := "of", desc := "(LWeirfoldLane$Step;)J" } : Jvm.MethodName)) ∈ lw_all := lw_g (lw_at lw_m5 221 rfl) rfl
theorem q1309 : (Jvm.Cond.selects "WeirfoldLane$RunningStep" ({ cls := "WeirfoldLane$Step", name := "level", desc := "()I" } : Jvm.MethodName) ({ cls := "WeirfoldLane$SingleStep", name := "level", desc := "()I" } : Jvm.MethodName)) ∈ lw_all := lw_g (lw_at lw_m6 16 rfl) rfl
theorem q1329 : (Jvm.Cond.selects "WeirfoldLane$RunningStep" ({ cls := "WeirfoldLane$Step", name := "isFromStale", desc := "(LWeirfoldLane$Lane;I)Z" } : Jvm.MethodName) ({ cls := "WeirfoldLane$RunningStep", name := "isFromStale", desc := "(LWeirfoldLane$Lane;I)Z" } : Jvm.MethodName)) ∈ lw_all := lw_g (lw_at lw_m6 36 rfl) rfl
theorem q1330 : (Jvm.Cond.instanceMethod ({ cls := "WeirfoldLane$RunningStep", name := "isFromStale", desc := "(LWeirfoldLane$Lane;I)Z" } : Jvm.MethodName)) ∈ lw_all := lw_g (lw_at lw_m6 37 rfl) rfl
theorem q1331 : (Jvm.Cond.code ({ cls := "WeirfoldLane$RunningStep", name := "isFromStale", desc := "(LWeirfoldLane$Lane;I)Z" } : Jvm.MethodName) prog_18_method_4_code (5 : Nat) (Option.some Jvm.ClassFile.FieldType.boolean)) ∈ lw_all := lw_g (lw_at lw_m6 38 rfl) rfl
theorem q1332 : (Jvm.Cond.methodLink "WeirfoldLane$RunningStep" (27 : Nat) ({ cls := "WeirfoldLane$Lane", name := "isStale", desc := "(LWeirfoldLane$Step;I)Z" } : Jvm.MethodName)) ∈ lw_all := lw_g (lw_at lw_m6 39 rfl) rfl
theorem q1549 : (Jvm.Cond.instantiable "WeirfoldLane$RunningStep" (2 : Nat)) ∈ lw_all := lw_g (lw_at lw_m7 16 rfl) rfl
theorem q1551 : (Jvm.Cond.instanceMethod ({ cls := "WeirfoldLane$RunningStep", name := "<init>", desc := "(LWeirfoldLane$Step;)V" } : Jvm.MethodName)) ∈ lw_all := lw_g (lw_at lw_m7 18 rfl) rfl
theorem q1552 : (Jvm.Cond.code ({ cls := "WeirfoldLane$RunningStep", name := "<init>", desc := "(LWeirfoldLane$Step;)V" } : Jvm.MethodName) prog_18_method_1_code (2 : Nat) (Option.none : Option Jvm.ClassFile.FieldType)) ∈ lw_all := lw_g (lw_at lw_m7 19 rfl) rfl
theorem q1553 : (Jvm.Cond.methodLink "WeirfoldLane$RunningStep" (3 : Nat) ({ cls := "WeirfoldLane$SingleStep", name := "<init>", desc := "(CLWeirfoldLane$Step;)V" } : Jvm.MethodName)) ∈ lw_all := lw_g (lw_at lw_m7 20 rfl) rfl
theorem q1558 : (Jvm.Cond.laysFinal "WeirfoldLane$RunningStep" "WeirfoldLane$SingleStep" "input" "LWeirfoldLane$Step;") ∈ lw_all := lw_g (lw_at lw_m7 25 rfl) rfl
theorem q1560 : (Jvm.Cond.laysFinal "WeirfoldLane$RunningStep" "WeirfoldLane$Step" "kind" "C") ∈ lw_all := lw_g (lw_at lw_m7 27 rfl) rfl
theorem q1561 : (Jvm.Cond.superclass "WeirfoldLane$RunningStep" "WeirfoldLane$SingleStep") ∈ lw_all := lw_g (lw_at lw_m7 28 rfl) rfl
theorem q1594 : (Jvm.Cond.selects "WeirfoldLane$RunningStep" ({ cls := "WeirfoldLane$Step", name := "hasInput", desc := "(LWeirfoldLane$Step;)Z" } : Jvm.MethodName) ({ cls := "WeirfoldLane$SingleStep", name := "hasInput", desc := "(LWeirfoldLane$Step;)Z" } : Jvm.MethodName)) ∈ lw_all := lw_g (lw_at lw_m7 61 rfl) rfl
theorem q1850 : (Jvm.Cond.selects "WeirfoldLane$RunningStep" ({ cls := "WeirfoldLane$Step", name := "kind", desc := "()C" } : Jvm.MethodName) ({ cls := "WeirfoldLane$Step", name := "kind", desc := "()C" } : Jvm.MethodName)) ∈ lw_all := lw_g (lw_at lw_m8 77 rfl) rfl
theorem q1867 : (Jvm.Cond.selects "WeirfoldLane$RunningStep" ({ cls := "WeirfoldLane$Step", name := "dependsOn", desc := "(LWeirfoldLane$Step;Ljava/util/List;)Z" } : Jvm.MethodName) ({ cls := "WeirfoldLane$Step", name := "dependsOn", desc := "(LWeirfoldLane$Step;Ljava/util/List;)Z" } : Jvm.MethodName)) ∈ lw_all := lw_g (lw_at lw_m8 94 rfl) rfl
theorem q1961 : (Jvm.Cond.instanceMethod ({ cls := "WeirfoldLane$RunningStep", name := "rowsBehind", desc := "(Ljava/util/List;II)J" } : Jvm.MethodName)) ∈ lw_all := lw_g (lw_at lw_m8 188 rfl) rfl
theorem q1962 : (Jvm.Cond.code ({ cls := "WeirfoldLane$RunningStep", name := "rowsBehind", desc := "(Ljava/util/List;II)J" } : Jvm.MethodName) prog_18_method_5_code (7 : Nat) (Option.some Jvm.ClassFile.FieldType.long)) ∈ lw_all := lw_g (lw_at lw_m8 189 rfl) rfl
theorem q1963 : (Jvm.Cond.methodLink "WeirfoldLane$RunningStep" (33 : Nat) ({ cls := "WeirfoldLane$Step", name := "rowsBehind", desc := "(Ljava/util/List;II)J" } : Jvm.MethodName)) ∈ lw_all := lw_g (lw_at lw_m8 190 rfl) rfl
theorem q1967 : (Jvm.Cond.selects "WeirfoldLane$RunningStep" ({ cls := "WeirfoldLane$Step", name := "rowsBehind", desc := "(Ljava/util/List;II)J" } : Jvm.MethodName) ({ cls := "WeirfoldLane$RunningStep", name := "rowsBehind", desc := "(Ljava/util/List;II)J" } : Jvm.MethodName)) ∈ lw_all := lw_g (lw_at lw_m8 194 rfl) rfl
theorem q2013 : (Jvm.Cond.selects "WeirfoldLane$RunningStep" ({ cls := "WeirfoldLane$Step", name := "isMarked", desc := "(LWeirfoldLane$Row;LWeirfoldLane$Marks;I)Z" } : Jvm.MethodName) ({ cls := "WeirfoldLane$RunningStep", name := "isMarked", desc := "(LWeirfoldLane$Row;LWeirfoldLane$Marks;I)Z" } : Jvm.MethodName)) ∈ lw_all := lw_g (lw_at lw_m9 0 rfl) rfl
theorem q2014 : (Jvm.Cond.instanceMethod ({ cls := "WeirfoldLane$RunningStep", name := "isMarked", desc := "(LWeirfoldLane$Row;LWeirfoldLane$Marks;I)Z" } : Jvm.MethodName)) ∈ lw_all := lw_g (lw_at lw_m9 1 rfl) rfl
theorem q2015 : (Jvm.Cond.code ({ cls := "WeirfoldLane$RunningStep", name := "isMarked", desc := "(LWeirfoldLane$Row;LWeirfoldLane$Marks;I)Z" } : Jvm.MethodName) prog_18_method_6_code (6 : Nat) (Option.some Jvm.ClassFile.FieldType.boolean)) ∈ lw_all := lw_g (lw_at lw_m9 2 rfl) rfl
theorem q2016 : (Jvm.Cond.methodLink "WeirfoldLane$RunningStep" (39 : Nat) ({ cls := "WeirfoldLane$Marks", name := "has", desc := "(LWeirfoldLane$Step;I)Z" } : Jvm.MethodName)) ∈ lw_all := lw_g (lw_at lw_m9 3 rfl) rfl
theorem q2098 : (Jvm.Cond.selects "WeirfoldLane$RunningStep" ({ cls := "WeirfoldLane$Step", name := "costWith", desc := "(LWeirfoldLane$Costs;)J" } : Jvm.MethodName) ({ cls := "WeirfoldLane$RunningStep", name := "costWith", desc := "(LWeirfoldLane$Costs;)J" } : Jvm.MethodName)) ∈ lw_all := lw_g (lw_at lw_m9 85 rfl) rfl
theorem q2099 : (Jvm.Cond.instanceMethod ({ cls := "WeirfoldLane$RunningStep", name := "costWith", desc := "(LWeirfoldLane$Costs;)J" } : Jvm.MethodName)) ∈ lw_all := lw_g (lw_at lw_m9 86 rfl) rfl
theorem q2100 : (Jvm.Cond.code ({ cls := "WeirfoldLane$RunningStep", name := "costWith", desc := "(LWeirfoldLane$Costs;)J" } : Jvm.MethodName) prog_18_method_7_code (2 : Nat) (Option.some Jvm.ClassFile.FieldType.long)) ∈ lw_all := lw_g (lw_at lw_m9 87 rfl) rfl
theorem q2101 : (Jvm.Cond.constantLong "WeirfoldLane$RunningStep" (44 : Nat) (7 : Int64)) ∈ lw_all := lw_g (lw_at lw_m9 88 rfl) rfl
theorem q2102 : (Jvm.Cond.methodLink "WeirfoldLane$RunningStep" (46 : Nat) ({ cls := "WeirfoldLane$Costs", name := "of", desc := "(LWeirfoldLane$Step;)J" } : Jvm.MethodName)) ∈ lw_all := lw_g (lw_at lw_m9 89 rfl) rfl
theorem q2539 : (Jvm.Cond.selects "WeirfoldLane$RunningStep" ({ cls := "WeirfoldLane$Step", name := "text", desc := "(LWeirfoldLane$Lane;)Ljava/lang/String;" } : Jvm.MethodName) ({ cls := "WeirfoldLane$RunningStep", name := "text", desc := "(LWeirfoldLane$Lane;)Ljava/lang/String;" } : Jvm.MethodName)) ∈ lw_all := lw_g (lw_at lw_m11 46 rfl) rfl
theorem q2540 : (Jvm.Cond.instanceMethod ({ cls := "WeirfoldLane$RunningStep", name := "text", desc := "(LWeirfoldLane$Lane;)Ljava/lang/String;" } : Jvm.MethodName)) ∈ lw_all := lw_g (lw_at lw_m11 47 rfl) rfl
theorem q2541 : (Jvm.Cond.code ({ cls := "WeirfoldLane$RunningStep", name := "text", desc := "(LWeirfoldLane$Lane;)Ljava/lang/String;" } : Jvm.MethodName) prog_18_method_8_code (2 : Nat) (Option.some (Jvm.ClassFile.FieldType.object "java/lang/String"))) ∈ lw_all := lw_g (lw_at lw_m11 48 rfl) rfl
theorem q2542 : (Jvm.Cond.classLink "WeirfoldLane$RunningStep" (49 : Nat) "java/lang/StringBuilder") ∈ lw_all := lw_g (lw_at lw_m11 49 rfl) rfl
theorem q2543 : (Jvm.Cond.methodLink "WeirfoldLane$RunningStep" (51 : Nat) ({ cls := "java/lang/StringBuilder", name := "<init>", desc := "()V" } : Jvm.MethodName)) ∈ lw_all := lw_g (lw_at lw_m11 50 rfl) rfl
theorem q2544 : (Jvm.Cond.stringRef "WeirfoldLane$RunningStep" (54 : Nat) "") ∈ lw_tbl := lw_at lw_m11 51 rfl
theorem q2545 : (Jvm.Cond.methodLink "WeirfoldLane$RunningStep" (56 : Nat) ({ cls := "java/lang/StringBuilder", name := "append", desc := "(Ljava/lang/String;)Ljava/lang/StringBuilder;" } : Jvm.MethodName)) ∈ lw_all := lw_g (lw_at lw_m11 52 rfl) rfl
theorem q2546 : (Jvm.Cond.methodLink "WeirfoldLane$RunningStep" (60 : Nat) ({ cls := "WeirfoldLane$RunningStep", name := "kind", desc := "()C" } : Jvm.MethodName)) ∈ lw_all := lw_g (lw_at lw_m11 53 rfl) rfl
theorem q2547 : (Jvm.Cond.sameMethod "WeirfoldLane$RunningStep" "WeirfoldLane$Step" "kind" "()C") ∈ lw_all := lw_g (lw_at lw_m11 54 rfl) rfl
theorem q2548 : (Jvm.Cond.selects "WeirfoldLane$RunningStep" ({ cls := "WeirfoldLane$RunningStep", name := "kind", desc := "()C" } : Jvm.MethodName) ({ cls := "WeirfoldLane$Step", name := "kind", desc := "()C" } : Jvm.MethodName)) ∈ lw_all := lw_g (lw_at lw_m11 55 rfl) rfl
theorem q2549 : (Jvm.Cond.methodLink "WeirfoldLane$RunningStep" (64 : Nat) ({ cls := "java/lang/StringBuilder", name := "append", desc := "(C)Ljava/lang/StringBuilder;" } : Jvm.MethodName)) ∈ lw_all := lw_g (lw_at lw_m11 56 rfl) rfl
theorem q2550 : (Jvm.Cond.methodLink "WeirfoldLane$RunningStep" (67 : Nat) ({ cls := "WeirfoldLane$Lane", name := "indexOf", desc := "(LWeirfoldLane$Step;)I" } : Jvm.MethodName)) ∈ lw_all := lw_g (lw_at lw_m11 57 rfl) rfl
theorem q2551 : (Jvm.Cond.methodLink "WeirfoldLane$RunningStep" (71 : Nat) ({ cls := "java/lang/StringBuilder", name := "append", desc := "(I)Ljava/lang/StringBuilder;" } : Jvm.MethodName)) ∈ lw_all := lw_g (lw_at lw_m11 58 rfl) rfl
theorem q2552 : (Jvm.Cond.methodLink "WeirfoldLane$RunningStep" (74 : Nat) ({ cls := "java/lang/StringBuilder", name := "toString", desc := "()Ljava/lang/String;" } : Jvm.MethodName)) ∈ lw_all := lw_g (lw_at lw_m11 59 rfl) rfl
theorem q3299 : (Jvm.Cond.castable "WeirfoldLane$RunningStep" "WeirfoldLane$Step") ∈ lw_tbl := lw_at lw_m14 86 rfl
theorem q3323 : (Jvm.Cond.castable "WeirfoldLane$RunningStep" "java/lang/Object") ∈ lw_tbl := lw_at lw_m14 110 rfl
theorem in_X16 : ∀ w ∈ wsX160, w ∈ lw_all := lw_in wsX160 [1558, 1560] (by decide +kernel) (by decide +kernel)

/-! WeirfoldLane$BoundedStep -/
set_option maxRecDepth 100000
def RX17 : String := "WeirfoldLane$BoundedStep"
def TX17 : u_T := fun k => match k with
  | 0 => ("WeirfoldLane$SingleStep", "input", "LWeirfoldLane$Step;", true)
  | 1 => ("WeirfoldLane$Step", "kind", "C", true)
  | _ => ("WeirfoldLane$BoundedStep", "bound", "I", true)
def tyX17 : Nat → FieldType := fun k => match k with
  | 0 => .object "WeirfoldLane$Step"
  | 1 => .char
  | _ => .int
abbrev wsX170 : List Cond := u_ws RX17 TX17 3
theorem nmX17 : ∀ a, a < 3 → ∀ b, b < 3 → a ≠ b → (TX17 a).2.1 ≠ (TX17 b).2.1 := by decide +kernel
theorem tyX17_ok : ∀ k, k < 3 → parseFieldDescriptor (TX17 k).2.2.1 = some (tyX17 k) := by decide +kernel
abbrev cX17_compute : ByteArray := prog_4_method_3_code
def yX17_compute : MethodName := ⟨RX17, "compute", "(Ljava/util/List;LWeirfoldLane$Numbers;II)J"⟩
def dkwX17_compute_0 : List UInt8 := [42, 44, 42, 182, 0, 13, 29, 21, 4, 185, 0, 17, 4, 0, 182, 0, 23, 173]
abbrev dktX17_compute_0 : List UInt8 := dkwX17_compute_0 ++ []
theorem dksX17_compute_0 : cX17_compute.data.toList.drop 0 = dktX17_compute_0 := by decide +kernel
theorem dX17_compute_0 : decode cX17_compute 0 = .ok (.aload_n 0, 1) := dk_42 (dk_at dksX17_compute_0 0 rfl rfl)
theorem dX17_compute_1 : decode cX17_compute 1 = .ok (.aload_n 2, 1) := dk_44 (dk_at dksX17_compute_0 1 rfl rfl)
theorem dX17_compute_2 : decode cX17_compute 2 = .ok (.aload_n 0, 1) := dk_42 (dk_at dksX17_compute_0 2 rfl rfl)
theorem dX17_compute_3 : decode cX17_compute 3 = .ok (.invokevirtual 13, 3) := dk_182 0 13 (dk_at dksX17_compute_0 3 rfl rfl)
theorem dX17_compute_6 : decode cX17_compute 6 = .ok (.iload_n 3, 1) := dk_29 (dk_at dksX17_compute_0 6 rfl rfl)
theorem dX17_compute_7 : decode cX17_compute 7 = .ok (.iload 4, 2) := dk_21 4 (dk_at dksX17_compute_0 7 rfl rfl)
theorem dX17_compute_9 : decode cX17_compute 9 = .ok (.invokeinterface 17 4, 5) := by decide +kernel
theorem dX17_compute_14 : decode cX17_compute 14 = .ok (.invokevirtual 23, 3) := dk_182 0 23 (dk_at dksX17_compute_0 14 rfl rfl)
theorem dX17_compute_17 : decode cX17_compute 17 = .ok (.lreturn, 1) := dk_173 (dk_at dksX17_compute_0 17 rfl rfl)
abbrev cX17_bounded : ByteArray := prog_4_method_2_code
def yX17_bounded : MethodName := ⟨RX17, "bounded", "(J)J"⟩
def dkwX17_bounded_0 : List UInt8 := [31, 42, 180, 0, 7, 133, 148, 155, 0, 7, 31, 167, 0, 4, 9, 173]
abbrev dktX17_bounded_0 : List UInt8 := dkwX17_bounded_0 ++ []
theorem dksX17_bounded_0 : cX17_bounded.data.toList.drop 0 = dktX17_bounded_0 := by decide +kernel
theorem dX17_bounded_0 : decode cX17_bounded 0 = .ok (.lload_n 1, 1) := dk_31 (dk_at dksX17_bounded_0 0 rfl rfl)
theorem dX17_bounded_1 : decode cX17_bounded 1 = .ok (.aload_n 0, 1) := dk_42 (dk_at dksX17_bounded_0 1 rfl rfl)
theorem dX17_bounded_2 : decode cX17_bounded 2 = .ok (.getfield 7, 3) := dk_180 0 7 (dk_at dksX17_bounded_0 2 rfl rfl)
theorem dX17_bounded_5 : decode cX17_bounded 5 = .ok (.i2l, 1) := dk_133 (dk_at dksX17_bounded_0 5 rfl rfl)
theorem dX17_bounded_6 : decode cX17_bounded 6 = .ok (.lcmp, 1) := dk_148 (dk_at dksX17_bounded_0 6 rfl rfl)
theorem dX17_bounded_7 : decode cX17_bounded 7 = .ok (.ifCond .lt 7, 3) := dk_155 0 7 (dk_at dksX17_bounded_0 7 rfl rfl)
theorem dX17_bounded_10 : decode cX17_bounded 10 = .ok (.lload_n 1, 1) := dk_31 (dk_at dksX17_bounded_0 10 rfl rfl)
theorem dX17_bounded_11 : decode cX17_bounded 11 = .ok (.goto 4, 3) := dk_167 0 4 (dk_at dksX17_bounded_0 11 rfl rfl)
theorem dX17_bounded_14 : decode cX17_bounded 14 = .ok (.lconst 0, 1) := dk_9 (dk_at dksX17_bounded_0 14 rfl rfl)
theorem dX17_bounded_15 : decode cX17_bounded 15 = .ok (.lreturn, 1) := dk_173 (dk_at dksX17_bounded_0 15 rfl rfl)
abbrev cX17_change : ByteArray := prog_4_method_4_code
def yX17_change : MethodName := ⟨RX17, "change", "(LWeirfoldLane$Lane;LWeirfoldLane$Row;ILWeirfoldLane$Changes;)J"⟩
def dkwX17_change_1 : List UInt8 := [182, 0, 13, 182, 0, 38, 97, 182, 0, 23, 42, 22, 5, 182, 0, 23, 101, 173]
abbrev dktX17_change_1 : List UInt8 := dkwX17_change_1 ++ []
def dkwX17_change_0 : List UInt8 := [43, 42, 182, 0, 13, 44, 180, 0, 27, 44, 180, 0, 32, 182, 0, 35, 55, 5, 42, 22, 5, 25, 4, 42]
abbrev dktX17_change_0 : List UInt8 := dkwX17_change_0 ++ dktX17_change_1
theorem dksX17_change_0 : cX17_change.data.toList.drop 0 = dktX17_change_0 := by decide +kernel
theorem dksX17_change_1 : cX17_change.data.toList.drop 24 = dktX17_change_1 := dk_seg dksX17_change_0 24 rfl rfl
theorem dX17_change_0 : decode cX17_change 0 = .ok (.aload_n 1, 1) := dk_43 (dk_at dksX17_change_0 0 rfl rfl)
theorem dX17_change_1 : decode cX17_change 1 = .ok (.aload_n 0, 1) := dk_42 (dk_at dksX17_change_0 1 rfl rfl)
theorem dX17_change_2 : decode cX17_change 2 = .ok (.invokevirtual 13, 3) := dk_182 0 13 (dk_at dksX17_change_0 2 rfl rfl)
theorem dX17_change_5 : decode cX17_change 5 = .ok (.aload_n 2, 1) := dk_44 (dk_at dksX17_change_0 5 rfl rfl)
theorem dX17_change_6 : decode cX17_change 6 = .ok (.getfield 27, 3) := dk_180 0 27 (dk_at dksX17_change_0 6 rfl rfl)
theorem dX17_change_9 : decode cX17_change 9 = .ok (.aload_n 2, 1) := dk_44 (dk_at dksX17_change_0 9 rfl rfl)
theorem dX17_change_10 : decode cX17_change 10 = .ok (.getfield 32, 3) := dk_180 0 32 (dk_at dksX17_change_0 10 rfl rfl)
theorem dX17_change_13 : decode cX17_change 13 = .ok (.invokevirtual 35, 3) := dk_182 0 35 (dk_at dksX17_change_0 13 rfl rfl)
theorem dX17_change_16 : decode cX17_change 16 = .ok (.lstore 5, 2) := dk_55 5 (dk_at dksX17_change_0 16 rfl rfl)
theorem dX17_change_18 : decode cX17_change 18 = .ok (.aload_n 0, 1) := dk_42 (dk_at dksX17_change_0 18 rfl rfl)
theorem dX17_change_19 : decode cX17_change 19 = .ok (.lload 5, 2) := dk_22 5 (dk_at dksX17_change_0 19 rfl rfl)
theorem dX17_change_21 : decode cX17_change 21 = .ok (.aload 4, 2) := dk_25 4 (dk_at dksX17_change_0 21 rfl rfl)
theorem dX17_change_23 : decode cX17_change 23 = .ok (.aload_n 0, 1) := dk_42 (dk_at dksX17_change_0 23 rfl rfl)
theorem dX17_change_24 : decode cX17_change 24 = .ok (.invokevirtual 13, 3) := dk_182 0 13 (dk_at dksX17_change_1 0 rfl rfl)
theorem dX17_change_27 : decode cX17_change 27 = .ok (.invokevirtual 38, 3) := dk_182 0 38 (dk_at dksX17_change_1 3 rfl rfl)
theorem dX17_change_30 : decode cX17_change 30 = .ok (.ladd, 1) := dk_97 (dk_at dksX17_change_1 6 rfl rfl)
theorem dX17_change_31 : decode cX17_change 31 = .ok (.invokevirtual 23, 3) := dk_182 0 23 (dk_at dksX17_change_1 7 rfl rfl)
theorem dX17_change_34 : decode cX17_change 34 = .ok (.aload_n 0, 1) := dk_42 (dk_at dksX17_change_1 10 rfl rfl)
theorem dX17_change_35 : decode cX17_change 35 = .ok (.lload 5, 2) := dk_22 5 (dk_at dksX17_change_1 11 rfl rfl)
theorem dX17_change_37 : decode cX17_change 37 = .ok (.invokevirtual 23, 3) := dk_182 0 23 (dk_at dksX17_change_1 13 rfl rfl)
theorem dX17_change_40 : decode cX17_change 40 = .ok (.lsub, 1) := dk_101 (dk_at dksX17_change_1 16 rfl rfl)
theorem dX17_change_41 : decode cX17_change 41 = .ok (.lreturn, 1) := dk_173 (dk_at dksX17_change_1 17 rfl rfl)
abbrev cX17_isFromStale : ByteArray := prog_4_method_5_code
def yX17_isFromStale : MethodName := ⟨RX17, "isFromStale", "(LWeirfoldLane$Lane;I)Z"⟩
def dkwX17_isFromStale_0 : List UInt8 := [43, 42, 182, 0, 13, 28, 182, 0, 44, 172]
abbrev dktX17_isFromStale_0 : List UInt8 := dkwX17_isFromStale_0 ++ []
theorem dksX17_isFromStale_0 : cX17_isFromStale.data.toList.drop 0 = dktX17_isFromStale_0 := by decide +kernel
theorem dX17_isFromStale_0 : decode cX17_isFromStale 0 = .ok (.aload_n 1, 1) := dk_43 (dk_at dksX17_isFromStale_0 0 rfl rfl)
theorem dX17_isFromStale_1 : decode cX17_isFromStale 1 = .ok (.aload_n 0, 1) := dk_42 (dk_at dksX17_isFromStale_0 1 rfl rfl)
theorem dX17_isFromStale_2 : decode cX17_isFromStale 2 = .ok (.invokevirtual 13, 3) := dk_182 0 13 (dk_at dksX17_isFromStale_0 2 rfl rfl)
theorem dX17_isFromStale_5 : decode cX17_isFromStale 5 = .ok (.iload_n 2, 1) := dk_28 (dk_at dksX17_isFromStale_0 5 rfl rfl)
theorem dX17_isFromStale_6 : decode cX17_isFromStale 6 = .ok (.invokevirtual 44, 3) := dk_182 0 44 (dk_at dksX17_isFromStale_0 6 rfl rfl)
theorem dX17_isFromStale_9 : decode cX17_isFromStale 9 = .ok (.ireturn, 1) := dk_172 (dk_at dksX17_isFromStale_0 9 rfl rfl)
abbrev cX17_init : ByteArray := prog_4_method_1_code
def yX17_init : MethodName := ⟨RX17, "<init>", "(LWeirfoldLane$Step;I)V"⟩
def dkwX17_init_0 : List UInt8 := [42, 16, 107, 43, 183, 0, 1, 42, 28, 181, 0, 7, 177]
abbrev dktX17_init_0 : List UInt8 := dkwX17_init_0 ++ []
theorem dksX17_init_0 : cX17_init.data.toList.drop 0 = dktX17_init_0 := by decide +kernel
theorem dX17_init_0 : decode cX17_init 0 = .ok (.aload_n 0, 1) := dk_42 (dk_at dksX17_init_0 0 rfl rfl)
theorem dX17_init_1 : decode cX17_init 1 = .ok (.bipush 107, 2) := dk_16 107 (dk_at dksX17_init_0 1 rfl rfl)
theorem dX17_init_3 : decode cX17_init 3 = .ok (.aload_n 1, 1) := dk_43 (dk_at dksX17_init_0 3 rfl rfl)
theorem dX17_init_4 : decode cX17_init 4 = .ok (.invokespecial 1, 3) := dk_183 0 1 (dk_at dksX17_init_0 4 rfl rfl)
theorem dX17_init_7 : decode cX17_init 7 = .ok (.aload_n 0, 1) := dk_42 (dk_at dksX17_init_0 7 rfl rfl)
theorem dX17_init_8 : decode cX17_init 8 = .ok (.iload_n 2, 1) := dk_28 (dk_at dksX17_init_0 8 rfl rfl)
theorem dX17_init_9 : decode cX17_init 9 = .ok (.putfield 7, 3) := dk_181 0 7 (dk_at dksX17_init_0 9 rfl rfl)
theorem dX17_init_12 : decode cX17_init 12 = .ok (.return_, 1) := dk_177 (dk_at dksX17_init_0 12 rfl rfl)
abbrev cX17_rowsBehind : ByteArray := prog_4_method_6_code
def yX17_rowsBehind : MethodName := ⟨RX17, "rowsBehind", "(Ljava/util/List;II)J"⟩
def dkwX17_rowsBehind_0 : List UInt8 := [42, 182, 0, 13, 43, 28, 29, 182, 0, 48, 173]
abbrev dktX17_rowsBehind_0 : List UInt8 := dkwX17_rowsBehind_0 ++ []
theorem dksX17_rowsBehind_0 : cX17_rowsBehind.data.toList.drop 0 = dktX17_rowsBehind_0 := by decide +kernel
theorem dX17_rowsBehind_0 : decode cX17_rowsBehind 0 = .ok (.aload_n 0, 1) := dk_42 (dk_at dksX17_rowsBehind_0 0 rfl rfl)
theorem dX17_rowsBehind_1 : decode cX17_rowsBehind 1 = .ok (.invokevirtual 13, 3) := dk_182 0 13 (dk_at dksX17_rowsBehind_0 1 rfl rfl)
theorem dX17_rowsBehind_4 : decode cX17_rowsBehind 4 = .ok (.aload_n 1, 1) := dk_43 (dk_at dksX17_rowsBehind_0 4 rfl rfl)
theorem dX17_rowsBehind_5 : decode cX17_rowsBehind 5 = .ok (.iload_n 2, 1) := dk_28 (dk_at dksX17_rowsBehind_0 5 rfl rfl)
theorem dX17_rowsBehind_6 : decode cX17_rowsBehind 6 = .ok (.iload_n 3, 1) := dk_29 (dk_at dksX17_rowsBehind_0 6 rfl rfl)
theorem dX17_rowsBehind_7 : decode cX17_rowsBehind 7 = .ok (.invokevirtual 48, 3) := dk_182 0 48 (dk_at dksX17_rowsBehind_0 7 rfl rfl)
theorem dX17_rowsBehind_10 : decode cX17_rowsBehind 10 = .ok (.lreturn, 1) := dk_173 (dk_at dksX17_rowsBehind_0 10 rfl rfl)
abbrev cX17_isMarked : ByteArray := prog_4_method_7_code
def yX17_isMarked : MethodName := ⟨RX17, "isMarked", "(LWeirfoldLane$Row;LWeirfoldLane$Marks;I)Z"⟩
def dkwX17_isMarked_0 : List UInt8 := [44, 42, 182, 0, 13, 29, 182, 0, 54, 172]
abbrev dktX17_isMarked_0 : List UInt8 := dkwX17_isMarked_0 ++ []
theorem dksX17_isMarked_0 : cX17_isMarked.data.toList.drop 0 = dktX17_isMarked_0 := by decide +kernel
theorem dX17_isMarked_0 : decode cX17_isMarked 0 = .ok (.aload_n 2, 1) := dk_44 (dk_at dksX17_isMarked_0 0 rfl rfl)
theorem dX17_isMarked_1 : decode cX17_isMarked 1 = .ok (.aload_n 0, 1) := dk_42 (dk_at dksX17_isMarked_0 1 rfl rfl)
theorem dX17_isMarked_2 : decode cX17_isMarked 2 = .ok (.invokevirtual 13, 3) := dk_182 0 13 (dk_at dksX17_isMarked_0 2 rfl rfl)
theorem dX17_isMarked_5 : decode cX17_isMarked 5 = .ok (.iload_n 3, 1) := dk_29 (dk_at dksX17_isMarked_0 5 rfl rfl)
theorem dX17_isMarked_6 : decode cX17_isMarked 6 = .ok (.invokevirtual 54, 3) := dk_182 0 54 (dk_at dksX17_isMarked_0 6 rfl rfl)
theorem dX17_isMarked_9 : decode cX17_isMarked 9 = .ok (.ireturn, 1) := dk_172 (dk_at dksX17_isMarked_0 9 rfl rfl)
abbrev cX17_costWith : ByteArray := prog_4_method_8_code
def yX17_costWith : MethodName := ⟨RX17, "costWith", "(LWeirfoldLane$Costs;)J"⟩
def dkwX17_costWith_0 : List UInt8 := [10, 43, 42, 182, 0, 13, 182, 0, 59, 97, 173]
abbrev dktX17_costWith_0 : List UInt8 := dkwX17_costWith_0 ++ []
theorem dksX17_costWith_0 : cX17_costWith.data.toList.drop 0 = dktX17_costWith_0 := by decide +kernel
theorem dX17_costWith_0 : decode cX17_costWith 0 = .ok (.lconst 1, 1) := dk_10 (dk_at dksX17_costWith_0 0 rfl rfl)
theorem dX17_costWith_1 : decode cX17_costWith 1 = .ok (.aload_n 1, 1) := dk_43 (dk_at dksX17_costWith_0 1 rfl rfl)
theorem dX17_costWith_2 : decode cX17_costWith 2 = .ok (.aload_n 0, 1) := dk_42 (dk_at dksX17_costWith_0 2 rfl rfl)
theorem dX17_costWith_3 : decode cX17_costWith 3 = .ok (.invokevirtual 13, 3) := dk_182 0 13 (dk_at dksX17_costWith_0 3 rfl rfl)
theorem dX17_costWith_6 : decode cX17_costWith 6 = .ok (.invokevirtual 59, 3) := dk_182 0 59 (dk_at dksX17_costWith_0 6 rfl rfl)
theorem dX17_costWith_9 : decode cX17_costWith 9 = .ok (.ladd, 1) := dk_97 (dk_at dksX17_costWith_0 9 rfl rfl)
theorem dX17_costWith_10 : decode cX17_costWith 10 = .ok (.lreturn, 1) := dk_173 (dk_at dksX17_costWith_0 10 rfl rfl)
abbrev cX17_text : ByteArray := prog_4_method_9_code
def yX17_text : MethodName := ⟨RX17, "text", "(LWeirfoldLane$Lane;)Ljava/lang/String;"⟩
def dkwX17_text_1 : List UInt8 := [182, 0, 80, 182, 0, 84, 18, 87, 182, 0, 69, 42, 180, 0, 7, 182, 0, 84, 182, 0, 89, 176]
abbrev dktX17_text_1 : List UInt8 := dkwX17_text_1 ++ []
def dkwX17_text_0 : List UInt8 := [187, 0, 62, 89, 183, 0, 64, 18, 67, 182, 0, 69, 42, 182, 0, 73, 182, 0, 77, 43, 42, 182, 0, 13]
abbrev dktX17_text_0 : List UInt8 := dkwX17_text_0 ++ dktX17_text_1
theorem dksX17_text_0 : cX17_text.data.toList.drop 0 = dktX17_text_0 := by decide +kernel
theorem dksX17_text_1 : cX17_text.data.toList.drop 24 = dktX17_text_1 := dk_seg dksX17_text_0 24 rfl rfl
theorem dX17_text_0 : decode cX17_text 0 = .ok (.new 62, 3) := dk_187 0 62 (dk_at dksX17_text_0 0 rfl rfl)
theorem dX17_text_3 : decode cX17_text 3 = .ok (.dup, 1) := dk_89 (dk_at dksX17_text_0 3 rfl rfl)
theorem dX17_text_4 : decode cX17_text 4 = .ok (.invokespecial 64, 3) := dk_183 0 64 (dk_at dksX17_text_0 4 rfl rfl)
theorem dX17_text_7 : decode cX17_text 7 = .ok (.ldc 67, 2) := dk_18 67 (dk_at dksX17_text_0 7 rfl rfl)
theorem dX17_text_9 : decode cX17_text 9 = .ok (.invokevirtual 69, 3) := dk_182 0 69 (dk_at dksX17_text_0 9 rfl rfl)
theorem dX17_text_12 : decode cX17_text 12 = .ok (.aload_n 0, 1) := dk_42 (dk_at dksX17_text_0 12 rfl rfl)
theorem dX17_text_13 : decode cX17_text 13 = .ok (.invokevirtual 73, 3) := dk_182 0 73 (dk_at dksX17_text_0 13 rfl rfl)
theorem dX17_text_16 : decode cX17_text 16 = .ok (.invokevirtual 77, 3) := dk_182 0 77 (dk_at dksX17_text_0 16 rfl rfl)
theorem dX17_text_19 : decode cX17_text 19 = .ok (.aload_n 1, 1) := dk_43 (dk_at dksX17_text_0 19 rfl rfl)
theorem dX17_text_20 : decode cX17_text 20 = .ok (.aload_n 0, 1) := dk_42 (dk_at dksX17_text_0 20 rfl rfl)
theorem dX17_text_21 : decode cX17_text 21 = .ok (.invokevirtual 13, 3) := dk_182 0 13 (dk_at dksX17_text_0 21 rfl rfl)
theorem dX17_text_24 : decode cX17_text 24 = .ok (.invokevirtual 80, 3) := dk_182 0 80 (dk_at dksX17_text_1 0 rfl rfl)
theorem dX17_text_27 : decode cX17_text 27 = .ok (.invokevirtual 84, 3) := dk_182 0 84 (dk_at dksX17_text_1 3 rfl rfl)
theorem dX17_text_30 : decode cX17_text 30 = .ok (.ldc 87, 2) := dk_18 87 (dk_at dksX17_text_1 6 rfl rfl)
theorem dX17_text_32 : decode cX17_text 32 = .ok (.invokevirtual 69, 3) := dk_182 0 69 (dk_at dksX17_text_1 8 rfl rfl)
theorem dX17_text_35 : decode cX17_text 35 = .ok (.aload_n 0, 1) := dk_42 (dk_at dksX17_text_1 11 rfl rfl)
theorem dX17_text_36 : decode cX17_text 36 = .ok (.getfield 7, 3) := dk_180 0 7 (dk_at dksX17_text_1 12 rfl rfl)
theorem dX17_text_39 : decode cX17_text 39 = .ok (.invokevirtual 84, 3) := dk_182 0 84 (dk_at dksX17_text_1 15 rfl rfl)
theorem dX17_text_42 : decode cX17_text 42 = .ok (.invokevirtual 89, 3) := dk_182 0 89 (dk_at dksX17_text_1 18 rfl rfl)
theorem dX17_text_45 : decode cX17_text 45 = .ok (.areturn, 1) := dk_176 (dk_at dksX17_text_1 21 rfl rfl)
theorem q136 : (Jvm.Cond.initialized "WeirfoldLane$BoundedStep") ∈ lw_all := lw_g (lw_at lw_m1 43 rfl) rfl
theorem q513 : (Jvm.Cond.selects "WeirfoldLane$BoundedStep" ({ cls := "java/lang/Object", name := "getClass", desc := "()Ljava/lang/Class;" } : Jvm.MethodName) ({ cls := "java/lang/Object", name := "getClass", desc := "()Ljava/lang/Class;" } : Jvm.MethodName)) ∈ lw_all := lw_g (lw_at lw_m2 180 rfl) rfl
theorem q623 : (Jvm.Cond.selects "WeirfoldLane$BoundedStep" ({ cls := "java/lang/Object", name := "equals", desc := "(Ljava/lang/Object;)Z" } : Jvm.MethodName) ({ cls := "java/lang/Object", name := "equals", desc := "(Ljava/lang/Object;)Z" } : Jvm.MethodName)) ∈ lw_all := lw_g (lw_at lw_m3 50 rfl) rfl
theorem q684 : (Jvm.Cond.selects "WeirfoldLane$BoundedStep" ({ cls := "WeirfoldLane$Step", name := "compute", desc := "(Ljava/util/List;LWeirfoldLane$Numbers;II)J" } : Jvm.MethodName) ({ cls := "WeirfoldLane$BoundedStep", name := "compute", desc := "(Ljava/util/List;LWeirfoldLane$Numbers;II)J" } : Jvm.MethodName)) ∈ lw_all := lw_g (lw_at lw_m3 111 rfl) rfl
theorem q685 : (Jvm.Cond.instanceMethod ({ cls := "WeirfoldLane$BoundedStep", name := "compute", desc := "(Ljava/util/List;LWeirfoldLane$Numbers;II)J" } : Jvm.MethodName)) ∈ lw_all := lw_g (lw_at lw_m3 112 rfl) rfl
theorem q686 : (Jvm.Cond.code ({ cls := "WeirfoldLane$BoundedStep", name := "compute", desc := "(Ljava/util/List;LWeirfoldLane$Numbers;II)J" } : Jvm.MethodName) prog_4_method_3_code (5 : Nat) (Option.some Jvm.ClassFile.FieldType.long)) ∈ lw_all := lw_g (lw_at lw_m3 113 rfl) rfl
theorem q687 : (Jvm.Cond.methodLink "WeirfoldLane$BoundedStep" (13 : Nat) ({ cls := "WeirfoldLane$BoundedStep", name := "input", desc := "()LWeirfoldLane$Step;" } : Jvm.MethodName)) ∈ lw_all := lw_g (lw_at lw_m3 114 rfl) rfl
theorem q688 : (Jvm.Cond.sameMethod "WeirfoldLane$BoundedStep" "WeirfoldLane$SingleStep" "input" "()LWeirfoldLane$Step;") ∈ lw_all := lw_g (lw_at lw_m3 115 rfl) rfl
theorem q690 : (Jvm.Cond.selects "WeirfoldLane$BoundedStep" ({ cls := "WeirfoldLane$BoundedStep", name := "input", desc := "()LWeirfoldLane$Step;" } : Jvm.MethodName) ({ cls := "WeirfoldLane$SingleStep", name := "input", desc := "()LWeirfoldLane$Step;" } : Jvm.MethodName)) ∈ lw_all := lw_g (lw_at lw_m3 117 rfl) rfl
theorem q693 : (Jvm.Cond.interfaceEntry "WeirfoldLane$BoundedStep" (17 : Nat)) ∈ lw_tbl := lw_at lw_m3 120 rfl
theorem q694 : (Jvm.Cond.methodLink "WeirfoldLane$BoundedStep" (17 : Nat) ({ cls := "WeirfoldLane$Numbers", name := "number", desc := "(LWeirfoldLane$Step;II)J" } : Jvm.MethodName)) ∈ lw_all := lw_g (lw_at lw_m3 121 rfl) rfl
theorem q756 : (Jvm.Cond.methodLink "WeirfoldLane$BoundedStep" (23 : Nat) ({ cls := "WeirfoldLane$BoundedStep", name := "bounded", desc := "(J)J" } : Jvm.MethodName)) ∈ lw_all := lw_g (lw_at lw_m3 183 rfl) rfl
theorem q757 : (Jvm.Cond.privateMethod ({ cls := "WeirfoldLane$BoundedStep", name := "bounded", desc := "(J)J" } : Jvm.MethodName)) ∈ lw_tbl := lw_at lw_m3 184 rfl
theorem q758 : (Jvm.Cond.instanceMethod ({ cls := "WeirfoldLane$BoundedStep", name := "bounded", desc := "(J)J" } : Jvm.MethodName)) ∈ lw_all := lw_g (lw_at lw_m3 185 rfl) rfl
theorem q759 : (Jvm.Cond.instantiable "WeirfoldLane$BoundedStep" (3 : Nat)) ∈ lw_all := lw_g (lw_at lw_m3 186 rfl) rfl
theorem q760 : (Jvm.Cond.code ({ cls := "WeirfoldLane$BoundedStep", name := "bounded", desc := "(J)J" } : Jvm.MethodName) prog_4_method_2_code (3 : Nat) (Option.some Jvm.ClassFile.FieldType.long)) ∈ lw_all := lw_g (lw_at lw_m3 187 rfl) rfl
theorem q1195 : (Jvm.Cond.fieldLinkNest "WeirfoldLane$BoundedStep" (27 : Nat) "WeirfoldLane$Row" "day" "I" "WeirfoldLane") ∈ lw_tbl := lw_at lw_m5 142 rfl
theorem q1201 : (Jvm.Cond.fieldLinkNest "WeirfoldLane$BoundedStep" (32 : Nat) "WeirfoldLane$Row" "group" "I" "WeirfoldLane") ∈ lw_tbl := lw_at lw_m5 148 rfl
theorem q1242 : (Jvm.Cond.selects "WeirfoldLane$BoundedStep" ({ cls := "WeirfoldLane$Step", name := "change", desc := "(LWeirfoldLane$Lane;LWeirfoldLane$Row;ILWeirfoldLane$Changes;)J" } : Jvm.MethodName) ({ cls := "WeirfoldLane$BoundedStep", name := "change", desc := "(LWeirfoldLane$Lane;LWeirfoldLane$Row;ILWeirfoldLane$Changes;)J" } : Jvm.MethodName)) ∈ lw_all := lw_g (lw_at lw_m5 189 rfl) rfl
theorem q1243 : (Jvm.Cond.instanceMethod ({ cls := "WeirfoldLane$BoundedStep", name := "change", desc := "(LWeirfoldLane$Lane;LWeirfoldLane$Row;ILWeirfoldLane$Changes;)J" } : Jvm.MethodName)) ∈ lw_all := lw_g (lw_at lw_m5 190 rfl) rfl
theorem q1244 : (Jvm.Cond.code ({ cls := "WeirfoldLane$BoundedStep", name := "change", desc := "(LWeirfoldLane$Lane;LWeirfoldLane$Row;ILWeirfoldLane$Changes;)J" } : Jvm.MethodName) prog_4_method_4_code (7 : Nat) (Option.some Jvm.ClassFile.FieldType.long)) ∈ lw_all := lw_g (lw_at lw_m5 191 rfl) rfl
theorem q1245 : (Jvm.Cond.methodLink "WeirfoldLane$BoundedStep" (35 : Nat) ({ cls := "WeirfoldLane$Lane", name := "number", desc := "(LWeirfoldLane$Step;II)J" } : Jvm.MethodName)) ∈ lw_all := lw_g (lw_at lw_m5 192 rfl) rfl
theorem q1246 : (Jvm.Cond.methodLink "WeirfoldLane$BoundedStep" (38 : Nat) ({ cls := "WeirfoldLane$Changes", name := "of", desc := "(LWeirfoldLane$Step;)J" } : Jvm.MethodName)) ∈ lw_all := lw_g (lw_at lw_m5 193 rfl) rfl
theorem q1296 : (Jvm.Cond.selects "WeirfoldLane$BoundedStep" ({ cls := "WeirfoldLane$Step", name := "level", desc := "()I" } : Jvm.MethodName) ({ cls := "WeirfoldLane$SingleStep", name := "level", desc := "()I" } : Jvm.MethodName)) ∈ lw_all := lw_g (lw_at lw_m6 3 rfl) rfl
theorem q1314 : (Jvm.Cond.selects "WeirfoldLane$BoundedStep" ({ cls := "WeirfoldLane$Step", name := "isFromStale", desc := "(LWeirfoldLane$Lane;I)Z" } : Jvm.MethodName) ({ cls := "WeirfoldLane$BoundedStep", name := "isFromStale", desc := "(LWeirfoldLane$Lane;I)Z" } : Jvm.MethodName)) ∈ lw_all := lw_g (lw_at lw_m6 21 rfl) rfl
theorem q1315 : (Jvm.Cond.instanceMethod ({ cls := "WeirfoldLane$BoundedStep", name := "isFromStale", desc := "(LWeirfoldLane$Lane;I)Z" } : Jvm.MethodName)) ∈ lw_all := lw_g (lw_at lw_m6 22 rfl) rfl
theorem q1316 : (Jvm.Cond.code ({ cls := "WeirfoldLane$BoundedStep", name := "isFromStale", desc := "(LWeirfoldLane$Lane;I)Z" } : Jvm.MethodName) prog_4_method_5_code (3 : Nat) (Option.some Jvm.ClassFile.FieldType.boolean)) ∈ lw_all := lw_g (lw_at lw_m6 23 rfl) rfl
theorem q1317 : (Jvm.Cond.methodLink "WeirfoldLane$BoundedStep" (44 : Nat) ({ cls := "WeirfoldLane$Lane", name := "isStale", desc := "(LWeirfoldLane$Step;I)Z" } : Jvm.MethodName)) ∈ lw_all := lw_g (lw_at lw_m6 24 rfl) rfl
theorem q1568 : (Jvm.Cond.instanceMethod ({ cls := "WeirfoldLane$BoundedStep", name := "<init>", desc := "(LWeirfoldLane$Step;I)V" } : Jvm.MethodName)) ∈ lw_all := lw_g (lw_at lw_m7 35 rfl) rfl
theorem q1569 : (Jvm.Cond.code ({ cls := "WeirfoldLane$BoundedStep", name := "<init>", desc := "(LWeirfoldLane$Step;I)V" } : Jvm.MethodName) prog_4_method_1_code (3 : Nat) (Option.none : Option Jvm.ClassFile.FieldType)) ∈ lw_all := lw_g (lw_at lw_m7 36 rfl) rfl
theorem q1570 : (Jvm.Cond.methodLink "WeirfoldLane$BoundedStep" (1 : Nat) ({ cls := "WeirfoldLane$SingleStep", name := "<init>", desc := "(CLWeirfoldLane$Step;)V" } : Jvm.MethodName)) ∈ lw_all := lw_g (lw_at lw_m7 37 rfl) rfl
theorem q1571 : (Jvm.Cond.fieldLink "WeirfoldLane$BoundedStep" (7 : Nat) "WeirfoldLane$BoundedStep" "bound" "I") ∈ lw_all := lw_g (lw_at lw_m7 38 rfl) rfl
theorem q1572 : (Jvm.Cond.laysFinal "WeirfoldLane$BoundedStep" "WeirfoldLane$BoundedStep" "bound" "I") ∈ lw_all := lw_g (lw_at lw_m7 39 rfl) rfl
theorem q1573 : (Jvm.Cond.soleField "WeirfoldLane$BoundedStep" "bound") ∈ lw_all := lw_g (lw_at lw_m7 40 rfl) rfl
theorem q1574 : (Jvm.Cond.laysFinal "WeirfoldLane$BoundedStep" "WeirfoldLane$SingleStep" "input" "LWeirfoldLane$Step;") ∈ lw_all := lw_g (lw_at lw_m7 41 rfl) rfl
theorem q1575 : (Jvm.Cond.laysFinal "WeirfoldLane$BoundedStep" "WeirfoldLane$Step" "kind" "C") ∈ lw_all := lw_g (lw_at lw_m7 42 rfl) rfl
theorem q1576 : (Jvm.Cond.superclass "WeirfoldLane$BoundedStep" "WeirfoldLane$SingleStep") ∈ lw_all := lw_g (lw_at lw_m7 43 rfl) rfl
theorem q1584 : (Jvm.Cond.selects "WeirfoldLane$BoundedStep" ({ cls := "WeirfoldLane$Step", name := "hasInput", desc := "(LWeirfoldLane$Step;)Z" } : Jvm.MethodName) ({ cls := "WeirfoldLane$SingleStep", name := "hasInput", desc := "(LWeirfoldLane$Step;)Z" } : Jvm.MethodName)) ∈ lw_all := lw_g (lw_at lw_m7 51 rfl) rfl
theorem q1846 : (Jvm.Cond.selects "WeirfoldLane$BoundedStep" ({ cls := "WeirfoldLane$Step", name := "kind", desc := "()C" } : Jvm.MethodName) ({ cls := "WeirfoldLane$Step", name := "kind", desc := "()C" } : Jvm.MethodName)) ∈ lw_all := lw_g (lw_at lw_m8 73 rfl) rfl
theorem q1863 : (Jvm.Cond.selects "WeirfoldLane$BoundedStep" ({ cls := "WeirfoldLane$Step", name := "dependsOn", desc := "(LWeirfoldLane$Step;Ljava/util/List;)Z" } : Jvm.MethodName) ({ cls := "WeirfoldLane$Step", name := "dependsOn", desc := "(LWeirfoldLane$Step;Ljava/util/List;)Z" } : Jvm.MethodName)) ∈ lw_all := lw_g (lw_at lw_m8 90 rfl) rfl
theorem q1948 : (Jvm.Cond.selects "WeirfoldLane$BoundedStep" ({ cls := "WeirfoldLane$Step", name := "rowsBehind", desc := "(Ljava/util/List;II)J" } : Jvm.MethodName) ({ cls := "WeirfoldLane$BoundedStep", name := "rowsBehind", desc := "(Ljava/util/List;II)J" } : Jvm.MethodName)) ∈ lw_all := lw_g (lw_at lw_m8 175 rfl) rfl
theorem q1949 : (Jvm.Cond.instanceMethod ({ cls := "WeirfoldLane$BoundedStep", name := "rowsBehind", desc := "(Ljava/util/List;II)J" } : Jvm.MethodName)) ∈ lw_all := lw_g (lw_at lw_m8 176 rfl) rfl
theorem q1950 : (Jvm.Cond.code ({ cls := "WeirfoldLane$BoundedStep", name := "rowsBehind", desc := "(Ljava/util/List;II)J" } : Jvm.MethodName) prog_4_method_6_code (4 : Nat) (Option.some Jvm.ClassFile.FieldType.long)) ∈ lw_all := lw_g (lw_at lw_m8 177 rfl) rfl
theorem q1951 : (Jvm.Cond.methodLink "WeirfoldLane$BoundedStep" (48 : Nat) ({ cls := "WeirfoldLane$Step", name := "rowsBehind", desc := "(Ljava/util/List;II)J" } : Jvm.MethodName)) ∈ lw_all := lw_g (lw_at lw_m8 178 rfl) rfl
theorem q1996 : (Jvm.Cond.selects "WeirfoldLane$BoundedStep" ({ cls := "WeirfoldLane$Step", name := "isMarked", desc := "(LWeirfoldLane$Row;LWeirfoldLane$Marks;I)Z" } : Jvm.MethodName) ({ cls := "WeirfoldLane$BoundedStep", name := "isMarked", desc := "(LWeirfoldLane$Row;LWeirfoldLane$Marks;I)Z" } : Jvm.MethodName)) ∈ lw_all := lw_g (lw_at lw_m8 223 rfl) rfl
theorem q1997 : (Jvm.Cond.instanceMethod ({ cls := "WeirfoldLane$BoundedStep", name := "isMarked", desc := "(LWeirfoldLane$Row;LWeirfoldLane$Marks;I)Z" } : Jvm.MethodName)) ∈ lw_all := lw_g (lw_at lw_m8 224 rfl) rfl
theorem q1998 : (Jvm.Cond.code ({ cls := "WeirfoldLane$BoundedStep", name := "isMarked", desc := "(LWeirfoldLane$Row;LWeirfoldLane$Marks;I)Z" } : Jvm.MethodName) prog_4_method_7_code (4 : Nat) (Option.some Jvm.ClassFile.FieldType.boolean)) ∈ lw_all := lw_g (lw_at lw_m8 225 rfl) rfl
theorem q1999 : (Jvm.Cond.methodLink "WeirfoldLane$BoundedStep" (54 : Nat) ({ cls := "WeirfoldLane$Marks", name := "has", desc := "(LWeirfoldLane$Step;I)Z" } : Jvm.MethodName)) ∈ lw_all := lw_g (lw_at lw_m8 226 rfl) rfl
theorem q2081 : (Jvm.Cond.selects "WeirfoldLane$BoundedStep" ({ cls := "WeirfoldLane$Step", name := "costWith", desc := "(LWeirfoldLane$Costs;)J" } : Jvm.MethodName) ({ cls := "WeirfoldLane$BoundedStep", name := "costWith", desc := "(LWeirfoldLane$Costs;)J" } : Jvm.MethodName)) ∈ lw_all := lw_g (lw_at lw_m9 68 rfl) rfl
theorem q2082 : (Jvm.Cond.instanceMethod ({ cls := "WeirfoldLane$BoundedStep", name := "costWith", desc := "(LWeirfoldLane$Costs;)J" } : Jvm.MethodName)) ∈ lw_all := lw_g (lw_at lw_m9 69 rfl) rfl
theorem q2083 : (Jvm.Cond.code ({ cls := "WeirfoldLane$BoundedStep", name := "costWith", desc := "(LWeirfoldLane$Costs;)J" } : Jvm.MethodName) prog_4_method_8_code (2 : Nat) (Option.some Jvm.ClassFile.FieldType.long)) ∈ lw_all := lw_g (lw_at lw_m9 70 rfl) rfl
theorem q2084 : (Jvm.Cond.methodLink "WeirfoldLane$BoundedStep" (59 : Nat) ({ cls := "WeirfoldLane$Costs", name := "of", desc := "(LWeirfoldLane$Step;)J" } : Jvm.MethodName)) ∈ lw_all := lw_g (lw_at lw_m9 71 rfl) rfl
theorem q2493 : (Jvm.Cond.selects "WeirfoldLane$BoundedStep" ({ cls := "WeirfoldLane$Step", name := "text", desc := "(LWeirfoldLane$Lane;)Ljava/lang/String;" } : Jvm.MethodName) ({ cls := "WeirfoldLane$BoundedStep", name := "text", desc := "(LWeirfoldLane$Lane;)Ljava/lang/String;" } : Jvm.MethodName)) ∈ lw_all := lw_g (lw_at lw_m11 0 rfl) rfl
theorem q2494 : (Jvm.Cond.instanceMethod ({ cls := "WeirfoldLane$BoundedStep", name := "text", desc := "(LWeirfoldLane$Lane;)Ljava/lang/String;" } : Jvm.MethodName)) ∈ lw_all := lw_g (lw_at lw_m11 1 rfl) rfl
theorem q2495 : (Jvm.Cond.code ({ cls := "WeirfoldLane$BoundedStep", name := "text", desc := "(LWeirfoldLane$Lane;)Ljava/lang/String;" } : Jvm.MethodName) prog_4_method_9_code (2 : Nat) (Option.some (Jvm.ClassFile.FieldType.object "java/lang/String"))) ∈ lw_all := lw_g (lw_at lw_m11 2 rfl) rfl
theorem q2496 : (Jvm.Cond.classLink "WeirfoldLane$BoundedStep" (62 : Nat) "java/lang/StringBuilder") ∈ lw_all := lw_g (lw_at lw_m11 3 rfl) rfl
theorem q2497 : (Jvm.Cond.methodLink "WeirfoldLane$BoundedStep" (64 : Nat) ({ cls := "java/lang/StringBuilder", name := "<init>", desc := "()V" } : Jvm.MethodName)) ∈ lw_all := lw_g (lw_at lw_m11 4 rfl) rfl
theorem q2498 : (Jvm.Cond.stringRef "WeirfoldLane$BoundedStep" (67 : Nat) "") ∈ lw_tbl := lw_at lw_m11 5 rfl
theorem q2499 : (Jvm.Cond.methodLink "WeirfoldLane$BoundedStep" (69 : Nat) ({ cls := "java/lang/StringBuilder", name := "append", desc := "(Ljava/lang/String;)Ljava/lang/StringBuilder;" } : Jvm.MethodName)) ∈ lw_all := lw_g (lw_at lw_m11 6 rfl) rfl
theorem q2500 : (Jvm.Cond.methodLink "WeirfoldLane$BoundedStep" (73 : Nat) ({ cls := "WeirfoldLane$BoundedStep", name := "kind", desc := "()C" } : Jvm.MethodName)) ∈ lw_all := lw_g (lw_at lw_m11 7 rfl) rfl
theorem q2501 : (Jvm.Cond.sameMethod "WeirfoldLane$BoundedStep" "WeirfoldLane$Step" "kind" "()C") ∈ lw_all := lw_g (lw_at lw_m11 8 rfl) rfl
theorem q2503 : (Jvm.Cond.selects "WeirfoldLane$BoundedStep" ({ cls := "WeirfoldLane$BoundedStep", name := "kind", desc := "()C" } : Jvm.MethodName) ({ cls := "WeirfoldLane$Step", name := "kind", desc := "()C" } : Jvm.MethodName)) ∈ lw_all := lw_g (lw_at lw_m11 10 rfl) rfl
theorem q2504 : (Jvm.Cond.methodLink "WeirfoldLane$BoundedStep" (77 : Nat) ({ cls := "java/lang/StringBuilder", name := "append", desc := "(C)Ljava/lang/StringBuilder;" } : Jvm.MethodName)) ∈ lw_all := lw_g (lw_at lw_m11 11 rfl) rfl
theorem q2505 : (Jvm.Cond.methodLink "WeirfoldLane$BoundedStep" (80 : Nat) ({ cls := "WeirfoldLane$Lane", name := "indexOf", desc := "(LWeirfoldLane$Step;)I" } : Jvm.MethodName)) ∈ lw_all := lw_g (lw_at lw_m11 12 rfl) rfl
theorem q2506 : (Jvm.Cond.methodLink "WeirfoldLane$BoundedStep" (84 : Nat) ({ cls := "java/lang/StringBuilder", name := "append", desc := "(I)Ljava/lang/StringBuilder;" } : Jvm.MethodName)) ∈ lw_all := lw_g (lw_at lw_m11 13 rfl) rfl
theorem q2507 : (Jvm.Cond.stringRef "WeirfoldLane$BoundedStep" (87 : Nat) ">") ∈ lw_tbl := lw_at lw_m11 14 rfl
theorem q2508 : (Jvm.Cond.methodLink "WeirfoldLane$BoundedStep" (89 : Nat) ({ cls := "java/lang/StringBuilder", name := "toString", desc := "()Ljava/lang/String;" } : Jvm.MethodName)) ∈ lw_all := lw_g (lw_at lw_m11 15 rfl) rfl
theorem q3295 : (Jvm.Cond.castable "WeirfoldLane$BoundedStep" "WeirfoldLane$Step") ∈ lw_tbl := lw_at lw_m14 82 rfl
theorem q3324 : (Jvm.Cond.castable "WeirfoldLane$BoundedStep" "java/lang/Object") ∈ lw_tbl := lw_at lw_m14 111 rfl
theorem in_X17 : ∀ w ∈ wsX170, w ∈ lw_all := lw_in wsX170 [1574, 1575, 1572] (by decide +kernel) (by decide +kernel)

/-! WeirfoldLane$Anew -/
set_option maxRecDepth 100000
def RX18 : String := "WeirfoldLane$Anew"
def TX18 : u_T := fun k => match k with
  | _ => ("WeirfoldLane$Anew", "lane", "LWeirfoldLane$Lane;", true)
def tyX18 : Nat → FieldType := fun k => match k with
  | _ => .object "WeirfoldLane$Lane"
abbrev wsX180 : List Cond := u_ws RX18 TX18 1
theorem nmX18 : ∀ a, a < 1 → ∀ b, b < 1 → a ≠ b → (TX18 a).2.1 ≠ (TX18 b).2.1 := by decide +kernel
theorem tyX18_ok : ∀ k, k < 1 → parseFieldDescriptor (TX18 k).2.2.1 = some (tyX18 k) := by decide +kernel
abbrev cX18_number : ByteArray := prog_2_method_2_code
def yX18_number : MethodName := ⟨RX18, "number", "(LWeirfoldLane$Step;II)J"⟩
def dkwX18_number_0 : List UInt8 := [43, 42, 180, 0, 7, 180, 0, 13, 42, 28, 29, 182, 0, 19, 173]
abbrev dktX18_number_0 : List UInt8 := dkwX18_number_0 ++ []
theorem dksX18_number_0 : cX18_number.data.toList.drop 0 = dktX18_number_0 := by decide +kernel
theorem dX18_number_0 : decode cX18_number 0 = .ok (.aload_n 1, 1) := dk_43 (dk_at dksX18_number_0 0 rfl rfl)
theorem dX18_number_1 : decode cX18_number 1 = .ok (.aload_n 0, 1) := dk_42 (dk_at dksX18_number_0 1 rfl rfl)
theorem dX18_number_2 : decode cX18_number 2 = .ok (.getfield 7, 3) := dk_180 0 7 (dk_at dksX18_number_0 2 rfl rfl)
theorem dX18_number_5 : decode cX18_number 5 = .ok (.getfield 13, 3) := dk_180 0 13 (dk_at dksX18_number_0 5 rfl rfl)
theorem dX18_number_8 : decode cX18_number 8 = .ok (.aload_n 0, 1) := dk_42 (dk_at dksX18_number_0 8 rfl rfl)
theorem dX18_number_9 : decode cX18_number 9 = .ok (.iload_n 2, 1) := dk_28 (dk_at dksX18_number_0 9 rfl rfl)
theorem dX18_number_10 : decode cX18_number 10 = .ok (.iload_n 3, 1) := dk_29 (dk_at dksX18_number_0 10 rfl rfl)
theorem dX18_number_11 : decode cX18_number 11 = .ok (.invokevirtual 19, 3) := dk_182 0 19 (dk_at dksX18_number_0 11 rfl rfl)
theorem dX18_number_14 : decode cX18_number 14 = .ok (.lreturn, 1) := dk_173 (dk_at dksX18_number_0 14 rfl rfl)
abbrev cX18_init : ByteArray := prog_2_method_1_code
def yX18_init : MethodName := ⟨RX18, "<init>", "(LWeirfoldLane$Lane;)V"⟩
def dkwX18_init_0 : List UInt8 := [42, 183, 0, 1, 42, 43, 181, 0, 7, 177]
abbrev dktX18_init_0 : List UInt8 := dkwX18_init_0 ++ []
theorem dksX18_init_0 : cX18_init.data.toList.drop 0 = dktX18_init_0 := by decide +kernel
theorem dX18_init_0 : decode cX18_init 0 = .ok (.aload_n 0, 1) := dk_42 (dk_at dksX18_init_0 0 rfl rfl)
theorem dX18_init_1 : decode cX18_init 1 = .ok (.invokespecial 1, 3) := dk_183 0 1 (dk_at dksX18_init_0 1 rfl rfl)
theorem dX18_init_4 : decode cX18_init 4 = .ok (.aload_n 0, 1) := dk_42 (dk_at dksX18_init_0 4 rfl rfl)
theorem dX18_init_5 : decode cX18_init 5 = .ok (.aload_n 1, 1) := dk_43 (dk_at dksX18_init_0 5 rfl rfl)
theorem dX18_init_6 : decode cX18_init 6 = .ok (.putfield 7, 3) := dk_181 0 7 (dk_at dksX18_init_0 6 rfl rfl)
theorem dX18_init_9 : decode cX18_init 9 = .ok (.return_, 1) := dk_177 (dk_at dksX18_init_0 9 rfl rfl)
theorem q140 : (Jvm.Cond.initialized "WeirfoldLane$Anew") ∈ lw_all := lw_g (lw_at lw_m1 47 rfl) rfl
theorem q194 : (Jvm.Cond.fieldLinkNest "WeirfoldLane$Anew" (13 : Nat) "WeirfoldLane$Lane" "rows" "Ljava/util/List;" "WeirfoldLane") ∈ lw_tbl := lw_at lw_m1 101 rfl
theorem q512 : (Jvm.Cond.selects "WeirfoldLane$Anew" ({ cls := "java/lang/Object", name := "getClass", desc := "()Ljava/lang/Class;" } : Jvm.MethodName) ({ cls := "java/lang/Object", name := "getClass", desc := "()Ljava/lang/Class;" } : Jvm.MethodName)) ∈ lw_all := lw_g (lw_at lw_m2 179 rfl) rfl
theorem q622 : (Jvm.Cond.selects "WeirfoldLane$Anew" ({ cls := "java/lang/Object", name := "equals", desc := "(Ljava/lang/Object;)Z" } : Jvm.MethodName) ({ cls := "java/lang/Object", name := "equals", desc := "(Ljava/lang/Object;)Z" } : Jvm.MethodName)) ∈ lw_all := lw_g (lw_at lw_m3 49 rfl) rfl
theorem q697 : (Jvm.Cond.castable "WeirfoldLane$Anew" "WeirfoldLane$Numbers") ∈ lw_tbl := lw_at lw_m3 124 rfl
theorem q698 : (Jvm.Cond.selects "WeirfoldLane$Anew" ({ cls := "WeirfoldLane$Numbers", name := "number", desc := "(LWeirfoldLane$Step;II)J" } : Jvm.MethodName) ({ cls := "WeirfoldLane$Anew", name := "number", desc := "(LWeirfoldLane$Step;II)J" } : Jvm.MethodName)) ∈ lw_all := lw_g (lw_at lw_m3 125 rfl) rfl
theorem q699 : (Jvm.Cond.unhidden "WeirfoldLane$Anew" "number" "(LWeirfoldLane$Step;II)J") ∈ lw_tbl := lw_at lw_m3 126 rfl
theorem q700 : (Jvm.Cond.instanceMethod ({ cls := "WeirfoldLane$Anew", name := "number", desc := "(LWeirfoldLane$Step;II)J" } : Jvm.MethodName)) ∈ lw_all := lw_g (lw_at lw_m3 127 rfl) rfl
theorem q701 : (Jvm.Cond.publicMethod ({ cls := "WeirfoldLane$Anew", name := "number", desc := "(LWeirfoldLane$Step;II)J" } : Jvm.MethodName)) ∈ lw_tbl := lw_at lw_m3 128 rfl
theorem q702 : (Jvm.Cond.code ({ cls := "WeirfoldLane$Anew", name := "number", desc := "(LWeirfoldLane$Step;II)J" } : Jvm.MethodName) prog_2_method_2_code (4 : Nat) (Option.some Jvm.ClassFile.FieldType.long)) ∈ lw_all := lw_g (lw_at lw_m3 129 rfl) rfl
theorem q703 : (Jvm.Cond.methodLink "WeirfoldLane$Anew" (19 : Nat) ({ cls := "WeirfoldLane$Step", name := "compute", desc := "(Ljava/util/List;LWeirfoldLane$Numbers;II)J" } : Jvm.MethodName)) ∈ lw_all := lw_g (lw_at lw_m3 130 rfl) rfl
theorem q1905 : (Jvm.Cond.instantiable "WeirfoldLane$Anew" (1 : Nat)) ∈ lw_all := lw_g (lw_at lw_m8 132 rfl) rfl
theorem q1907 : (Jvm.Cond.instanceMethod ({ cls := "WeirfoldLane$Anew", name := "<init>", desc := "(LWeirfoldLane$Lane;)V" } : Jvm.MethodName)) ∈ lw_all := lw_g (lw_at lw_m8 134 rfl) rfl
theorem q1908 : (Jvm.Cond.code ({ cls := "WeirfoldLane$Anew", name := "<init>", desc := "(LWeirfoldLane$Lane;)V" } : Jvm.MethodName) prog_2_method_1_code (2 : Nat) (Option.none : Option Jvm.ClassFile.FieldType)) ∈ lw_all := lw_g (lw_at lw_m8 135 rfl) rfl
theorem q1909 : (Jvm.Cond.methodLink "WeirfoldLane$Anew" (1 : Nat) ({ cls := "java/lang/Object", name := "<init>", desc := "()V" } : Jvm.MethodName)) ∈ lw_all := lw_g (lw_at lw_m8 136 rfl) rfl
theorem q1910 : (Jvm.Cond.fieldLink "WeirfoldLane$Anew" (7 : Nat) "WeirfoldLane$Anew" "lane" "LWeirfoldLane$Lane;") ∈ lw_all := lw_g (lw_at lw_m8 137 rfl) rfl
theorem q1911 : (Jvm.Cond.laysFinal "WeirfoldLane$Anew" "WeirfoldLane$Anew" "lane" "LWeirfoldLane$Lane;") ∈ lw_all := lw_g (lw_at lw_m8 138 rfl) rfl
theorem q1912 : (Jvm.Cond.soleField "WeirfoldLane$Anew" "lane") ∈ lw_all := lw_g (lw_at lw_m8 139 rfl) rfl
theorem q1913 : (Jvm.Cond.superclass "WeirfoldLane$Anew" "java/lang/Object") ∈ lw_all := lw_g (lw_at lw_m8 140 rfl) rfl
theorem q3286 : (Jvm.Cond.selects "WeirfoldLane$Anew" ({ cls := "WeirfoldLane$Anew", name := "number", desc := "(LWeirfoldLane$Step;II)J" } : Jvm.MethodName) ({ cls := "WeirfoldLane$Anew", name := "number", desc := "(LWeirfoldLane$Step;II)J" } : Jvm.MethodName)) ∈ lw_all := lw_g (lw_at lw_m14 73 rfl) rfl
theorem q3328 : (Jvm.Cond.castable "WeirfoldLane$Anew" "java/lang/Object") ∈ lw_tbl := lw_at lw_m14 115 rfl
theorem in_X18 : ∀ w ∈ wsX180, w ∈ lw_all := lw_in wsX180 [1911] (by decide +kernel) (by decide +kernel)

/-! WeirfoldLane$Marks -/
set_option maxRecDepth 100000
def RX19 : String := "WeirfoldLane$Marks"
def TX19 : u_T := fun k => match k with
  | 0 => ("WeirfoldLane$Marks", "steps", "Ljava/util/List;", true)
  | _ => ("WeirfoldLane$Marks", "isMarked", "[Z", true)
def tyX19 : Nat → FieldType := fun k => match k with
  | 0 => .object "java/util/List"
  | _ => .array .boolean
abbrev wsX190 : List Cond := u_ws RX19 TX19 2
theorem nmX19 : ∀ a, a < 2 → ∀ b, b < 2 → a ≠ b → (TX19 a).2.1 ≠ (TX19 b).2.1 := by decide +kernel
theorem tyX19_ok : ∀ k, k < 2 → parseFieldDescriptor (TX19 k).2.2.1 = some (tyX19 k) := by decide +kernel
abbrev cX19_init : ByteArray := prog_13_method_1_code
def yX19_init : MethodName := ⟨RX19, "<init>", "(LWeirfoldLane$Lane;LWeirfoldLane$Row;)V"⟩
def dkwX19_init_3 : List UInt8 := [42, 21, 4, 182, 0, 38, 84, 132, 4, 1, 167, 255, 212, 132, 3, 1, 167, 255, 190, 177]
abbrev dktX19_init_3 : List UInt8 := dkwX19_init_3 ++ []
def dkwX19_init_2 : List UInt8 := [180, 0, 9, 16, 7, 29, 104, 21, 4, 96, 42, 180, 0, 21, 29, 185, 0, 32, 2, 0, 192, 0, 36, 44]
abbrev dktX19_init_2 : List UInt8 := dkwX19_init_2 ++ dktX19_init_3
def dkwX19_init_1 : List UInt8 := [180, 0, 21, 185, 0, 22, 1, 0, 162, 0, 59, 3, 54, 4, 21, 4, 43, 180, 0, 28, 163, 0, 41, 42]
abbrev dktX19_init_1 : List UInt8 := dkwX19_init_1 ++ dktX19_init_2
def dkwX19_init_0 : List UInt8 := [42, 183, 0, 3, 42, 16, 56, 188, 4, 181, 0, 9, 42, 43, 180, 0, 15, 181, 0, 21, 3, 62, 29, 42]
abbrev dktX19_init_0 : List UInt8 := dkwX19_init_0 ++ dktX19_init_1
theorem dksX19_init_0 : cX19_init.data.toList.drop 0 = dktX19_init_0 := by decide +kernel
theorem dksX19_init_1 : cX19_init.data.toList.drop 24 = dktX19_init_1 := dk_seg dksX19_init_0 24 rfl rfl
theorem dksX19_init_2 : cX19_init.data.toList.drop 48 = dktX19_init_2 := dk_seg dksX19_init_1 24 rfl rfl
theorem dksX19_init_3 : cX19_init.data.toList.drop 72 = dktX19_init_3 := dk_seg dksX19_init_2 24 rfl rfl
theorem dX19_init_0 : decode cX19_init 0 = .ok (.aload_n 0, 1) := dk_42 (dk_at dksX19_init_0 0 rfl rfl)
theorem dX19_init_1 : decode cX19_init 1 = .ok (.invokespecial 3, 3) := dk_183 0 3 (dk_at dksX19_init_0 1 rfl rfl)
theorem dX19_init_4 : decode cX19_init 4 = .ok (.aload_n 0, 1) := dk_42 (dk_at dksX19_init_0 4 rfl rfl)
theorem dX19_init_5 : decode cX19_init 5 = .ok (.bipush 56, 2) := dk_16 56 (dk_at dksX19_init_0 5 rfl rfl)
theorem dX19_init_7 : decode cX19_init 7 = .ok (.newarray .boolean, 2) := dk_188_4 (dk_at dksX19_init_0 7 rfl rfl)
theorem dX19_init_9 : decode cX19_init 9 = .ok (.putfield 9, 3) := dk_181 0 9 (dk_at dksX19_init_0 9 rfl rfl)
theorem dX19_init_12 : decode cX19_init 12 = .ok (.aload_n 0, 1) := dk_42 (dk_at dksX19_init_0 12 rfl rfl)
theorem dX19_init_13 : decode cX19_init 13 = .ok (.aload_n 1, 1) := dk_43 (dk_at dksX19_init_0 13 rfl rfl)
theorem dX19_init_14 : decode cX19_init 14 = .ok (.getfield 15, 3) := dk_180 0 15 (dk_at dksX19_init_0 14 rfl rfl)
theorem dX19_init_17 : decode cX19_init 17 = .ok (.putfield 21, 3) := dk_181 0 21 (dk_at dksX19_init_0 17 rfl rfl)
theorem dX19_init_20 : decode cX19_init 20 = .ok (.iconst 0, 1) := dk_3 (dk_at dksX19_init_0 20 rfl rfl)
theorem dX19_init_21 : decode cX19_init 21 = .ok (.istore_n 3, 1) := dk_62 (dk_at dksX19_init_0 21 rfl rfl)
theorem dX19_init_22 : decode cX19_init 22 = .ok (.iload_n 3, 1) := dk_29 (dk_at dksX19_init_0 22 rfl rfl)
theorem dX19_init_23 : decode cX19_init 23 = .ok (.aload_n 0, 1) := dk_42 (dk_at dksX19_init_0 23 rfl rfl)
theorem dX19_init_24 : decode cX19_init 24 = .ok (.getfield 21, 3) := dk_180 0 21 (dk_at dksX19_init_1 0 rfl rfl)
theorem dX19_init_27 : decode cX19_init 27 = .ok (.invokeinterface 22 1, 5) := by decide +kernel
theorem dX19_init_32 : decode cX19_init 32 = .ok (.if_icmp .ge 59, 3) := dk_162 0 59 (dk_at dksX19_init_1 8 rfl rfl)
theorem dX19_init_35 : decode cX19_init 35 = .ok (.iconst 0, 1) := dk_3 (dk_at dksX19_init_1 11 rfl rfl)
theorem dX19_init_36 : decode cX19_init 36 = .ok (.istore 4, 2) := dk_54 4 (dk_at dksX19_init_1 12 rfl rfl)
theorem dX19_init_38 : decode cX19_init 38 = .ok (.iload 4, 2) := dk_21 4 (dk_at dksX19_init_1 14 rfl rfl)
theorem dX19_init_40 : decode cX19_init 40 = .ok (.aload_n 1, 1) := dk_43 (dk_at dksX19_init_1 16 rfl rfl)
theorem dX19_init_41 : decode cX19_init 41 = .ok (.getfield 28, 3) := dk_180 0 28 (dk_at dksX19_init_1 17 rfl rfl)
theorem dX19_init_44 : decode cX19_init 44 = .ok (.if_icmp .gt 41, 3) := dk_163 0 41 (dk_at dksX19_init_1 20 rfl rfl)
theorem dX19_init_47 : decode cX19_init 47 = .ok (.aload_n 0, 1) := dk_42 (dk_at dksX19_init_1 23 rfl rfl)
theorem dX19_init_48 : decode cX19_init 48 = .ok (.getfield 9, 3) := dk_180 0 9 (dk_at dksX19_init_2 0 rfl rfl)
theorem dX19_init_51 : decode cX19_init 51 = .ok (.bipush 7, 2) := dk_16 7 (dk_at dksX19_init_2 3 rfl rfl)
theorem dX19_init_53 : decode cX19_init 53 = .ok (.iload_n 3, 1) := dk_29 (dk_at dksX19_init_2 5 rfl rfl)
theorem dX19_init_54 : decode cX19_init 54 = .ok (.imul, 1) := dk_104 (dk_at dksX19_init_2 6 rfl rfl)
theorem dX19_init_55 : decode cX19_init 55 = .ok (.iload 4, 2) := dk_21 4 (dk_at dksX19_init_2 7 rfl rfl)
theorem dX19_init_57 : decode cX19_init 57 = .ok (.iadd, 1) := dk_96 (dk_at dksX19_init_2 9 rfl rfl)
theorem dX19_init_58 : decode cX19_init 58 = .ok (.aload_n 0, 1) := dk_42 (dk_at dksX19_init_2 10 rfl rfl)
theorem dX19_init_59 : decode cX19_init 59 = .ok (.getfield 21, 3) := dk_180 0 21 (dk_at dksX19_init_2 11 rfl rfl)
theorem dX19_init_62 : decode cX19_init 62 = .ok (.iload_n 3, 1) := dk_29 (dk_at dksX19_init_2 14 rfl rfl)
theorem dX19_init_63 : decode cX19_init 63 = .ok (.invokeinterface 32 2, 5) := by decide +kernel
theorem dX19_init_68 : decode cX19_init 68 = .ok (.checkcast 36, 3) := dk_192 0 36 (dk_at dksX19_init_2 20 rfl rfl)
theorem dX19_init_71 : decode cX19_init 71 = .ok (.aload_n 2, 1) := dk_44 (dk_at dksX19_init_2 23 rfl rfl)
theorem dX19_init_72 : decode cX19_init 72 = .ok (.aload_n 0, 1) := dk_42 (dk_at dksX19_init_3 0 rfl rfl)
theorem dX19_init_73 : decode cX19_init 73 = .ok (.iload 4, 2) := dk_21 4 (dk_at dksX19_init_3 1 rfl rfl)
theorem dX19_init_75 : decode cX19_init 75 = .ok (.invokevirtual 38, 3) := dk_182 0 38 (dk_at dksX19_init_3 3 rfl rfl)
theorem dX19_init_78 : decode cX19_init 78 = .ok (.bastore, 1) := dk_84 (dk_at dksX19_init_3 6 rfl rfl)
theorem dX19_init_79 : decode cX19_init 79 = .ok (.iinc 4 1, 3) := dk_132 4 1 (dk_at dksX19_init_3 7 rfl rfl)
theorem dX19_init_82 : decode cX19_init 82 = .ok (.goto (-44), 3) := dk_167 255 212 (dk_at dksX19_init_3 10 rfl rfl)
theorem dX19_init_85 : decode cX19_init 85 = .ok (.iinc 3 1, 3) := dk_132 3 1 (dk_at dksX19_init_3 13 rfl rfl)
theorem dX19_init_88 : decode cX19_init 88 = .ok (.goto (-66), 3) := dk_167 255 190 (dk_at dksX19_init_3 16 rfl rfl)
theorem dX19_init_91 : decode cX19_init 91 = .ok (.return_, 1) := dk_177 (dk_at dksX19_init_3 19 rfl rfl)
abbrev cX19_has : ByteArray := prog_13_method_2_code
def yX19_has : MethodName := ⟨RX19, "has", "(LWeirfoldLane$Step;I)Z"⟩
def dkwX19_has_0 : List UInt8 := [42, 180, 0, 9, 16, 7, 42, 180, 0, 21, 43, 185, 0, 41, 2, 0, 104, 28, 96, 51, 172]
abbrev dktX19_has_0 : List UInt8 := dkwX19_has_0 ++ []
theorem dksX19_has_0 : cX19_has.data.toList.drop 0 = dktX19_has_0 := by decide +kernel
theorem dX19_has_0 : decode cX19_has 0 = .ok (.aload_n 0, 1) := dk_42 (dk_at dksX19_has_0 0 rfl rfl)
theorem dX19_has_1 : decode cX19_has 1 = .ok (.getfield 9, 3) := dk_180 0 9 (dk_at dksX19_has_0 1 rfl rfl)
theorem dX19_has_4 : decode cX19_has 4 = .ok (.bipush 7, 2) := dk_16 7 (dk_at dksX19_has_0 4 rfl rfl)
theorem dX19_has_6 : decode cX19_has 6 = .ok (.aload_n 0, 1) := dk_42 (dk_at dksX19_has_0 6 rfl rfl)
theorem dX19_has_7 : decode cX19_has 7 = .ok (.getfield 21, 3) := dk_180 0 21 (dk_at dksX19_has_0 7 rfl rfl)
theorem dX19_has_10 : decode cX19_has 10 = .ok (.aload_n 1, 1) := dk_43 (dk_at dksX19_has_0 10 rfl rfl)
theorem dX19_has_11 : decode cX19_has 11 = .ok (.invokeinterface 41 2, 5) := by decide +kernel
theorem dX19_has_16 : decode cX19_has 16 = .ok (.imul, 1) := dk_104 (dk_at dksX19_has_0 16 rfl rfl)
theorem dX19_has_17 : decode cX19_has 17 = .ok (.iload_n 2, 1) := dk_28 (dk_at dksX19_has_0 17 rfl rfl)
theorem dX19_has_18 : decode cX19_has 18 = .ok (.iadd, 1) := dk_96 (dk_at dksX19_has_0 18 rfl rfl)
theorem dX19_has_19 : decode cX19_has 19 = .ok (.baload, 1) := dk_51 (dk_at dksX19_has_0 19 rfl rfl)
theorem dX19_has_20 : decode cX19_has 20 = .ok (.ireturn, 1) := dk_172 (dk_at dksX19_has_0 20 rfl rfl)
abbrev cX19_count : ByteArray := prog_13_method_3_code
def yX19_count : MethodName := ⟨RX19, "count", "()I"⟩
def dkwX19_count_1 : List UInt8 := [54, 5, 27, 21, 5, 153, 0, 7, 4, 167, 0, 4, 3, 96, 60, 132, 4, 1, 167, 255, 228, 27, 172]
abbrev dktX19_count_1 : List UInt8 := dkwX19_count_1 ++ []
def dkwX19_count_0 : List UInt8 := [3, 60, 42, 180, 0, 9, 77, 44, 190, 62, 3, 54, 4, 21, 4, 29, 162, 0, 28, 44, 21, 4, 51]
abbrev dktX19_count_0 : List UInt8 := dkwX19_count_0 ++ dktX19_count_1
theorem dksX19_count_0 : cX19_count.data.toList.drop 0 = dktX19_count_0 := by decide +kernel
theorem dksX19_count_1 : cX19_count.data.toList.drop 23 = dktX19_count_1 := dk_seg dksX19_count_0 23 rfl rfl
theorem dX19_count_0 : decode cX19_count 0 = .ok (.iconst 0, 1) := dk_3 (dk_at dksX19_count_0 0 rfl rfl)
theorem dX19_count_1 : decode cX19_count 1 = .ok (.istore_n 1, 1) := dk_60 (dk_at dksX19_count_0 1 rfl rfl)
theorem dX19_count_2 : decode cX19_count 2 = .ok (.aload_n 0, 1) := dk_42 (dk_at dksX19_count_0 2 rfl rfl)
theorem dX19_count_3 : decode cX19_count 3 = .ok (.getfield 9, 3) := dk_180 0 9 (dk_at dksX19_count_0 3 rfl rfl)
theorem dX19_count_6 : decode cX19_count 6 = .ok (.astore_n 2, 1) := dk_77 (dk_at dksX19_count_0 6 rfl rfl)
theorem dX19_count_7 : decode cX19_count 7 = .ok (.aload_n 2, 1) := dk_44 (dk_at dksX19_count_0 7 rfl rfl)
theorem dX19_count_8 : decode cX19_count 8 = .ok (.arraylength, 1) := dk_190 (dk_at dksX19_count_0 8 rfl rfl)
theorem dX19_count_9 : decode cX19_count 9 = .ok (.istore_n 3, 1) := dk_62 (dk_at dksX19_count_0 9 rfl rfl)
theorem dX19_count_10 : decode cX19_count 10 = .ok (.iconst 0, 1) := dk_3 (dk_at dksX19_count_0 10 rfl rfl)
theorem dX19_count_11 : decode cX19_count 11 = .ok (.istore 4, 2) := dk_54 4 (dk_at dksX19_count_0 11 rfl rfl)
theorem dX19_count_13 : decode cX19_count 13 = .ok (.iload 4, 2) := dk_21 4 (dk_at dksX19_count_0 13 rfl rfl)
theorem dX19_count_15 : decode cX19_count 15 = .ok (.iload_n 3, 1) := dk_29 (dk_at dksX19_count_0 15 rfl rfl)
theorem dX19_count_16 : decode cX19_count 16 = .ok (.if_icmp .ge 28, 3) := dk_162 0 28 (dk_at dksX19_count_0 16 rfl rfl)
theorem dX19_count_19 : decode cX19_count 19 = .ok (.aload_n 2, 1) := dk_44 (dk_at dksX19_count_0 19 rfl rfl)
theorem dX19_count_20 : decode cX19_count 20 = .ok (.iload 4, 2) := dk_21 4 (dk_at dksX19_count_0 20 rfl rfl)
theorem dX19_count_22 : decode cX19_count 22 = .ok (.baload, 1) := dk_51 (dk_at dksX19_count_0 22 rfl rfl)
theorem dX19_count_23 : decode cX19_count 23 = .ok (.istore 5, 2) := dk_54 5 (dk_at dksX19_count_1 0 rfl rfl)
theorem dX19_count_25 : decode cX19_count 25 = .ok (.iload_n 1, 1) := dk_27 (dk_at dksX19_count_1 2 rfl rfl)
theorem dX19_count_26 : decode cX19_count 26 = .ok (.iload 5, 2) := dk_21 5 (dk_at dksX19_count_1 3 rfl rfl)
theorem dX19_count_28 : decode cX19_count 28 = .ok (.ifCond .eq 7, 3) := dk_153 0 7 (dk_at dksX19_count_1 5 rfl rfl)
theorem dX19_count_31 : decode cX19_count 31 = .ok (.iconst 1, 1) := dk_4 (dk_at dksX19_count_1 8 rfl rfl)
theorem dX19_count_32 : decode cX19_count 32 = .ok (.goto 4, 3) := dk_167 0 4 (dk_at dksX19_count_1 9 rfl rfl)
theorem dX19_count_35 : decode cX19_count 35 = .ok (.iconst 0, 1) := dk_3 (dk_at dksX19_count_1 12 rfl rfl)
theorem dX19_count_36 : decode cX19_count 36 = .ok (.iadd, 1) := dk_96 (dk_at dksX19_count_1 13 rfl rfl)
theorem dX19_count_37 : decode cX19_count 37 = .ok (.istore_n 1, 1) := dk_60 (dk_at dksX19_count_1 14 rfl rfl)
theorem dX19_count_38 : decode cX19_count 38 = .ok (.iinc 4 1, 3) := dk_132 4 1 (dk_at dksX19_count_1 15 rfl rfl)
theorem dX19_count_41 : decode cX19_count 41 = .ok (.goto (-28), 3) := dk_167 255 228 (dk_at dksX19_count_1 18 rfl rfl)
theorem dX19_count_44 : decode cX19_count 44 = .ok (.iload_n 1, 1) := dk_27 (dk_at dksX19_count_1 21 rfl rfl)
theorem dX19_count_45 : decode cX19_count 45 = .ok (.ireturn, 1) := dk_172 (dk_at dksX19_count_1 22 rfl rfl)
theorem q142 : (Jvm.Cond.initialized "WeirfoldLane$Marks") ∈ lw_all := lw_g (lw_at lw_m1 49 rfl) rfl
theorem q198 : (Jvm.Cond.fieldLinkNest "WeirfoldLane$Marks" (15 : Nat) "WeirfoldLane$Lane" "steps" "Ljava/util/List;" "WeirfoldLane") ∈ lw_tbl := lw_at lw_m1 105 rfl
theorem q206 : (Jvm.Cond.fieldLinkNest "WeirfoldLane$Marks" (28 : Nat) "WeirfoldLane$Lane" "today" "I" "WeirfoldLane") ∈ lw_tbl := lw_at lw_m1 113 rfl
theorem q522 : (Jvm.Cond.selects "WeirfoldLane$Marks" ({ cls := "java/lang/Object", name := "getClass", desc := "()Ljava/lang/Class;" } : Jvm.MethodName) ({ cls := "java/lang/Object", name := "getClass", desc := "()Ljava/lang/Class;" } : Jvm.MethodName)) ∈ lw_all := lw_g (lw_at lw_m2 189 rfl) rfl
theorem q632 : (Jvm.Cond.selects "WeirfoldLane$Marks" ({ cls := "java/lang/Object", name := "equals", desc := "(Ljava/lang/Object;)Z" } : Jvm.MethodName) ({ cls := "java/lang/Object", name := "equals", desc := "(Ljava/lang/Object;)Z" } : Jvm.MethodName)) ∈ lw_all := lw_g (lw_at lw_m3 59 rfl) rfl
theorem q1983 : (Jvm.Cond.instantiable "WeirfoldLane$Marks" (2 : Nat)) ∈ lw_all := lw_g (lw_at lw_m8 210 rfl) rfl
theorem q1985 : (Jvm.Cond.instanceMethod ({ cls := "WeirfoldLane$Marks", name := "<init>", desc := "(LWeirfoldLane$Lane;LWeirfoldLane$Row;)V" } : Jvm.MethodName)) ∈ lw_all := lw_g (lw_at lw_m8 212 rfl) rfl
theorem q1986 : (Jvm.Cond.code ({ cls := "WeirfoldLane$Marks", name := "<init>", desc := "(LWeirfoldLane$Lane;LWeirfoldLane$Row;)V" } : Jvm.MethodName) prog_13_method_1_code (5 : Nat) (Option.none : Option Jvm.ClassFile.FieldType)) ∈ lw_all := lw_g (lw_at lw_m8 213 rfl) rfl
theorem q1987 : (Jvm.Cond.methodLink "WeirfoldLane$Marks" (3 : Nat) ({ cls := "java/lang/Object", name := "<init>", desc := "()V" } : Jvm.MethodName)) ∈ lw_all := lw_g (lw_at lw_m8 214 rfl) rfl
theorem q1988 : (Jvm.Cond.interfaceEntry "WeirfoldLane$Marks" (22 : Nat)) ∈ lw_tbl := lw_at lw_m8 215 rfl
theorem q1989 : (Jvm.Cond.methodLink "WeirfoldLane$Marks" (22 : Nat) ({ cls := "java/util/List", name := "size", desc := "()I" } : Jvm.MethodName)) ∈ lw_all := lw_g (lw_at lw_m8 216 rfl) rfl
theorem q1990 : (Jvm.Cond.interfaceEntry "WeirfoldLane$Marks" (32 : Nat)) ∈ lw_tbl := lw_at lw_m8 217 rfl
theorem q1991 : (Jvm.Cond.methodLink "WeirfoldLane$Marks" (32 : Nat) ({ cls := "java/util/List", name := "get", desc := "(I)Ljava/lang/Object;" } : Jvm.MethodName)) ∈ lw_all := lw_g (lw_at lw_m8 218 rfl) rfl
theorem q1992 : (Jvm.Cond.classLink "WeirfoldLane$Marks" (36 : Nat) "WeirfoldLane$Step") ∈ lw_all := lw_g (lw_at lw_m8 219 rfl) rfl
theorem q1993 : (Jvm.Cond.methodLink "WeirfoldLane$Marks" (38 : Nat) ({ cls := "WeirfoldLane$Step", name := "isMarked", desc := "(LWeirfoldLane$Row;LWeirfoldLane$Marks;I)Z" } : Jvm.MethodName)) ∈ lw_all := lw_g (lw_at lw_m8 220 rfl) rfl
theorem q2000 : (Jvm.Cond.instanceMethod ({ cls := "WeirfoldLane$Marks", name := "has", desc := "(LWeirfoldLane$Step;I)Z" } : Jvm.MethodName)) ∈ lw_all := lw_g (lw_at lw_m8 227 rfl) rfl
theorem q2001 : (Jvm.Cond.selects "WeirfoldLane$Marks" ({ cls := "WeirfoldLane$Marks", name := "has", desc := "(LWeirfoldLane$Step;I)Z" } : Jvm.MethodName) ({ cls := "WeirfoldLane$Marks", name := "has", desc := "(LWeirfoldLane$Step;I)Z" } : Jvm.MethodName)) ∈ lw_all := lw_g (lw_at lw_m8 228 rfl) rfl
theorem q2002 : (Jvm.Cond.code ({ cls := "WeirfoldLane$Marks", name := "has", desc := "(LWeirfoldLane$Step;I)Z" } : Jvm.MethodName) prog_13_method_2_code (3 : Nat) (Option.some Jvm.ClassFile.FieldType.boolean)) ∈ lw_all := lw_g (lw_at lw_m8 229 rfl) rfl
theorem q2003 : (Jvm.Cond.interfaceEntry "WeirfoldLane$Marks" (41 : Nat)) ∈ lw_tbl := lw_at lw_m8 230 rfl
theorem q2004 : (Jvm.Cond.methodLink "WeirfoldLane$Marks" (41 : Nat) ({ cls := "java/util/List", name := "indexOf", desc := "(Ljava/lang/Object;)I" } : Jvm.MethodName)) ∈ lw_all := lw_g (lw_at lw_m8 231 rfl) rfl
theorem q2018 : (Jvm.Cond.fieldLink "WeirfoldLane$Marks" (21 : Nat) "WeirfoldLane$Marks" "steps" "Ljava/util/List;") ∈ lw_all := lw_g (lw_at lw_m9 5 rfl) rfl
theorem q2019 : (Jvm.Cond.fieldLink "WeirfoldLane$Marks" (9 : Nat) "WeirfoldLane$Marks" "isMarked" "[Z") ∈ lw_all := lw_g (lw_at lw_m9 6 rfl) rfl
theorem q2020 : (Jvm.Cond.laysFinal "WeirfoldLane$Marks" "WeirfoldLane$Marks" "steps" "Ljava/util/List;") ∈ lw_all := lw_g (lw_at lw_m9 7 rfl) rfl
theorem q2021 : (Jvm.Cond.soleField "WeirfoldLane$Marks" "steps") ∈ lw_all := lw_g (lw_at lw_m9 8 rfl) rfl
theorem q2022 : (Jvm.Cond.laysFinal "WeirfoldLane$Marks" "WeirfoldLane$Marks" "isMarked" "[Z") ∈ lw_all := lw_g (lw_at lw_m9 9 rfl) rfl
theorem q2023 : (Jvm.Cond.soleField "WeirfoldLane$Marks" "isMarked") ∈ lw_all := lw_g (lw_at lw_m9 10 rfl) rfl
theorem q2024 : (Jvm.Cond.superclass "WeirfoldLane$Marks" "java/lang/Object") ∈ lw_all := lw_g (lw_at lw_m9 11 rfl) rfl
theorem q2034 : (Jvm.Cond.instanceMethod ({ cls := "WeirfoldLane$Marks", name := "count", desc := "()I" } : Jvm.MethodName)) ∈ lw_all := lw_g (lw_at lw_m9 21 rfl) rfl
theorem q2035 : (Jvm.Cond.selects "WeirfoldLane$Marks" ({ cls := "WeirfoldLane$Marks", name := "count", desc := "()I" } : Jvm.MethodName) ({ cls := "WeirfoldLane$Marks", name := "count", desc := "()I" } : Jvm.MethodName)) ∈ lw_all := lw_g (lw_at lw_m9 22 rfl) rfl
theorem q2036 : (Jvm.Cond.code ({ cls := "WeirfoldLane$Marks", name := "count", desc := "()I" } : Jvm.MethodName) prog_13_method_3_code (6 : Nat) (Option.some Jvm.ClassFile.FieldType.int)) ∈ lw_all := lw_g (lw_at lw_m9 23 rfl) rfl
theorem q3329 : (Jvm.Cond.castable "WeirfoldLane$Marks" "java/lang/Object") ∈ lw_tbl := lw_at lw_m14 116 rfl
theorem in_X19 : ∀ w ∈ wsX190, w ∈ lw_all := lw_in wsX190 [2020, 2022] (by decide +kernel) (by decide +kernel)

/-! WeirfoldLane$Costs -/
set_option maxRecDepth 100000
def RX20 : String := "WeirfoldLane$Costs"
def TX20 : u_T := fun k => match k with
  | 0 => ("WeirfoldLane$Costs", "steps", "Ljava/util/List;", true)
  | 1 => ("WeirfoldLane$Costs", "rows", "I", true)
  | _ => ("WeirfoldLane$Costs", "costs", "[J", true)
def tyX20 : Nat → FieldType := fun k => match k with
  | 0 => .object "java/util/List"
  | 1 => .int
  | _ => .array .long
abbrev wsX200 : List Cond := u_ws RX20 TX20 3
theorem nmX20 : ∀ a, a < 3 → ∀ b, b < 3 → a ≠ b → (TX20 a).2.1 ≠ (TX20 b).2.1 := by decide +kernel
theorem tyX20_ok : ∀ k, k < 3 → parseFieldDescriptor (TX20 k).2.2.1 = some (tyX20 k) := by decide +kernel
abbrev cX20_init : ByteArray := prog_7_method_1_code
def yX20_init : MethodName := ⟨RX20, "<init>", "(LWeirfoldLane$Lane;)V"⟩
def dkwX20_init_1 : List UInt8 := [180, 0, 22, 185, 0, 25, 1, 0, 181, 0, 31, 177]
abbrev dktX20_init_1 : List UInt8 := dkwX20_init_1 ++ []
def dkwX20_init_0 : List UInt8 := [42, 183, 0, 3, 42, 16, 8, 188, 11, 181, 0, 9, 42, 43, 180, 0, 15, 181, 0, 21, 42, 43]
abbrev dktX20_init_0 : List UInt8 := dkwX20_init_0 ++ dktX20_init_1
theorem dksX20_init_0 : cX20_init.data.toList.drop 0 = dktX20_init_0 := by decide +kernel
theorem dksX20_init_1 : cX20_init.data.toList.drop 22 = dktX20_init_1 := dk_seg dksX20_init_0 22 rfl rfl
theorem dX20_init_0 : decode cX20_init 0 = .ok (.aload_n 0, 1) := dk_42 (dk_at dksX20_init_0 0 rfl rfl)
theorem dX20_init_1 : decode cX20_init 1 = .ok (.invokespecial 3, 3) := dk_183 0 3 (dk_at dksX20_init_0 1 rfl rfl)
theorem dX20_init_4 : decode cX20_init 4 = .ok (.aload_n 0, 1) := dk_42 (dk_at dksX20_init_0 4 rfl rfl)
theorem dX20_init_5 : decode cX20_init 5 = .ok (.bipush 8, 2) := dk_16 8 (dk_at dksX20_init_0 5 rfl rfl)
theorem dX20_init_7 : decode cX20_init 7 = .ok (.newarray .long, 2) := dk_188_11 (dk_at dksX20_init_0 7 rfl rfl)
theorem dX20_init_9 : decode cX20_init 9 = .ok (.putfield 9, 3) := dk_181 0 9 (dk_at dksX20_init_0 9 rfl rfl)
theorem dX20_init_12 : decode cX20_init 12 = .ok (.aload_n 0, 1) := dk_42 (dk_at dksX20_init_0 12 rfl rfl)
theorem dX20_init_13 : decode cX20_init 13 = .ok (.aload_n 1, 1) := dk_43 (dk_at dksX20_init_0 13 rfl rfl)
theorem dX20_init_14 : decode cX20_init 14 = .ok (.getfield 15, 3) := dk_180 0 15 (dk_at dksX20_init_0 14 rfl rfl)
theorem dX20_init_17 : decode cX20_init 17 = .ok (.putfield 21, 3) := dk_181 0 21 (dk_at dksX20_init_0 17 rfl rfl)
theorem dX20_init_20 : decode cX20_init 20 = .ok (.aload_n 0, 1) := dk_42 (dk_at dksX20_init_0 20 rfl rfl)
theorem dX20_init_21 : decode cX20_init 21 = .ok (.aload_n 1, 1) := dk_43 (dk_at dksX20_init_0 21 rfl rfl)
theorem dX20_init_22 : decode cX20_init 22 = .ok (.getfield 22, 3) := dk_180 0 22 (dk_at dksX20_init_1 0 rfl rfl)
theorem dX20_init_25 : decode cX20_init 25 = .ok (.invokeinterface 25 1, 5) := by decide +kernel
theorem dX20_init_30 : decode cX20_init 30 = .ok (.putfield 31, 3) := dk_181 0 31 (dk_at dksX20_init_1 8 rfl rfl)
theorem dX20_init_33 : decode cX20_init 33 = .ok (.return_, 1) := dk_177 (dk_at dksX20_init_1 11 rfl rfl)
abbrev cX20_findAll : ByteArray := prog_7_method_4_code
def yX20_findAll : MethodName := ⟨RX20, "findAll", "(I)J"⟩
def dkwX20_findAll_2 : List UInt8 := [167, 255, 215, 32, 173]
abbrev dktX20_findAll_2 : List UInt8 := dkwX20_findAll_2 ++ []
def dkwX20_findAll_1 : List UInt8 := [21, 4, 122, 4, 126, 4, 160, 0, 7, 4, 167, 0, 4, 3, 182, 0, 48, 97, 65, 132, 4, 1]
abbrev dktX20_findAll_1 : List UInt8 := dkwX20_findAll_1 ++ dktX20_findAll_2
def dkwX20_findAll_0 : List UInt8 := [9, 65, 3, 54, 4, 21, 4, 42, 180, 0, 21, 185, 0, 25, 1, 0, 162, 0, 33, 32, 42, 21, 4, 27]
abbrev dktX20_findAll_0 : List UInt8 := dkwX20_findAll_0 ++ dktX20_findAll_1
theorem dksX20_findAll_0 : cX20_findAll.data.toList.drop 0 = dktX20_findAll_0 := by decide +kernel
theorem dksX20_findAll_1 : cX20_findAll.data.toList.drop 24 = dktX20_findAll_1 := dk_seg dksX20_findAll_0 24 rfl rfl
theorem dksX20_findAll_2 : cX20_findAll.data.toList.drop 46 = dktX20_findAll_2 := dk_seg dksX20_findAll_1 22 rfl rfl
theorem dX20_findAll_0 : decode cX20_findAll 0 = .ok (.lconst 0, 1) := dk_9 (dk_at dksX20_findAll_0 0 rfl rfl)
theorem dX20_findAll_1 : decode cX20_findAll 1 = .ok (.lstore_n 2, 1) := dk_65 (dk_at dksX20_findAll_0 1 rfl rfl)
theorem dX20_findAll_2 : decode cX20_findAll 2 = .ok (.iconst 0, 1) := dk_3 (dk_at dksX20_findAll_0 2 rfl rfl)
theorem dX20_findAll_3 : decode cX20_findAll 3 = .ok (.istore 4, 2) := dk_54 4 (dk_at dksX20_findAll_0 3 rfl rfl)
theorem dX20_findAll_5 : decode cX20_findAll 5 = .ok (.iload 4, 2) := dk_21 4 (dk_at dksX20_findAll_0 5 rfl rfl)
theorem dX20_findAll_7 : decode cX20_findAll 7 = .ok (.aload_n 0, 1) := dk_42 (dk_at dksX20_findAll_0 7 rfl rfl)
theorem dX20_findAll_8 : decode cX20_findAll 8 = .ok (.getfield 21, 3) := dk_180 0 21 (dk_at dksX20_findAll_0 8 rfl rfl)
theorem dX20_findAll_11 : decode cX20_findAll 11 = .ok (.invokeinterface 25 1, 5) := by decide +kernel
theorem dX20_findAll_16 : decode cX20_findAll 16 = .ok (.if_icmp .ge 33, 3) := dk_162 0 33 (dk_at dksX20_findAll_0 16 rfl rfl)
theorem dX20_findAll_19 : decode cX20_findAll 19 = .ok (.lload_n 2, 1) := dk_32 (dk_at dksX20_findAll_0 19 rfl rfl)
theorem dX20_findAll_20 : decode cX20_findAll 20 = .ok (.aload_n 0, 1) := dk_42 (dk_at dksX20_findAll_0 20 rfl rfl)
theorem dX20_findAll_21 : decode cX20_findAll 21 = .ok (.iload 4, 2) := dk_21 4 (dk_at dksX20_findAll_0 21 rfl rfl)
theorem dX20_findAll_23 : decode cX20_findAll 23 = .ok (.iload_n 1, 1) := dk_27 (dk_at dksX20_findAll_0 23 rfl rfl)
theorem dX20_findAll_24 : decode cX20_findAll 24 = .ok (.iload 4, 2) := dk_21 4 (dk_at dksX20_findAll_1 0 rfl rfl)
theorem dX20_findAll_26 : decode cX20_findAll 26 = .ok (.ishr, 1) := dk_122 (dk_at dksX20_findAll_1 2 rfl rfl)
theorem dX20_findAll_27 : decode cX20_findAll 27 = .ok (.iconst 1, 1) := dk_4 (dk_at dksX20_findAll_1 3 rfl rfl)
theorem dX20_findAll_28 : decode cX20_findAll 28 = .ok (.iand, 1) := dk_126 (dk_at dksX20_findAll_1 4 rfl rfl)
theorem dX20_findAll_29 : decode cX20_findAll 29 = .ok (.iconst 1, 1) := dk_4 (dk_at dksX20_findAll_1 5 rfl rfl)
theorem dX20_findAll_30 : decode cX20_findAll 30 = .ok (.if_icmp .ne 7, 3) := dk_160 0 7 (dk_at dksX20_findAll_1 6 rfl rfl)
theorem dX20_findAll_33 : decode cX20_findAll 33 = .ok (.iconst 1, 1) := dk_4 (dk_at dksX20_findAll_1 9 rfl rfl)
theorem dX20_findAll_34 : decode cX20_findAll 34 = .ok (.goto 4, 3) := dk_167 0 4 (dk_at dksX20_findAll_1 10 rfl rfl)
theorem dX20_findAll_37 : decode cX20_findAll 37 = .ok (.iconst 0, 1) := dk_3 (dk_at dksX20_findAll_1 13 rfl rfl)
theorem dX20_findAll_38 : decode cX20_findAll 38 = .ok (.invokevirtual 48, 3) := dk_182 0 48 (dk_at dksX20_findAll_1 14 rfl rfl)
theorem dX20_findAll_41 : decode cX20_findAll 41 = .ok (.ladd, 1) := dk_97 (dk_at dksX20_findAll_1 17 rfl rfl)
theorem dX20_findAll_42 : decode cX20_findAll 42 = .ok (.lstore_n 2, 1) := dk_65 (dk_at dksX20_findAll_1 18 rfl rfl)
theorem dX20_findAll_43 : decode cX20_findAll 43 = .ok (.iinc 4 1, 3) := dk_132 4 1 (dk_at dksX20_findAll_1 19 rfl rfl)
theorem dX20_findAll_46 : decode cX20_findAll 46 = .ok (.goto (-41), 3) := dk_167 255 215 (dk_at dksX20_findAll_2 0 rfl rfl)
theorem dX20_findAll_49 : decode cX20_findAll 49 = .ok (.lload_n 2, 1) := dk_32 (dk_at dksX20_findAll_2 3 rfl rfl)
theorem dX20_findAll_50 : decode cX20_findAll 50 = .ok (.lreturn, 1) := dk_173 (dk_at dksX20_findAll_2 4 rfl rfl)
abbrev cX20_find : ByteArray := prog_7_method_3_code
def yX20_find : MethodName := ⟨RX20, "find", "(IZ)J"⟩
def dkwX20_find_1 : List UInt8 := [192, 0, 42, 42, 182, 0, 44, 80, 42, 180, 0, 9, 27, 47, 173]
abbrev dktX20_find_1 : List UInt8 := dkwX20_find_1 ++ []
def dkwX20_find_0 : List UInt8 := [42, 180, 0, 9, 27, 28, 153, 0, 7, 10, 167, 0, 20, 42, 180, 0, 21, 27, 185, 0, 38, 2, 0]
abbrev dktX20_find_0 : List UInt8 := dkwX20_find_0 ++ dktX20_find_1
theorem dksX20_find_0 : cX20_find.data.toList.drop 0 = dktX20_find_0 := by decide +kernel
theorem dksX20_find_1 : cX20_find.data.toList.drop 23 = dktX20_find_1 := dk_seg dksX20_find_0 23 rfl rfl
theorem dX20_find_0 : decode cX20_find 0 = .ok (.aload_n 0, 1) := dk_42 (dk_at dksX20_find_0 0 rfl rfl)
theorem dX20_find_1 : decode cX20_find 1 = .ok (.getfield 9, 3) := dk_180 0 9 (dk_at dksX20_find_0 1 rfl rfl)
theorem dX20_find_4 : decode cX20_find 4 = .ok (.iload_n 1, 1) := dk_27 (dk_at dksX20_find_0 4 rfl rfl)
theorem dX20_find_5 : decode cX20_find 5 = .ok (.iload_n 2, 1) := dk_28 (dk_at dksX20_find_0 5 rfl rfl)
theorem dX20_find_6 : decode cX20_find 6 = .ok (.ifCond .eq 7, 3) := dk_153 0 7 (dk_at dksX20_find_0 6 rfl rfl)
theorem dX20_find_9 : decode cX20_find 9 = .ok (.lconst 1, 1) := dk_10 (dk_at dksX20_find_0 9 rfl rfl)
theorem dX20_find_10 : decode cX20_find 10 = .ok (.goto 20, 3) := dk_167 0 20 (dk_at dksX20_find_0 10 rfl rfl)
theorem dX20_find_13 : decode cX20_find 13 = .ok (.aload_n 0, 1) := dk_42 (dk_at dksX20_find_0 13 rfl rfl)
theorem dX20_find_14 : decode cX20_find 14 = .ok (.getfield 21, 3) := dk_180 0 21 (dk_at dksX20_find_0 14 rfl rfl)
theorem dX20_find_17 : decode cX20_find 17 = .ok (.iload_n 1, 1) := dk_27 (dk_at dksX20_find_0 17 rfl rfl)
theorem dX20_find_18 : decode cX20_find 18 = .ok (.invokeinterface 38 2, 5) := by decide +kernel
theorem dX20_find_23 : decode cX20_find 23 = .ok (.checkcast 42, 3) := dk_192 0 42 (dk_at dksX20_find_1 0 rfl rfl)
theorem dX20_find_26 : decode cX20_find 26 = .ok (.aload_n 0, 1) := dk_42 (dk_at dksX20_find_1 3 rfl rfl)
theorem dX20_find_27 : decode cX20_find 27 = .ok (.invokevirtual 44, 3) := dk_182 0 44 (dk_at dksX20_find_1 4 rfl rfl)
theorem dX20_find_30 : decode cX20_find 30 = .ok (.lastore, 1) := dk_80 (dk_at dksX20_find_1 7 rfl rfl)
theorem dX20_find_31 : decode cX20_find 31 = .ok (.aload_n 0, 1) := dk_42 (dk_at dksX20_find_1 8 rfl rfl)
theorem dX20_find_32 : decode cX20_find 32 = .ok (.getfield 9, 3) := dk_180 0 9 (dk_at dksX20_find_1 9 rfl rfl)
theorem dX20_find_35 : decode cX20_find 35 = .ok (.iload_n 1, 1) := dk_27 (dk_at dksX20_find_1 12 rfl rfl)
theorem dX20_find_36 : decode cX20_find 36 = .ok (.laload, 1) := dk_47 (dk_at dksX20_find_1 13 rfl rfl)
theorem dX20_find_37 : decode cX20_find 37 = .ok (.lreturn, 1) := dk_173 (dk_at dksX20_find_1 14 rfl rfl)
abbrev cX20_of : ByteArray := prog_7_method_2_code
def yX20_of : MethodName := ⟨RX20, "of", "(LWeirfoldLane$Step;)J"⟩
def dkwX20_of_0 : List UInt8 := [42, 180, 0, 9, 42, 180, 0, 21, 43, 185, 0, 34, 2, 0, 47, 173]
abbrev dktX20_of_0 : List UInt8 := dkwX20_of_0 ++ []
theorem dksX20_of_0 : cX20_of.data.toList.drop 0 = dktX20_of_0 := by decide +kernel
theorem dX20_of_0 : decode cX20_of 0 = .ok (.aload_n 0, 1) := dk_42 (dk_at dksX20_of_0 0 rfl rfl)
theorem dX20_of_1 : decode cX20_of 1 = .ok (.getfield 9, 3) := dk_180 0 9 (dk_at dksX20_of_0 1 rfl rfl)
theorem dX20_of_4 : decode cX20_of 4 = .ok (.aload_n 0, 1) := dk_42 (dk_at dksX20_of_0 4 rfl rfl)
theorem dX20_of_5 : decode cX20_of 5 = .ok (.getfield 21, 3) := dk_180 0 21 (dk_at dksX20_of_0 5 rfl rfl)
theorem dX20_of_8 : decode cX20_of 8 = .ok (.aload_n 1, 1) := dk_43 (dk_at dksX20_of_0 8 rfl rfl)
theorem dX20_of_9 : decode cX20_of 9 = .ok (.invokeinterface 34 2, 5) := by decide +kernel
theorem dX20_of_14 : decode cX20_of 14 = .ok (.laload, 1) := dk_47 (dk_at dksX20_of_0 14 rfl rfl)
theorem dX20_of_15 : decode cX20_of 15 = .ok (.lreturn, 1) := dk_173 (dk_at dksX20_of_0 15 rfl rfl)
theorem q143 : (Jvm.Cond.initialized "WeirfoldLane$Costs") ∈ lw_all := lw_g (lw_at lw_m1 50 rfl) rfl
theorem q193 : (Jvm.Cond.fieldLinkNest "WeirfoldLane$Costs" (22 : Nat) "WeirfoldLane$Lane" "rows" "Ljava/util/List;" "WeirfoldLane") ∈ lw_tbl := lw_at lw_m1 100 rfl
theorem q199 : (Jvm.Cond.fieldLinkNest "WeirfoldLane$Costs" (15 : Nat) "WeirfoldLane$Lane" "steps" "Ljava/util/List;" "WeirfoldLane") ∈ lw_tbl := lw_at lw_m1 106 rfl
theorem q516 : (Jvm.Cond.selects "WeirfoldLane$Costs" ({ cls := "java/lang/Object", name := "getClass", desc := "()Ljava/lang/Class;" } : Jvm.MethodName) ({ cls := "java/lang/Object", name := "getClass", desc := "()Ljava/lang/Class;" } : Jvm.MethodName)) ∈ lw_all := lw_g (lw_at lw_m2 183 rfl) rfl
theorem q626 : (Jvm.Cond.selects "WeirfoldLane$Costs" ({ cls := "java/lang/Object", name := "equals", desc := "(Ljava/lang/Object;)Z" } : Jvm.MethodName) ({ cls := "java/lang/Object", name := "equals", desc := "(Ljava/lang/Object;)Z" } : Jvm.MethodName)) ∈ lw_all := lw_g (lw_at lw_m3 53 rfl) rfl
theorem q2049 : (Jvm.Cond.instantiable "WeirfoldLane$Costs" (3 : Nat)) ∈ lw_all := lw_g (lw_at lw_m9 36 rfl) rfl
theorem q2051 : (Jvm.Cond.instanceMethod ({ cls := "WeirfoldLane$Costs", name := "<init>", desc := "(LWeirfoldLane$Lane;)V" } : Jvm.MethodName)) ∈ lw_all := lw_g (lw_at lw_m9 38 rfl) rfl
theorem q2052 : (Jvm.Cond.code ({ cls := "WeirfoldLane$Costs", name := "<init>", desc := "(LWeirfoldLane$Lane;)V" } : Jvm.MethodName) prog_7_method_1_code (2 : Nat) (Option.none : Option Jvm.ClassFile.FieldType)) ∈ lw_all := lw_g (lw_at lw_m9 39 rfl) rfl
theorem q2053 : (Jvm.Cond.methodLink "WeirfoldLane$Costs" (3 : Nat) ({ cls := "java/lang/Object", name := "<init>", desc := "()V" } : Jvm.MethodName)) ∈ lw_all := lw_g (lw_at lw_m9 40 rfl) rfl
theorem q2054 : (Jvm.Cond.interfaceEntry "WeirfoldLane$Costs" (25 : Nat)) ∈ lw_tbl := lw_at lw_m9 41 rfl
theorem q2055 : (Jvm.Cond.methodLink "WeirfoldLane$Costs" (25 : Nat) ({ cls := "java/util/List", name := "size", desc := "()I" } : Jvm.MethodName)) ∈ lw_all := lw_g (lw_at lw_m9 42 rfl) rfl
theorem q2056 : (Jvm.Cond.fieldLink "WeirfoldLane$Costs" (21 : Nat) "WeirfoldLane$Costs" "steps" "Ljava/util/List;") ∈ lw_all := lw_g (lw_at lw_m9 43 rfl) rfl
theorem q2057 : (Jvm.Cond.fieldLink "WeirfoldLane$Costs" (31 : Nat) "WeirfoldLane$Costs" "rows" "I") ∈ lw_all := lw_g (lw_at lw_m9 44 rfl) rfl
theorem q2059 : (Jvm.Cond.fieldLink "WeirfoldLane$Costs" (9 : Nat) "WeirfoldLane$Costs" "costs" "[J") ∈ lw_all := lw_g (lw_at lw_m9 46 rfl) rfl
theorem q2060 : (Jvm.Cond.laysFinal "WeirfoldLane$Costs" "WeirfoldLane$Costs" "steps" "Ljava/util/List;") ∈ lw_all := lw_g (lw_at lw_m9 47 rfl) rfl
theorem q2061 : (Jvm.Cond.soleField "WeirfoldLane$Costs" "steps") ∈ lw_all := lw_g (lw_at lw_m9 48 rfl) rfl
theorem q2062 : (Jvm.Cond.laysFinal "WeirfoldLane$Costs" "WeirfoldLane$Costs" "rows" "I") ∈ lw_all := lw_g (lw_at lw_m9 49 rfl) rfl
theorem q2063 : (Jvm.Cond.soleField "WeirfoldLane$Costs" "rows") ∈ lw_all := lw_g (lw_at lw_m9 50 rfl) rfl
theorem q2064 : (Jvm.Cond.laysFinal "WeirfoldLane$Costs" "WeirfoldLane$Costs" "costs" "[J") ∈ lw_all := lw_g (lw_at lw_m9 51 rfl) rfl
theorem q2065 : (Jvm.Cond.soleField "WeirfoldLane$Costs" "costs") ∈ lw_all := lw_g (lw_at lw_m9 52 rfl) rfl
theorem q2066 : (Jvm.Cond.superclass "WeirfoldLane$Costs" "java/lang/Object") ∈ lw_all := lw_g (lw_at lw_m9 53 rfl) rfl
theorem q2068 : (Jvm.Cond.instanceMethod ({ cls := "WeirfoldLane$Costs", name := "findAll", desc := "(I)J" } : Jvm.MethodName)) ∈ lw_all := lw_g (lw_at lw_m9 55 rfl) rfl
theorem q2069 : (Jvm.Cond.selects "WeirfoldLane$Costs" ({ cls := "WeirfoldLane$Costs", name := "findAll", desc := "(I)J" } : Jvm.MethodName) ({ cls := "WeirfoldLane$Costs", name := "findAll", desc := "(I)J" } : Jvm.MethodName)) ∈ lw_all := lw_g (lw_at lw_m9 56 rfl) rfl
theorem q2070 : (Jvm.Cond.code ({ cls := "WeirfoldLane$Costs", name := "findAll", desc := "(I)J" } : Jvm.MethodName) prog_7_method_4_code (5 : Nat) (Option.some Jvm.ClassFile.FieldType.long)) ∈ lw_all := lw_g (lw_at lw_m9 57 rfl) rfl
theorem q2071 : (Jvm.Cond.methodLink "WeirfoldLane$Costs" (48 : Nat) ({ cls := "WeirfoldLane$Costs", name := "find", desc := "(IZ)J" } : Jvm.MethodName)) ∈ lw_all := lw_g (lw_at lw_m9 58 rfl) rfl
theorem q2072 : (Jvm.Cond.instanceMethod ({ cls := "WeirfoldLane$Costs", name := "find", desc := "(IZ)J" } : Jvm.MethodName)) ∈ lw_all := lw_g (lw_at lw_m9 59 rfl) rfl
theorem q2073 : (Jvm.Cond.selects "WeirfoldLane$Costs" ({ cls := "WeirfoldLane$Costs", name := "find", desc := "(IZ)J" } : Jvm.MethodName) ({ cls := "WeirfoldLane$Costs", name := "find", desc := "(IZ)J" } : Jvm.MethodName)) ∈ lw_all := lw_g (lw_at lw_m9 60 rfl) rfl
theorem q2074 : (Jvm.Cond.code ({ cls := "WeirfoldLane$Costs", name := "find", desc := "(IZ)J" } : Jvm.MethodName) prog_7_method_3_code (3 : Nat) (Option.some Jvm.ClassFile.FieldType.long)) ∈ lw_all := lw_g (lw_at lw_m9 61 rfl) rfl
theorem q2075 : (Jvm.Cond.interfaceEntry "WeirfoldLane$Costs" (38 : Nat)) ∈ lw_tbl := lw_at lw_m9 62 rfl
theorem q2076 : (Jvm.Cond.methodLink "WeirfoldLane$Costs" (38 : Nat) ({ cls := "java/util/List", name := "get", desc := "(I)Ljava/lang/Object;" } : Jvm.MethodName)) ∈ lw_all := lw_g (lw_at lw_m9 63 rfl) rfl
theorem q2077 : (Jvm.Cond.classLink "WeirfoldLane$Costs" (42 : Nat) "WeirfoldLane$Step") ∈ lw_all := lw_g (lw_at lw_m9 64 rfl) rfl
theorem q2078 : (Jvm.Cond.methodLink "WeirfoldLane$Costs" (44 : Nat) ({ cls := "WeirfoldLane$Step", name := "costWith", desc := "(LWeirfoldLane$Costs;)J" } : Jvm.MethodName)) ∈ lw_all := lw_g (lw_at lw_m9 65 rfl) rfl
theorem q2085 : (Jvm.Cond.instanceMethod ({ cls := "WeirfoldLane$Costs", name := "of", desc := "(LWeirfoldLane$Step;)J" } : Jvm.MethodName)) ∈ lw_all := lw_g (lw_at lw_m9 72 rfl) rfl
theorem q2086 : (Jvm.Cond.selects "WeirfoldLane$Costs" ({ cls := "WeirfoldLane$Costs", name := "of", desc := "(LWeirfoldLane$Step;)J" } : Jvm.MethodName) ({ cls := "WeirfoldLane$Costs", name := "of", desc := "(LWeirfoldLane$Step;)J" } : Jvm.MethodName)) ∈ lw_all := lw_g (lw_at lw_m9 73 rfl) rfl
theorem q2087 : (Jvm.Cond.code ({ cls := "WeirfoldLane$Costs", name := "of", desc := "(LWeirfoldLane$Step;)J" } : Jvm.MethodName) prog_7_method_2_code (2 : Nat) (Option.some Jvm.ClassFile.FieldType.long)) ∈ lw_all := lw_g (lw_at lw_m9 74 rfl) rfl
theorem q2088 : (Jvm.Cond.interfaceEntry "WeirfoldLane$Costs" (34 : Nat)) ∈ lw_tbl := lw_at lw_m9 75 rfl
theorem q2089 : (Jvm.Cond.methodLink "WeirfoldLane$Costs" (34 : Nat) ({ cls := "java/util/List", name := "indexOf", desc := "(Ljava/lang/Object;)I" } : Jvm.MethodName)) ∈ lw_all := lw_g (lw_at lw_m9 76 rfl) rfl
theorem q3330 : (Jvm.Cond.castable "WeirfoldLane$Costs" "java/lang/Object") ∈ lw_tbl := lw_at lw_m14 117 rfl
theorem in_X20 : ∀ w ∈ wsX200, w ∈ lw_all := lw_in wsX200 [2060, 2062, 2064] (by decide +kernel) (by decide +kernel)

/-! WeirfoldLane$Decider -/
set_option maxRecDepth 100000
def RX21 : String := "WeirfoldLane$Decider"
def TX21 : u_T := fun k => match k with
  | 0 => ("WeirfoldLane$Decider", "costs", "LWeirfoldLane$Costs;", true)
  | 1 => ("WeirfoldLane$Decider", "steps", "I", true)
  | 2 => ("WeirfoldLane$Decider", "best", "I", false)
  | _ => ("WeirfoldLane$Decider", "least", "J", false)
def tyX21 : Nat → FieldType := fun k => match k with
  | 0 => .object "WeirfoldLane$Costs"
  | 1 => .int
  | 2 => .int
  | _ => .long
abbrev wsX210 : List Cond := u_ws RX21 TX21 4
theorem nmX21 : ∀ a, a < 4 → ∀ b, b < 4 → a ≠ b → (TX21 a).2.1 ≠ (TX21 b).2.1 := by decide +kernel
theorem tyX21_ok : ∀ k, k < 4 → parseFieldDescriptor (TX21 k).2.2.1 = some (tyX21 k) := by decide +kernel
abbrev cX21_init : ByteArray := prog_9_method_1_code
def yX21_init : MethodName := ⟨RX21, "<init>", "(LWeirfoldLane$Lane;)V"⟩
def dkwX21_init_1 : List UInt8 := [185, 0, 24, 1, 0, 181, 0, 30, 42, 20, 0, 35, 181, 0, 37, 177]
abbrev dktX21_init_1 : List UInt8 := dkwX21_init_1 ++ []
def dkwX21_init_0 : List UInt8 := [42, 183, 0, 1, 42, 187, 0, 7, 89, 43, 183, 0, 9, 181, 0, 12, 42, 43, 180, 0, 18]
abbrev dktX21_init_0 : List UInt8 := dkwX21_init_0 ++ dktX21_init_1
theorem dksX21_init_0 : cX21_init.data.toList.drop 0 = dktX21_init_0 := by decide +kernel
theorem dksX21_init_1 : cX21_init.data.toList.drop 21 = dktX21_init_1 := dk_seg dksX21_init_0 21 rfl rfl
theorem dX21_init_0 : decode cX21_init 0 = .ok (.aload_n 0, 1) := dk_42 (dk_at dksX21_init_0 0 rfl rfl)
theorem dX21_init_1 : decode cX21_init 1 = .ok (.invokespecial 1, 3) := dk_183 0 1 (dk_at dksX21_init_0 1 rfl rfl)
theorem dX21_init_4 : decode cX21_init 4 = .ok (.aload_n 0, 1) := dk_42 (dk_at dksX21_init_0 4 rfl rfl)
theorem dX21_init_5 : decode cX21_init 5 = .ok (.new 7, 3) := dk_187 0 7 (dk_at dksX21_init_0 5 rfl rfl)
theorem dX21_init_8 : decode cX21_init 8 = .ok (.dup, 1) := dk_89 (dk_at dksX21_init_0 8 rfl rfl)
theorem dX21_init_9 : decode cX21_init 9 = .ok (.aload_n 1, 1) := dk_43 (dk_at dksX21_init_0 9 rfl rfl)
theorem dX21_init_10 : decode cX21_init 10 = .ok (.invokespecial 9, 3) := dk_183 0 9 (dk_at dksX21_init_0 10 rfl rfl)
theorem dX21_init_13 : decode cX21_init 13 = .ok (.putfield 12, 3) := dk_181 0 12 (dk_at dksX21_init_0 13 rfl rfl)
theorem dX21_init_16 : decode cX21_init 16 = .ok (.aload_n 0, 1) := dk_42 (dk_at dksX21_init_0 16 rfl rfl)
theorem dX21_init_17 : decode cX21_init 17 = .ok (.aload_n 1, 1) := dk_43 (dk_at dksX21_init_0 17 rfl rfl)
theorem dX21_init_18 : decode cX21_init 18 = .ok (.getfield 18, 3) := dk_180 0 18 (dk_at dksX21_init_0 18 rfl rfl)
theorem dX21_init_21 : decode cX21_init 21 = .ok (.invokeinterface 24 1, 5) := by decide +kernel
theorem dX21_init_26 : decode cX21_init 26 = .ok (.putfield 30, 3) := dk_181 0 30 (dk_at dksX21_init_1 5 rfl rfl)
theorem dX21_init_29 : decode cX21_init 29 = .ok (.aload_n 0, 1) := dk_42 (dk_at dksX21_init_1 8 rfl rfl)
theorem dX21_init_30 : decode cX21_init 30 = .ok (.ldc2_w 35, 3) := dk_20 0 35 (dk_at dksX21_init_1 9 rfl rfl)
theorem dX21_init_33 : decode cX21_init 33 = .ok (.putfield 37, 3) := dk_181 0 37 (dk_at dksX21_init_1 12 rfl rfl)
theorem dX21_init_36 : decode cX21_init 36 = .ok (.return_, 1) := dk_177 (dk_at dksX21_init_1 15 rfl rfl)
abbrev cX21_decide : ByteArray := prog_9_method_2_code
def yX21_decide : MethodName := ⟨RX21, "decide", "(IIJI)V"⟩
def dkwX21_decide_6 : List UInt8 := [21, 5, 4, 100, 182, 0, 48, 177]
abbrev dktX21_decide_6 : List UInt8 := dkwX21_decide_6 ++ []
def dkwX21_decide_5 : List UInt8 := [158, 0, 30, 42, 27, 4, 96, 28, 4, 27, 120, 128, 33, 42, 180, 0, 12, 27, 4, 182, 0, 44, 97]
abbrev dktX21_decide_5 : List UInt8 := dkwX21_decide_5 ++ dktX21_decide_6
def dkwX21_decide_4 : List UInt8 := [27, 4, 96, 28, 33, 42, 180, 0, 12, 27, 3, 182, 0, 44, 97, 21, 5, 182, 0, 48, 21, 5]
abbrev dktX21_decide_4 : List UInt8 := dkwX21_decide_4 ++ dktX21_decide_5
def dkwX21_decide_3 : List UInt8 := [157, 0, 7, 4, 167, 0, 4, 3, 54, 7, 27, 42, 180, 0, 30, 162, 0, 61, 21, 7, 153, 0, 56, 42]
abbrev dktX21_decide_3 : List UInt8 := dkwX21_decide_3 ++ dktX21_decide_4
def dkwX21_decide_2 : List UInt8 := [28, 181, 0, 41, 42, 33, 181, 0, 37, 33, 42, 180, 0, 30, 133, 97, 27, 133, 101, 42, 180, 0, 37, 148]
abbrev dktX21_decide_2 : List UInt8 := dkwX21_decide_2 ++ dktX21_decide_3
def dkwX21_decide_1 : List UInt8 := [162, 0, 7, 4, 167, 0, 4, 3, 54, 6, 27, 42, 180, 0, 30, 160, 0, 18, 21, 6, 153, 0, 13, 42]
abbrev dktX21_decide_1 : List UInt8 := dkwX21_decide_1 ++ dktX21_decide_2
def dkwX21_decide_0 : List UInt8 := [33, 42, 180, 0, 37, 148, 155, 0, 20, 33, 42, 180, 0, 37, 148, 154, 0, 15, 28, 42, 180, 0, 41]
abbrev dktX21_decide_0 : List UInt8 := dkwX21_decide_0 ++ dktX21_decide_1
theorem dksX21_decide_0 : cX21_decide.data.toList.drop 0 = dktX21_decide_0 := by decide +kernel
theorem dksX21_decide_1 : cX21_decide.data.toList.drop 23 = dktX21_decide_1 := dk_seg dksX21_decide_0 23 rfl rfl
theorem dksX21_decide_2 : cX21_decide.data.toList.drop 47 = dktX21_decide_2 := dk_seg dksX21_decide_1 24 rfl rfl
theorem dksX21_decide_3 : cX21_decide.data.toList.drop 71 = dktX21_decide_3 := dk_seg dksX21_decide_2 24 rfl rfl
theorem dksX21_decide_4 : cX21_decide.data.toList.drop 95 = dktX21_decide_4 := dk_seg dksX21_decide_3 24 rfl rfl
theorem dksX21_decide_5 : cX21_decide.data.toList.drop 117 = dktX21_decide_5 := dk_seg dksX21_decide_4 22 rfl rfl
theorem dksX21_decide_6 : cX21_decide.data.toList.drop 140 = dktX21_decide_6 := dk_seg dksX21_decide_5 23 rfl rfl
theorem dX21_decide_0 : decode cX21_decide 0 = .ok (.lload_n 3, 1) := dk_33 (dk_at dksX21_decide_0 0 rfl rfl)
theorem dX21_decide_1 : decode cX21_decide 1 = .ok (.aload_n 0, 1) := dk_42 (dk_at dksX21_decide_0 1 rfl rfl)
theorem dX21_decide_2 : decode cX21_decide 2 = .ok (.getfield 37, 3) := dk_180 0 37 (dk_at dksX21_decide_0 2 rfl rfl)
theorem dX21_decide_5 : decode cX21_decide 5 = .ok (.lcmp, 1) := dk_148 (dk_at dksX21_decide_0 5 rfl rfl)
theorem dX21_decide_6 : decode cX21_decide 6 = .ok (.ifCond .lt 20, 3) := dk_155 0 20 (dk_at dksX21_decide_0 6 rfl rfl)
theorem dX21_decide_9 : decode cX21_decide 9 = .ok (.lload_n 3, 1) := dk_33 (dk_at dksX21_decide_0 9 rfl rfl)
theorem dX21_decide_10 : decode cX21_decide 10 = .ok (.aload_n 0, 1) := dk_42 (dk_at dksX21_decide_0 10 rfl rfl)
theorem dX21_decide_11 : decode cX21_decide 11 = .ok (.getfield 37, 3) := dk_180 0 37 (dk_at dksX21_decide_0 11 rfl rfl)
theorem dX21_decide_14 : decode cX21_decide 14 = .ok (.lcmp, 1) := dk_148 (dk_at dksX21_decide_0 14 rfl rfl)
theorem dX21_decide_15 : decode cX21_decide 15 = .ok (.ifCond .ne 15, 3) := dk_154 0 15 (dk_at dksX21_decide_0 15 rfl rfl)
theorem dX21_decide_18 : decode cX21_decide 18 = .ok (.iload_n 2, 1) := dk_28 (dk_at dksX21_decide_0 18 rfl rfl)
theorem dX21_decide_19 : decode cX21_decide 19 = .ok (.aload_n 0, 1) := dk_42 (dk_at dksX21_decide_0 19 rfl rfl)
theorem dX21_decide_20 : decode cX21_decide 20 = .ok (.getfield 41, 3) := dk_180 0 41 (dk_at dksX21_decide_0 20 rfl rfl)
theorem dX21_decide_23 : decode cX21_decide 23 = .ok (.if_icmp .ge 7, 3) := dk_162 0 7 (dk_at dksX21_decide_1 0 rfl rfl)
theorem dX21_decide_26 : decode cX21_decide 26 = .ok (.iconst 1, 1) := dk_4 (dk_at dksX21_decide_1 3 rfl rfl)
theorem dX21_decide_27 : decode cX21_decide 27 = .ok (.goto 4, 3) := dk_167 0 4 (dk_at dksX21_decide_1 4 rfl rfl)
theorem dX21_decide_30 : decode cX21_decide 30 = .ok (.iconst 0, 1) := dk_3 (dk_at dksX21_decide_1 7 rfl rfl)
theorem dX21_decide_31 : decode cX21_decide 31 = .ok (.istore 6, 2) := dk_54 6 (dk_at dksX21_decide_1 8 rfl rfl)
theorem dX21_decide_33 : decode cX21_decide 33 = .ok (.iload_n 1, 1) := dk_27 (dk_at dksX21_decide_1 10 rfl rfl)
theorem dX21_decide_34 : decode cX21_decide 34 = .ok (.aload_n 0, 1) := dk_42 (dk_at dksX21_decide_1 11 rfl rfl)
theorem dX21_decide_35 : decode cX21_decide 35 = .ok (.getfield 30, 3) := dk_180 0 30 (dk_at dksX21_decide_1 12 rfl rfl)
theorem dX21_decide_38 : decode cX21_decide 38 = .ok (.if_icmp .ne 18, 3) := dk_160 0 18 (dk_at dksX21_decide_1 15 rfl rfl)
theorem dX21_decide_41 : decode cX21_decide 41 = .ok (.iload 6, 2) := dk_21 6 (dk_at dksX21_decide_1 18 rfl rfl)
theorem dX21_decide_43 : decode cX21_decide 43 = .ok (.ifCond .eq 13, 3) := dk_153 0 13 (dk_at dksX21_decide_1 20 rfl rfl)
theorem dX21_decide_46 : decode cX21_decide 46 = .ok (.aload_n 0, 1) := dk_42 (dk_at dksX21_decide_1 23 rfl rfl)
theorem dX21_decide_47 : decode cX21_decide 47 = .ok (.iload_n 2, 1) := dk_28 (dk_at dksX21_decide_2 0 rfl rfl)
theorem dX21_decide_48 : decode cX21_decide 48 = .ok (.putfield 41, 3) := dk_181 0 41 (dk_at dksX21_decide_2 1 rfl rfl)
theorem dX21_decide_51 : decode cX21_decide 51 = .ok (.aload_n 0, 1) := dk_42 (dk_at dksX21_decide_2 4 rfl rfl)
theorem dX21_decide_52 : decode cX21_decide 52 = .ok (.lload_n 3, 1) := dk_33 (dk_at dksX21_decide_2 5 rfl rfl)
theorem dX21_decide_53 : decode cX21_decide 53 = .ok (.putfield 37, 3) := dk_181 0 37 (dk_at dksX21_decide_2 6 rfl rfl)
theorem dX21_decide_56 : decode cX21_decide 56 = .ok (.lload_n 3, 1) := dk_33 (dk_at dksX21_decide_2 9 rfl rfl)
theorem dX21_decide_57 : decode cX21_decide 57 = .ok (.aload_n 0, 1) := dk_42 (dk_at dksX21_decide_2 10 rfl rfl)
theorem dX21_decide_58 : decode cX21_decide 58 = .ok (.getfield 30, 3) := dk_180 0 30 (dk_at dksX21_decide_2 11 rfl rfl)
theorem dX21_decide_61 : decode cX21_decide 61 = .ok (.i2l, 1) := dk_133 (dk_at dksX21_decide_2 14 rfl rfl)
theorem dX21_decide_62 : decode cX21_decide 62 = .ok (.ladd, 1) := dk_97 (dk_at dksX21_decide_2 15 rfl rfl)
theorem dX21_decide_63 : decode cX21_decide 63 = .ok (.iload_n 1, 1) := dk_27 (dk_at dksX21_decide_2 16 rfl rfl)
theorem dX21_decide_64 : decode cX21_decide 64 = .ok (.i2l, 1) := dk_133 (dk_at dksX21_decide_2 17 rfl rfl)
theorem dX21_decide_65 : decode cX21_decide 65 = .ok (.lsub, 1) := dk_101 (dk_at dksX21_decide_2 18 rfl rfl)
theorem dX21_decide_66 : decode cX21_decide 66 = .ok (.aload_n 0, 1) := dk_42 (dk_at dksX21_decide_2 19 rfl rfl)
theorem dX21_decide_67 : decode cX21_decide 67 = .ok (.getfield 37, 3) := dk_180 0 37 (dk_at dksX21_decide_2 20 rfl rfl)
theorem dX21_decide_70 : decode cX21_decide 70 = .ok (.lcmp, 1) := dk_148 (dk_at dksX21_decide_2 23 rfl rfl)
theorem dX21_decide_71 : decode cX21_decide 71 = .ok (.ifCond .gt 7, 3) := dk_157 0 7 (dk_at dksX21_decide_3 0 rfl rfl)
theorem dX21_decide_74 : decode cX21_decide 74 = .ok (.iconst 1, 1) := dk_4 (dk_at dksX21_decide_3 3 rfl rfl)
theorem dX21_decide_75 : decode cX21_decide 75 = .ok (.goto 4, 3) := dk_167 0 4 (dk_at dksX21_decide_3 4 rfl rfl)
theorem dX21_decide_78 : decode cX21_decide 78 = .ok (.iconst 0, 1) := dk_3 (dk_at dksX21_decide_3 7 rfl rfl)
theorem dX21_decide_79 : decode cX21_decide 79 = .ok (.istore 7, 2) := dk_54 7 (dk_at dksX21_decide_3 8 rfl rfl)
theorem dX21_decide_81 : decode cX21_decide 81 = .ok (.iload_n 1, 1) := dk_27 (dk_at dksX21_decide_3 10 rfl rfl)
theorem dX21_decide_82 : decode cX21_decide 82 = .ok (.aload_n 0, 1) := dk_42 (dk_at dksX21_decide_3 11 rfl rfl)
theorem dX21_decide_83 : decode cX21_decide 83 = .ok (.getfield 30, 3) := dk_180 0 30 (dk_at dksX21_decide_3 12 rfl rfl)
theorem dX21_decide_86 : decode cX21_decide 86 = .ok (.if_icmp .ge 61, 3) := dk_162 0 61 (dk_at dksX21_decide_3 15 rfl rfl)
theorem dX21_decide_89 : decode cX21_decide 89 = .ok (.iload 7, 2) := dk_21 7 (dk_at dksX21_decide_3 18 rfl rfl)
theorem dX21_decide_91 : decode cX21_decide 91 = .ok (.ifCond .eq 56, 3) := dk_153 0 56 (dk_at dksX21_decide_3 20 rfl rfl)
theorem dX21_decide_94 : decode cX21_decide 94 = .ok (.aload_n 0, 1) := dk_42 (dk_at dksX21_decide_3 23 rfl rfl)
theorem dX21_decide_95 : decode cX21_decide 95 = .ok (.iload_n 1, 1) := dk_27 (dk_at dksX21_decide_4 0 rfl rfl)
theorem dX21_decide_96 : decode cX21_decide 96 = .ok (.iconst 1, 1) := dk_4 (dk_at dksX21_decide_4 1 rfl rfl)
theorem dX21_decide_97 : decode cX21_decide 97 = .ok (.iadd, 1) := dk_96 (dk_at dksX21_decide_4 2 rfl rfl)
theorem dX21_decide_98 : decode cX21_decide 98 = .ok (.iload_n 2, 1) := dk_28 (dk_at dksX21_decide_4 3 rfl rfl)
theorem dX21_decide_99 : decode cX21_decide 99 = .ok (.lload_n 3, 1) := dk_33 (dk_at dksX21_decide_4 4 rfl rfl)
theorem dX21_decide_100 : decode cX21_decide 100 = .ok (.aload_n 0, 1) := dk_42 (dk_at dksX21_decide_4 5 rfl rfl)
theorem dX21_decide_101 : decode cX21_decide 101 = .ok (.getfield 12, 3) := dk_180 0 12 (dk_at dksX21_decide_4 6 rfl rfl)
theorem dX21_decide_104 : decode cX21_decide 104 = .ok (.iload_n 1, 1) := dk_27 (dk_at dksX21_decide_4 9 rfl rfl)
theorem dX21_decide_105 : decode cX21_decide 105 = .ok (.iconst 0, 1) := dk_3 (dk_at dksX21_decide_4 10 rfl rfl)
theorem dX21_decide_106 : decode cX21_decide 106 = .ok (.invokevirtual 44, 3) := dk_182 0 44 (dk_at dksX21_decide_4 11 rfl rfl)
theorem dX21_decide_109 : decode cX21_decide 109 = .ok (.ladd, 1) := dk_97 (dk_at dksX21_decide_4 14 rfl rfl)
theorem dX21_decide_110 : decode cX21_decide 110 = .ok (.iload 5, 2) := dk_21 5 (dk_at dksX21_decide_4 15 rfl rfl)
theorem dX21_decide_112 : decode cX21_decide 112 = .ok (.invokevirtual 48, 3) := dk_182 0 48 (dk_at dksX21_decide_4 17 rfl rfl)
theorem dX21_decide_115 : decode cX21_decide 115 = .ok (.iload 5, 2) := dk_21 5 (dk_at dksX21_decide_4 20 rfl rfl)
theorem dX21_decide_117 : decode cX21_decide 117 = .ok (.ifCond .le 30, 3) := dk_158 0 30 (dk_at dksX21_decide_5 0 rfl rfl)
theorem dX21_decide_120 : decode cX21_decide 120 = .ok (.aload_n 0, 1) := dk_42 (dk_at dksX21_decide_5 3 rfl rfl)
theorem dX21_decide_121 : decode cX21_decide 121 = .ok (.iload_n 1, 1) := dk_27 (dk_at dksX21_decide_5 4 rfl rfl)
theorem dX21_decide_122 : decode cX21_decide 122 = .ok (.iconst 1, 1) := dk_4 (dk_at dksX21_decide_5 5 rfl rfl)
theorem dX21_decide_123 : decode cX21_decide 123 = .ok (.iadd, 1) := dk_96 (dk_at dksX21_decide_5 6 rfl rfl)
theorem dX21_decide_124 : decode cX21_decide 124 = .ok (.iload_n 2, 1) := dk_28 (dk_at dksX21_decide_5 7 rfl rfl)
theorem dX21_decide_125 : decode cX21_decide 125 = .ok (.iconst 1, 1) := dk_4 (dk_at dksX21_decide_5 8 rfl rfl)
theorem dX21_decide_126 : decode cX21_decide 126 = .ok (.iload_n 1, 1) := dk_27 (dk_at dksX21_decide_5 9 rfl rfl)
theorem dX21_decide_127 : decode cX21_decide 127 = .ok (.ishl, 1) := dk_120 (dk_at dksX21_decide_5 10 rfl rfl)
theorem dX21_decide_128 : decode cX21_decide 128 = .ok (.ior, 1) := dk_128 (dk_at dksX21_decide_5 11 rfl rfl)
theorem dX21_decide_129 : decode cX21_decide 129 = .ok (.lload_n 3, 1) := dk_33 (dk_at dksX21_decide_5 12 rfl rfl)
theorem dX21_decide_130 : decode cX21_decide 130 = .ok (.aload_n 0, 1) := dk_42 (dk_at dksX21_decide_5 13 rfl rfl)
theorem dX21_decide_131 : decode cX21_decide 131 = .ok (.getfield 12, 3) := dk_180 0 12 (dk_at dksX21_decide_5 14 rfl rfl)
theorem dX21_decide_134 : decode cX21_decide 134 = .ok (.iload_n 1, 1) := dk_27 (dk_at dksX21_decide_5 17 rfl rfl)
theorem dX21_decide_135 : decode cX21_decide 135 = .ok (.iconst 1, 1) := dk_4 (dk_at dksX21_decide_5 18 rfl rfl)
theorem dX21_decide_136 : decode cX21_decide 136 = .ok (.invokevirtual 44, 3) := dk_182 0 44 (dk_at dksX21_decide_5 19 rfl rfl)
theorem dX21_decide_139 : decode cX21_decide 139 = .ok (.ladd, 1) := dk_97 (dk_at dksX21_decide_5 22 rfl rfl)
theorem dX21_decide_140 : decode cX21_decide 140 = .ok (.iload 5, 2) := dk_21 5 (dk_at dksX21_decide_6 0 rfl rfl)
theorem dX21_decide_142 : decode cX21_decide 142 = .ok (.iconst 1, 1) := dk_4 (dk_at dksX21_decide_6 2 rfl rfl)
theorem dX21_decide_143 : decode cX21_decide 143 = .ok (.isub, 1) := dk_100 (dk_at dksX21_decide_6 3 rfl rfl)
theorem dX21_decide_144 : decode cX21_decide 144 = .ok (.invokevirtual 48, 3) := dk_182 0 48 (dk_at dksX21_decide_6 4 rfl rfl)
theorem dX21_decide_147 : decode cX21_decide 147 = .ok (.return_, 1) := dk_177 (dk_at dksX21_decide_6 7 rfl rfl)
theorem q144 : (Jvm.Cond.initialized "WeirfoldLane$Decider") ∈ lw_all := lw_g (lw_at lw_m1 51 rfl) rfl
theorem q200 : (Jvm.Cond.fieldLinkNest "WeirfoldLane$Decider" (18 : Nat) "WeirfoldLane$Lane" "steps" "Ljava/util/List;" "WeirfoldLane") ∈ lw_tbl := lw_at lw_m1 107 rfl
theorem q518 : (Jvm.Cond.selects "WeirfoldLane$Decider" ({ cls := "java/lang/Object", name := "getClass", desc := "()Ljava/lang/Class;" } : Jvm.MethodName) ({ cls := "java/lang/Object", name := "getClass", desc := "()Ljava/lang/Class;" } : Jvm.MethodName)) ∈ lw_all := lw_g (lw_at lw_m2 185 rfl) rfl
theorem q628 : (Jvm.Cond.selects "WeirfoldLane$Decider" ({ cls := "java/lang/Object", name := "equals", desc := "(Ljava/lang/Object;)Z" } : Jvm.MethodName) ({ cls := "java/lang/Object", name := "equals", desc := "(Ljava/lang/Object;)Z" } : Jvm.MethodName)) ∈ lw_all := lw_g (lw_at lw_m3 55 rfl) rfl
theorem q2132 : (Jvm.Cond.instantiable "WeirfoldLane$Decider" (4 : Nat)) ∈ lw_all := lw_g (lw_at lw_m9 119 rfl) rfl
theorem q2134 : (Jvm.Cond.instanceMethod ({ cls := "WeirfoldLane$Decider", name := "<init>", desc := "(LWeirfoldLane$Lane;)V" } : Jvm.MethodName)) ∈ lw_all := lw_g (lw_at lw_m9 121 rfl) rfl
theorem q2135 : (Jvm.Cond.code ({ cls := "WeirfoldLane$Decider", name := "<init>", desc := "(LWeirfoldLane$Lane;)V" } : Jvm.MethodName) prog_9_method_1_code (2 : Nat) (Option.none : Option Jvm.ClassFile.FieldType)) ∈ lw_all := lw_g (lw_at lw_m9 122 rfl) rfl
theorem q2136 : (Jvm.Cond.methodLink "WeirfoldLane$Decider" (1 : Nat) ({ cls := "java/lang/Object", name := "<init>", desc := "()V" } : Jvm.MethodName)) ∈ lw_all := lw_g (lw_at lw_m9 123 rfl) rfl
theorem q2137 : (Jvm.Cond.classLink "WeirfoldLane$Decider" (7 : Nat) "WeirfoldLane$Costs") ∈ lw_all := lw_g (lw_at lw_m9 124 rfl) rfl
theorem q2138 : (Jvm.Cond.methodLink "WeirfoldLane$Decider" (9 : Nat) ({ cls := "WeirfoldLane$Costs", name := "<init>", desc := "(LWeirfoldLane$Lane;)V" } : Jvm.MethodName)) ∈ lw_all := lw_g (lw_at lw_m9 125 rfl) rfl
theorem q2139 : (Jvm.Cond.interfaceEntry "WeirfoldLane$Decider" (24 : Nat)) ∈ lw_tbl := lw_at lw_m9 126 rfl
theorem q2140 : (Jvm.Cond.methodLink "WeirfoldLane$Decider" (24 : Nat) ({ cls := "java/util/List", name := "size", desc := "()I" } : Jvm.MethodName)) ∈ lw_all := lw_g (lw_at lw_m9 127 rfl) rfl
theorem q2141 : (Jvm.Cond.constantLong "WeirfoldLane$Decider" (35 : Nat) (9223372036854775807 : Int64)) ∈ lw_all := lw_g (lw_at lw_m9 128 rfl) rfl
theorem q2142 : (Jvm.Cond.fieldLink "WeirfoldLane$Decider" (12 : Nat) "WeirfoldLane$Decider" "costs" "LWeirfoldLane$Costs;") ∈ lw_all := lw_g (lw_at lw_m9 129 rfl) rfl
theorem q2143 : (Jvm.Cond.fieldLink "WeirfoldLane$Decider" (30 : Nat) "WeirfoldLane$Decider" "steps" "I") ∈ lw_all := lw_g (lw_at lw_m9 130 rfl) rfl
theorem q2144 : (Jvm.Cond.fieldLink "WeirfoldLane$Decider" (41 : Nat) "WeirfoldLane$Decider" "best" "I") ∈ lw_all := lw_g (lw_at lw_m9 131 rfl) rfl
theorem q2146 : (Jvm.Cond.fieldLink "WeirfoldLane$Decider" (37 : Nat) "WeirfoldLane$Decider" "least" "J") ∈ lw_all := lw_g (lw_at lw_m9 133 rfl) rfl
theorem q2147 : (Jvm.Cond.laysFinal "WeirfoldLane$Decider" "WeirfoldLane$Decider" "costs" "LWeirfoldLane$Costs;") ∈ lw_all := lw_g (lw_at lw_m9 134 rfl) rfl
theorem q2148 : (Jvm.Cond.soleField "WeirfoldLane$Decider" "costs") ∈ lw_all := lw_g (lw_at lw_m9 135 rfl) rfl
theorem q2149 : (Jvm.Cond.laysFinal "WeirfoldLane$Decider" "WeirfoldLane$Decider" "steps" "I") ∈ lw_all := lw_g (lw_at lw_m9 136 rfl) rfl
theorem q2150 : (Jvm.Cond.soleField "WeirfoldLane$Decider" "steps") ∈ lw_all := lw_g (lw_at lw_m9 137 rfl) rfl
theorem q2151 : (Jvm.Cond.lays "WeirfoldLane$Decider" "WeirfoldLane$Decider" "best" "I") ∈ lw_all := lw_g (lw_at lw_m9 138 rfl) rfl
theorem q2152 : (Jvm.Cond.soleField "WeirfoldLane$Decider" "best") ∈ lw_all := lw_g (lw_at lw_m9 139 rfl) rfl
theorem q2153 : (Jvm.Cond.lays "WeirfoldLane$Decider" "WeirfoldLane$Decider" "least" "J") ∈ lw_all := lw_g (lw_at lw_m9 140 rfl) rfl
theorem q2154 : (Jvm.Cond.soleField "WeirfoldLane$Decider" "least") ∈ lw_all := lw_g (lw_at lw_m9 141 rfl) rfl
theorem q2155 : (Jvm.Cond.superclass "WeirfoldLane$Decider" "java/lang/Object") ∈ lw_all := lw_g (lw_at lw_m9 142 rfl) rfl
theorem q2157 : (Jvm.Cond.instanceMethod ({ cls := "WeirfoldLane$Decider", name := "decide", desc := "(IIJI)V" } : Jvm.MethodName)) ∈ lw_all := lw_g (lw_at lw_m9 144 rfl) rfl
theorem q2158 : (Jvm.Cond.selects "WeirfoldLane$Decider" ({ cls := "WeirfoldLane$Decider", name := "decide", desc := "(IIJI)V" } : Jvm.MethodName) ({ cls := "WeirfoldLane$Decider", name := "decide", desc := "(IIJI)V" } : Jvm.MethodName)) ∈ lw_all := lw_g (lw_at lw_m9 145 rfl) rfl
theorem q2159 : (Jvm.Cond.code ({ cls := "WeirfoldLane$Decider", name := "decide", desc := "(IIJI)V" } : Jvm.MethodName) prog_9_method_2_code (8 : Nat) (Option.none : Option Jvm.ClassFile.FieldType)) ∈ lw_all := lw_g (lw_at lw_m9 146 rfl) rfl
theorem q2160 : (Jvm.Cond.methodLink "WeirfoldLane$Decider" (44 : Nat) ({ cls := "WeirfoldLane$Costs", name := "find", desc := "(IZ)J" } : Jvm.MethodName)) ∈ lw_all := lw_g (lw_at lw_m9 147 rfl) rfl
theorem q2161 : (Jvm.Cond.methodLink "WeirfoldLane$Decider" (48 : Nat) ({ cls := "WeirfoldLane$Decider", name := "decide", desc := "(IIJI)V" } : Jvm.MethodName)) ∈ lw_all := lw_g (lw_at lw_m9 148 rfl) rfl
theorem q3331 : (Jvm.Cond.castable "WeirfoldLane$Decider" "java/lang/Object") ∈ lw_tbl := lw_at lw_m14 118 rfl
theorem in_X21 : ∀ w ∈ wsX210, w ∈ lw_all := lw_in wsX210 [2147, 2149, 2151, 2153] (by decide +kernel) (by decide +kernel)

/-! WeirfoldLane$Parser -/
set_option maxRecDepth 100000
def RX22 : String := "WeirfoldLane$Parser"
def TX22 : u_T := fun k => match k with
  | 0 => ("WeirfoldLane$Parser", "position", "I", false)
  | _ => ("WeirfoldLane$Parser", "this$0", "LWeirfoldLane;", true)
def tyX22 : Nat → FieldType := fun k => match k with
  | 0 => .int
  | _ => .object "WeirfoldLane"
abbrev wsX220 : List Cond := u_ws RX22 TX22 2
theorem nmX22 : ∀ a, a < 2 → ∀ b, b < 2 → a ≠ b → (TX22 a).2.1 ≠ (TX22 b).2.1 := by decide +kernel
theorem tyX22_ok : ∀ k, k < 2 → parseFieldDescriptor (TX22 k).2.2.1 = some (tyX22 k) := by decide +kernel
abbrev cX22_init : ByteArray := prog_16_method_1_code
def yX22_init : MethodName := ⟨RX22, "<init>", "(LWeirfoldLane;)V"⟩
def dkwX22_init_0 : List UInt8 := [42, 43, 181, 0, 1, 42, 183, 0, 7, 177]
abbrev dktX22_init_0 : List UInt8 := dkwX22_init_0 ++ []
theorem dksX22_init_0 : cX22_init.data.toList.drop 0 = dktX22_init_0 := by decide +kernel
theorem dX22_init_0 : decode cX22_init 0 = .ok (.aload_n 0, 1) := dk_42 (dk_at dksX22_init_0 0 rfl rfl)
theorem dX22_init_1 : decode cX22_init 1 = .ok (.aload_n 1, 1) := dk_43 (dk_at dksX22_init_0 1 rfl rfl)
theorem dX22_init_2 : decode cX22_init 2 = .ok (.putfield 1, 3) := dk_181 0 1 (dk_at dksX22_init_0 2 rfl rfl)
theorem dX22_init_5 : decode cX22_init 5 = .ok (.aload_n 0, 1) := dk_42 (dk_at dksX22_init_0 5 rfl rfl)
theorem dX22_init_6 : decode cX22_init 6 = .ok (.invokespecial 7, 3) := dk_183 0 7 (dk_at dksX22_init_0 6 rfl rfl)
theorem dX22_init_9 : decode cX22_init 9 = .ok (.return_, 1) := dk_177 (dk_at dksX22_init_0 9 rfl rfl)
abbrev cX22_text : ByteArray := prog_16_method_9_code
def yX22_text : MethodName := ⟨RX22, "text", "()Ljava/util/List;"⟩
def dkwX22_text_2 : List UInt8 := [185, 0, 128, 2, 0, 87, 167, 255, 221, 43, 176]
abbrev dktX22_text_2 : List UInt8 := dkwX22_text_2 ++ []
def dkwX22_text_1 : List UInt8 := [180, 0, 1, 180, 0, 17, 182, 0, 23, 162, 0, 24, 42, 18, 133, 182, 0, 50, 61, 43, 42, 182, 0, 124]
abbrev dktX22_text_1 : List UInt8 := dkwX22_text_1 ++ dktX22_text_2
def dkwX22_text_0 : List UInt8 := [187, 0, 121, 89, 183, 0, 123, 76, 43, 42, 182, 0, 124, 185, 0, 128, 2, 0, 87, 42, 180, 0, 13, 42]
abbrev dktX22_text_0 : List UInt8 := dkwX22_text_0 ++ dktX22_text_1
theorem dksX22_text_0 : cX22_text.data.toList.drop 0 = dktX22_text_0 := by decide +kernel
theorem dksX22_text_1 : cX22_text.data.toList.drop 24 = dktX22_text_1 := dk_seg dksX22_text_0 24 rfl rfl
theorem dksX22_text_2 : cX22_text.data.toList.drop 48 = dktX22_text_2 := dk_seg dksX22_text_1 24 rfl rfl
theorem dX22_text_0 : decode cX22_text 0 = .ok (.new 121, 3) := dk_187 0 121 (dk_at dksX22_text_0 0 rfl rfl)
theorem dX22_text_3 : decode cX22_text 3 = .ok (.dup, 1) := dk_89 (dk_at dksX22_text_0 3 rfl rfl)
theorem dX22_text_4 : decode cX22_text 4 = .ok (.invokespecial 123, 3) := dk_183 0 123 (dk_at dksX22_text_0 4 rfl rfl)
theorem dX22_text_7 : decode cX22_text 7 = .ok (.astore_n 1, 1) := dk_76 (dk_at dksX22_text_0 7 rfl rfl)
theorem dX22_text_8 : decode cX22_text 8 = .ok (.aload_n 1, 1) := dk_43 (dk_at dksX22_text_0 8 rfl rfl)
theorem dX22_text_9 : decode cX22_text 9 = .ok (.aload_n 0, 1) := dk_42 (dk_at dksX22_text_0 9 rfl rfl)
theorem dX22_text_10 : decode cX22_text 10 = .ok (.invokevirtual 124, 3) := dk_182 0 124 (dk_at dksX22_text_0 10 rfl rfl)
theorem dX22_text_13 : decode cX22_text 13 = .ok (.invokeinterface 128 2, 5) := by decide +kernel
theorem dX22_text_18 : decode cX22_text 18 = .ok (.pop, 1) := dk_87 (dk_at dksX22_text_0 18 rfl rfl)
theorem dX22_text_19 : decode cX22_text 19 = .ok (.aload_n 0, 1) := dk_42 (dk_at dksX22_text_0 19 rfl rfl)
theorem dX22_text_20 : decode cX22_text 20 = .ok (.getfield 13, 3) := dk_180 0 13 (dk_at dksX22_text_0 20 rfl rfl)
theorem dX22_text_23 : decode cX22_text 23 = .ok (.aload_n 0, 1) := dk_42 (dk_at dksX22_text_0 23 rfl rfl)
theorem dX22_text_24 : decode cX22_text 24 = .ok (.getfield 1, 3) := dk_180 0 1 (dk_at dksX22_text_1 0 rfl rfl)
theorem dX22_text_27 : decode cX22_text 27 = .ok (.getfield 17, 3) := dk_180 0 17 (dk_at dksX22_text_1 3 rfl rfl)
theorem dX22_text_30 : decode cX22_text 30 = .ok (.invokevirtual 23, 3) := dk_182 0 23 (dk_at dksX22_text_1 6 rfl rfl)
theorem dX22_text_33 : decode cX22_text 33 = .ok (.if_icmp .ge 24, 3) := dk_162 0 24 (dk_at dksX22_text_1 9 rfl rfl)
theorem dX22_text_36 : decode cX22_text 36 = .ok (.aload_n 0, 1) := dk_42 (dk_at dksX22_text_1 12 rfl rfl)
theorem dX22_text_37 : decode cX22_text 37 = .ok (.ldc 133, 2) := dk_18 133 (dk_at dksX22_text_1 13 rfl rfl)
theorem dX22_text_39 : decode cX22_text 39 = .ok (.invokevirtual 50, 3) := dk_182 0 50 (dk_at dksX22_text_1 15 rfl rfl)
theorem dX22_text_42 : decode cX22_text 42 = .ok (.istore_n 2, 1) := dk_61 (dk_at dksX22_text_1 18 rfl rfl)
theorem dX22_text_43 : decode cX22_text 43 = .ok (.aload_n 1, 1) := dk_43 (dk_at dksX22_text_1 19 rfl rfl)
theorem dX22_text_44 : decode cX22_text 44 = .ok (.aload_n 0, 1) := dk_42 (dk_at dksX22_text_1 20 rfl rfl)
theorem dX22_text_45 : decode cX22_text 45 = .ok (.invokevirtual 124, 3) := dk_182 0 124 (dk_at dksX22_text_1 21 rfl rfl)
theorem dX22_text_48 : decode cX22_text 48 = .ok (.invokeinterface 128 2, 5) := by decide +kernel
theorem dX22_text_53 : decode cX22_text 53 = .ok (.pop, 1) := dk_87 (dk_at dksX22_text_2 5 rfl rfl)
theorem dX22_text_54 : decode cX22_text 54 = .ok (.goto (-35), 3) := dk_167 255 221 (dk_at dksX22_text_2 6 rfl rfl)
theorem dX22_text_57 : decode cX22_text 57 = .ok (.aload_n 1, 1) := dk_43 (dk_at dksX22_text_2 9 rfl rfl)
theorem dX22_text_58 : decode cX22_text 58 = .ok (.areturn, 1) := dk_176 (dk_at dksX22_text_2 10 rfl rfl)
abbrev cX22_command : ByteArray := prog_16_method_8_code
def yX22_command : MethodName := ⟨RX22, "command", "()LWeirfoldLane$Change;"⟩
def dkwX22_command_13 : List UInt8 := [182, 0, 114, 183, 0, 96, 176, 187, 0, 94, 89, 43, 16, 32, 42, 182, 0, 54, 3, 183, 0, 96, 176]
abbrev dktX22_command_13 : List UInt8 := dkwX22_command_13 ++ []
def dkwX22_command_12 : List UInt8 := [182, 0, 54, 183, 0, 96, 176, 42, 182, 0, 54, 54, 5, 187, 0, 94, 89, 43, 16, 32, 21, 5, 42]
abbrev dktX22_command_12 : List UInt8 := dkwX22_command_12 ++ dktX22_command_13
def dkwX22_command_11 : List UInt8 := [182, 0, 54, 54, 5, 42, 18, 119, 182, 0, 50, 54, 6, 187, 0, 94, 89, 43, 21, 6, 21, 5, 42]
abbrev dktX22_command_11 : List UInt8 := dkwX22_command_11 ++ dktX22_command_12
def dkwX22_command_10 : List UInt8 := [18, 117, 182, 0, 50, 54, 5, 187, 0, 94, 89, 43, 21, 5, 42, 182, 0, 59, 3, 183, 0, 96, 176, 42]
abbrev dktX22_command_10 : List UInt8 := dkwX22_command_10 ++ dktX22_command_11
def dkwX22_command_9 : List UInt8 := [182, 0, 114, 183, 0, 96, 176, 187, 0, 94, 89, 43, 16, 32, 42, 182, 0, 59, 3, 183, 0, 96, 176, 42]
abbrev dktX22_command_9 : List UInt8 := dkwX22_command_9 ++ dktX22_command_10
def dkwX22_command_8 : List UInt8 := [42, 18, 112, 182, 0, 50, 54, 5, 42, 182, 0, 54, 54, 6, 187, 0, 94, 89, 43, 21, 5, 21, 6, 42]
abbrev dktX22_command_8 : List UInt8 := dkwX22_command_8 ++ dktX22_command_9
def dkwX22_command_7 : List UInt8 := [170, 0, 0, 0, 0, 159, 0, 0, 0, 0, 0, 0, 0, 4, 0, 0, 0, 34, 0, 0, 0, 65, 0, 0, 0, 81, 0, 0, 0, 105, 0, 0, 0, 136]
abbrev dktX22_command_7 : List UInt8 := dkwX22_command_7 ++ dktX22_command_8
def dkwX22_command_6 : List UInt8 := [21, 4]
abbrev dktX22_command_6 : List UInt8 := dkwX22_command_6 ++ dktX22_command_7
def dkwX22_command_5 : List UInt8 := [182, 0, 90, 153, 0, 21, 6, 54, 4, 167, 0, 15, 45, 18, 110, 182, 0, 90, 153, 0, 6, 7, 54, 4]
abbrev dktX22_command_5 : List UInt8 := dkwX22_command_5 ++ dktX22_command_6
def dkwX22_command_4 : List UInt8 := [4, 54, 4, 167, 0, 45, 45, 18, 106, 182, 0, 90, 153, 0, 36, 5, 54, 4, 167, 0, 30, 45, 18, 108]
abbrev dktX22_command_4 : List UInt8 := dkwX22_command_4 ++ dktX22_command_5
def dkwX22_command_3 : List UInt8 := [45, 18, 102, 182, 0, 90, 153, 0, 66, 3, 54, 4, 167, 0, 60, 45, 18, 104, 182, 0, 90, 153, 0, 51]
abbrev dktX22_command_3 : List UInt8 := dkwX22_command_3 ++ dktX22_command_4
def dkwX22_command_2 : List UInt8 := [171, 0, 0, 0, 121, 0, 0, 0, 5, 0, 1, 185, 218, 0, 0, 0, 49, 0, 46, 6, 209, 0, 0, 0, 79, 0, 48, 128, 159, 0, 0, 0, 64, 0, 50, 43, 133, 0, 0, 0, 109, 0, 52, 98, 218, 0, 0, 0, 94]
abbrev dktX22_command_2 : List UInt8 := dkwX22_command_2 ++ dktX22_command_3
def dkwX22_command_1 : List UInt8 := [183, 0, 96, 176, 42, 18, 57, 182, 0, 50, 61, 43, 78, 2, 54, 4, 45, 182, 0, 99]
abbrev dktX22_command_1 : List UInt8 := dkwX22_command_1 ++ dktX22_command_2
def dkwX22_command_0 : List UInt8 := [42, 182, 0, 85, 76, 43, 18, 88, 182, 0, 90, 153, 0, 16, 187, 0, 94, 89, 43, 16, 32, 3, 3]
abbrev dktX22_command_0 : List UInt8 := dkwX22_command_0 ++ dktX22_command_1
theorem dksX22_command_0 : cX22_command.data.toList.drop 0 = dktX22_command_0 := by decide +kernel
theorem dksX22_command_1 : cX22_command.data.toList.drop 23 = dktX22_command_1 := dk_seg dksX22_command_0 23 rfl rfl
theorem dksX22_command_2 : cX22_command.data.toList.drop 43 = dktX22_command_2 := dk_seg dksX22_command_1 20 rfl rfl
theorem dksX22_command_3 : cX22_command.data.toList.drop 92 = dktX22_command_3 := dk_seg dksX22_command_2 49 rfl rfl
theorem dksX22_command_4 : cX22_command.data.toList.drop 116 = dktX22_command_4 := dk_seg dksX22_command_3 24 rfl rfl
theorem dksX22_command_5 : cX22_command.data.toList.drop 140 = dktX22_command_5 := dk_seg dksX22_command_4 24 rfl rfl
theorem dksX22_command_6 : cX22_command.data.toList.drop 164 = dktX22_command_6 := dk_seg dksX22_command_5 24 rfl rfl
theorem dksX22_command_7 : cX22_command.data.toList.drop 166 = dktX22_command_7 := dk_seg dksX22_command_6 2 rfl rfl
theorem dksX22_command_8 : cX22_command.data.toList.drop 200 = dktX22_command_8 := dk_seg dksX22_command_7 34 rfl rfl
theorem dksX22_command_9 : cX22_command.data.toList.drop 224 = dktX22_command_9 := dk_seg dksX22_command_8 24 rfl rfl
theorem dksX22_command_10 : cX22_command.data.toList.drop 248 = dktX22_command_10 := dk_seg dksX22_command_9 24 rfl rfl
theorem dksX22_command_11 : cX22_command.data.toList.drop 272 = dktX22_command_11 := dk_seg dksX22_command_10 24 rfl rfl
theorem dksX22_command_12 : cX22_command.data.toList.drop 295 = dktX22_command_12 := dk_seg dksX22_command_11 23 rfl rfl
theorem dksX22_command_13 : cX22_command.data.toList.drop 318 = dktX22_command_13 := dk_seg dksX22_command_12 23 rfl rfl
theorem dX22_command_0 : decode cX22_command 0 = .ok (.aload_n 0, 1) := dk_42 (dk_at dksX22_command_0 0 rfl rfl)
theorem dX22_command_1 : decode cX22_command 1 = .ok (.invokevirtual 85, 3) := dk_182 0 85 (dk_at dksX22_command_0 1 rfl rfl)
theorem dX22_command_4 : decode cX22_command 4 = .ok (.astore_n 1, 1) := dk_76 (dk_at dksX22_command_0 4 rfl rfl)
theorem dX22_command_5 : decode cX22_command 5 = .ok (.aload_n 1, 1) := dk_43 (dk_at dksX22_command_0 5 rfl rfl)
theorem dX22_command_6 : decode cX22_command 6 = .ok (.ldc 88, 2) := dk_18 88 (dk_at dksX22_command_0 6 rfl rfl)
theorem dX22_command_8 : decode cX22_command 8 = .ok (.invokevirtual 90, 3) := dk_182 0 90 (dk_at dksX22_command_0 8 rfl rfl)
theorem dX22_command_11 : decode cX22_command 11 = .ok (.ifCond .eq 16, 3) := dk_153 0 16 (dk_at dksX22_command_0 11 rfl rfl)
theorem dX22_command_14 : decode cX22_command 14 = .ok (.new 94, 3) := dk_187 0 94 (dk_at dksX22_command_0 14 rfl rfl)
theorem dX22_command_17 : decode cX22_command 17 = .ok (.dup, 1) := dk_89 (dk_at dksX22_command_0 17 rfl rfl)
theorem dX22_command_18 : decode cX22_command 18 = .ok (.aload_n 1, 1) := dk_43 (dk_at dksX22_command_0 18 rfl rfl)
theorem dX22_command_19 : decode cX22_command 19 = .ok (.bipush 32, 2) := dk_16 32 (dk_at dksX22_command_0 19 rfl rfl)
theorem dX22_command_21 : decode cX22_command 21 = .ok (.iconst 0, 1) := dk_3 (dk_at dksX22_command_0 21 rfl rfl)
theorem dX22_command_22 : decode cX22_command 22 = .ok (.iconst 0, 1) := dk_3 (dk_at dksX22_command_0 22 rfl rfl)
theorem dX22_command_23 : decode cX22_command 23 = .ok (.invokespecial 96, 3) := dk_183 0 96 (dk_at dksX22_command_1 0 rfl rfl)
theorem dX22_command_26 : decode cX22_command 26 = .ok (.areturn, 1) := dk_176 (dk_at dksX22_command_1 3 rfl rfl)
theorem dX22_command_27 : decode cX22_command 27 = .ok (.aload_n 0, 1) := dk_42 (dk_at dksX22_command_1 4 rfl rfl)
theorem dX22_command_28 : decode cX22_command 28 = .ok (.ldc 57, 2) := dk_18 57 (dk_at dksX22_command_1 5 rfl rfl)
theorem dX22_command_30 : decode cX22_command 30 = .ok (.invokevirtual 50, 3) := dk_182 0 50 (dk_at dksX22_command_1 7 rfl rfl)
theorem dX22_command_33 : decode cX22_command 33 = .ok (.istore_n 2, 1) := dk_61 (dk_at dksX22_command_1 10 rfl rfl)
theorem dX22_command_34 : decode cX22_command 34 = .ok (.aload_n 1, 1) := dk_43 (dk_at dksX22_command_1 11 rfl rfl)
theorem dX22_command_35 : decode cX22_command 35 = .ok (.astore_n 3, 1) := dk_78 (dk_at dksX22_command_1 12 rfl rfl)
theorem dX22_command_36 : decode cX22_command 36 = .ok (.iconst (-1), 1) := dk_2 (dk_at dksX22_command_1 13 rfl rfl)
theorem dX22_command_37 : decode cX22_command 37 = .ok (.istore 4, 2) := dk_54 4 (dk_at dksX22_command_1 14 rfl rfl)
theorem dX22_command_39 : decode cX22_command 39 = .ok (.aload_n 3, 1) := dk_45 (dk_at dksX22_command_1 16 rfl rfl)
theorem dX22_command_40 : decode cX22_command 40 = .ok (.invokevirtual 99, 3) := dk_182 0 99 (dk_at dksX22_command_1 17 rfl rfl)
theorem dX22_command_43 : decode cX22_command 43 = .ok (.lookupswitch 121 #[(113114, 49), (3016401, 79), (3178655, 64), (3287941, 109), (3433178, 94)], 49) := by decide +kernel
theorem dX22_command_92 : decode cX22_command 92 = .ok (.aload_n 3, 1) := dk_45 (dk_at dksX22_command_3 0 rfl rfl)
theorem dX22_command_93 : decode cX22_command 93 = .ok (.ldc 102, 2) := dk_18 102 (dk_at dksX22_command_3 1 rfl rfl)
theorem dX22_command_95 : decode cX22_command 95 = .ok (.invokevirtual 90, 3) := dk_182 0 90 (dk_at dksX22_command_3 3 rfl rfl)
theorem dX22_command_98 : decode cX22_command 98 = .ok (.ifCond .eq 66, 3) := dk_153 0 66 (dk_at dksX22_command_3 6 rfl rfl)
theorem dX22_command_101 : decode cX22_command 101 = .ok (.iconst 0, 1) := dk_3 (dk_at dksX22_command_3 9 rfl rfl)
theorem dX22_command_102 : decode cX22_command 102 = .ok (.istore 4, 2) := dk_54 4 (dk_at dksX22_command_3 10 rfl rfl)
theorem dX22_command_104 : decode cX22_command 104 = .ok (.goto 60, 3) := dk_167 0 60 (dk_at dksX22_command_3 12 rfl rfl)
theorem dX22_command_107 : decode cX22_command 107 = .ok (.aload_n 3, 1) := dk_45 (dk_at dksX22_command_3 15 rfl rfl)
theorem dX22_command_108 : decode cX22_command 108 = .ok (.ldc 104, 2) := dk_18 104 (dk_at dksX22_command_3 16 rfl rfl)
theorem dX22_command_110 : decode cX22_command 110 = .ok (.invokevirtual 90, 3) := dk_182 0 90 (dk_at dksX22_command_3 18 rfl rfl)
theorem dX22_command_113 : decode cX22_command 113 = .ok (.ifCond .eq 51, 3) := dk_153 0 51 (dk_at dksX22_command_3 21 rfl rfl)
theorem dX22_command_116 : decode cX22_command 116 = .ok (.iconst 1, 1) := dk_4 (dk_at dksX22_command_4 0 rfl rfl)
theorem dX22_command_117 : decode cX22_command 117 = .ok (.istore 4, 2) := dk_54 4 (dk_at dksX22_command_4 1 rfl rfl)
theorem dX22_command_119 : decode cX22_command 119 = .ok (.goto 45, 3) := dk_167 0 45 (dk_at dksX22_command_4 3 rfl rfl)
theorem dX22_command_122 : decode cX22_command 122 = .ok (.aload_n 3, 1) := dk_45 (dk_at dksX22_command_4 6 rfl rfl)
theorem dX22_command_123 : decode cX22_command 123 = .ok (.ldc 106, 2) := dk_18 106 (dk_at dksX22_command_4 7 rfl rfl)
theorem dX22_command_125 : decode cX22_command 125 = .ok (.invokevirtual 90, 3) := dk_182 0 90 (dk_at dksX22_command_4 9 rfl rfl)
theorem dX22_command_128 : decode cX22_command 128 = .ok (.ifCond .eq 36, 3) := dk_153 0 36 (dk_at dksX22_command_4 12 rfl rfl)
theorem dX22_command_131 : decode cX22_command 131 = .ok (.iconst 2, 1) := dk_5 (dk_at dksX22_command_4 15 rfl rfl)
theorem dX22_command_132 : decode cX22_command 132 = .ok (.istore 4, 2) := dk_54 4 (dk_at dksX22_command_4 16 rfl rfl)
theorem dX22_command_134 : decode cX22_command 134 = .ok (.goto 30, 3) := dk_167 0 30 (dk_at dksX22_command_4 18 rfl rfl)
theorem dX22_command_137 : decode cX22_command 137 = .ok (.aload_n 3, 1) := dk_45 (dk_at dksX22_command_4 21 rfl rfl)
theorem dX22_command_138 : decode cX22_command 138 = .ok (.ldc 108, 2) := dk_18 108 (dk_at dksX22_command_4 22 rfl rfl)
theorem dX22_command_140 : decode cX22_command 140 = .ok (.invokevirtual 90, 3) := dk_182 0 90 (dk_at dksX22_command_5 0 rfl rfl)
theorem dX22_command_143 : decode cX22_command 143 = .ok (.ifCond .eq 21, 3) := dk_153 0 21 (dk_at dksX22_command_5 3 rfl rfl)
theorem dX22_command_146 : decode cX22_command 146 = .ok (.iconst 3, 1) := dk_6 (dk_at dksX22_command_5 6 rfl rfl)
theorem dX22_command_147 : decode cX22_command 147 = .ok (.istore 4, 2) := dk_54 4 (dk_at dksX22_command_5 7 rfl rfl)
theorem dX22_command_149 : decode cX22_command 149 = .ok (.goto 15, 3) := dk_167 0 15 (dk_at dksX22_command_5 9 rfl rfl)
theorem dX22_command_152 : decode cX22_command 152 = .ok (.aload_n 3, 1) := dk_45 (dk_at dksX22_command_5 12 rfl rfl)
theorem dX22_command_153 : decode cX22_command 153 = .ok (.ldc 110, 2) := dk_18 110 (dk_at dksX22_command_5 13 rfl rfl)
theorem dX22_command_155 : decode cX22_command 155 = .ok (.invokevirtual 90, 3) := dk_182 0 90 (dk_at dksX22_command_5 15 rfl rfl)
theorem dX22_command_158 : decode cX22_command 158 = .ok (.ifCond .eq 6, 3) := dk_153 0 6 (dk_at dksX22_command_5 18 rfl rfl)
theorem dX22_command_161 : decode cX22_command 161 = .ok (.iconst 4, 1) := dk_7 (dk_at dksX22_command_5 21 rfl rfl)
theorem dX22_command_162 : decode cX22_command 162 = .ok (.istore 4, 2) := dk_54 4 (dk_at dksX22_command_5 22 rfl rfl)
theorem dX22_command_164 : decode cX22_command 164 = .ok (.iload 4, 2) := dk_21 4 (dk_at dksX22_command_6 0 rfl rfl)
theorem dX22_command_166 : decode cX22_command 166 = .ok (.tableswitch 159 0 4 #[34, 65, 81, 105, 136], 34) := by decide +kernel
theorem dX22_command_200 : decode cX22_command 200 = .ok (.aload_n 0, 1) := dk_42 (dk_at dksX22_command_8 0 rfl rfl)
theorem dX22_command_201 : decode cX22_command 201 = .ok (.ldc 112, 2) := dk_18 112 (dk_at dksX22_command_8 1 rfl rfl)
theorem dX22_command_203 : decode cX22_command 203 = .ok (.invokevirtual 50, 3) := dk_182 0 50 (dk_at dksX22_command_8 3 rfl rfl)
theorem dX22_command_206 : decode cX22_command 206 = .ok (.istore 5, 2) := dk_54 5 (dk_at dksX22_command_8 6 rfl rfl)
theorem dX22_command_208 : decode cX22_command 208 = .ok (.aload_n 0, 1) := dk_42 (dk_at dksX22_command_8 8 rfl rfl)
theorem dX22_command_209 : decode cX22_command 209 = .ok (.invokevirtual 54, 3) := dk_182 0 54 (dk_at dksX22_command_8 9 rfl rfl)
theorem dX22_command_212 : decode cX22_command 212 = .ok (.istore 6, 2) := dk_54 6 (dk_at dksX22_command_8 12 rfl rfl)
theorem dX22_command_214 : decode cX22_command 214 = .ok (.new 94, 3) := dk_187 0 94 (dk_at dksX22_command_8 14 rfl rfl)
theorem dX22_command_217 : decode cX22_command 217 = .ok (.dup, 1) := dk_89 (dk_at dksX22_command_8 17 rfl rfl)
theorem dX22_command_218 : decode cX22_command 218 = .ok (.aload_n 1, 1) := dk_43 (dk_at dksX22_command_8 18 rfl rfl)
theorem dX22_command_219 : decode cX22_command 219 = .ok (.iload 5, 2) := dk_21 5 (dk_at dksX22_command_8 19 rfl rfl)
theorem dX22_command_221 : decode cX22_command 221 = .ok (.iload 6, 2) := dk_21 6 (dk_at dksX22_command_8 21 rfl rfl)
theorem dX22_command_223 : decode cX22_command 223 = .ok (.aload_n 0, 1) := dk_42 (dk_at dksX22_command_8 23 rfl rfl)
theorem dX22_command_224 : decode cX22_command 224 = .ok (.invokevirtual 114, 3) := dk_182 0 114 (dk_at dksX22_command_9 0 rfl rfl)
theorem dX22_command_227 : decode cX22_command 227 = .ok (.invokespecial 96, 3) := dk_183 0 96 (dk_at dksX22_command_9 3 rfl rfl)
theorem dX22_command_230 : decode cX22_command 230 = .ok (.areturn, 1) := dk_176 (dk_at dksX22_command_9 6 rfl rfl)
theorem dX22_command_231 : decode cX22_command 231 = .ok (.new 94, 3) := dk_187 0 94 (dk_at dksX22_command_9 7 rfl rfl)
theorem dX22_command_234 : decode cX22_command 234 = .ok (.dup, 1) := dk_89 (dk_at dksX22_command_9 10 rfl rfl)
theorem dX22_command_235 : decode cX22_command 235 = .ok (.aload_n 1, 1) := dk_43 (dk_at dksX22_command_9 11 rfl rfl)
theorem dX22_command_236 : decode cX22_command 236 = .ok (.bipush 32, 2) := dk_16 32 (dk_at dksX22_command_9 12 rfl rfl)
theorem dX22_command_238 : decode cX22_command 238 = .ok (.aload_n 0, 1) := dk_42 (dk_at dksX22_command_9 14 rfl rfl)
theorem dX22_command_239 : decode cX22_command 239 = .ok (.invokevirtual 59, 3) := dk_182 0 59 (dk_at dksX22_command_9 15 rfl rfl)
theorem dX22_command_242 : decode cX22_command 242 = .ok (.iconst 0, 1) := dk_3 (dk_at dksX22_command_9 18 rfl rfl)
theorem dX22_command_243 : decode cX22_command 243 = .ok (.invokespecial 96, 3) := dk_183 0 96 (dk_at dksX22_command_9 19 rfl rfl)
theorem dX22_command_246 : decode cX22_command 246 = .ok (.areturn, 1) := dk_176 (dk_at dksX22_command_9 22 rfl rfl)
theorem dX22_command_247 : decode cX22_command 247 = .ok (.aload_n 0, 1) := dk_42 (dk_at dksX22_command_9 23 rfl rfl)
theorem dX22_command_248 : decode cX22_command 248 = .ok (.ldc 117, 2) := dk_18 117 (dk_at dksX22_command_10 0 rfl rfl)
theorem dX22_command_250 : decode cX22_command 250 = .ok (.invokevirtual 50, 3) := dk_182 0 50 (dk_at dksX22_command_10 2 rfl rfl)
theorem dX22_command_253 : decode cX22_command 253 = .ok (.istore 5, 2) := dk_54 5 (dk_at dksX22_command_10 5 rfl rfl)
theorem dX22_command_255 : decode cX22_command 255 = .ok (.new 94, 3) := dk_187 0 94 (dk_at dksX22_command_10 7 rfl rfl)
theorem dX22_command_258 : decode cX22_command 258 = .ok (.dup, 1) := dk_89 (dk_at dksX22_command_10 10 rfl rfl)
theorem dX22_command_259 : decode cX22_command 259 = .ok (.aload_n 1, 1) := dk_43 (dk_at dksX22_command_10 11 rfl rfl)
theorem dX22_command_260 : decode cX22_command 260 = .ok (.iload 5, 2) := dk_21 5 (dk_at dksX22_command_10 12 rfl rfl)
theorem dX22_command_262 : decode cX22_command 262 = .ok (.aload_n 0, 1) := dk_42 (dk_at dksX22_command_10 14 rfl rfl)
theorem dX22_command_263 : decode cX22_command 263 = .ok (.invokevirtual 59, 3) := dk_182 0 59 (dk_at dksX22_command_10 15 rfl rfl)
theorem dX22_command_266 : decode cX22_command 266 = .ok (.iconst 0, 1) := dk_3 (dk_at dksX22_command_10 18 rfl rfl)
theorem dX22_command_267 : decode cX22_command 267 = .ok (.invokespecial 96, 3) := dk_183 0 96 (dk_at dksX22_command_10 19 rfl rfl)
theorem dX22_command_270 : decode cX22_command 270 = .ok (.areturn, 1) := dk_176 (dk_at dksX22_command_10 22 rfl rfl)
theorem dX22_command_271 : decode cX22_command 271 = .ok (.aload_n 0, 1) := dk_42 (dk_at dksX22_command_10 23 rfl rfl)
theorem dX22_command_272 : decode cX22_command 272 = .ok (.invokevirtual 54, 3) := dk_182 0 54 (dk_at dksX22_command_11 0 rfl rfl)
theorem dX22_command_275 : decode cX22_command 275 = .ok (.istore 5, 2) := dk_54 5 (dk_at dksX22_command_11 3 rfl rfl)
theorem dX22_command_277 : decode cX22_command 277 = .ok (.aload_n 0, 1) := dk_42 (dk_at dksX22_command_11 5 rfl rfl)
theorem dX22_command_278 : decode cX22_command 278 = .ok (.ldc 119, 2) := dk_18 119 (dk_at dksX22_command_11 6 rfl rfl)
theorem dX22_command_280 : decode cX22_command 280 = .ok (.invokevirtual 50, 3) := dk_182 0 50 (dk_at dksX22_command_11 8 rfl rfl)
theorem dX22_command_283 : decode cX22_command 283 = .ok (.istore 6, 2) := dk_54 6 (dk_at dksX22_command_11 11 rfl rfl)
theorem dX22_command_285 : decode cX22_command 285 = .ok (.new 94, 3) := dk_187 0 94 (dk_at dksX22_command_11 13 rfl rfl)
theorem dX22_command_288 : decode cX22_command 288 = .ok (.dup, 1) := dk_89 (dk_at dksX22_command_11 16 rfl rfl)
theorem dX22_command_289 : decode cX22_command 289 = .ok (.aload_n 1, 1) := dk_43 (dk_at dksX22_command_11 17 rfl rfl)
theorem dX22_command_290 : decode cX22_command 290 = .ok (.iload 6, 2) := dk_21 6 (dk_at dksX22_command_11 18 rfl rfl)
theorem dX22_command_292 : decode cX22_command 292 = .ok (.iload 5, 2) := dk_21 5 (dk_at dksX22_command_11 20 rfl rfl)
theorem dX22_command_294 : decode cX22_command 294 = .ok (.aload_n 0, 1) := dk_42 (dk_at dksX22_command_11 22 rfl rfl)
theorem dX22_command_295 : decode cX22_command 295 = .ok (.invokevirtual 54, 3) := dk_182 0 54 (dk_at dksX22_command_12 0 rfl rfl)
theorem dX22_command_298 : decode cX22_command 298 = .ok (.invokespecial 96, 3) := dk_183 0 96 (dk_at dksX22_command_12 3 rfl rfl)
theorem dX22_command_301 : decode cX22_command 301 = .ok (.areturn, 1) := dk_176 (dk_at dksX22_command_12 6 rfl rfl)
theorem dX22_command_302 : decode cX22_command 302 = .ok (.aload_n 0, 1) := dk_42 (dk_at dksX22_command_12 7 rfl rfl)
theorem dX22_command_303 : decode cX22_command 303 = .ok (.invokevirtual 54, 3) := dk_182 0 54 (dk_at dksX22_command_12 8 rfl rfl)
theorem dX22_command_306 : decode cX22_command 306 = .ok (.istore 5, 2) := dk_54 5 (dk_at dksX22_command_12 11 rfl rfl)
theorem dX22_command_308 : decode cX22_command 308 = .ok (.new 94, 3) := dk_187 0 94 (dk_at dksX22_command_12 13 rfl rfl)
theorem dX22_command_311 : decode cX22_command 311 = .ok (.dup, 1) := dk_89 (dk_at dksX22_command_12 16 rfl rfl)
theorem dX22_command_312 : decode cX22_command 312 = .ok (.aload_n 1, 1) := dk_43 (dk_at dksX22_command_12 17 rfl rfl)
theorem dX22_command_313 : decode cX22_command 313 = .ok (.bipush 32, 2) := dk_16 32 (dk_at dksX22_command_12 18 rfl rfl)
theorem dX22_command_315 : decode cX22_command 315 = .ok (.iload 5, 2) := dk_21 5 (dk_at dksX22_command_12 20 rfl rfl)
theorem dX22_command_317 : decode cX22_command 317 = .ok (.aload_n 0, 1) := dk_42 (dk_at dksX22_command_12 22 rfl rfl)
theorem dX22_command_318 : decode cX22_command 318 = .ok (.invokevirtual 114, 3) := dk_182 0 114 (dk_at dksX22_command_13 0 rfl rfl)
theorem dX22_command_321 : decode cX22_command 321 = .ok (.invokespecial 96, 3) := dk_183 0 96 (dk_at dksX22_command_13 3 rfl rfl)
theorem dX22_command_324 : decode cX22_command 324 = .ok (.areturn, 1) := dk_176 (dk_at dksX22_command_13 6 rfl rfl)
theorem dX22_command_325 : decode cX22_command 325 = .ok (.new 94, 3) := dk_187 0 94 (dk_at dksX22_command_13 7 rfl rfl)
theorem dX22_command_328 : decode cX22_command 328 = .ok (.dup, 1) := dk_89 (dk_at dksX22_command_13 10 rfl rfl)
theorem dX22_command_329 : decode cX22_command 329 = .ok (.aload_n 1, 1) := dk_43 (dk_at dksX22_command_13 11 rfl rfl)
theorem dX22_command_330 : decode cX22_command 330 = .ok (.bipush 32, 2) := dk_16 32 (dk_at dksX22_command_13 12 rfl rfl)
theorem dX22_command_332 : decode cX22_command 332 = .ok (.aload_n 0, 1) := dk_42 (dk_at dksX22_command_13 14 rfl rfl)
theorem dX22_command_333 : decode cX22_command 333 = .ok (.invokevirtual 54, 3) := dk_182 0 54 (dk_at dksX22_command_13 15 rfl rfl)
theorem dX22_command_336 : decode cX22_command 336 = .ok (.iconst 0, 1) := dk_3 (dk_at dksX22_command_13 18 rfl rfl)
theorem dX22_command_337 : decode cX22_command 337 = .ok (.invokespecial 96, 3) := dk_183 0 96 (dk_at dksX22_command_13 19 rfl rfl)
theorem dX22_command_340 : decode cX22_command 340 = .ok (.areturn, 1) := dk_176 (dk_at dksX22_command_13 22 rfl rfl)
abbrev cX22_word : ByteArray := prog_16_method_7_code
def yX22_word : MethodName := ⟨RX22, "word", "()Ljava/lang/String;"⟩
def dkwX22_word_5 : List UInt8 := [44, 182, 0, 50, 182, 0, 78, 182, 0, 71, 78, 167, 255, 137, 45, 4, 182, 0, 81, 176]
abbrev dktX22_word_5 : List UInt8 := dkwX22_word_5 ++ []
def dkwX22_word_4 : List UInt8 := [187, 0, 43, 89, 42, 180, 0, 13, 183, 0, 45, 191, 187, 0, 24, 89, 183, 0, 66, 45, 182, 0, 67, 42]
abbrev dktX22_word_4 : List UInt8 := dkwX22_word_4 ++ dktX22_word_5
def dkwX22_word_3 : List UInt8 := [182, 0, 78, 182, 0, 71, 182, 0, 75, 155, 0, 7, 4, 167, 0, 4, 3, 54, 4, 21, 4, 154, 0, 15]
abbrev dktX22_word_3 : List UInt8 := dkwX22_word_3 ++ dktX22_word_4
def dkwX22_word_2 : List UInt8 := [89, 183, 0, 66, 45, 182, 0, 67, 42, 180, 0, 1, 180, 0, 17, 42, 180, 0, 13, 182, 0, 29]
abbrev dktX22_word_2 : List UInt8 := dkwX22_word_2 ++ dktX22_word_3
def dkwX22_word_1 : List UInt8 := [182, 0, 67, 182, 0, 71, 182, 0, 75, 156, 0, 99, 42, 44, 182, 0, 39, 153, 0, 45, 43, 187, 0, 24]
abbrev dktX22_word_1 : List UInt8 := dkwX22_word_1 ++ dktX22_word_2
def dkwX22_word_0 : List UInt8 := [18, 62, 76, 18, 64, 77, 18, 57, 78, 43, 187, 0, 24, 89, 183, 0, 66, 45, 182, 0, 67, 18, 57]
abbrev dktX22_word_0 : List UInt8 := dkwX22_word_0 ++ dktX22_word_1
theorem dksX22_word_0 : cX22_word.data.toList.drop 0 = dktX22_word_0 := by decide +kernel
theorem dksX22_word_1 : cX22_word.data.toList.drop 23 = dktX22_word_1 := dk_seg dksX22_word_0 23 rfl rfl
theorem dksX22_word_2 : cX22_word.data.toList.drop 47 = dktX22_word_2 := dk_seg dksX22_word_1 24 rfl rfl
theorem dksX22_word_3 : cX22_word.data.toList.drop 69 = dktX22_word_3 := dk_seg dksX22_word_2 22 rfl rfl
theorem dksX22_word_4 : cX22_word.data.toList.drop 93 = dktX22_word_4 := dk_seg dksX22_word_3 24 rfl rfl
theorem dksX22_word_5 : cX22_word.data.toList.drop 117 = dktX22_word_5 := dk_seg dksX22_word_4 24 rfl rfl
theorem dX22_word_0 : decode cX22_word 0 = .ok (.ldc 62, 2) := dk_18 62 (dk_at dksX22_word_0 0 rfl rfl)
theorem dX22_word_2 : decode cX22_word 2 = .ok (.astore_n 1, 1) := dk_76 (dk_at dksX22_word_0 2 rfl rfl)
theorem dX22_word_3 : decode cX22_word 3 = .ok (.ldc 64, 2) := dk_18 64 (dk_at dksX22_word_0 3 rfl rfl)
theorem dX22_word_5 : decode cX22_word 5 = .ok (.astore_n 2, 1) := dk_77 (dk_at dksX22_word_0 5 rfl rfl)
theorem dX22_word_6 : decode cX22_word 6 = .ok (.ldc 57, 2) := dk_18 57 (dk_at dksX22_word_0 6 rfl rfl)
theorem dX22_word_8 : decode cX22_word 8 = .ok (.astore_n 3, 1) := dk_78 (dk_at dksX22_word_0 8 rfl rfl)
theorem dX22_word_9 : decode cX22_word 9 = .ok (.aload_n 1, 1) := dk_43 (dk_at dksX22_word_0 9 rfl rfl)
theorem dX22_word_10 : decode cX22_word 10 = .ok (.new 24, 3) := dk_187 0 24 (dk_at dksX22_word_0 10 rfl rfl)
theorem dX22_word_13 : decode cX22_word 13 = .ok (.dup, 1) := dk_89 (dk_at dksX22_word_0 13 rfl rfl)
theorem dX22_word_14 : decode cX22_word 14 = .ok (.invokespecial 66, 3) := dk_183 0 66 (dk_at dksX22_word_0 14 rfl rfl)
theorem dX22_word_17 : decode cX22_word 17 = .ok (.aload_n 3, 1) := dk_45 (dk_at dksX22_word_0 17 rfl rfl)
theorem dX22_word_18 : decode cX22_word 18 = .ok (.invokevirtual 67, 3) := dk_182 0 67 (dk_at dksX22_word_0 18 rfl rfl)
theorem dX22_word_21 : decode cX22_word 21 = .ok (.ldc 57, 2) := dk_18 57 (dk_at dksX22_word_0 21 rfl rfl)
theorem dX22_word_23 : decode cX22_word 23 = .ok (.invokevirtual 67, 3) := dk_182 0 67 (dk_at dksX22_word_1 0 rfl rfl)
theorem dX22_word_26 : decode cX22_word 26 = .ok (.invokevirtual 71, 3) := dk_182 0 71 (dk_at dksX22_word_1 3 rfl rfl)
theorem dX22_word_29 : decode cX22_word 29 = .ok (.invokevirtual 75, 3) := dk_182 0 75 (dk_at dksX22_word_1 6 rfl rfl)
theorem dX22_word_32 : decode cX22_word 32 = .ok (.ifCond .ge 99, 3) := dk_156 0 99 (dk_at dksX22_word_1 9 rfl rfl)
theorem dX22_word_35 : decode cX22_word 35 = .ok (.aload_n 0, 1) := dk_42 (dk_at dksX22_word_1 12 rfl rfl)
theorem dX22_word_36 : decode cX22_word 36 = .ok (.aload_n 2, 1) := dk_44 (dk_at dksX22_word_1 13 rfl rfl)
theorem dX22_word_37 : decode cX22_word 37 = .ok (.invokevirtual 39, 3) := dk_182 0 39 (dk_at dksX22_word_1 14 rfl rfl)
theorem dX22_word_40 : decode cX22_word 40 = .ok (.ifCond .eq 45, 3) := dk_153 0 45 (dk_at dksX22_word_1 17 rfl rfl)
theorem dX22_word_43 : decode cX22_word 43 = .ok (.aload_n 1, 1) := dk_43 (dk_at dksX22_word_1 20 rfl rfl)
theorem dX22_word_44 : decode cX22_word 44 = .ok (.new 24, 3) := dk_187 0 24 (dk_at dksX22_word_1 21 rfl rfl)
theorem dX22_word_47 : decode cX22_word 47 = .ok (.dup, 1) := dk_89 (dk_at dksX22_word_2 0 rfl rfl)
theorem dX22_word_48 : decode cX22_word 48 = .ok (.invokespecial 66, 3) := dk_183 0 66 (dk_at dksX22_word_2 1 rfl rfl)
theorem dX22_word_51 : decode cX22_word 51 = .ok (.aload_n 3, 1) := dk_45 (dk_at dksX22_word_2 4 rfl rfl)
theorem dX22_word_52 : decode cX22_word 52 = .ok (.invokevirtual 67, 3) := dk_182 0 67 (dk_at dksX22_word_2 5 rfl rfl)
theorem dX22_word_55 : decode cX22_word 55 = .ok (.aload_n 0, 1) := dk_42 (dk_at dksX22_word_2 8 rfl rfl)
theorem dX22_word_56 : decode cX22_word 56 = .ok (.getfield 1, 3) := dk_180 0 1 (dk_at dksX22_word_2 9 rfl rfl)
theorem dX22_word_59 : decode cX22_word 59 = .ok (.getfield 17, 3) := dk_180 0 17 (dk_at dksX22_word_2 12 rfl rfl)
theorem dX22_word_62 : decode cX22_word 62 = .ok (.aload_n 0, 1) := dk_42 (dk_at dksX22_word_2 15 rfl rfl)
theorem dX22_word_63 : decode cX22_word 63 = .ok (.getfield 13, 3) := dk_180 0 13 (dk_at dksX22_word_2 16 rfl rfl)
theorem dX22_word_66 : decode cX22_word 66 = .ok (.invokevirtual 29, 3) := dk_182 0 29 (dk_at dksX22_word_2 19 rfl rfl)
theorem dX22_word_69 : decode cX22_word 69 = .ok (.invokevirtual 78, 3) := dk_182 0 78 (dk_at dksX22_word_3 0 rfl rfl)
theorem dX22_word_72 : decode cX22_word 72 = .ok (.invokevirtual 71, 3) := dk_182 0 71 (dk_at dksX22_word_3 3 rfl rfl)
theorem dX22_word_75 : decode cX22_word 75 = .ok (.invokevirtual 75, 3) := dk_182 0 75 (dk_at dksX22_word_3 6 rfl rfl)
theorem dX22_word_78 : decode cX22_word 78 = .ok (.ifCond .lt 7, 3) := dk_155 0 7 (dk_at dksX22_word_3 9 rfl rfl)
theorem dX22_word_81 : decode cX22_word 81 = .ok (.iconst 1, 1) := dk_4 (dk_at dksX22_word_3 12 rfl rfl)
theorem dX22_word_82 : decode cX22_word 82 = .ok (.goto 4, 3) := dk_167 0 4 (dk_at dksX22_word_3 13 rfl rfl)
theorem dX22_word_85 : decode cX22_word 85 = .ok (.iconst 0, 1) := dk_3 (dk_at dksX22_word_3 16 rfl rfl)
theorem dX22_word_86 : decode cX22_word 86 = .ok (.istore 4, 2) := dk_54 4 (dk_at dksX22_word_3 17 rfl rfl)
theorem dX22_word_88 : decode cX22_word 88 = .ok (.iload 4, 2) := dk_21 4 (dk_at dksX22_word_3 19 rfl rfl)
theorem dX22_word_90 : decode cX22_word 90 = .ok (.ifCond .ne 15, 3) := dk_154 0 15 (dk_at dksX22_word_3 21 rfl rfl)
theorem dX22_word_93 : decode cX22_word 93 = .ok (.new 43, 3) := dk_187 0 43 (dk_at dksX22_word_4 0 rfl rfl)
theorem dX22_word_96 : decode cX22_word 96 = .ok (.dup, 1) := dk_89 (dk_at dksX22_word_4 3 rfl rfl)
theorem dX22_word_97 : decode cX22_word 97 = .ok (.aload_n 0, 1) := dk_42 (dk_at dksX22_word_4 4 rfl rfl)
theorem dX22_word_98 : decode cX22_word 98 = .ok (.getfield 13, 3) := dk_180 0 13 (dk_at dksX22_word_4 5 rfl rfl)
theorem dX22_word_101 : decode cX22_word 101 = .ok (.invokespecial 45, 3) := dk_183 0 45 (dk_at dksX22_word_4 8 rfl rfl)
theorem dX22_word_104 : decode cX22_word 104 = .ok (.athrow, 1) := dk_191 (dk_at dksX22_word_4 11 rfl rfl)
theorem dX22_word_105 : decode cX22_word 105 = .ok (.new 24, 3) := dk_187 0 24 (dk_at dksX22_word_4 12 rfl rfl)
theorem dX22_word_108 : decode cX22_word 108 = .ok (.dup, 1) := dk_89 (dk_at dksX22_word_4 15 rfl rfl)
theorem dX22_word_109 : decode cX22_word 109 = .ok (.invokespecial 66, 3) := dk_183 0 66 (dk_at dksX22_word_4 16 rfl rfl)
theorem dX22_word_112 : decode cX22_word 112 = .ok (.aload_n 3, 1) := dk_45 (dk_at dksX22_word_4 19 rfl rfl)
theorem dX22_word_113 : decode cX22_word 113 = .ok (.invokevirtual 67, 3) := dk_182 0 67 (dk_at dksX22_word_4 20 rfl rfl)
theorem dX22_word_116 : decode cX22_word 116 = .ok (.aload_n 0, 1) := dk_42 (dk_at dksX22_word_4 23 rfl rfl)
theorem dX22_word_117 : decode cX22_word 117 = .ok (.aload_n 2, 1) := dk_44 (dk_at dksX22_word_5 0 rfl rfl)
theorem dX22_word_118 : decode cX22_word 118 = .ok (.invokevirtual 50, 3) := dk_182 0 50 (dk_at dksX22_word_5 1 rfl rfl)
theorem dX22_word_121 : decode cX22_word 121 = .ok (.invokevirtual 78, 3) := dk_182 0 78 (dk_at dksX22_word_5 4 rfl rfl)
theorem dX22_word_124 : decode cX22_word 124 = .ok (.invokevirtual 71, 3) := dk_182 0 71 (dk_at dksX22_word_5 7 rfl rfl)
theorem dX22_word_127 : decode cX22_word 127 = .ok (.astore_n 3, 1) := dk_78 (dk_at dksX22_word_5 10 rfl rfl)
theorem dX22_word_128 : decode cX22_word 128 = .ok (.goto (-119), 3) := dk_167 255 137 (dk_at dksX22_word_5 11 rfl rfl)
theorem dX22_word_131 : decode cX22_word 131 = .ok (.aload_n 3, 1) := dk_45 (dk_at dksX22_word_5 14 rfl rfl)
theorem dX22_word_132 : decode cX22_word 132 = .ok (.iconst 1, 1) := dk_4 (dk_at dksX22_word_5 15 rfl rfl)
theorem dX22_word_133 : decode cX22_word 133 = .ok (.invokevirtual 81, 3) := dk_182 0 81 (dk_at dksX22_word_5 16 rfl rfl)
theorem dX22_word_136 : decode cX22_word 136 = .ok (.areturn, 1) := dk_176 (dk_at dksX22_word_5 19 rfl rfl)
abbrev cX22_isAt : ByteArray := prog_16_method_2_code
def yX22_isAt : MethodName := ⟨RX22, "isAt", "(Ljava/lang/String;)Z"⟩
def dkwX22_isAt_1 : List UInt8 := [180, 0, 17, 42, 180, 0, 13, 182, 0, 29, 182, 0, 33, 155, 0, 7, 4, 167, 0, 4, 3, 172]
abbrev dktX22_isAt_1 : List UInt8 := dkwX22_isAt_1 ++ []
def dkwX22_isAt_0 : List UInt8 := [42, 180, 0, 13, 42, 180, 0, 1, 180, 0, 17, 182, 0, 23, 162, 0, 28, 43, 42, 180, 0, 1]
abbrev dktX22_isAt_0 : List UInt8 := dkwX22_isAt_0 ++ dktX22_isAt_1
theorem dksX22_isAt_0 : cX22_isAt.data.toList.drop 0 = dktX22_isAt_0 := by decide +kernel
theorem dksX22_isAt_1 : cX22_isAt.data.toList.drop 22 = dktX22_isAt_1 := dk_seg dksX22_isAt_0 22 rfl rfl
theorem dX22_isAt_0 : decode cX22_isAt 0 = .ok (.aload_n 0, 1) := dk_42 (dk_at dksX22_isAt_0 0 rfl rfl)
theorem dX22_isAt_1 : decode cX22_isAt 1 = .ok (.getfield 13, 3) := dk_180 0 13 (dk_at dksX22_isAt_0 1 rfl rfl)
theorem dX22_isAt_4 : decode cX22_isAt 4 = .ok (.aload_n 0, 1) := dk_42 (dk_at dksX22_isAt_0 4 rfl rfl)
theorem dX22_isAt_5 : decode cX22_isAt 5 = .ok (.getfield 1, 3) := dk_180 0 1 (dk_at dksX22_isAt_0 5 rfl rfl)
theorem dX22_isAt_8 : decode cX22_isAt 8 = .ok (.getfield 17, 3) := dk_180 0 17 (dk_at dksX22_isAt_0 8 rfl rfl)
theorem dX22_isAt_11 : decode cX22_isAt 11 = .ok (.invokevirtual 23, 3) := dk_182 0 23 (dk_at dksX22_isAt_0 11 rfl rfl)
theorem dX22_isAt_14 : decode cX22_isAt 14 = .ok (.if_icmp .ge 28, 3) := dk_162 0 28 (dk_at dksX22_isAt_0 14 rfl rfl)
theorem dX22_isAt_17 : decode cX22_isAt 17 = .ok (.aload_n 1, 1) := dk_43 (dk_at dksX22_isAt_0 17 rfl rfl)
theorem dX22_isAt_18 : decode cX22_isAt 18 = .ok (.aload_n 0, 1) := dk_42 (dk_at dksX22_isAt_0 18 rfl rfl)
theorem dX22_isAt_19 : decode cX22_isAt 19 = .ok (.getfield 1, 3) := dk_180 0 1 (dk_at dksX22_isAt_0 19 rfl rfl)
theorem dX22_isAt_22 : decode cX22_isAt 22 = .ok (.getfield 17, 3) := dk_180 0 17 (dk_at dksX22_isAt_1 0 rfl rfl)
theorem dX22_isAt_25 : decode cX22_isAt 25 = .ok (.aload_n 0, 1) := dk_42 (dk_at dksX22_isAt_1 3 rfl rfl)
theorem dX22_isAt_26 : decode cX22_isAt 26 = .ok (.getfield 13, 3) := dk_180 0 13 (dk_at dksX22_isAt_1 4 rfl rfl)
theorem dX22_isAt_29 : decode cX22_isAt 29 = .ok (.invokevirtual 29, 3) := dk_182 0 29 (dk_at dksX22_isAt_1 7 rfl rfl)
theorem dX22_isAt_32 : decode cX22_isAt 32 = .ok (.invokevirtual 33, 3) := dk_182 0 33 (dk_at dksX22_isAt_1 10 rfl rfl)
theorem dX22_isAt_35 : decode cX22_isAt 35 = .ok (.ifCond .lt 7, 3) := dk_155 0 7 (dk_at dksX22_isAt_1 13 rfl rfl)
theorem dX22_isAt_38 : decode cX22_isAt 38 = .ok (.iconst 1, 1) := dk_4 (dk_at dksX22_isAt_1 16 rfl rfl)
theorem dX22_isAt_39 : decode cX22_isAt 39 = .ok (.goto 4, 3) := dk_167 0 4 (dk_at dksX22_isAt_1 17 rfl rfl)
theorem dX22_isAt_42 : decode cX22_isAt 42 = .ok (.iconst 0, 1) := dk_3 (dk_at dksX22_isAt_1 20 rfl rfl)
theorem dX22_isAt_43 : decode cX22_isAt 43 = .ok (.ireturn, 1) := dk_172 (dk_at dksX22_isAt_1 21 rfl rfl)
abbrev cX22_take : ByteArray := prog_16_method_3_code
def yX22_take : MethodName := ⟨RX22, "take", "(Ljava/lang/String;)C"⟩
def dkwX22_take_2 : List UInt8 := [172]
abbrev dktX22_take_2 : List UInt8 := dkwX22_take_2 ++ []
def dkwX22_take_1 : List UInt8 := [180, 0, 13, 4, 96, 181, 0, 13, 42, 180, 0, 1, 180, 0, 17, 42, 180, 0, 13, 4, 100, 182, 0, 29]
abbrev dktX22_take_1 : List UInt8 := dkwX22_take_1 ++ dktX22_take_2
def dkwX22_take_0 : List UInt8 := [42, 43, 182, 0, 39, 154, 0, 15, 187, 0, 43, 89, 42, 180, 0, 13, 183, 0, 45, 191, 42, 89]
abbrev dktX22_take_0 : List UInt8 := dkwX22_take_0 ++ dktX22_take_1
theorem dksX22_take_0 : cX22_take.data.toList.drop 0 = dktX22_take_0 := by decide +kernel
theorem dksX22_take_1 : cX22_take.data.toList.drop 22 = dktX22_take_1 := dk_seg dksX22_take_0 22 rfl rfl
theorem dksX22_take_2 : cX22_take.data.toList.drop 46 = dktX22_take_2 := dk_seg dksX22_take_1 24 rfl rfl
theorem dX22_take_0 : decode cX22_take 0 = .ok (.aload_n 0, 1) := dk_42 (dk_at dksX22_take_0 0 rfl rfl)
theorem dX22_take_1 : decode cX22_take 1 = .ok (.aload_n 1, 1) := dk_43 (dk_at dksX22_take_0 1 rfl rfl)
theorem dX22_take_2 : decode cX22_take 2 = .ok (.invokevirtual 39, 3) := dk_182 0 39 (dk_at dksX22_take_0 2 rfl rfl)
theorem dX22_take_5 : decode cX22_take 5 = .ok (.ifCond .ne 15, 3) := dk_154 0 15 (dk_at dksX22_take_0 5 rfl rfl)
theorem dX22_take_8 : decode cX22_take 8 = .ok (.new 43, 3) := dk_187 0 43 (dk_at dksX22_take_0 8 rfl rfl)
theorem dX22_take_11 : decode cX22_take 11 = .ok (.dup, 1) := dk_89 (dk_at dksX22_take_0 11 rfl rfl)
theorem dX22_take_12 : decode cX22_take 12 = .ok (.aload_n 0, 1) := dk_42 (dk_at dksX22_take_0 12 rfl rfl)
theorem dX22_take_13 : decode cX22_take 13 = .ok (.getfield 13, 3) := dk_180 0 13 (dk_at dksX22_take_0 13 rfl rfl)
theorem dX22_take_16 : decode cX22_take 16 = .ok (.invokespecial 45, 3) := dk_183 0 45 (dk_at dksX22_take_0 16 rfl rfl)
theorem dX22_take_19 : decode cX22_take 19 = .ok (.athrow, 1) := dk_191 (dk_at dksX22_take_0 19 rfl rfl)
theorem dX22_take_20 : decode cX22_take 20 = .ok (.aload_n 0, 1) := dk_42 (dk_at dksX22_take_0 20 rfl rfl)
theorem dX22_take_21 : decode cX22_take 21 = .ok (.dup, 1) := dk_89 (dk_at dksX22_take_0 21 rfl rfl)
theorem dX22_take_22 : decode cX22_take 22 = .ok (.getfield 13, 3) := dk_180 0 13 (dk_at dksX22_take_1 0 rfl rfl)
theorem dX22_take_25 : decode cX22_take 25 = .ok (.iconst 1, 1) := dk_4 (dk_at dksX22_take_1 3 rfl rfl)
theorem dX22_take_26 : decode cX22_take 26 = .ok (.iadd, 1) := dk_96 (dk_at dksX22_take_1 4 rfl rfl)
theorem dX22_take_27 : decode cX22_take 27 = .ok (.putfield 13, 3) := dk_181 0 13 (dk_at dksX22_take_1 5 rfl rfl)
theorem dX22_take_30 : decode cX22_take 30 = .ok (.aload_n 0, 1) := dk_42 (dk_at dksX22_take_1 8 rfl rfl)
theorem dX22_take_31 : decode cX22_take 31 = .ok (.getfield 1, 3) := dk_180 0 1 (dk_at dksX22_take_1 9 rfl rfl)
theorem dX22_take_34 : decode cX22_take 34 = .ok (.getfield 17, 3) := dk_180 0 17 (dk_at dksX22_take_1 12 rfl rfl)
theorem dX22_take_37 : decode cX22_take 37 = .ok (.aload_n 0, 1) := dk_42 (dk_at dksX22_take_1 15 rfl rfl)
theorem dX22_take_38 : decode cX22_take 38 = .ok (.getfield 13, 3) := dk_180 0 13 (dk_at dksX22_take_1 16 rfl rfl)
theorem dX22_take_41 : decode cX22_take 41 = .ok (.iconst 1, 1) := dk_4 (dk_at dksX22_take_1 19 rfl rfl)
theorem dX22_take_42 : decode cX22_take 42 = .ok (.isub, 1) := dk_100 (dk_at dksX22_take_1 20 rfl rfl)
theorem dX22_take_43 : decode cX22_take 43 = .ok (.invokevirtual 29, 3) := dk_182 0 29 (dk_at dksX22_take_1 21 rfl rfl)
theorem dX22_take_46 : decode cX22_take 46 = .ok (.ireturn, 1) := dk_172 (dk_at dksX22_take_2 0 rfl rfl)
abbrev cX22_digit : ByteArray := prog_16_method_4_code
def yX22_digit : MethodName := ⟨RX22, "digit", "()I"⟩
def dkwX22_digit_0 : List UInt8 := [42, 18, 48, 182, 0, 50, 16, 48, 100, 172]
abbrev dktX22_digit_0 : List UInt8 := dkwX22_digit_0 ++ []
theorem dksX22_digit_0 : cX22_digit.data.toList.drop 0 = dktX22_digit_0 := by decide +kernel
theorem dX22_digit_0 : decode cX22_digit 0 = .ok (.aload_n 0, 1) := dk_42 (dk_at dksX22_digit_0 0 rfl rfl)
theorem dX22_digit_1 : decode cX22_digit 1 = .ok (.ldc 48, 2) := dk_18 48 (dk_at dksX22_digit_0 1 rfl rfl)
theorem dX22_digit_3 : decode cX22_digit 3 = .ok (.invokevirtual 50, 3) := dk_182 0 50 (dk_at dksX22_digit_0 3 rfl rfl)
theorem dX22_digit_6 : decode cX22_digit 6 = .ok (.bipush 48, 2) := dk_16 48 (dk_at dksX22_digit_0 6 rfl rfl)
theorem dX22_digit_8 : decode cX22_digit 8 = .ok (.isub, 1) := dk_100 (dk_at dksX22_digit_0 8 rfl rfl)
theorem dX22_digit_9 : decode cX22_digit 9 = .ok (.ireturn, 1) := dk_172 (dk_at dksX22_digit_0 9 rfl rfl)
abbrev cX22_numberAfterSpace : ByteArray := prog_16_method_6_code
def yX22_numberAfterSpace : MethodName := ⟨RX22, "numberAfterSpace", "()I"⟩
def dkwX22_numberAfterSpace_0 : List UInt8 := [42, 18, 57, 182, 0, 50, 60, 42, 182, 0, 59, 172]
abbrev dktX22_numberAfterSpace_0 : List UInt8 := dkwX22_numberAfterSpace_0 ++ []
theorem dksX22_numberAfterSpace_0 : cX22_numberAfterSpace.data.toList.drop 0 = dktX22_numberAfterSpace_0 := by decide +kernel
theorem dX22_numberAfterSpace_0 : decode cX22_numberAfterSpace 0 = .ok (.aload_n 0, 1) := dk_42 (dk_at dksX22_numberAfterSpace_0 0 rfl rfl)
theorem dX22_numberAfterSpace_1 : decode cX22_numberAfterSpace 1 = .ok (.ldc 57, 2) := dk_18 57 (dk_at dksX22_numberAfterSpace_0 1 rfl rfl)
theorem dX22_numberAfterSpace_3 : decode cX22_numberAfterSpace 3 = .ok (.invokevirtual 50, 3) := dk_182 0 50 (dk_at dksX22_numberAfterSpace_0 3 rfl rfl)
theorem dX22_numberAfterSpace_6 : decode cX22_numberAfterSpace 6 = .ok (.istore_n 1, 1) := dk_60 (dk_at dksX22_numberAfterSpace_0 6 rfl rfl)
theorem dX22_numberAfterSpace_7 : decode cX22_numberAfterSpace 7 = .ok (.aload_n 0, 1) := dk_42 (dk_at dksX22_numberAfterSpace_0 7 rfl rfl)
theorem dX22_numberAfterSpace_8 : decode cX22_numberAfterSpace 8 = .ok (.invokevirtual 59, 3) := dk_182 0 59 (dk_at dksX22_numberAfterSpace_0 8 rfl rfl)
theorem dX22_numberAfterSpace_11 : decode cX22_numberAfterSpace 11 = .ok (.ireturn, 1) := dk_172 (dk_at dksX22_numberAfterSpace_0 11 rfl rfl)
abbrev cX22_number : ByteArray := prog_16_method_5_code
def yX22_number : MethodName := ⟨RX22, "number", "()I"⟩
def dkwX22_number_1 : List UInt8 := [167, 0, 4, 27, 172]
abbrev dktX22_number_1 : List UInt8 := dkwX22_number_1 ++ []
def dkwX22_number_0 : List UInt8 := [42, 182, 0, 54, 60, 42, 18, 48, 182, 0, 39, 153, 0, 15, 16, 10, 27, 104, 42, 182, 0, 54, 96]
abbrev dktX22_number_0 : List UInt8 := dkwX22_number_0 ++ dktX22_number_1
theorem dksX22_number_0 : cX22_number.data.toList.drop 0 = dktX22_number_0 := by decide +kernel
theorem dksX22_number_1 : cX22_number.data.toList.drop 23 = dktX22_number_1 := dk_seg dksX22_number_0 23 rfl rfl
theorem dX22_number_0 : decode cX22_number 0 = .ok (.aload_n 0, 1) := dk_42 (dk_at dksX22_number_0 0 rfl rfl)
theorem dX22_number_1 : decode cX22_number 1 = .ok (.invokevirtual 54, 3) := dk_182 0 54 (dk_at dksX22_number_0 1 rfl rfl)
theorem dX22_number_4 : decode cX22_number 4 = .ok (.istore_n 1, 1) := dk_60 (dk_at dksX22_number_0 4 rfl rfl)
theorem dX22_number_5 : decode cX22_number 5 = .ok (.aload_n 0, 1) := dk_42 (dk_at dksX22_number_0 5 rfl rfl)
theorem dX22_number_6 : decode cX22_number 6 = .ok (.ldc 48, 2) := dk_18 48 (dk_at dksX22_number_0 6 rfl rfl)
theorem dX22_number_8 : decode cX22_number 8 = .ok (.invokevirtual 39, 3) := dk_182 0 39 (dk_at dksX22_number_0 8 rfl rfl)
theorem dX22_number_11 : decode cX22_number 11 = .ok (.ifCond .eq 15, 3) := dk_153 0 15 (dk_at dksX22_number_0 11 rfl rfl)
theorem dX22_number_14 : decode cX22_number 14 = .ok (.bipush 10, 2) := dk_16 10 (dk_at dksX22_number_0 14 rfl rfl)
theorem dX22_number_16 : decode cX22_number 16 = .ok (.iload_n 1, 1) := dk_27 (dk_at dksX22_number_0 16 rfl rfl)
theorem dX22_number_17 : decode cX22_number 17 = .ok (.imul, 1) := dk_104 (dk_at dksX22_number_0 17 rfl rfl)
theorem dX22_number_18 : decode cX22_number 18 = .ok (.aload_n 0, 1) := dk_42 (dk_at dksX22_number_0 18 rfl rfl)
theorem dX22_number_19 : decode cX22_number 19 = .ok (.invokevirtual 54, 3) := dk_182 0 54 (dk_at dksX22_number_0 19 rfl rfl)
theorem dX22_number_22 : decode cX22_number 22 = .ok (.iadd, 1) := dk_96 (dk_at dksX22_number_0 22 rfl rfl)
theorem dX22_number_23 : decode cX22_number 23 = .ok (.goto 4, 3) := dk_167 0 4 (dk_at dksX22_number_1 0 rfl rfl)
theorem dX22_number_26 : decode cX22_number 26 = .ok (.iload_n 1, 1) := dk_27 (dk_at dksX22_number_1 3 rfl rfl)
theorem dX22_number_27 : decode cX22_number 27 = .ok (.ireturn, 1) := dk_172 (dk_at dksX22_number_1 4 rfl rfl)
theorem q146 : (Jvm.Cond.initialized "WeirfoldLane$Parser") ∈ lw_all := lw_g (lw_at lw_m1 53 rfl) rfl
theorem q288 : (Jvm.Cond.fieldLinkNest "WeirfoldLane$Parser" (17 : Nat) "WeirfoldLane" "buffer" "Ljava/lang/StringBuilder;" "WeirfoldLane") ∈ lw_tbl := lw_at lw_m1 195 rfl
theorem q524 : (Jvm.Cond.selects "WeirfoldLane$Parser" ({ cls := "java/lang/Object", name := "getClass", desc := "()Ljava/lang/Class;" } : Jvm.MethodName) ({ cls := "java/lang/Object", name := "getClass", desc := "()Ljava/lang/Class;" } : Jvm.MethodName)) ∈ lw_all := lw_g (lw_at lw_m2 191 rfl) rfl
theorem q634 : (Jvm.Cond.selects "WeirfoldLane$Parser" ({ cls := "java/lang/Object", name := "equals", desc := "(Ljava/lang/Object;)Z" } : Jvm.MethodName) ({ cls := "java/lang/Object", name := "equals", desc := "(Ljava/lang/Object;)Z" } : Jvm.MethodName)) ∈ lw_all := lw_g (lw_at lw_m3 61 rfl) rfl
theorem q2258 : (Jvm.Cond.instantiable "WeirfoldLane$Parser" (2 : Nat)) ∈ lw_all := lw_g (lw_at lw_m10 5 rfl) rfl
theorem q2260 : (Jvm.Cond.instanceMethod ({ cls := "WeirfoldLane$Parser", name := "<init>", desc := "(LWeirfoldLane;)V" } : Jvm.MethodName)) ∈ lw_all := lw_g (lw_at lw_m10 7 rfl) rfl
theorem q2261 : (Jvm.Cond.code ({ cls := "WeirfoldLane$Parser", name := "<init>", desc := "(LWeirfoldLane;)V" } : Jvm.MethodName) prog_16_method_1_code (2 : Nat) (Option.none : Option Jvm.ClassFile.FieldType)) ∈ lw_all := lw_g (lw_at lw_m10 8 rfl) rfl
theorem q2262 : (Jvm.Cond.methodLink "WeirfoldLane$Parser" (7 : Nat) ({ cls := "java/lang/Object", name := "<init>", desc := "()V" } : Jvm.MethodName)) ∈ lw_all := lw_g (lw_at lw_m10 9 rfl) rfl
theorem q2263 : (Jvm.Cond.fieldLink "WeirfoldLane$Parser" (13 : Nat) "WeirfoldLane$Parser" "position" "I") ∈ lw_all := lw_g (lw_at lw_m10 10 rfl) rfl
theorem q2264 : (Jvm.Cond.fieldLink "WeirfoldLane$Parser" (1 : Nat) "WeirfoldLane$Parser" "this$0" "LWeirfoldLane;") ∈ lw_all := lw_g (lw_at lw_m10 11 rfl) rfl
theorem q2265 : (Jvm.Cond.lays "WeirfoldLane$Parser" "WeirfoldLane$Parser" "position" "I") ∈ lw_all := lw_g (lw_at lw_m10 12 rfl) rfl
theorem q2266 : (Jvm.Cond.soleField "WeirfoldLane$Parser" "position") ∈ lw_all := lw_g (lw_at lw_m10 13 rfl) rfl
theorem q2267 : (Jvm.Cond.laysFinal "WeirfoldLane$Parser" "WeirfoldLane$Parser" "this$0" "LWeirfoldLane;") ∈ lw_all := lw_g (lw_at lw_m10 14 rfl) rfl
theorem q2268 : (Jvm.Cond.soleField "WeirfoldLane$Parser" "this$0") ∈ lw_all := lw_g (lw_at lw_m10 15 rfl) rfl
theorem q2269 : (Jvm.Cond.superclass "WeirfoldLane$Parser" "java/lang/Object") ∈ lw_all := lw_g (lw_at lw_m10 16 rfl) rfl
theorem q2271 : (Jvm.Cond.instanceMethod ({ cls := "WeirfoldLane$Parser", name := "text", desc := "()Ljava/util/List;" } : Jvm.MethodName)) ∈ lw_all := lw_g (lw_at lw_m10 18 rfl) rfl
theorem q2272 : (Jvm.Cond.selects "WeirfoldLane$Parser" ({ cls := "WeirfoldLane$Parser", name := "text", desc := "()Ljava/util/List;" } : Jvm.MethodName) ({ cls := "WeirfoldLane$Parser", name := "text", desc := "()Ljava/util/List;" } : Jvm.MethodName)) ∈ lw_all := lw_g (lw_at lw_m10 19 rfl) rfl
theorem q2273 : (Jvm.Cond.code ({ cls := "WeirfoldLane$Parser", name := "text", desc := "()Ljava/util/List;" } : Jvm.MethodName) prog_16_method_9_code (3 : Nat) (Option.some (Jvm.ClassFile.FieldType.object "java/util/List"))) ∈ lw_all := lw_g (lw_at lw_m10 20 rfl) rfl
theorem q2274 : (Jvm.Cond.classLink "WeirfoldLane$Parser" (121 : Nat) "java/util/ArrayList") ∈ lw_all := lw_g (lw_at lw_m10 21 rfl) rfl
theorem q2275 : (Jvm.Cond.methodLink "WeirfoldLane$Parser" (123 : Nat) ({ cls := "java/util/ArrayList", name := "<init>", desc := "()V" } : Jvm.MethodName)) ∈ lw_all := lw_g (lw_at lw_m10 22 rfl) rfl
theorem q2276 : (Jvm.Cond.methodLink "WeirfoldLane$Parser" (124 : Nat) ({ cls := "WeirfoldLane$Parser", name := "command", desc := "()LWeirfoldLane$Change;" } : Jvm.MethodName)) ∈ lw_all := lw_g (lw_at lw_m10 23 rfl) rfl
theorem q2277 : (Jvm.Cond.privateMethod ({ cls := "WeirfoldLane$Parser", name := "command", desc := "()LWeirfoldLane$Change;" } : Jvm.MethodName)) ∈ lw_tbl := lw_at lw_m10 24 rfl
theorem q2278 : (Jvm.Cond.instanceMethod ({ cls := "WeirfoldLane$Parser", name := "command", desc := "()LWeirfoldLane$Change;" } : Jvm.MethodName)) ∈ lw_all := lw_g (lw_at lw_m10 25 rfl) rfl
theorem q2279 : (Jvm.Cond.code ({ cls := "WeirfoldLane$Parser", name := "command", desc := "()LWeirfoldLane$Change;" } : Jvm.MethodName) prog_16_method_8_code (7 : Nat) (Option.some (Jvm.ClassFile.FieldType.object "WeirfoldLane$Change"))) ∈ lw_all := lw_g (lw_at lw_m10 26 rfl) rfl
theorem q2280 : (Jvm.Cond.methodLink "WeirfoldLane$Parser" (85 : Nat) ({ cls := "WeirfoldLane$Parser", name := "word", desc := "()Ljava/lang/String;" } : Jvm.MethodName)) ∈ lw_all := lw_g (lw_at lw_m10 27 rfl) rfl
theorem q2281 : (Jvm.Cond.privateMethod ({ cls := "WeirfoldLane$Parser", name := "word", desc := "()Ljava/lang/String;" } : Jvm.MethodName)) ∈ lw_tbl := lw_at lw_m10 28 rfl
theorem q2282 : (Jvm.Cond.instanceMethod ({ cls := "WeirfoldLane$Parser", name := "word", desc := "()Ljava/lang/String;" } : Jvm.MethodName)) ∈ lw_all := lw_g (lw_at lw_m10 29 rfl) rfl
theorem q2283 : (Jvm.Cond.code ({ cls := "WeirfoldLane$Parser", name := "word", desc := "()Ljava/lang/String;" } : Jvm.MethodName) prog_16_method_7_code (5 : Nat) (Option.some (Jvm.ClassFile.FieldType.object "java/lang/String"))) ∈ lw_all := lw_g (lw_at lw_m10 30 rfl) rfl
theorem q2284 : (Jvm.Cond.stringRef "WeirfoldLane$Parser" (62 : Nat) " row gone next base pair run keep cut repair ") ∈ lw_tbl := lw_at lw_m10 31 rfl
theorem q2285 : (Jvm.Cond.stringRef "WeirfoldLane$Parser" (64 : Nat) "abcdefghijklmnopqrstuvwxyz") ∈ lw_tbl := lw_at lw_m10 32 rfl
theorem q2286 : (Jvm.Cond.stringRef "WeirfoldLane$Parser" (57 : Nat) " ") ∈ lw_tbl := lw_at lw_m10 33 rfl
theorem q2287 : (Jvm.Cond.classLink "WeirfoldLane$Parser" (24 : Nat) "java/lang/StringBuilder") ∈ lw_all := lw_g (lw_at lw_m10 34 rfl) rfl
theorem q2288 : (Jvm.Cond.methodLink "WeirfoldLane$Parser" (66 : Nat) ({ cls := "java/lang/StringBuilder", name := "<init>", desc := "()V" } : Jvm.MethodName)) ∈ lw_all := lw_g (lw_at lw_m10 35 rfl) rfl
theorem q2289 : (Jvm.Cond.methodLink "WeirfoldLane$Parser" (67 : Nat) ({ cls := "java/lang/StringBuilder", name := "append", desc := "(Ljava/lang/String;)Ljava/lang/StringBuilder;" } : Jvm.MethodName)) ∈ lw_all := lw_g (lw_at lw_m10 36 rfl) rfl
theorem q2290 : (Jvm.Cond.methodLink "WeirfoldLane$Parser" (71 : Nat) ({ cls := "java/lang/StringBuilder", name := "toString", desc := "()Ljava/lang/String;" } : Jvm.MethodName)) ∈ lw_all := lw_g (lw_at lw_m10 37 rfl) rfl
theorem q2291 : (Jvm.Cond.methodLink "WeirfoldLane$Parser" (75 : Nat) ({ cls := "java/lang/String", name := "indexOf", desc := "(Ljava/lang/String;)I" } : Jvm.MethodName)) ∈ lw_all := lw_g (lw_at lw_m10 38 rfl) rfl
theorem q2313 : (Jvm.Cond.methodLink "WeirfoldLane$Parser" (39 : Nat) ({ cls := "WeirfoldLane$Parser", name := "isAt", desc := "(Ljava/lang/String;)Z" } : Jvm.MethodName)) ∈ lw_all := lw_g (lw_at lw_m10 60 rfl) rfl
theorem q2314 : (Jvm.Cond.privateMethod ({ cls := "WeirfoldLane$Parser", name := "isAt", desc := "(Ljava/lang/String;)Z" } : Jvm.MethodName)) ∈ lw_tbl := lw_at lw_m10 61 rfl
theorem q2315 : (Jvm.Cond.instanceMethod ({ cls := "WeirfoldLane$Parser", name := "isAt", desc := "(Ljava/lang/String;)Z" } : Jvm.MethodName)) ∈ lw_all := lw_g (lw_at lw_m10 62 rfl) rfl
theorem q2316 : (Jvm.Cond.code ({ cls := "WeirfoldLane$Parser", name := "isAt", desc := "(Ljava/lang/String;)Z" } : Jvm.MethodName) prog_16_method_2_code (2 : Nat) (Option.some Jvm.ClassFile.FieldType.boolean)) ∈ lw_all := lw_g (lw_at lw_m10 63 rfl) rfl
theorem q2317 : (Jvm.Cond.methodLink "WeirfoldLane$Parser" (23 : Nat) ({ cls := "java/lang/StringBuilder", name := "length", desc := "()I" } : Jvm.MethodName)) ∈ lw_all := lw_g (lw_at lw_m10 64 rfl) rfl
theorem q2318 : (Jvm.Cond.methodLink "WeirfoldLane$Parser" (29 : Nat) ({ cls := "java/lang/StringBuilder", name := "charAt", desc := "(I)C" } : Jvm.MethodName)) ∈ lw_all := lw_g (lw_at lw_m10 65 rfl) rfl
theorem q2328 : (Jvm.Cond.methodLink "WeirfoldLane$Parser" (33 : Nat) ({ cls := "java/lang/String", name := "indexOf", desc := "(I)I" } : Jvm.MethodName)) ∈ lw_all := lw_g (lw_at lw_m10 75 rfl) rfl
theorem q2329 : (Jvm.Cond.methodLink "WeirfoldLane$Parser" (78 : Nat) ({ cls := "java/lang/StringBuilder", name := "append", desc := "(C)Ljava/lang/StringBuilder;" } : Jvm.MethodName)) ∈ lw_all := lw_g (lw_at lw_m10 76 rfl) rfl
theorem q2330 : (Jvm.Cond.classLink "WeirfoldLane$Parser" (43 : Nat) "WeirfoldLane$SyntaxFault") ∈ lw_all := lw_g (lw_at lw_m10 77 rfl) rfl
theorem q2339 : (Jvm.Cond.methodLink "WeirfoldLane$Parser" (45 : Nat) ({ cls := "WeirfoldLane$SyntaxFault", name := "<init>", desc := "(I)V" } : Jvm.MethodName)) ∈ lw_all := lw_g (lw_at lw_m10 86 rfl) rfl
theorem q2349 : (Jvm.Cond.methodLink "WeirfoldLane$Parser" (50 : Nat) ({ cls := "WeirfoldLane$Parser", name := "take", desc := "(Ljava/lang/String;)C" } : Jvm.MethodName)) ∈ lw_all := lw_g (lw_at lw_m10 96 rfl) rfl
theorem q2350 : (Jvm.Cond.privateMethod ({ cls := "WeirfoldLane$Parser", name := "take", desc := "(Ljava/lang/String;)C" } : Jvm.MethodName)) ∈ lw_tbl := lw_at lw_m10 97 rfl
theorem q2351 : (Jvm.Cond.instanceMethod ({ cls := "WeirfoldLane$Parser", name := "take", desc := "(Ljava/lang/String;)C" } : Jvm.MethodName)) ∈ lw_all := lw_g (lw_at lw_m10 98 rfl) rfl
theorem q2352 : (Jvm.Cond.code ({ cls := "WeirfoldLane$Parser", name := "take", desc := "(Ljava/lang/String;)C" } : Jvm.MethodName) prog_16_method_3_code (2 : Nat) (Option.some Jvm.ClassFile.FieldType.char)) ∈ lw_all := lw_g (lw_at lw_m10 99 rfl) rfl
theorem q2353 : (Jvm.Cond.methodLink "WeirfoldLane$Parser" (81 : Nat) ({ cls := "java/lang/String", name := "substring", desc := "(I)Ljava/lang/String;" } : Jvm.MethodName)) ∈ lw_all := lw_g (lw_at lw_m10 100 rfl) rfl
theorem q2380 : (Jvm.Cond.stringRef "WeirfoldLane$Parser" (88 : Nat) "next") ∈ lw_tbl := lw_at lw_m10 127 rfl
theorem q2381 : (Jvm.Cond.methodLink "WeirfoldLane$Parser" (90 : Nat) ({ cls := "java/lang/String", name := "equals", desc := "(Ljava/lang/Object;)Z" } : Jvm.MethodName)) ∈ lw_all := lw_g (lw_at lw_m10 128 rfl) rfl
theorem q2382 : (Jvm.Cond.classLink "WeirfoldLane$Parser" (94 : Nat) "WeirfoldLane$Change") ∈ lw_all := lw_g (lw_at lw_m10 129 rfl) rfl
theorem q2383 : (Jvm.Cond.methodLink "WeirfoldLane$Parser" (96 : Nat) ({ cls := "WeirfoldLane$Change", name := "<init>", desc := "(Ljava/lang/String;CII)V" } : Jvm.MethodName)) ∈ lw_all := lw_g (lw_at lw_m10 130 rfl) rfl
theorem q2384 : (Jvm.Cond.methodLink "WeirfoldLane$Parser" (99 : Nat) ({ cls := "java/lang/String", name := "hashCode", desc := "()I" } : Jvm.MethodName)) ∈ lw_all := lw_g (lw_at lw_m10 131 rfl) rfl
theorem q2385 : (Jvm.Cond.stringRef "WeirfoldLane$Parser" (102 : Nat) "row") ∈ lw_tbl := lw_at lw_m10 132 rfl
theorem q2386 : (Jvm.Cond.stringRef "WeirfoldLane$Parser" (104 : Nat) "gone") ∈ lw_tbl := lw_at lw_m10 133 rfl
theorem q2387 : (Jvm.Cond.stringRef "WeirfoldLane$Parser" (106 : Nat) "base") ∈ lw_tbl := lw_at lw_m10 134 rfl
theorem q2388 : (Jvm.Cond.stringRef "WeirfoldLane$Parser" (108 : Nat) "pair") ∈ lw_tbl := lw_at lw_m10 135 rfl
theorem q2389 : (Jvm.Cond.stringRef "WeirfoldLane$Parser" (110 : Nat) "keep") ∈ lw_tbl := lw_at lw_m10 136 rfl
theorem q2390 : (Jvm.Cond.stringRef "WeirfoldLane$Parser" (112 : Nat) "abcde") ∈ lw_tbl := lw_at lw_m10 137 rfl
theorem q2391 : (Jvm.Cond.methodLink "WeirfoldLane$Parser" (54 : Nat) ({ cls := "WeirfoldLane$Parser", name := "digit", desc := "()I" } : Jvm.MethodName)) ∈ lw_all := lw_g (lw_at lw_m10 138 rfl) rfl
theorem q2392 : (Jvm.Cond.privateMethod ({ cls := "WeirfoldLane$Parser", name := "digit", desc := "()I" } : Jvm.MethodName)) ∈ lw_tbl := lw_at lw_m10 139 rfl
theorem q2393 : (Jvm.Cond.instanceMethod ({ cls := "WeirfoldLane$Parser", name := "digit", desc := "()I" } : Jvm.MethodName)) ∈ lw_all := lw_g (lw_at lw_m10 140 rfl) rfl
theorem q2394 : (Jvm.Cond.code ({ cls := "WeirfoldLane$Parser", name := "digit", desc := "()I" } : Jvm.MethodName) prog_16_method_4_code (1 : Nat) (Option.some Jvm.ClassFile.FieldType.int)) ∈ lw_all := lw_g (lw_at lw_m10 141 rfl) rfl
theorem q2395 : (Jvm.Cond.stringRef "WeirfoldLane$Parser" (48 : Nat) "0123456789") ∈ lw_tbl := lw_at lw_m10 142 rfl
theorem q2396 : (Jvm.Cond.methodLink "WeirfoldLane$Parser" (114 : Nat) ({ cls := "WeirfoldLane$Parser", name := "numberAfterSpace", desc := "()I" } : Jvm.MethodName)) ∈ lw_all := lw_g (lw_at lw_m10 143 rfl) rfl
theorem q2397 : (Jvm.Cond.privateMethod ({ cls := "WeirfoldLane$Parser", name := "numberAfterSpace", desc := "()I" } : Jvm.MethodName)) ∈ lw_tbl := lw_at lw_m10 144 rfl
theorem q2398 : (Jvm.Cond.instanceMethod ({ cls := "WeirfoldLane$Parser", name := "numberAfterSpace", desc := "()I" } : Jvm.MethodName)) ∈ lw_all := lw_g (lw_at lw_m10 145 rfl) rfl
theorem q2399 : (Jvm.Cond.code ({ cls := "WeirfoldLane$Parser", name := "numberAfterSpace", desc := "()I" } : Jvm.MethodName) prog_16_method_6_code (2 : Nat) (Option.some Jvm.ClassFile.FieldType.int)) ∈ lw_all := lw_g (lw_at lw_m10 146 rfl) rfl
theorem q2400 : (Jvm.Cond.methodLink "WeirfoldLane$Parser" (59 : Nat) ({ cls := "WeirfoldLane$Parser", name := "number", desc := "()I" } : Jvm.MethodName)) ∈ lw_all := lw_g (lw_at lw_m10 147 rfl) rfl
theorem q2401 : (Jvm.Cond.privateMethod ({ cls := "WeirfoldLane$Parser", name := "number", desc := "()I" } : Jvm.MethodName)) ∈ lw_tbl := lw_at lw_m10 148 rfl
theorem q2402 : (Jvm.Cond.instanceMethod ({ cls := "WeirfoldLane$Parser", name := "number", desc := "()I" } : Jvm.MethodName)) ∈ lw_all := lw_g (lw_at lw_m10 149 rfl) rfl
theorem q2403 : (Jvm.Cond.code ({ cls := "WeirfoldLane$Parser", name := "number", desc := "()I" } : Jvm.MethodName) prog_16_method_5_code (2 : Nat) (Option.some Jvm.ClassFile.FieldType.int)) ∈ lw_all := lw_g (lw_at lw_m10 150 rfl) rfl
theorem q2404 : (Jvm.Cond.stringRef "WeirfoldLane$Parser" (117 : Nat) "snx") ∈ lw_tbl := lw_at lw_m10 151 rfl
theorem q2405 : (Jvm.Cond.stringRef "WeirfoldLane$Parser" (119 : Nat) "+-") ∈ lw_tbl := lw_at lw_m10 152 rfl
theorem q2406 : (Jvm.Cond.interfaceEntry "WeirfoldLane$Parser" (128 : Nat)) ∈ lw_tbl := lw_at lw_m10 153 rfl
theorem q2407 : (Jvm.Cond.methodLink "WeirfoldLane$Parser" (128 : Nat) ({ cls := "java/util/List", name := "add", desc := "(Ljava/lang/Object;)Z" } : Jvm.MethodName)) ∈ lw_all := lw_g (lw_at lw_m10 154 rfl) rfl
theorem q2408 : (Jvm.Cond.stringRef "WeirfoldLane$Parser" (133 : Nat) ";") ∈ lw_tbl := lw_at lw_m10 155 rfl
theorem q3333 : (Jvm.Cond.castable "WeirfoldLane$Parser" "java/lang/Object") ∈ lw_tbl := lw_at lw_m14 120 rfl
theorem in_X22 : ∀ w ∈ wsX220, w ∈ lw_all := lw_in wsX220 [2265, 2267] (by decide +kernel) (by decide +kernel)

/-! WeirfoldLane$SyntaxFault -/
set_option maxRecDepth 100000
def RX23 : String := "WeirfoldLane$SyntaxFault"
def TX23 : u_T := fun k => match k with
  | 0 => ("java/lang/Throwable", "cause", "Ljava/lang/Throwable;", false)
  | 1 => ("java/lang/Throwable", "stackTrace", "[Ljava/lang/StackTraceElement;", false)
  | 2 => ("java/lang/Throwable", "suppressedExceptions", "Ljava/util/List;", false)
  | 3 => ("java/lang/Throwable", "detailMessage", "Ljava/lang/String;", false)
  | 4 => ("java/lang/Throwable", "backtrace", "Ljava/lang/Object;", false)
  | 5 => ("java/lang/Throwable", "depth", "I", false)
  | _ => ("WeirfoldLane$SyntaxFault", "position", "I", true)
def tyX23 : Nat → FieldType := fun k => match k with
  | 0 => .object "java/lang/Throwable"
  | 1 => .array (.object "java/lang/StackTraceElement")
  | 2 => .object "java/util/List"
  | 3 => .object "java/lang/String"
  | 4 => .object "java/lang/Object"
  | 5 => .int
  | _ => .int
abbrev wsX230 : List Cond := u_ws RX23 TX23 7
theorem nmX23 : ∀ a, a < 7 → ∀ b, b < 7 → a ≠ b → (TX23 a).2.1 ≠ (TX23 b).2.1 := by decide +kernel
theorem tyX23_ok : ∀ k, k < 7 → parseFieldDescriptor (TX23 k).2.2.1 = some (tyX23 k) := by decide +kernel
abbrev cX23_init : ByteArray := prog_22_method_1_code
def yX23_init : MethodName := ⟨RX23, "<init>", "(I)V"⟩
def dkwX23_init_0 : List UInt8 := [42, 1, 1, 3, 3, 183, 0, 1, 42, 27, 181, 0, 7, 177]
abbrev dktX23_init_0 : List UInt8 := dkwX23_init_0 ++ []
theorem dksX23_init_0 : cX23_init.data.toList.drop 0 = dktX23_init_0 := by decide +kernel
theorem dX23_init_0 : decode cX23_init 0 = .ok (.aload_n 0, 1) := dk_42 (dk_at dksX23_init_0 0 rfl rfl)
theorem dX23_init_1 : decode cX23_init 1 = .ok (.aconst_null, 1) := dk_1 (dk_at dksX23_init_0 1 rfl rfl)
theorem dX23_init_2 : decode cX23_init 2 = .ok (.aconst_null, 1) := dk_1 (dk_at dksX23_init_0 2 rfl rfl)
theorem dX23_init_3 : decode cX23_init 3 = .ok (.iconst 0, 1) := dk_3 (dk_at dksX23_init_0 3 rfl rfl)
theorem dX23_init_4 : decode cX23_init 4 = .ok (.iconst 0, 1) := dk_3 (dk_at dksX23_init_0 4 rfl rfl)
theorem dX23_init_5 : decode cX23_init 5 = .ok (.invokespecial 1, 3) := dk_183 0 1 (dk_at dksX23_init_0 5 rfl rfl)
theorem dX23_init_8 : decode cX23_init 8 = .ok (.aload_n 0, 1) := dk_42 (dk_at dksX23_init_0 8 rfl rfl)
theorem dX23_init_9 : decode cX23_init 9 = .ok (.iload_n 1, 1) := dk_27 (dk_at dksX23_init_0 9 rfl rfl)
theorem dX23_init_10 : decode cX23_init 10 = .ok (.putfield 7, 3) := dk_181 0 7 (dk_at dksX23_init_0 10 rfl rfl)
theorem dX23_init_13 : decode cX23_init 13 = .ok (.return_, 1) := dk_177 (dk_at dksX23_init_0 13 rfl rfl)
theorem q147 : (Jvm.Cond.initialized "WeirfoldLane$SyntaxFault") ∈ lw_all := lw_g (lw_at lw_m1 54 rfl) rfl
theorem q424 : (Jvm.Cond.selects "WeirfoldLane$SyntaxFault" ({ cls := "java/lang/Throwable", name := "fillInStackTrace", desc := "()Ljava/lang/Throwable;" } : Jvm.MethodName) ({ cls := "java/lang/Throwable", name := "fillInStackTrace", desc := "()Ljava/lang/Throwable;" } : Jvm.MethodName)) ∈ lw_all := lw_g (lw_at lw_m2 91 rfl) rfl
theorem q528 : (Jvm.Cond.selects "WeirfoldLane$SyntaxFault" ({ cls := "java/lang/Object", name := "getClass", desc := "()Ljava/lang/Class;" } : Jvm.MethodName) ({ cls := "java/lang/Object", name := "getClass", desc := "()Ljava/lang/Class;" } : Jvm.MethodName)) ∈ lw_all := lw_g (lw_at lw_m2 195 rfl) rfl
theorem q638 : (Jvm.Cond.selects "WeirfoldLane$SyntaxFault" ({ cls := "java/lang/Object", name := "equals", desc := "(Ljava/lang/Object;)Z" } : Jvm.MethodName) ({ cls := "java/lang/Object", name := "equals", desc := "(Ljava/lang/Object;)Z" } : Jvm.MethodName)) ∈ lw_all := lw_g (lw_at lw_m3 65 rfl) rfl
theorem q2331 : (Jvm.Cond.instantiable "WeirfoldLane$SyntaxFault" (7 : Nat)) ∈ lw_all := lw_g (lw_at lw_m10 78 rfl) rfl
theorem q2332 : (Jvm.Cond.castable "WeirfoldLane$SyntaxFault" "WeirfoldLane$SyntaxFault") ∈ lw_tbl := lw_at lw_m10 79 rfl
theorem q2333 : (Jvm.Cond.selects "WeirfoldLane$SyntaxFault" ({ cls := "java/lang/Throwable", name := "fillInStackTrace", desc := "(I)Ljava/lang/Throwable;" } : Jvm.MethodName) ({ cls := "java/lang/Throwable", name := "fillInStackTrace", desc := "(I)Ljava/lang/Throwable;" } : Jvm.MethodName)) ∈ lw_all := lw_g (lw_at lw_m10 80 rfl) rfl
theorem q2334 : (Jvm.Cond.lays "WeirfoldLane$SyntaxFault" "java/lang/Throwable" "cause" "Ljava/lang/Throwable;") ∈ lw_all := lw_g (lw_at lw_m10 81 rfl) rfl
theorem q2335 : (Jvm.Cond.lays "WeirfoldLane$SyntaxFault" "java/lang/Throwable" "stackTrace" "[Ljava/lang/StackTraceElement;") ∈ lw_all := lw_g (lw_at lw_m10 82 rfl) rfl
theorem q2336 : (Jvm.Cond.lays "WeirfoldLane$SyntaxFault" "java/lang/Throwable" "suppressedExceptions" "Ljava/util/List;") ∈ lw_all := lw_g (lw_at lw_m10 83 rfl) rfl
theorem q2337 : (Jvm.Cond.lays "WeirfoldLane$SyntaxFault" "java/lang/Throwable" "detailMessage" "Ljava/lang/String;") ∈ lw_all := lw_g (lw_at lw_m10 84 rfl) rfl
theorem q2338 : (Jvm.Cond.lays "WeirfoldLane$SyntaxFault" "java/lang/Throwable" "backtrace" "Ljava/lang/Object;") ∈ lw_all := lw_g (lw_at lw_m10 85 rfl) rfl
theorem q2340 : (Jvm.Cond.instanceMethod ({ cls := "WeirfoldLane$SyntaxFault", name := "<init>", desc := "(I)V" } : Jvm.MethodName)) ∈ lw_all := lw_g (lw_at lw_m10 87 rfl) rfl
theorem q2341 : (Jvm.Cond.code ({ cls := "WeirfoldLane$SyntaxFault", name := "<init>", desc := "(I)V" } : Jvm.MethodName) prog_22_method_1_code (2 : Nat) (Option.none : Option Jvm.ClassFile.FieldType)) ∈ lw_all := lw_g (lw_at lw_m10 88 rfl) rfl
theorem q2342 : (Jvm.Cond.methodLink "WeirfoldLane$SyntaxFault" (1 : Nat) ({ cls := "java/lang/Exception", name := "<init>", desc := "(Ljava/lang/String;Ljava/lang/Throwable;ZZ)V" } : Jvm.MethodName)) ∈ lw_all := lw_g (lw_at lw_m10 89 rfl) rfl
theorem q2343 : (Jvm.Cond.fieldLink "WeirfoldLane$SyntaxFault" (7 : Nat) "WeirfoldLane$SyntaxFault" "position" "I") ∈ lw_all := lw_g (lw_at lw_m10 90 rfl) rfl
theorem q2345 : (Jvm.Cond.laysFinal "WeirfoldLane$SyntaxFault" "WeirfoldLane$SyntaxFault" "position" "I") ∈ lw_all := lw_g (lw_at lw_m10 92 rfl) rfl
theorem q2346 : (Jvm.Cond.soleField "WeirfoldLane$SyntaxFault" "position") ∈ lw_all := lw_g (lw_at lw_m10 93 rfl) rfl
theorem q2347 : (Jvm.Cond.lays "WeirfoldLane$SyntaxFault" "java/lang/Throwable" "depth" "I") ∈ lw_all := lw_g (lw_at lw_m10 94 rfl) rfl
theorem q2348 : (Jvm.Cond.superclass "WeirfoldLane$SyntaxFault" "java/lang/Exception") ∈ lw_all := lw_g (lw_at lw_m10 95 rfl) rfl
theorem q3334 : (Jvm.Cond.castable "WeirfoldLane$SyntaxFault" "java/lang/Object") ∈ lw_tbl := lw_at lw_m14 121 rfl
theorem in_X23 : ∀ w ∈ wsX230, w ∈ lw_all := lw_in wsX230 [2334, 2335, 2336, 2337, 2338, 2347, 2345] (by decide +kernel) (by decide +kernel)
