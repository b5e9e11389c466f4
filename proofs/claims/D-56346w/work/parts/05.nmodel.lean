/-! WeirfoldLaneModel -/
set_option maxRecDepth 100000
def RX3 : String := "WeirfoldLaneModel"
def TX3 : u_T := fun k => match k with
  | 0 => ("WeirfoldLaneModel", "now", "[I", true)
  | 1 => ("WeirfoldLaneModel", "before", "[I", true)
  | 2 => ("WeirfoldLaneModel", "saved", "[I", true)
  | 3 => ("WeirfoldLaneModel", "history", "[I", true)
  | 4 => ("WeirfoldLaneModel", "reached", "[I", true)
  | 5 => ("WeirfoldLaneModel", "kept", "[J", true)
  | 6 => ("WeirfoldLaneModel", "keptBefore", "[J", true)
  | 7 => ("WeirfoldLaneModel", "keptSaved", "[J", true)
  | 8 => ("WeirfoldLaneModel", "keptHistory", "[J", true)
  | 9 => ("WeirfoldLaneModel", "anew", "[J", true)
  | 10 => ("WeirfoldLaneModel", "behind", "[J", true)
  | 11 => ("WeirfoldLaneModel", "costs", "[J", true)
  | 12 => ("WeirfoldLaneModel", "thrown", "I", false)
  | 13 => ("WeirfoldLaneModel", "depth", "I", false)
  | 14 => ("WeirfoldLaneModel", "wrongAt", "I", false)
  | 15 => ("WeirfoldLaneModel", "reason", "I", false)
  | 16 => ("WeirfoldLaneModel", "detail", "I", false)
  | 17 => ("WeirfoldLaneModel", "cause", "I", false)
  | 18 => ("WeirfoldLaneModel", "isSaved", "Z", false)
  | 19 => ("WeirfoldLaneModel", "line", "[I", true)
  | 20 => ("WeirfoldLaneModel", "lineLength", "I", false)
  | 21 => ("WeirfoldLaneModel", "input", "[I", true)
  | 22 => ("WeirfoldLaneModel", "kinds", "[I", true)
  | 23 => ("WeirfoldLaneModel", "numbers", "[I", true)
  | 24 => ("WeirfoldLaneModel", "length", "I", false)
  | 25 => ("WeirfoldLaneModel", "textLength", "I", false)
  | 26 => ("WeirfoldLaneModel", "at", "I", false)
  | 27 => ("WeirfoldLaneModel", "commands", "I", false)
  | _ => ("WeirfoldLaneModel", "isWrong", "Z", false)
def tyX3 : Nat → FieldType := fun k => match k with
  | 0 => .array .int
  | 1 => .array .int
  | 2 => .array .int
  | 3 => .array .int
  | 4 => .array .int
  | 5 => .array .long
  | 6 => .array .long
  | 7 => .array .long
  | 8 => .array .long
  | 9 => .array .long
  | 10 => .array .long
  | 11 => .array .long
  | 12 => .int
  | 13 => .int
  | 14 => .int
  | 15 => .int
  | 16 => .int
  | 17 => .int
  | 18 => .boolean
  | 19 => .array .int
  | 20 => .int
  | 21 => .array .int
  | 22 => .array .int
  | 23 => .array .int
  | 24 => .int
  | 25 => .int
  | 26 => .int
  | 27 => .int
  | _ => .boolean
abbrev wsX30 : List Cond := u_ws RX3 TX3 29
set_option maxRecDepth 100000 in
theorem nmX3 : ∀ a, a < 29 → ∀ b, b < 29 → a ≠ b → (TX3 a).2.1 ≠ (TX3 b).2.1 := by decide +kernel
set_option maxRecDepth 100000 in
theorem tyX3_ok : ∀ k, k < 29 → parseFieldDescriptor (TX3 k).2.2.1 = some (tyX3 k) := by decide +kernel
abbrev cX3_init : ByteArray := prog_25_method_1_code
def yX3_init : MethodName := ⟨RX3, "<init>", "()V"⟩
def dkwX3_init_8 : List UInt8 := [181, 0, 85, 42, 3, 181, 0, 88, 42, 3, 181, 0, 91, 42, 3, 181, 0, 94, 42, 3, 181, 0, 97, 177]
abbrev dktX3_init_8 : List UInt8 := dkwX3_init_8 ++ []
def dkwX3_init_7 : List UInt8 := [188, 10, 181, 0, 76, 42, 16, 32, 188, 10, 181, 0, 79, 42, 17, 0, 128, 188, 10, 181, 0, 82, 42, 3]
abbrev dktX3_init_7 : List UInt8 := dkwX3_init_7 ++ dktX3_init_8
def dkwX3_init_6 : List UInt8 := [181, 0, 63, 42, 3, 181, 0, 66, 42, 16, 120, 188, 10, 181, 0, 70, 42, 3, 181, 0, 73, 42, 16, 60]
abbrev dktX3_init_6 : List UInt8 := dkwX3_init_6 ++ dktX3_init_7
def dkwX3_init_5 : List UInt8 := [42, 3, 181, 0, 51, 42, 2, 181, 0, 54, 42, 3, 181, 0, 57, 42, 3, 181, 0, 60, 42, 3]
abbrev dktX3_init_5 : List UInt8 := dkwX3_init_5 ++ dktX3_init_6
def dkwX3_init_4 : List UInt8 := [181, 0, 38, 42, 16, 56, 188, 11, 181, 0, 41, 42, 16, 8, 188, 11, 181, 0, 44, 42, 3, 181, 0, 47]
abbrev dktX3_init_4 : List UInt8 := dkwX3_init_4 ++ dktX3_init_5
def dkwX3_init_3 : List UInt8 := [17, 1, 24, 188, 11, 181, 0, 32, 42, 17, 8, 192, 188, 11, 181, 0, 35, 42, 17, 1, 24, 188, 11]
abbrev dktX3_init_3 : List UInt8 := dkwX3_init_3 ++ dktX3_init_4
def dkwX3_init_2 : List UInt8 := [181, 0, 22, 42, 17, 1, 24, 188, 11, 181, 0, 25, 42, 17, 1, 24, 188, 11, 181, 0, 29, 42]
abbrev dktX3_init_2 : List UInt8 := dkwX3_init_2 ++ dktX3_init_3
def dkwX3_init_1 : List UInt8 := [17, 1, 16, 188, 10, 181, 0, 16, 42, 17, 8, 128, 188, 10, 181, 0, 19, 42, 16, 8, 188, 10]
abbrev dktX3_init_1 : List UInt8 := dkwX3_init_1 ++ dktX3_init_2
def dkwX3_init_0 : List UInt8 := [42, 183, 0, 1, 42, 17, 1, 16, 188, 10, 181, 0, 7, 42, 17, 1, 16, 188, 10, 181, 0, 13, 42]
abbrev dktX3_init_0 : List UInt8 := dkwX3_init_0 ++ dktX3_init_1
theorem dksX3_init_0 : cX3_init.data.toList.drop 0 = dktX3_init_0 := by decide +kernel
theorem dksX3_init_1 : cX3_init.data.toList.drop 23 = dktX3_init_1 := dk_seg dksX3_init_0 23 rfl rfl
theorem dksX3_init_2 : cX3_init.data.toList.drop 45 = dktX3_init_2 := dk_seg dksX3_init_1 22 rfl rfl
theorem dksX3_init_3 : cX3_init.data.toList.drop 67 = dktX3_init_3 := dk_seg dksX3_init_2 22 rfl rfl
theorem dksX3_init_4 : cX3_init.data.toList.drop 90 = dktX3_init_4 := dk_seg dksX3_init_3 23 rfl rfl
theorem dksX3_init_5 : cX3_init.data.toList.drop 114 = dktX3_init_5 := dk_seg dksX3_init_4 24 rfl rfl
theorem dksX3_init_6 : cX3_init.data.toList.drop 136 = dktX3_init_6 := dk_seg dksX3_init_5 22 rfl rfl
theorem dksX3_init_7 : cX3_init.data.toList.drop 160 = dktX3_init_7 := dk_seg dksX3_init_6 24 rfl rfl
theorem dksX3_init_8 : cX3_init.data.toList.drop 184 = dktX3_init_8 := dk_seg dksX3_init_7 24 rfl rfl
theorem dX3_init_0 : decode cX3_init 0 = .ok (.aload_n 0, 1) := dk_42 (dk_at dksX3_init_0 0 rfl rfl)
theorem dX3_init_1 : decode cX3_init 1 = .ok (.invokespecial 1, 3) := dk_183 0 1 (dk_at dksX3_init_0 1 rfl rfl)
theorem dX3_init_4 : decode cX3_init 4 = .ok (.aload_n 0, 1) := dk_42 (dk_at dksX3_init_0 4 rfl rfl)
theorem dX3_init_5 : decode cX3_init 5 = .ok (.sipush 272, 3) := dk_17 1 16 (dk_at dksX3_init_0 5 rfl rfl)
theorem dX3_init_8 : decode cX3_init 8 = .ok (.newarray .int, 2) := dk_188_10 (dk_at dksX3_init_0 8 rfl rfl)
theorem dX3_init_10 : decode cX3_init 10 = .ok (.putfield 7, 3) := dk_181 0 7 (dk_at dksX3_init_0 10 rfl rfl)
theorem dX3_init_13 : decode cX3_init 13 = .ok (.aload_n 0, 1) := dk_42 (dk_at dksX3_init_0 13 rfl rfl)
theorem dX3_init_14 : decode cX3_init 14 = .ok (.sipush 272, 3) := dk_17 1 16 (dk_at dksX3_init_0 14 rfl rfl)
theorem dX3_init_17 : decode cX3_init 17 = .ok (.newarray .int, 2) := dk_188_10 (dk_at dksX3_init_0 17 rfl rfl)
theorem dX3_init_19 : decode cX3_init 19 = .ok (.putfield 13, 3) := dk_181 0 13 (dk_at dksX3_init_0 19 rfl rfl)
theorem dX3_init_22 : decode cX3_init 22 = .ok (.aload_n 0, 1) := dk_42 (dk_at dksX3_init_0 22 rfl rfl)
theorem dX3_init_23 : decode cX3_init 23 = .ok (.sipush 272, 3) := dk_17 1 16 (dk_at dksX3_init_1 0 rfl rfl)
theorem dX3_init_26 : decode cX3_init 26 = .ok (.newarray .int, 2) := dk_188_10 (dk_at dksX3_init_1 3 rfl rfl)
theorem dX3_init_28 : decode cX3_init 28 = .ok (.putfield 16, 3) := dk_181 0 16 (dk_at dksX3_init_1 5 rfl rfl)
theorem dX3_init_31 : decode cX3_init 31 = .ok (.aload_n 0, 1) := dk_42 (dk_at dksX3_init_1 8 rfl rfl)
theorem dX3_init_32 : decode cX3_init 32 = .ok (.sipush 2176, 3) := dk_17 8 128 (dk_at dksX3_init_1 9 rfl rfl)
theorem dX3_init_35 : decode cX3_init 35 = .ok (.newarray .int, 2) := dk_188_10 (dk_at dksX3_init_1 12 rfl rfl)
theorem dX3_init_37 : decode cX3_init 37 = .ok (.putfield 19, 3) := dk_181 0 19 (dk_at dksX3_init_1 14 rfl rfl)
theorem dX3_init_40 : decode cX3_init 40 = .ok (.aload_n 0, 1) := dk_42 (dk_at dksX3_init_1 17 rfl rfl)
theorem dX3_init_41 : decode cX3_init 41 = .ok (.bipush 8, 2) := dk_16 8 (dk_at dksX3_init_1 18 rfl rfl)
theorem dX3_init_43 : decode cX3_init 43 = .ok (.newarray .int, 2) := dk_188_10 (dk_at dksX3_init_1 20 rfl rfl)
theorem dX3_init_45 : decode cX3_init 45 = .ok (.putfield 22, 3) := dk_181 0 22 (dk_at dksX3_init_2 0 rfl rfl)
theorem dX3_init_48 : decode cX3_init 48 = .ok (.aload_n 0, 1) := dk_42 (dk_at dksX3_init_2 3 rfl rfl)
theorem dX3_init_49 : decode cX3_init 49 = .ok (.sipush 280, 3) := dk_17 1 24 (dk_at dksX3_init_2 4 rfl rfl)
theorem dX3_init_52 : decode cX3_init 52 = .ok (.newarray .long, 2) := dk_188_11 (dk_at dksX3_init_2 7 rfl rfl)
theorem dX3_init_54 : decode cX3_init 54 = .ok (.putfield 25, 3) := dk_181 0 25 (dk_at dksX3_init_2 9 rfl rfl)
theorem dX3_init_57 : decode cX3_init 57 = .ok (.aload_n 0, 1) := dk_42 (dk_at dksX3_init_2 12 rfl rfl)
theorem dX3_init_58 : decode cX3_init 58 = .ok (.sipush 280, 3) := dk_17 1 24 (dk_at dksX3_init_2 13 rfl rfl)
theorem dX3_init_61 : decode cX3_init 61 = .ok (.newarray .long, 2) := dk_188_11 (dk_at dksX3_init_2 16 rfl rfl)
theorem dX3_init_63 : decode cX3_init 63 = .ok (.putfield 29, 3) := dk_181 0 29 (dk_at dksX3_init_2 18 rfl rfl)
theorem dX3_init_66 : decode cX3_init 66 = .ok (.aload_n 0, 1) := dk_42 (dk_at dksX3_init_2 21 rfl rfl)
theorem dX3_init_67 : decode cX3_init 67 = .ok (.sipush 280, 3) := dk_17 1 24 (dk_at dksX3_init_3 0 rfl rfl)
theorem dX3_init_70 : decode cX3_init 70 = .ok (.newarray .long, 2) := dk_188_11 (dk_at dksX3_init_3 3 rfl rfl)
theorem dX3_init_72 : decode cX3_init 72 = .ok (.putfield 32, 3) := dk_181 0 32 (dk_at dksX3_init_3 5 rfl rfl)
theorem dX3_init_75 : decode cX3_init 75 = .ok (.aload_n 0, 1) := dk_42 (dk_at dksX3_init_3 8 rfl rfl)
theorem dX3_init_76 : decode cX3_init 76 = .ok (.sipush 2240, 3) := dk_17 8 192 (dk_at dksX3_init_3 9 rfl rfl)
theorem dX3_init_79 : decode cX3_init 79 = .ok (.newarray .long, 2) := dk_188_11 (dk_at dksX3_init_3 12 rfl rfl)
theorem dX3_init_81 : decode cX3_init 81 = .ok (.putfield 35, 3) := dk_181 0 35 (dk_at dksX3_init_3 14 rfl rfl)
theorem dX3_init_84 : decode cX3_init 84 = .ok (.aload_n 0, 1) := dk_42 (dk_at dksX3_init_3 17 rfl rfl)
theorem dX3_init_85 : decode cX3_init 85 = .ok (.sipush 280, 3) := dk_17 1 24 (dk_at dksX3_init_3 18 rfl rfl)
theorem dX3_init_88 : decode cX3_init 88 = .ok (.newarray .long, 2) := dk_188_11 (dk_at dksX3_init_3 21 rfl rfl)
theorem dX3_init_90 : decode cX3_init 90 = .ok (.putfield 38, 3) := dk_181 0 38 (dk_at dksX3_init_4 0 rfl rfl)
theorem dX3_init_93 : decode cX3_init 93 = .ok (.aload_n 0, 1) := dk_42 (dk_at dksX3_init_4 3 rfl rfl)
theorem dX3_init_94 : decode cX3_init 94 = .ok (.bipush 56, 2) := dk_16 56 (dk_at dksX3_init_4 4 rfl rfl)
theorem dX3_init_96 : decode cX3_init 96 = .ok (.newarray .long, 2) := dk_188_11 (dk_at dksX3_init_4 6 rfl rfl)
theorem dX3_init_98 : decode cX3_init 98 = .ok (.putfield 41, 3) := dk_181 0 41 (dk_at dksX3_init_4 8 rfl rfl)
theorem dX3_init_101 : decode cX3_init 101 = .ok (.aload_n 0, 1) := dk_42 (dk_at dksX3_init_4 11 rfl rfl)
theorem dX3_init_102 : decode cX3_init 102 = .ok (.bipush 8, 2) := dk_16 8 (dk_at dksX3_init_4 12 rfl rfl)
theorem dX3_init_104 : decode cX3_init 104 = .ok (.newarray .long, 2) := dk_188_11 (dk_at dksX3_init_4 14 rfl rfl)
theorem dX3_init_106 : decode cX3_init 106 = .ok (.putfield 44, 3) := dk_181 0 44 (dk_at dksX3_init_4 16 rfl rfl)
theorem dX3_init_109 : decode cX3_init 109 = .ok (.aload_n 0, 1) := dk_42 (dk_at dksX3_init_4 19 rfl rfl)
theorem dX3_init_110 : decode cX3_init 110 = .ok (.iconst 0, 1) := dk_3 (dk_at dksX3_init_4 20 rfl rfl)
theorem dX3_init_111 : decode cX3_init 111 = .ok (.putfield 47, 3) := dk_181 0 47 (dk_at dksX3_init_4 21 rfl rfl)
theorem dX3_init_114 : decode cX3_init 114 = .ok (.aload_n 0, 1) := dk_42 (dk_at dksX3_init_5 0 rfl rfl)
theorem dX3_init_115 : decode cX3_init 115 = .ok (.iconst 0, 1) := dk_3 (dk_at dksX3_init_5 1 rfl rfl)
theorem dX3_init_116 : decode cX3_init 116 = .ok (.putfield 51, 3) := dk_181 0 51 (dk_at dksX3_init_5 2 rfl rfl)
theorem dX3_init_119 : decode cX3_init 119 = .ok (.aload_n 0, 1) := dk_42 (dk_at dksX3_init_5 5 rfl rfl)
theorem dX3_init_120 : decode cX3_init 120 = .ok (.iconst (-1), 1) := dk_2 (dk_at dksX3_init_5 6 rfl rfl)
theorem dX3_init_121 : decode cX3_init 121 = .ok (.putfield 54, 3) := dk_181 0 54 (dk_at dksX3_init_5 7 rfl rfl)
theorem dX3_init_124 : decode cX3_init 124 = .ok (.aload_n 0, 1) := dk_42 (dk_at dksX3_init_5 10 rfl rfl)
theorem dX3_init_125 : decode cX3_init 125 = .ok (.iconst 0, 1) := dk_3 (dk_at dksX3_init_5 11 rfl rfl)
theorem dX3_init_126 : decode cX3_init 126 = .ok (.putfield 57, 3) := dk_181 0 57 (dk_at dksX3_init_5 12 rfl rfl)
theorem dX3_init_129 : decode cX3_init 129 = .ok (.aload_n 0, 1) := dk_42 (dk_at dksX3_init_5 15 rfl rfl)
theorem dX3_init_130 : decode cX3_init 130 = .ok (.iconst 0, 1) := dk_3 (dk_at dksX3_init_5 16 rfl rfl)
theorem dX3_init_131 : decode cX3_init 131 = .ok (.putfield 60, 3) := dk_181 0 60 (dk_at dksX3_init_5 17 rfl rfl)
theorem dX3_init_134 : decode cX3_init 134 = .ok (.aload_n 0, 1) := dk_42 (dk_at dksX3_init_5 20 rfl rfl)
theorem dX3_init_135 : decode cX3_init 135 = .ok (.iconst 0, 1) := dk_3 (dk_at dksX3_init_5 21 rfl rfl)
theorem dX3_init_136 : decode cX3_init 136 = .ok (.putfield 63, 3) := dk_181 0 63 (dk_at dksX3_init_6 0 rfl rfl)
theorem dX3_init_139 : decode cX3_init 139 = .ok (.aload_n 0, 1) := dk_42 (dk_at dksX3_init_6 3 rfl rfl)
theorem dX3_init_140 : decode cX3_init 140 = .ok (.iconst 0, 1) := dk_3 (dk_at dksX3_init_6 4 rfl rfl)
theorem dX3_init_141 : decode cX3_init 141 = .ok (.putfield 66, 3) := dk_181 0 66 (dk_at dksX3_init_6 5 rfl rfl)
theorem dX3_init_144 : decode cX3_init 144 = .ok (.aload_n 0, 1) := dk_42 (dk_at dksX3_init_6 8 rfl rfl)
theorem dX3_init_145 : decode cX3_init 145 = .ok (.bipush 120, 2) := dk_16 120 (dk_at dksX3_init_6 9 rfl rfl)
theorem dX3_init_147 : decode cX3_init 147 = .ok (.newarray .int, 2) := dk_188_10 (dk_at dksX3_init_6 11 rfl rfl)
theorem dX3_init_149 : decode cX3_init 149 = .ok (.putfield 70, 3) := dk_181 0 70 (dk_at dksX3_init_6 13 rfl rfl)
theorem dX3_init_152 : decode cX3_init 152 = .ok (.aload_n 0, 1) := dk_42 (dk_at dksX3_init_6 16 rfl rfl)
theorem dX3_init_153 : decode cX3_init 153 = .ok (.iconst 0, 1) := dk_3 (dk_at dksX3_init_6 17 rfl rfl)
theorem dX3_init_154 : decode cX3_init 154 = .ok (.putfield 73, 3) := dk_181 0 73 (dk_at dksX3_init_6 18 rfl rfl)
theorem dX3_init_157 : decode cX3_init 157 = .ok (.aload_n 0, 1) := dk_42 (dk_at dksX3_init_6 21 rfl rfl)
theorem dX3_init_158 : decode cX3_init 158 = .ok (.bipush 60, 2) := dk_16 60 (dk_at dksX3_init_6 22 rfl rfl)
theorem dX3_init_160 : decode cX3_init 160 = .ok (.newarray .int, 2) := dk_188_10 (dk_at dksX3_init_7 0 rfl rfl)
theorem dX3_init_162 : decode cX3_init 162 = .ok (.putfield 76, 3) := dk_181 0 76 (dk_at dksX3_init_7 2 rfl rfl)
theorem dX3_init_165 : decode cX3_init 165 = .ok (.aload_n 0, 1) := dk_42 (dk_at dksX3_init_7 5 rfl rfl)
theorem dX3_init_166 : decode cX3_init 166 = .ok (.bipush 32, 2) := dk_16 32 (dk_at dksX3_init_7 6 rfl rfl)
theorem dX3_init_168 : decode cX3_init 168 = .ok (.newarray .int, 2) := dk_188_10 (dk_at dksX3_init_7 8 rfl rfl)
theorem dX3_init_170 : decode cX3_init 170 = .ok (.putfield 79, 3) := dk_181 0 79 (dk_at dksX3_init_7 10 rfl rfl)
theorem dX3_init_173 : decode cX3_init 173 = .ok (.aload_n 0, 1) := dk_42 (dk_at dksX3_init_7 13 rfl rfl)
theorem dX3_init_174 : decode cX3_init 174 = .ok (.sipush 128, 3) := dk_17 0 128 (dk_at dksX3_init_7 14 rfl rfl)
theorem dX3_init_177 : decode cX3_init 177 = .ok (.newarray .int, 2) := dk_188_10 (dk_at dksX3_init_7 17 rfl rfl)
theorem dX3_init_179 : decode cX3_init 179 = .ok (.putfield 82, 3) := dk_181 0 82 (dk_at dksX3_init_7 19 rfl rfl)
theorem dX3_init_182 : decode cX3_init 182 = .ok (.aload_n 0, 1) := dk_42 (dk_at dksX3_init_7 22 rfl rfl)
theorem dX3_init_183 : decode cX3_init 183 = .ok (.iconst 0, 1) := dk_3 (dk_at dksX3_init_7 23 rfl rfl)
theorem dX3_init_184 : decode cX3_init 184 = .ok (.putfield 85, 3) := dk_181 0 85 (dk_at dksX3_init_8 0 rfl rfl)
theorem dX3_init_187 : decode cX3_init 187 = .ok (.aload_n 0, 1) := dk_42 (dk_at dksX3_init_8 3 rfl rfl)
theorem dX3_init_188 : decode cX3_init 188 = .ok (.iconst 0, 1) := dk_3 (dk_at dksX3_init_8 4 rfl rfl)
theorem dX3_init_189 : decode cX3_init 189 = .ok (.putfield 88, 3) := dk_181 0 88 (dk_at dksX3_init_8 5 rfl rfl)
theorem dX3_init_192 : decode cX3_init 192 = .ok (.aload_n 0, 1) := dk_42 (dk_at dksX3_init_8 8 rfl rfl)
theorem dX3_init_193 : decode cX3_init 193 = .ok (.iconst 0, 1) := dk_3 (dk_at dksX3_init_8 9 rfl rfl)
theorem dX3_init_194 : decode cX3_init 194 = .ok (.putfield 91, 3) := dk_181 0 91 (dk_at dksX3_init_8 10 rfl rfl)
theorem dX3_init_197 : decode cX3_init 197 = .ok (.aload_n 0, 1) := dk_42 (dk_at dksX3_init_8 13 rfl rfl)
theorem dX3_init_198 : decode cX3_init 198 = .ok (.iconst 0, 1) := dk_3 (dk_at dksX3_init_8 14 rfl rfl)
theorem dX3_init_199 : decode cX3_init 199 = .ok (.putfield 94, 3) := dk_181 0 94 (dk_at dksX3_init_8 15 rfl rfl)
theorem dX3_init_202 : decode cX3_init 202 = .ok (.aload_n 0, 1) := dk_42 (dk_at dksX3_init_8 18 rfl rfl)
theorem dX3_init_203 : decode cX3_init 203 = .ok (.iconst 0, 1) := dk_3 (dk_at dksX3_init_8 19 rfl rfl)
theorem dX3_init_204 : decode cX3_init 204 = .ok (.putfield 97, 3) := dk_181 0 97 (dk_at dksX3_init_8 20 rfl rfl)
theorem dX3_init_207 : decode cX3_init 207 = .ok (.return_, 1) := dk_177 (dk_at dksX3_init_8 23 rfl rfl)
abbrev cX3_thrown : ByteArray := prog_25_method_2_code
def yX3_thrown : MethodName := ⟨RX3, "thrown", "()I"⟩
theorem dX3_thrown_0 : decode cX3_thrown 0 = .ok (.aload_n 0, 1) := by decide +kernel
theorem dX3_thrown_1 : decode cX3_thrown 1 = .ok (.getfield 47, 3) := by decide +kernel
theorem dX3_thrown_4 : decode cX3_thrown 4 = .ok (.ireturn, 1) := by decide +kernel
abbrev cX3_addRow : ByteArray := prog_25_method_31_code
def yX3_addRow : MethodName := ⟨RX3, "addRow", "(CII)I"⟩
def dkwX3_addRow_1 : List UInt8 := [167, 0, 17, 42, 42, 27, 16, 97, 100, 28, 29, 182, 0, 173, 182, 0, 176, 172]
abbrev dktX3_addRow_1 : List UInt8 := dkwX3_addRow_1 ++ []
def dkwX3_addRow_0 : List UInt8 := [42, 182, 0, 163, 42, 27, 28, 29, 182, 0, 166, 54, 4, 21, 4, 158, 0, 12, 42, 21, 4, 182, 0, 169]
abbrev dktX3_addRow_0 : List UInt8 := dkwX3_addRow_0 ++ dktX3_addRow_1
theorem dksX3_addRow_0 : cX3_addRow.data.toList.drop 0 = dktX3_addRow_0 := by decide +kernel
theorem dksX3_addRow_1 : cX3_addRow.data.toList.drop 24 = dktX3_addRow_1 := dk_seg dksX3_addRow_0 24 rfl rfl
theorem dX3_addRow_0 : decode cX3_addRow 0 = .ok (.aload_n 0, 1) := dk_42 (dk_at dksX3_addRow_0 0 rfl rfl)
theorem dX3_addRow_1 : decode cX3_addRow 1 = .ok (.invokevirtual 163, 3) := dk_182 0 163 (dk_at dksX3_addRow_0 1 rfl rfl)
theorem dX3_addRow_4 : decode cX3_addRow 4 = .ok (.aload_n 0, 1) := dk_42 (dk_at dksX3_addRow_0 4 rfl rfl)
theorem dX3_addRow_5 : decode cX3_addRow 5 = .ok (.iload_n 1, 1) := dk_27 (dk_at dksX3_addRow_0 5 rfl rfl)
theorem dX3_addRow_6 : decode cX3_addRow 6 = .ok (.iload_n 2, 1) := dk_28 (dk_at dksX3_addRow_0 6 rfl rfl)
theorem dX3_addRow_7 : decode cX3_addRow 7 = .ok (.iload_n 3, 1) := dk_29 (dk_at dksX3_addRow_0 7 rfl rfl)
theorem dX3_addRow_8 : decode cX3_addRow 8 = .ok (.invokevirtual 166, 3) := dk_182 0 166 (dk_at dksX3_addRow_0 8 rfl rfl)
theorem dX3_addRow_11 : decode cX3_addRow 11 = .ok (.istore 4, 2) := dk_54 4 (dk_at dksX3_addRow_0 11 rfl rfl)
theorem dX3_addRow_13 : decode cX3_addRow 13 = .ok (.iload 4, 2) := dk_21 4 (dk_at dksX3_addRow_0 13 rfl rfl)
theorem dX3_addRow_15 : decode cX3_addRow 15 = .ok (.ifCond .le 12, 3) := dk_158 0 12 (dk_at dksX3_addRow_0 15 rfl rfl)
theorem dX3_addRow_18 : decode cX3_addRow 18 = .ok (.aload_n 0, 1) := dk_42 (dk_at dksX3_addRow_0 18 rfl rfl)
theorem dX3_addRow_19 : decode cX3_addRow 19 = .ok (.iload 4, 2) := dk_21 4 (dk_at dksX3_addRow_0 19 rfl rfl)
theorem dX3_addRow_21 : decode cX3_addRow 21 = .ok (.invokevirtual 169, 3) := dk_182 0 169 (dk_at dksX3_addRow_0 21 rfl rfl)
theorem dX3_addRow_24 : decode cX3_addRow 24 = .ok (.goto 17, 3) := dk_167 0 17 (dk_at dksX3_addRow_1 0 rfl rfl)
theorem dX3_addRow_27 : decode cX3_addRow 27 = .ok (.aload_n 0, 1) := dk_42 (dk_at dksX3_addRow_1 3 rfl rfl)
theorem dX3_addRow_28 : decode cX3_addRow 28 = .ok (.aload_n 0, 1) := dk_42 (dk_at dksX3_addRow_1 4 rfl rfl)
theorem dX3_addRow_29 : decode cX3_addRow 29 = .ok (.iload_n 1, 1) := dk_27 (dk_at dksX3_addRow_1 5 rfl rfl)
theorem dX3_addRow_30 : decode cX3_addRow 30 = .ok (.bipush 97, 2) := dk_16 97 (dk_at dksX3_addRow_1 6 rfl rfl)
theorem dX3_addRow_32 : decode cX3_addRow 32 = .ok (.isub, 1) := dk_100 (dk_at dksX3_addRow_1 8 rfl rfl)
theorem dX3_addRow_33 : decode cX3_addRow 33 = .ok (.iload_n 2, 1) := dk_28 (dk_at dksX3_addRow_1 9 rfl rfl)
theorem dX3_addRow_34 : decode cX3_addRow 34 = .ok (.iload_n 3, 1) := dk_29 (dk_at dksX3_addRow_1 10 rfl rfl)
theorem dX3_addRow_35 : decode cX3_addRow 35 = .ok (.invokevirtual 173, 3) := dk_182 0 173 (dk_at dksX3_addRow_1 11 rfl rfl)
theorem dX3_addRow_38 : decode cX3_addRow 38 = .ok (.invokevirtual 176, 3) := dk_182 0 176 (dk_at dksX3_addRow_1 14 rfl rfl)
theorem dX3_addRow_41 : decode cX3_addRow 41 = .ok (.ireturn, 1) := dk_172 (dk_at dksX3_addRow_1 17 rfl rfl)
abbrev cX3_begin : ByteArray := prog_25_method_7_code
def yX3_begin : MethodName := ⟨RX3, "begin", "()V"⟩
def dkwX3_begin_1 : List UInt8 := [180, 0, 29, 3, 184, 0, 104, 177]
abbrev dktX3_begin_1 : List UInt8 := dkwX3_begin_1 ++ []
def dkwX3_begin_0 : List UInt8 := [42, 3, 181, 0, 47, 42, 180, 0, 7, 3, 42, 180, 0, 13, 3, 184, 0, 100, 42, 180, 0, 25, 3, 42]
abbrev dktX3_begin_0 : List UInt8 := dkwX3_begin_0 ++ dktX3_begin_1
theorem dksX3_begin_0 : cX3_begin.data.toList.drop 0 = dktX3_begin_0 := by decide +kernel
theorem dksX3_begin_1 : cX3_begin.data.toList.drop 24 = dktX3_begin_1 := dk_seg dksX3_begin_0 24 rfl rfl
theorem dX3_begin_0 : decode cX3_begin 0 = .ok (.aload_n 0, 1) := dk_42 (dk_at dksX3_begin_0 0 rfl rfl)
theorem dX3_begin_1 : decode cX3_begin 1 = .ok (.iconst 0, 1) := dk_3 (dk_at dksX3_begin_0 1 rfl rfl)
theorem dX3_begin_2 : decode cX3_begin 2 = .ok (.putfield 47, 3) := dk_181 0 47 (dk_at dksX3_begin_0 2 rfl rfl)
theorem dX3_begin_5 : decode cX3_begin 5 = .ok (.aload_n 0, 1) := dk_42 (dk_at dksX3_begin_0 5 rfl rfl)
theorem dX3_begin_6 : decode cX3_begin 6 = .ok (.getfield 7, 3) := dk_180 0 7 (dk_at dksX3_begin_0 6 rfl rfl)
theorem dX3_begin_9 : decode cX3_begin 9 = .ok (.iconst 0, 1) := dk_3 (dk_at dksX3_begin_0 9 rfl rfl)
theorem dX3_begin_10 : decode cX3_begin 10 = .ok (.aload_n 0, 1) := dk_42 (dk_at dksX3_begin_0 10 rfl rfl)
theorem dX3_begin_11 : decode cX3_begin 11 = .ok (.getfield 13, 3) := dk_180 0 13 (dk_at dksX3_begin_0 11 rfl rfl)
theorem dX3_begin_14 : decode cX3_begin 14 = .ok (.iconst 0, 1) := dk_3 (dk_at dksX3_begin_0 14 rfl rfl)
theorem dX3_begin_15 : decode cX3_begin 15 = .ok (.invokestatic 100, 3) := dk_184 0 100 (dk_at dksX3_begin_0 15 rfl rfl)
theorem dX3_begin_18 : decode cX3_begin 18 = .ok (.aload_n 0, 1) := dk_42 (dk_at dksX3_begin_0 18 rfl rfl)
theorem dX3_begin_19 : decode cX3_begin 19 = .ok (.getfield 25, 3) := dk_180 0 25 (dk_at dksX3_begin_0 19 rfl rfl)
theorem dX3_begin_22 : decode cX3_begin 22 = .ok (.iconst 0, 1) := dk_3 (dk_at dksX3_begin_0 22 rfl rfl)
theorem dX3_begin_23 : decode cX3_begin 23 = .ok (.aload_n 0, 1) := dk_42 (dk_at dksX3_begin_0 23 rfl rfl)
theorem dX3_begin_24 : decode cX3_begin 24 = .ok (.getfield 29, 3) := dk_180 0 29 (dk_at dksX3_begin_1 0 rfl rfl)
theorem dX3_begin_27 : decode cX3_begin 27 = .ok (.iconst 0, 1) := dk_3 (dk_at dksX3_begin_1 3 rfl rfl)
theorem dX3_begin_28 : decode cX3_begin 28 = .ok (.invokestatic 104, 3) := dk_184 0 104 (dk_at dksX3_begin_1 4 rfl rfl)
theorem dX3_begin_31 : decode cX3_begin 31 = .ok (.return_, 1) := dk_177 (dk_at dksX3_begin_1 7 rfl rfl)
abbrev cX3_copy : ByteArray := prog_25_method_4_code
def yX3_copy : MethodName := ⟨RX3, "copy", "([II[II)V"⟩
def dkwX3_copy_1 : List UInt8 := [132, 4, 1, 167, 255, 233, 177]
abbrev dktX3_copy_1 : List UInt8 := dkwX3_copy_1 ++ []
def dkwX3_copy_0 : List UInt8 := [3, 54, 4, 21, 4, 17, 1, 16, 162, 0, 21, 44, 29, 21, 4, 96, 42, 27, 21, 4, 96, 46, 79]
abbrev dktX3_copy_0 : List UInt8 := dkwX3_copy_0 ++ dktX3_copy_1
theorem dksX3_copy_0 : cX3_copy.data.toList.drop 0 = dktX3_copy_0 := by decide +kernel
theorem dksX3_copy_1 : cX3_copy.data.toList.drop 23 = dktX3_copy_1 := dk_seg dksX3_copy_0 23 rfl rfl
theorem dX3_copy_0 : decode cX3_copy 0 = .ok (.iconst 0, 1) := dk_3 (dk_at dksX3_copy_0 0 rfl rfl)
theorem dX3_copy_1 : decode cX3_copy 1 = .ok (.istore 4, 2) := dk_54 4 (dk_at dksX3_copy_0 1 rfl rfl)
theorem dX3_copy_3 : decode cX3_copy 3 = .ok (.iload 4, 2) := dk_21 4 (dk_at dksX3_copy_0 3 rfl rfl)
theorem dX3_copy_5 : decode cX3_copy 5 = .ok (.sipush 272, 3) := dk_17 1 16 (dk_at dksX3_copy_0 5 rfl rfl)
theorem dX3_copy_8 : decode cX3_copy 8 = .ok (.if_icmp .ge 21, 3) := dk_162 0 21 (dk_at dksX3_copy_0 8 rfl rfl)
theorem dX3_copy_11 : decode cX3_copy 11 = .ok (.aload_n 2, 1) := dk_44 (dk_at dksX3_copy_0 11 rfl rfl)
theorem dX3_copy_12 : decode cX3_copy 12 = .ok (.iload_n 3, 1) := dk_29 (dk_at dksX3_copy_0 12 rfl rfl)
theorem dX3_copy_13 : decode cX3_copy 13 = .ok (.iload 4, 2) := dk_21 4 (dk_at dksX3_copy_0 13 rfl rfl)
theorem dX3_copy_15 : decode cX3_copy 15 = .ok (.iadd, 1) := dk_96 (dk_at dksX3_copy_0 15 rfl rfl)
theorem dX3_copy_16 : decode cX3_copy 16 = .ok (.aload_n 0, 1) := dk_42 (dk_at dksX3_copy_0 16 rfl rfl)
theorem dX3_copy_17 : decode cX3_copy 17 = .ok (.iload_n 1, 1) := dk_27 (dk_at dksX3_copy_0 17 rfl rfl)
theorem dX3_copy_18 : decode cX3_copy 18 = .ok (.iload 4, 2) := dk_21 4 (dk_at dksX3_copy_0 18 rfl rfl)
theorem dX3_copy_20 : decode cX3_copy 20 = .ok (.iadd, 1) := dk_96 (dk_at dksX3_copy_0 20 rfl rfl)
theorem dX3_copy_21 : decode cX3_copy 21 = .ok (.iaload, 1) := dk_46 (dk_at dksX3_copy_0 21 rfl rfl)
theorem dX3_copy_22 : decode cX3_copy 22 = .ok (.iastore, 1) := dk_79 (dk_at dksX3_copy_0 22 rfl rfl)
theorem dX3_copy_23 : decode cX3_copy 23 = .ok (.iinc 4 1, 3) := dk_132 4 1 (dk_at dksX3_copy_1 0 rfl rfl)
theorem dX3_copy_26 : decode cX3_copy 26 = .ok (.goto (-23), 3) := dk_167 255 233 (dk_at dksX3_copy_1 3 rfl rfl)
theorem dX3_copy_29 : decode cX3_copy 29 = .ok (.return_, 1) := dk_177 (dk_at dksX3_copy_1 6 rfl rfl)
abbrev cX3_copyKept : ByteArray := prog_25_method_5_code
def yX3_copyKept : MethodName := ⟨RX3, "copyKept", "([JI[JI)V"⟩
def dkwX3_copyKept_1 : List UInt8 := [132, 4, 1, 167, 255, 233, 177]
abbrev dktX3_copyKept_1 : List UInt8 := dkwX3_copyKept_1 ++ []
def dkwX3_copyKept_0 : List UInt8 := [3, 54, 4, 21, 4, 17, 1, 24, 162, 0, 21, 44, 29, 21, 4, 96, 42, 27, 21, 4, 96, 47, 80]
abbrev dktX3_copyKept_0 : List UInt8 := dkwX3_copyKept_0 ++ dktX3_copyKept_1
theorem dksX3_copyKept_0 : cX3_copyKept.data.toList.drop 0 = dktX3_copyKept_0 := by decide +kernel
theorem dksX3_copyKept_1 : cX3_copyKept.data.toList.drop 23 = dktX3_copyKept_1 := dk_seg dksX3_copyKept_0 23 rfl rfl
theorem dX3_copyKept_0 : decode cX3_copyKept 0 = .ok (.iconst 0, 1) := dk_3 (dk_at dksX3_copyKept_0 0 rfl rfl)
theorem dX3_copyKept_1 : decode cX3_copyKept 1 = .ok (.istore 4, 2) := dk_54 4 (dk_at dksX3_copyKept_0 1 rfl rfl)
theorem dX3_copyKept_3 : decode cX3_copyKept 3 = .ok (.iload 4, 2) := dk_21 4 (dk_at dksX3_copyKept_0 3 rfl rfl)
theorem dX3_copyKept_5 : decode cX3_copyKept 5 = .ok (.sipush 280, 3) := dk_17 1 24 (dk_at dksX3_copyKept_0 5 rfl rfl)
theorem dX3_copyKept_8 : decode cX3_copyKept 8 = .ok (.if_icmp .ge 21, 3) := dk_162 0 21 (dk_at dksX3_copyKept_0 8 rfl rfl)
theorem dX3_copyKept_11 : decode cX3_copyKept 11 = .ok (.aload_n 2, 1) := dk_44 (dk_at dksX3_copyKept_0 11 rfl rfl)
theorem dX3_copyKept_12 : decode cX3_copyKept 12 = .ok (.iload_n 3, 1) := dk_29 (dk_at dksX3_copyKept_0 12 rfl rfl)
theorem dX3_copyKept_13 : decode cX3_copyKept 13 = .ok (.iload 4, 2) := dk_21 4 (dk_at dksX3_copyKept_0 13 rfl rfl)
theorem dX3_copyKept_15 : decode cX3_copyKept 15 = .ok (.iadd, 1) := dk_96 (dk_at dksX3_copyKept_0 15 rfl rfl)
theorem dX3_copyKept_16 : decode cX3_copyKept 16 = .ok (.aload_n 0, 1) := dk_42 (dk_at dksX3_copyKept_0 16 rfl rfl)
theorem dX3_copyKept_17 : decode cX3_copyKept 17 = .ok (.iload_n 1, 1) := dk_27 (dk_at dksX3_copyKept_0 17 rfl rfl)
theorem dX3_copyKept_18 : decode cX3_copyKept 18 = .ok (.iload 4, 2) := dk_21 4 (dk_at dksX3_copyKept_0 18 rfl rfl)
theorem dX3_copyKept_20 : decode cX3_copyKept 20 = .ok (.iadd, 1) := dk_96 (dk_at dksX3_copyKept_0 20 rfl rfl)
theorem dX3_copyKept_21 : decode cX3_copyKept 21 = .ok (.laload, 1) := dk_47 (dk_at dksX3_copyKept_0 21 rfl rfl)
theorem dX3_copyKept_22 : decode cX3_copyKept 22 = .ok (.lastore, 1) := dk_80 (dk_at dksX3_copyKept_0 22 rfl rfl)
theorem dX3_copyKept_23 : decode cX3_copyKept 23 = .ok (.iinc 4 1, 3) := dk_132 4 1 (dk_at dksX3_copyKept_1 0 rfl rfl)
theorem dX3_copyKept_26 : decode cX3_copyKept 26 = .ok (.goto (-23), 3) := dk_167 255 233 (dk_at dksX3_copyKept_1 3 rfl rfl)
theorem dX3_copyKept_29 : decode cX3_copyKept 29 = .ok (.return_, 1) := dk_177 (dk_at dksX3_copyKept_1 6 rfl rfl)
abbrev cX3_cannotRow : ByteArray := prog_25_method_29_code
def yX3_cannotRow : MethodName := ⟨RX3, "cannotRow", "(III)I"⟩
def dkwX3_cannotRow_3 : List UInt8 := [167, 0, 4, 3, 172]
abbrev dktX3_cannotRow_3 : List UInt8 := dkwX3_cannotRow_3 ++ []
def dkwX3_cannotRow_2 : List UInt8 := [182, 0, 156, 172, 42, 180, 0, 7, 4, 46, 16, 40, 160, 0, 14, 42, 4, 16, 40, 5, 182, 0, 156]
abbrev dktX3_cannotRow_2 : List UInt8 := dkwX3_cannotRow_2 ++ dktX3_cannotRow_3
def dkwX3_cannotRow_1 : List UInt8 := [154, 0, 5, 4, 172, 28, 42, 180, 0, 7, 3, 46, 164, 0, 16, 42, 5, 42, 180, 0, 7, 3, 46, 5]
abbrev dktX3_cannotRow_1 : List UInt8 := dkwX3_cannotRow_1 ++ dktX3_cannotRow_2
def dkwX3_cannotRow_0 : List UInt8 := [27, 184, 0, 153, 153, 0, 23, 28, 3, 16, 6, 184, 0, 112, 153, 0, 13, 29, 3, 16, 99, 184, 0, 112]
abbrev dktX3_cannotRow_0 : List UInt8 := dkwX3_cannotRow_0 ++ dktX3_cannotRow_1
theorem dksX3_cannotRow_0 : cX3_cannotRow.data.toList.drop 0 = dktX3_cannotRow_0 := by decide +kernel
theorem dksX3_cannotRow_1 : cX3_cannotRow.data.toList.drop 24 = dktX3_cannotRow_1 := dk_seg dksX3_cannotRow_0 24 rfl rfl
theorem dksX3_cannotRow_2 : cX3_cannotRow.data.toList.drop 48 = dktX3_cannotRow_2 := dk_seg dksX3_cannotRow_1 24 rfl rfl
theorem dksX3_cannotRow_3 : cX3_cannotRow.data.toList.drop 71 = dktX3_cannotRow_3 := dk_seg dksX3_cannotRow_2 23 rfl rfl
theorem dX3_cannotRow_0 : decode cX3_cannotRow 0 = .ok (.iload_n 1, 1) := dk_27 (dk_at dksX3_cannotRow_0 0 rfl rfl)
theorem dX3_cannotRow_1 : decode cX3_cannotRow 1 = .ok (.invokestatic 153, 3) := dk_184 0 153 (dk_at dksX3_cannotRow_0 1 rfl rfl)
theorem dX3_cannotRow_4 : decode cX3_cannotRow 4 = .ok (.ifCond .eq 23, 3) := dk_153 0 23 (dk_at dksX3_cannotRow_0 4 rfl rfl)
theorem dX3_cannotRow_7 : decode cX3_cannotRow 7 = .ok (.iload_n 2, 1) := dk_28 (dk_at dksX3_cannotRow_0 7 rfl rfl)
theorem dX3_cannotRow_8 : decode cX3_cannotRow 8 = .ok (.iconst 0, 1) := dk_3 (dk_at dksX3_cannotRow_0 8 rfl rfl)
theorem dX3_cannotRow_9 : decode cX3_cannotRow 9 = .ok (.bipush 6, 2) := dk_16 6 (dk_at dksX3_cannotRow_0 9 rfl rfl)
theorem dX3_cannotRow_11 : decode cX3_cannotRow 11 = .ok (.invokestatic 112, 3) := dk_184 0 112 (dk_at dksX3_cannotRow_0 11 rfl rfl)
theorem dX3_cannotRow_14 : decode cX3_cannotRow 14 = .ok (.ifCond .eq 13, 3) := dk_153 0 13 (dk_at dksX3_cannotRow_0 14 rfl rfl)
theorem dX3_cannotRow_17 : decode cX3_cannotRow 17 = .ok (.iload_n 3, 1) := dk_29 (dk_at dksX3_cannotRow_0 17 rfl rfl)
theorem dX3_cannotRow_18 : decode cX3_cannotRow 18 = .ok (.iconst 0, 1) := dk_3 (dk_at dksX3_cannotRow_0 18 rfl rfl)
theorem dX3_cannotRow_19 : decode cX3_cannotRow 19 = .ok (.bipush 99, 2) := dk_16 99 (dk_at dksX3_cannotRow_0 19 rfl rfl)
theorem dX3_cannotRow_21 : decode cX3_cannotRow 21 = .ok (.invokestatic 112, 3) := dk_184 0 112 (dk_at dksX3_cannotRow_0 21 rfl rfl)
theorem dX3_cannotRow_24 : decode cX3_cannotRow 24 = .ok (.ifCond .ne 5, 3) := dk_154 0 5 (dk_at dksX3_cannotRow_1 0 rfl rfl)
theorem dX3_cannotRow_27 : decode cX3_cannotRow 27 = .ok (.iconst 1, 1) := dk_4 (dk_at dksX3_cannotRow_1 3 rfl rfl)
theorem dX3_cannotRow_28 : decode cX3_cannotRow 28 = .ok (.ireturn, 1) := dk_172 (dk_at dksX3_cannotRow_1 4 rfl rfl)
theorem dX3_cannotRow_29 : decode cX3_cannotRow 29 = .ok (.iload_n 2, 1) := dk_28 (dk_at dksX3_cannotRow_1 5 rfl rfl)
theorem dX3_cannotRow_30 : decode cX3_cannotRow 30 = .ok (.aload_n 0, 1) := dk_42 (dk_at dksX3_cannotRow_1 6 rfl rfl)
theorem dX3_cannotRow_31 : decode cX3_cannotRow 31 = .ok (.getfield 7, 3) := dk_180 0 7 (dk_at dksX3_cannotRow_1 7 rfl rfl)
theorem dX3_cannotRow_34 : decode cX3_cannotRow 34 = .ok (.iconst 0, 1) := dk_3 (dk_at dksX3_cannotRow_1 10 rfl rfl)
theorem dX3_cannotRow_35 : decode cX3_cannotRow 35 = .ok (.iaload, 1) := dk_46 (dk_at dksX3_cannotRow_1 11 rfl rfl)
theorem dX3_cannotRow_36 : decode cX3_cannotRow 36 = .ok (.if_icmp .le 16, 3) := dk_164 0 16 (dk_at dksX3_cannotRow_1 12 rfl rfl)
theorem dX3_cannotRow_39 : decode cX3_cannotRow 39 = .ok (.aload_n 0, 1) := dk_42 (dk_at dksX3_cannotRow_1 15 rfl rfl)
theorem dX3_cannotRow_40 : decode cX3_cannotRow 40 = .ok (.iconst 2, 1) := dk_5 (dk_at dksX3_cannotRow_1 16 rfl rfl)
theorem dX3_cannotRow_41 : decode cX3_cannotRow 41 = .ok (.aload_n 0, 1) := dk_42 (dk_at dksX3_cannotRow_1 17 rfl rfl)
theorem dX3_cannotRow_42 : decode cX3_cannotRow 42 = .ok (.getfield 7, 3) := dk_180 0 7 (dk_at dksX3_cannotRow_1 18 rfl rfl)
theorem dX3_cannotRow_45 : decode cX3_cannotRow 45 = .ok (.iconst 0, 1) := dk_3 (dk_at dksX3_cannotRow_1 21 rfl rfl)
theorem dX3_cannotRow_46 : decode cX3_cannotRow 46 = .ok (.iaload, 1) := dk_46 (dk_at dksX3_cannotRow_1 22 rfl rfl)
theorem dX3_cannotRow_47 : decode cX3_cannotRow 47 = .ok (.iconst 2, 1) := dk_5 (dk_at dksX3_cannotRow_1 23 rfl rfl)
theorem dX3_cannotRow_48 : decode cX3_cannotRow 48 = .ok (.invokevirtual 156, 3) := dk_182 0 156 (dk_at dksX3_cannotRow_2 0 rfl rfl)
theorem dX3_cannotRow_51 : decode cX3_cannotRow 51 = .ok (.ireturn, 1) := dk_172 (dk_at dksX3_cannotRow_2 3 rfl rfl)
theorem dX3_cannotRow_52 : decode cX3_cannotRow 52 = .ok (.aload_n 0, 1) := dk_42 (dk_at dksX3_cannotRow_2 4 rfl rfl)
theorem dX3_cannotRow_53 : decode cX3_cannotRow 53 = .ok (.getfield 7, 3) := dk_180 0 7 (dk_at dksX3_cannotRow_2 5 rfl rfl)
theorem dX3_cannotRow_56 : decode cX3_cannotRow 56 = .ok (.iconst 1, 1) := dk_4 (dk_at dksX3_cannotRow_2 8 rfl rfl)
theorem dX3_cannotRow_57 : decode cX3_cannotRow 57 = .ok (.iaload, 1) := dk_46 (dk_at dksX3_cannotRow_2 9 rfl rfl)
theorem dX3_cannotRow_58 : decode cX3_cannotRow 58 = .ok (.bipush 40, 2) := dk_16 40 (dk_at dksX3_cannotRow_2 10 rfl rfl)
theorem dX3_cannotRow_60 : decode cX3_cannotRow 60 = .ok (.if_icmp .ne 14, 3) := dk_160 0 14 (dk_at dksX3_cannotRow_2 12 rfl rfl)
theorem dX3_cannotRow_63 : decode cX3_cannotRow 63 = .ok (.aload_n 0, 1) := dk_42 (dk_at dksX3_cannotRow_2 15 rfl rfl)
theorem dX3_cannotRow_64 : decode cX3_cannotRow 64 = .ok (.iconst 1, 1) := dk_4 (dk_at dksX3_cannotRow_2 16 rfl rfl)
theorem dX3_cannotRow_65 : decode cX3_cannotRow 65 = .ok (.bipush 40, 2) := dk_16 40 (dk_at dksX3_cannotRow_2 17 rfl rfl)
theorem dX3_cannotRow_67 : decode cX3_cannotRow 67 = .ok (.iconst 2, 1) := dk_5 (dk_at dksX3_cannotRow_2 19 rfl rfl)
theorem dX3_cannotRow_68 : decode cX3_cannotRow 68 = .ok (.invokevirtual 156, 3) := dk_182 0 156 (dk_at dksX3_cannotRow_2 20 rfl rfl)
theorem dX3_cannotRow_71 : decode cX3_cannotRow 71 = .ok (.goto 4, 3) := dk_167 0 4 (dk_at dksX3_cannotRow_3 0 rfl rfl)
theorem dX3_cannotRow_74 : decode cX3_cannotRow 74 = .ok (.iconst 0, 1) := dk_3 (dk_at dksX3_cannotRow_3 3 rfl rfl)
theorem dX3_cannotRow_75 : decode cX3_cannotRow 75 = .ok (.ireturn, 1) := dk_172 (dk_at dksX3_cannotRow_3 4 rfl rfl)
abbrev cX3_isGroup : ByteArray := prog_25_method_14_code
def yX3_isGroup : MethodName := ⟨RX3, "isGroup", "(I)Z"⟩
def dkwX3_isGroup_0 : List UInt8 := [26, 16, 97, 16, 101, 184, 0, 112, 172]
abbrev dktX3_isGroup_0 : List UInt8 := dkwX3_isGroup_0 ++ []
theorem dksX3_isGroup_0 : cX3_isGroup.data.toList.drop 0 = dktX3_isGroup_0 := by decide +kernel
theorem dX3_isGroup_0 : decode cX3_isGroup 0 = .ok (.iload_n 0, 1) := dk_26 (dk_at dksX3_isGroup_0 0 rfl rfl)
theorem dX3_isGroup_1 : decode cX3_isGroup 1 = .ok (.bipush 97, 2) := dk_16 97 (dk_at dksX3_isGroup_0 1 rfl rfl)
theorem dX3_isGroup_3 : decode cX3_isGroup 3 = .ok (.bipush 101, 2) := dk_16 101 (dk_at dksX3_isGroup_0 3 rfl rfl)
theorem dX3_isGroup_5 : decode cX3_isGroup 5 = .ok (.invokestatic 112, 3) := dk_184 0 112 (dk_at dksX3_isGroup_0 5 rfl rfl)
theorem dX3_isGroup_8 : decode cX3_isGroup 8 = .ok (.ireturn, 1) := dk_172 (dk_at dksX3_isGroup_0 8 rfl rfl)
abbrev cX3_in : ByteArray := prog_25_method_3_code
def yX3_in : MethodName := ⟨RX3, "in", "(III)Z"⟩
def dkwX3_in_0 : List UInt8 := [26, 27, 161, 0, 12, 26, 28, 163, 0, 7, 4, 167, 0, 4, 3, 172]
abbrev dktX3_in_0 : List UInt8 := dkwX3_in_0 ++ []
theorem dksX3_in_0 : cX3_in.data.toList.drop 0 = dktX3_in_0 := by decide +kernel
theorem dX3_in_0 : decode cX3_in 0 = .ok (.iload_n 0, 1) := dk_26 (dk_at dksX3_in_0 0 rfl rfl)
theorem dX3_in_1 : decode cX3_in 1 = .ok (.iload_n 1, 1) := dk_27 (dk_at dksX3_in_0 1 rfl rfl)
theorem dX3_in_2 : decode cX3_in 2 = .ok (.if_icmp .lt 12, 3) := dk_161 0 12 (dk_at dksX3_in_0 2 rfl rfl)
theorem dX3_in_5 : decode cX3_in 5 = .ok (.iload_n 0, 1) := dk_26 (dk_at dksX3_in_0 5 rfl rfl)
theorem dX3_in_6 : decode cX3_in 6 = .ok (.iload_n 2, 1) := dk_28 (dk_at dksX3_in_0 6 rfl rfl)
theorem dX3_in_7 : decode cX3_in 7 = .ok (.if_icmp .gt 7, 3) := dk_163 0 7 (dk_at dksX3_in_0 7 rfl rfl)
theorem dX3_in_10 : decode cX3_in 10 = .ok (.iconst 1, 1) := dk_4 (dk_at dksX3_in_0 10 rfl rfl)
theorem dX3_in_11 : decode cX3_in 11 = .ok (.goto 4, 3) := dk_167 0 4 (dk_at dksX3_in_0 11 rfl rfl)
theorem dX3_in_14 : decode cX3_in 14 = .ok (.iconst 0, 1) := dk_3 (dk_at dksX3_in_0 14 rfl rfl)
theorem dX3_in_15 : decode cX3_in 15 = .ok (.ireturn, 1) := dk_172 (dk_at dksX3_in_0 15 rfl rfl)
abbrev cX3_deny : ByteArray := prog_25_method_11_code
def yX3_deny : MethodName := ⟨RX3, "deny", "(III)I"⟩
def dkwX3_deny_0 : List UInt8 := [42, 27, 181, 0, 57, 42, 28, 181, 0, 60, 42, 3, 181, 0, 63, 29, 172]
abbrev dktX3_deny_0 : List UInt8 := dkwX3_deny_0 ++ []
theorem dksX3_deny_0 : cX3_deny.data.toList.drop 0 = dktX3_deny_0 := by decide +kernel
theorem dX3_deny_0 : decode cX3_deny 0 = .ok (.aload_n 0, 1) := dk_42 (dk_at dksX3_deny_0 0 rfl rfl)
theorem dX3_deny_1 : decode cX3_deny 1 = .ok (.iload_n 1, 1) := dk_27 (dk_at dksX3_deny_0 1 rfl rfl)
theorem dX3_deny_2 : decode cX3_deny 2 = .ok (.putfield 57, 3) := dk_181 0 57 (dk_at dksX3_deny_0 2 rfl rfl)
theorem dX3_deny_5 : decode cX3_deny 5 = .ok (.aload_n 0, 1) := dk_42 (dk_at dksX3_deny_0 5 rfl rfl)
theorem dX3_deny_6 : decode cX3_deny 6 = .ok (.iload_n 2, 1) := dk_28 (dk_at dksX3_deny_0 6 rfl rfl)
theorem dX3_deny_7 : decode cX3_deny 7 = .ok (.putfield 60, 3) := dk_181 0 60 (dk_at dksX3_deny_0 7 rfl rfl)
theorem dX3_deny_10 : decode cX3_deny 10 = .ok (.aload_n 0, 1) := dk_42 (dk_at dksX3_deny_0 10 rfl rfl)
theorem dX3_deny_11 : decode cX3_deny 11 = .ok (.iconst 0, 1) := dk_3 (dk_at dksX3_deny_0 11 rfl rfl)
theorem dX3_deny_12 : decode cX3_deny 12 = .ok (.putfield 63, 3) := dk_181 0 63 (dk_at dksX3_deny_0 12 rfl rfl)
theorem dX3_deny_15 : decode cX3_deny 15 = .ok (.iload_n 3, 1) := dk_29 (dk_at dksX3_deny_0 15 rfl rfl)
theorem dX3_deny_16 : decode cX3_deny 16 = .ok (.ireturn, 1) := dk_172 (dk_at dksX3_deny_0 16 rfl rfl)
abbrev cX3_fail : ByteArray := prog_25_method_6_code
def yX3_fail : MethodName := ⟨RX3, "fail", "(I)I"⟩
def dkwX3_fail_0 : List UInt8 := [42, 27, 181, 0, 47, 3, 172]
abbrev dktX3_fail_0 : List UInt8 := dkwX3_fail_0 ++ []
theorem dksX3_fail_0 : cX3_fail.data.toList.drop 0 = dktX3_fail_0 := by decide +kernel
theorem dX3_fail_0 : decode cX3_fail 0 = .ok (.aload_n 0, 1) := dk_42 (dk_at dksX3_fail_0 0 rfl rfl)
theorem dX3_fail_1 : decode cX3_fail 1 = .ok (.iload_n 1, 1) := dk_27 (dk_at dksX3_fail_0 1 rfl rfl)
theorem dX3_fail_2 : decode cX3_fail 2 = .ok (.putfield 47, 3) := dk_181 0 47 (dk_at dksX3_fail_0 2 rfl rfl)
theorem dX3_fail_5 : decode cX3_fail 5 = .ok (.iconst 0, 1) := dk_3 (dk_at dksX3_fail_0 5 rfl rfl)
theorem dX3_fail_6 : decode cX3_fail 6 = .ok (.ireturn, 1) := dk_172 (dk_at dksX3_fail_0 6 rfl rfl)
abbrev cX3_newRow : ByteArray := prog_25_method_30_code
def yX3_newRow : MethodName := ⟨RX3, "newRow", "(III)I"⟩
def dkwX3_newRow_3 : List UInt8 := [96, 79, 42, 180, 0, 7, 5, 92, 46, 4, 96, 79, 42, 28, 182, 0, 159, 21, 5, 172]
abbrev dktX3_newRow_3 : List UInt8 := dkwX3_newRow_3 ++ []
def dkwX3_newRow_2 : List UInt8 := [21, 4, 5, 96, 27, 79, 42, 180, 0, 7, 21, 4, 6, 96, 29, 79, 42, 180, 0, 7, 4, 92, 46, 4]
abbrev dktX3_newRow_2 : List UInt8 := dkwX3_newRow_2 ++ dktX3_newRow_3
def dkwX3_newRow_1 : List UInt8 := [180, 0, 7, 21, 4, 3, 96, 21, 5, 79, 42, 180, 0, 7, 21, 4, 4, 96, 28, 79, 42, 180, 0, 7]
abbrev dktX3_newRow_1 : List UInt8 := dkwX3_newRow_1 ++ dktX3_newRow_2
def dkwX3_newRow_0 : List UInt8 := [16, 16, 7, 42, 180, 0, 7, 4, 46, 104, 96, 54, 4, 42, 180, 0, 7, 5, 46, 54, 5, 42]
abbrev dktX3_newRow_0 : List UInt8 := dkwX3_newRow_0 ++ dktX3_newRow_1
theorem dksX3_newRow_0 : cX3_newRow.data.toList.drop 0 = dktX3_newRow_0 := by decide +kernel
theorem dksX3_newRow_1 : cX3_newRow.data.toList.drop 22 = dktX3_newRow_1 := dk_seg dksX3_newRow_0 22 rfl rfl
theorem dksX3_newRow_2 : cX3_newRow.data.toList.drop 46 = dktX3_newRow_2 := dk_seg dksX3_newRow_1 24 rfl rfl
theorem dksX3_newRow_3 : cX3_newRow.data.toList.drop 70 = dktX3_newRow_3 := dk_seg dksX3_newRow_2 24 rfl rfl
theorem dX3_newRow_0 : decode cX3_newRow 0 = .ok (.bipush 16, 2) := dk_16 16 (dk_at dksX3_newRow_0 0 rfl rfl)
theorem dX3_newRow_2 : decode cX3_newRow 2 = .ok (.iconst 4, 1) := dk_7 (dk_at dksX3_newRow_0 2 rfl rfl)
theorem dX3_newRow_3 : decode cX3_newRow 3 = .ok (.aload_n 0, 1) := dk_42 (dk_at dksX3_newRow_0 3 rfl rfl)
theorem dX3_newRow_4 : decode cX3_newRow 4 = .ok (.getfield 7, 3) := dk_180 0 7 (dk_at dksX3_newRow_0 4 rfl rfl)
theorem dX3_newRow_7 : decode cX3_newRow 7 = .ok (.iconst 1, 1) := dk_4 (dk_at dksX3_newRow_0 7 rfl rfl)
theorem dX3_newRow_8 : decode cX3_newRow 8 = .ok (.iaload, 1) := dk_46 (dk_at dksX3_newRow_0 8 rfl rfl)
theorem dX3_newRow_9 : decode cX3_newRow 9 = .ok (.imul, 1) := dk_104 (dk_at dksX3_newRow_0 9 rfl rfl)
theorem dX3_newRow_10 : decode cX3_newRow 10 = .ok (.iadd, 1) := dk_96 (dk_at dksX3_newRow_0 10 rfl rfl)
theorem dX3_newRow_11 : decode cX3_newRow 11 = .ok (.istore 4, 2) := dk_54 4 (dk_at dksX3_newRow_0 11 rfl rfl)
theorem dX3_newRow_13 : decode cX3_newRow 13 = .ok (.aload_n 0, 1) := dk_42 (dk_at dksX3_newRow_0 13 rfl rfl)
theorem dX3_newRow_14 : decode cX3_newRow 14 = .ok (.getfield 7, 3) := dk_180 0 7 (dk_at dksX3_newRow_0 14 rfl rfl)
theorem dX3_newRow_17 : decode cX3_newRow 17 = .ok (.iconst 2, 1) := dk_5 (dk_at dksX3_newRow_0 17 rfl rfl)
theorem dX3_newRow_18 : decode cX3_newRow 18 = .ok (.iaload, 1) := dk_46 (dk_at dksX3_newRow_0 18 rfl rfl)
theorem dX3_newRow_19 : decode cX3_newRow 19 = .ok (.istore 5, 2) := dk_54 5 (dk_at dksX3_newRow_0 19 rfl rfl)
theorem dX3_newRow_21 : decode cX3_newRow 21 = .ok (.aload_n 0, 1) := dk_42 (dk_at dksX3_newRow_0 21 rfl rfl)
theorem dX3_newRow_22 : decode cX3_newRow 22 = .ok (.getfield 7, 3) := dk_180 0 7 (dk_at dksX3_newRow_1 0 rfl rfl)
theorem dX3_newRow_25 : decode cX3_newRow 25 = .ok (.iload 4, 2) := dk_21 4 (dk_at dksX3_newRow_1 3 rfl rfl)
theorem dX3_newRow_27 : decode cX3_newRow 27 = .ok (.iconst 0, 1) := dk_3 (dk_at dksX3_newRow_1 5 rfl rfl)
theorem dX3_newRow_28 : decode cX3_newRow 28 = .ok (.iadd, 1) := dk_96 (dk_at dksX3_newRow_1 6 rfl rfl)
theorem dX3_newRow_29 : decode cX3_newRow 29 = .ok (.iload 5, 2) := dk_21 5 (dk_at dksX3_newRow_1 7 rfl rfl)
theorem dX3_newRow_31 : decode cX3_newRow 31 = .ok (.iastore, 1) := dk_79 (dk_at dksX3_newRow_1 9 rfl rfl)
theorem dX3_newRow_32 : decode cX3_newRow 32 = .ok (.aload_n 0, 1) := dk_42 (dk_at dksX3_newRow_1 10 rfl rfl)
theorem dX3_newRow_33 : decode cX3_newRow 33 = .ok (.getfield 7, 3) := dk_180 0 7 (dk_at dksX3_newRow_1 11 rfl rfl)
theorem dX3_newRow_36 : decode cX3_newRow 36 = .ok (.iload 4, 2) := dk_21 4 (dk_at dksX3_newRow_1 14 rfl rfl)
theorem dX3_newRow_38 : decode cX3_newRow 38 = .ok (.iconst 1, 1) := dk_4 (dk_at dksX3_newRow_1 16 rfl rfl)
theorem dX3_newRow_39 : decode cX3_newRow 39 = .ok (.iadd, 1) := dk_96 (dk_at dksX3_newRow_1 17 rfl rfl)
theorem dX3_newRow_40 : decode cX3_newRow 40 = .ok (.iload_n 2, 1) := dk_28 (dk_at dksX3_newRow_1 18 rfl rfl)
theorem dX3_newRow_41 : decode cX3_newRow 41 = .ok (.iastore, 1) := dk_79 (dk_at dksX3_newRow_1 19 rfl rfl)
theorem dX3_newRow_42 : decode cX3_newRow 42 = .ok (.aload_n 0, 1) := dk_42 (dk_at dksX3_newRow_1 20 rfl rfl)
theorem dX3_newRow_43 : decode cX3_newRow 43 = .ok (.getfield 7, 3) := dk_180 0 7 (dk_at dksX3_newRow_1 21 rfl rfl)
theorem dX3_newRow_46 : decode cX3_newRow 46 = .ok (.iload 4, 2) := dk_21 4 (dk_at dksX3_newRow_2 0 rfl rfl)
theorem dX3_newRow_48 : decode cX3_newRow 48 = .ok (.iconst 2, 1) := dk_5 (dk_at dksX3_newRow_2 2 rfl rfl)
theorem dX3_newRow_49 : decode cX3_newRow 49 = .ok (.iadd, 1) := dk_96 (dk_at dksX3_newRow_2 3 rfl rfl)
theorem dX3_newRow_50 : decode cX3_newRow 50 = .ok (.iload_n 1, 1) := dk_27 (dk_at dksX3_newRow_2 4 rfl rfl)
theorem dX3_newRow_51 : decode cX3_newRow 51 = .ok (.iastore, 1) := dk_79 (dk_at dksX3_newRow_2 5 rfl rfl)
theorem dX3_newRow_52 : decode cX3_newRow 52 = .ok (.aload_n 0, 1) := dk_42 (dk_at dksX3_newRow_2 6 rfl rfl)
theorem dX3_newRow_53 : decode cX3_newRow 53 = .ok (.getfield 7, 3) := dk_180 0 7 (dk_at dksX3_newRow_2 7 rfl rfl)
theorem dX3_newRow_56 : decode cX3_newRow 56 = .ok (.iload 4, 2) := dk_21 4 (dk_at dksX3_newRow_2 10 rfl rfl)
theorem dX3_newRow_58 : decode cX3_newRow 58 = .ok (.iconst 3, 1) := dk_6 (dk_at dksX3_newRow_2 12 rfl rfl)
theorem dX3_newRow_59 : decode cX3_newRow 59 = .ok (.iadd, 1) := dk_96 (dk_at dksX3_newRow_2 13 rfl rfl)
theorem dX3_newRow_60 : decode cX3_newRow 60 = .ok (.iload_n 3, 1) := dk_29 (dk_at dksX3_newRow_2 14 rfl rfl)
theorem dX3_newRow_61 : decode cX3_newRow 61 = .ok (.iastore, 1) := dk_79 (dk_at dksX3_newRow_2 15 rfl rfl)
theorem dX3_newRow_62 : decode cX3_newRow 62 = .ok (.aload_n 0, 1) := dk_42 (dk_at dksX3_newRow_2 16 rfl rfl)
theorem dX3_newRow_63 : decode cX3_newRow 63 = .ok (.getfield 7, 3) := dk_180 0 7 (dk_at dksX3_newRow_2 17 rfl rfl)
theorem dX3_newRow_66 : decode cX3_newRow 66 = .ok (.iconst 1, 1) := dk_4 (dk_at dksX3_newRow_2 20 rfl rfl)
theorem dX3_newRow_67 : decode cX3_newRow 67 = .ok (.dup2, 1) := dk_92 (dk_at dksX3_newRow_2 21 rfl rfl)
theorem dX3_newRow_68 : decode cX3_newRow 68 = .ok (.iaload, 1) := dk_46 (dk_at dksX3_newRow_2 22 rfl rfl)
theorem dX3_newRow_69 : decode cX3_newRow 69 = .ok (.iconst 1, 1) := dk_4 (dk_at dksX3_newRow_2 23 rfl rfl)
theorem dX3_newRow_70 : decode cX3_newRow 70 = .ok (.iadd, 1) := dk_96 (dk_at dksX3_newRow_3 0 rfl rfl)
theorem dX3_newRow_71 : decode cX3_newRow 71 = .ok (.iastore, 1) := dk_79 (dk_at dksX3_newRow_3 1 rfl rfl)
theorem dX3_newRow_72 : decode cX3_newRow 72 = .ok (.aload_n 0, 1) := dk_42 (dk_at dksX3_newRow_3 2 rfl rfl)
theorem dX3_newRow_73 : decode cX3_newRow 73 = .ok (.getfield 7, 3) := dk_180 0 7 (dk_at dksX3_newRow_3 3 rfl rfl)
theorem dX3_newRow_76 : decode cX3_newRow 76 = .ok (.iconst 2, 1) := dk_5 (dk_at dksX3_newRow_3 6 rfl rfl)
theorem dX3_newRow_77 : decode cX3_newRow 77 = .ok (.dup2, 1) := dk_92 (dk_at dksX3_newRow_3 7 rfl rfl)
theorem dX3_newRow_78 : decode cX3_newRow 78 = .ok (.iaload, 1) := dk_46 (dk_at dksX3_newRow_3 8 rfl rfl)
theorem dX3_newRow_79 : decode cX3_newRow 79 = .ok (.iconst 1, 1) := dk_4 (dk_at dksX3_newRow_3 9 rfl rfl)
theorem dX3_newRow_80 : decode cX3_newRow 80 = .ok (.iadd, 1) := dk_96 (dk_at dksX3_newRow_3 10 rfl rfl)
theorem dX3_newRow_81 : decode cX3_newRow 81 = .ok (.iastore, 1) := dk_79 (dk_at dksX3_newRow_3 11 rfl rfl)
theorem dX3_newRow_82 : decode cX3_newRow 82 = .ok (.aload_n 0, 1) := dk_42 (dk_at dksX3_newRow_3 12 rfl rfl)
theorem dX3_newRow_83 : decode cX3_newRow 83 = .ok (.iload_n 2, 1) := dk_28 (dk_at dksX3_newRow_3 13 rfl rfl)
theorem dX3_newRow_84 : decode cX3_newRow 84 = .ok (.invokevirtual 159, 3) := dk_182 0 159 (dk_at dksX3_newRow_3 14 rfl rfl)
theorem dX3_newRow_87 : decode cX3_newRow 87 = .ok (.iload 5, 2) := dk_21 5 (dk_at dksX3_newRow_3 17 rfl rfl)
theorem dX3_newRow_89 : decode cX3_newRow 89 = .ok (.ireturn, 1) := dk_172 (dk_at dksX3_newRow_3 19 rfl rfl)
abbrev cX3_touched : ByteArray := prog_25_method_28_code
def yX3_touched : MethodName := ⟨RX3, "touched", "(I)V"⟩
def dkwX3_touched_5 : List UInt8 := [167, 255, 194, 177]
abbrev dktX3_touched_5 : List UInt8 := dkwX3_touched_5 ++ []
def dkwX3_touched_4 : List UInt8 := [29, 182, 0, 150, 153, 0, 10, 42, 28, 29, 4, 182, 0, 146, 132, 3, 1, 167, 255, 227, 132, 2, 1]
abbrev dktX3_touched_4 : List UInt8 := dkwX3_touched_4 ++ dktX3_touched_5
def dkwX3_touched_3 : List UInt8 := [153, 0, 10, 42, 28, 27, 4, 182, 0, 146, 3, 62, 29, 42, 180, 0, 7, 3, 46, 163, 0, 25, 42, 28]
abbrev dktX3_touched_3 : List UInt8 := dkwX3_touched_3 ++ dktX3_touched_4
def dkwX3_touched_2 : List UInt8 := [8, 92, 46, 4, 96, 79, 3, 61, 28, 42, 180, 0, 7, 6, 46, 162, 0, 58, 42, 28, 182, 0, 123]
abbrev dktX3_touched_2 : List UInt8 := dkwX3_touched_2 ++ dktX3_touched_3
def dkwX3_touched_1 : List UInt8 := [27, 182, 0, 138, 154, 0, 9, 42, 28, 27, 182, 0, 142, 132, 2, 1, 167, 255, 228, 177, 42, 180, 0, 7]
abbrev dktX3_touched_1 : List UInt8 := dkwX3_touched_1 ++ dktX3_touched_2
def dkwX3_touched_0 : List UInt8 := [27, 42, 180, 0, 7, 3, 46, 160, 0, 37, 3, 61, 28, 42, 180, 0, 7, 6, 46, 162, 0, 24, 42, 28]
abbrev dktX3_touched_0 : List UInt8 := dkwX3_touched_0 ++ dktX3_touched_1
theorem dksX3_touched_0 : cX3_touched.data.toList.drop 0 = dktX3_touched_0 := by decide +kernel
theorem dksX3_touched_1 : cX3_touched.data.toList.drop 24 = dktX3_touched_1 := dk_seg dksX3_touched_0 24 rfl rfl
theorem dksX3_touched_2 : cX3_touched.data.toList.drop 48 = dktX3_touched_2 := dk_seg dksX3_touched_1 24 rfl rfl
theorem dksX3_touched_3 : cX3_touched.data.toList.drop 71 = dktX3_touched_3 := dk_seg dksX3_touched_2 23 rfl rfl
theorem dksX3_touched_4 : cX3_touched.data.toList.drop 95 = dktX3_touched_4 := dk_seg dksX3_touched_3 24 rfl rfl
theorem dksX3_touched_5 : cX3_touched.data.toList.drop 118 = dktX3_touched_5 := dk_seg dksX3_touched_4 23 rfl rfl
theorem dX3_touched_0 : decode cX3_touched 0 = .ok (.iload_n 1, 1) := dk_27 (dk_at dksX3_touched_0 0 rfl rfl)
theorem dX3_touched_1 : decode cX3_touched 1 = .ok (.aload_n 0, 1) := dk_42 (dk_at dksX3_touched_0 1 rfl rfl)
theorem dX3_touched_2 : decode cX3_touched 2 = .ok (.getfield 7, 3) := dk_180 0 7 (dk_at dksX3_touched_0 2 rfl rfl)
theorem dX3_touched_5 : decode cX3_touched 5 = .ok (.iconst 0, 1) := dk_3 (dk_at dksX3_touched_0 5 rfl rfl)
theorem dX3_touched_6 : decode cX3_touched 6 = .ok (.iaload, 1) := dk_46 (dk_at dksX3_touched_0 6 rfl rfl)
theorem dX3_touched_7 : decode cX3_touched 7 = .ok (.if_icmp .ne 37, 3) := dk_160 0 37 (dk_at dksX3_touched_0 7 rfl rfl)
theorem dX3_touched_10 : decode cX3_touched 10 = .ok (.iconst 0, 1) := dk_3 (dk_at dksX3_touched_0 10 rfl rfl)
theorem dX3_touched_11 : decode cX3_touched 11 = .ok (.istore_n 2, 1) := dk_61 (dk_at dksX3_touched_0 11 rfl rfl)
theorem dX3_touched_12 : decode cX3_touched 12 = .ok (.iload_n 2, 1) := dk_28 (dk_at dksX3_touched_0 12 rfl rfl)
theorem dX3_touched_13 : decode cX3_touched 13 = .ok (.aload_n 0, 1) := dk_42 (dk_at dksX3_touched_0 13 rfl rfl)
theorem dX3_touched_14 : decode cX3_touched 14 = .ok (.getfield 7, 3) := dk_180 0 7 (dk_at dksX3_touched_0 14 rfl rfl)
theorem dX3_touched_17 : decode cX3_touched 17 = .ok (.iconst 3, 1) := dk_6 (dk_at dksX3_touched_0 17 rfl rfl)
theorem dX3_touched_18 : decode cX3_touched 18 = .ok (.iaload, 1) := dk_46 (dk_at dksX3_touched_0 18 rfl rfl)
theorem dX3_touched_19 : decode cX3_touched 19 = .ok (.if_icmp .ge 24, 3) := dk_162 0 24 (dk_at dksX3_touched_0 19 rfl rfl)
theorem dX3_touched_22 : decode cX3_touched 22 = .ok (.aload_n 0, 1) := dk_42 (dk_at dksX3_touched_0 22 rfl rfl)
theorem dX3_touched_23 : decode cX3_touched 23 = .ok (.iload_n 2, 1) := dk_28 (dk_at dksX3_touched_0 23 rfl rfl)
theorem dX3_touched_24 : decode cX3_touched 24 = .ok (.iload_n 1, 1) := dk_27 (dk_at dksX3_touched_1 0 rfl rfl)
theorem dX3_touched_25 : decode cX3_touched 25 = .ok (.invokevirtual 138, 3) := dk_182 0 138 (dk_at dksX3_touched_1 1 rfl rfl)
theorem dX3_touched_28 : decode cX3_touched 28 = .ok (.ifCond .ne 9, 3) := dk_154 0 9 (dk_at dksX3_touched_1 4 rfl rfl)
theorem dX3_touched_31 : decode cX3_touched 31 = .ok (.aload_n 0, 1) := dk_42 (dk_at dksX3_touched_1 7 rfl rfl)
theorem dX3_touched_32 : decode cX3_touched 32 = .ok (.iload_n 2, 1) := dk_28 (dk_at dksX3_touched_1 8 rfl rfl)
theorem dX3_touched_33 : decode cX3_touched 33 = .ok (.iload_n 1, 1) := dk_27 (dk_at dksX3_touched_1 9 rfl rfl)
theorem dX3_touched_34 : decode cX3_touched 34 = .ok (.invokevirtual 142, 3) := dk_182 0 142 (dk_at dksX3_touched_1 10 rfl rfl)
theorem dX3_touched_37 : decode cX3_touched 37 = .ok (.iinc 2 1, 3) := dk_132 2 1 (dk_at dksX3_touched_1 13 rfl rfl)
theorem dX3_touched_40 : decode cX3_touched 40 = .ok (.goto (-28), 3) := dk_167 255 228 (dk_at dksX3_touched_1 16 rfl rfl)
theorem dX3_touched_43 : decode cX3_touched 43 = .ok (.return_, 1) := dk_177 (dk_at dksX3_touched_1 19 rfl rfl)
theorem dX3_touched_44 : decode cX3_touched 44 = .ok (.aload_n 0, 1) := dk_42 (dk_at dksX3_touched_1 20 rfl rfl)
theorem dX3_touched_45 : decode cX3_touched 45 = .ok (.getfield 7, 3) := dk_180 0 7 (dk_at dksX3_touched_1 21 rfl rfl)
theorem dX3_touched_48 : decode cX3_touched 48 = .ok (.iconst 5, 1) := dk_8 (dk_at dksX3_touched_2 0 rfl rfl)
theorem dX3_touched_49 : decode cX3_touched 49 = .ok (.dup2, 1) := dk_92 (dk_at dksX3_touched_2 1 rfl rfl)
theorem dX3_touched_50 : decode cX3_touched 50 = .ok (.iaload, 1) := dk_46 (dk_at dksX3_touched_2 2 rfl rfl)
theorem dX3_touched_51 : decode cX3_touched 51 = .ok (.iconst 1, 1) := dk_4 (dk_at dksX3_touched_2 3 rfl rfl)
theorem dX3_touched_52 : decode cX3_touched 52 = .ok (.iadd, 1) := dk_96 (dk_at dksX3_touched_2 4 rfl rfl)
theorem dX3_touched_53 : decode cX3_touched 53 = .ok (.iastore, 1) := dk_79 (dk_at dksX3_touched_2 5 rfl rfl)
theorem dX3_touched_54 : decode cX3_touched 54 = .ok (.iconst 0, 1) := dk_3 (dk_at dksX3_touched_2 6 rfl rfl)
theorem dX3_touched_55 : decode cX3_touched 55 = .ok (.istore_n 2, 1) := dk_61 (dk_at dksX3_touched_2 7 rfl rfl)
theorem dX3_touched_56 : decode cX3_touched 56 = .ok (.iload_n 2, 1) := dk_28 (dk_at dksX3_touched_2 8 rfl rfl)
theorem dX3_touched_57 : decode cX3_touched 57 = .ok (.aload_n 0, 1) := dk_42 (dk_at dksX3_touched_2 9 rfl rfl)
theorem dX3_touched_58 : decode cX3_touched 58 = .ok (.getfield 7, 3) := dk_180 0 7 (dk_at dksX3_touched_2 10 rfl rfl)
theorem dX3_touched_61 : decode cX3_touched 61 = .ok (.iconst 3, 1) := dk_6 (dk_at dksX3_touched_2 13 rfl rfl)
theorem dX3_touched_62 : decode cX3_touched 62 = .ok (.iaload, 1) := dk_46 (dk_at dksX3_touched_2 14 rfl rfl)
theorem dX3_touched_63 : decode cX3_touched 63 = .ok (.if_icmp .ge 58, 3) := dk_162 0 58 (dk_at dksX3_touched_2 15 rfl rfl)
theorem dX3_touched_66 : decode cX3_touched 66 = .ok (.aload_n 0, 1) := dk_42 (dk_at dksX3_touched_2 18 rfl rfl)
theorem dX3_touched_67 : decode cX3_touched 67 = .ok (.iload_n 2, 1) := dk_28 (dk_at dksX3_touched_2 19 rfl rfl)
theorem dX3_touched_68 : decode cX3_touched 68 = .ok (.invokevirtual 123, 3) := dk_182 0 123 (dk_at dksX3_touched_2 20 rfl rfl)
theorem dX3_touched_71 : decode cX3_touched 71 = .ok (.ifCond .eq 10, 3) := dk_153 0 10 (dk_at dksX3_touched_3 0 rfl rfl)
theorem dX3_touched_74 : decode cX3_touched 74 = .ok (.aload_n 0, 1) := dk_42 (dk_at dksX3_touched_3 3 rfl rfl)
theorem dX3_touched_75 : decode cX3_touched 75 = .ok (.iload_n 2, 1) := dk_28 (dk_at dksX3_touched_3 4 rfl rfl)
theorem dX3_touched_76 : decode cX3_touched 76 = .ok (.iload_n 1, 1) := dk_27 (dk_at dksX3_touched_3 5 rfl rfl)
theorem dX3_touched_77 : decode cX3_touched 77 = .ok (.iconst 1, 1) := dk_4 (dk_at dksX3_touched_3 6 rfl rfl)
theorem dX3_touched_78 : decode cX3_touched 78 = .ok (.invokevirtual 146, 3) := dk_182 0 146 (dk_at dksX3_touched_3 7 rfl rfl)
theorem dX3_touched_81 : decode cX3_touched 81 = .ok (.iconst 0, 1) := dk_3 (dk_at dksX3_touched_3 10 rfl rfl)
theorem dX3_touched_82 : decode cX3_touched 82 = .ok (.istore_n 3, 1) := dk_62 (dk_at dksX3_touched_3 11 rfl rfl)
theorem dX3_touched_83 : decode cX3_touched 83 = .ok (.iload_n 3, 1) := dk_29 (dk_at dksX3_touched_3 12 rfl rfl)
theorem dX3_touched_84 : decode cX3_touched 84 = .ok (.aload_n 0, 1) := dk_42 (dk_at dksX3_touched_3 13 rfl rfl)
theorem dX3_touched_85 : decode cX3_touched 85 = .ok (.getfield 7, 3) := dk_180 0 7 (dk_at dksX3_touched_3 14 rfl rfl)
theorem dX3_touched_88 : decode cX3_touched 88 = .ok (.iconst 0, 1) := dk_3 (dk_at dksX3_touched_3 17 rfl rfl)
theorem dX3_touched_89 : decode cX3_touched 89 = .ok (.iaload, 1) := dk_46 (dk_at dksX3_touched_3 18 rfl rfl)
theorem dX3_touched_90 : decode cX3_touched 90 = .ok (.if_icmp .gt 25, 3) := dk_163 0 25 (dk_at dksX3_touched_3 19 rfl rfl)
theorem dX3_touched_93 : decode cX3_touched 93 = .ok (.aload_n 0, 1) := dk_42 (dk_at dksX3_touched_3 22 rfl rfl)
theorem dX3_touched_94 : decode cX3_touched 94 = .ok (.iload_n 2, 1) := dk_28 (dk_at dksX3_touched_3 23 rfl rfl)
theorem dX3_touched_95 : decode cX3_touched 95 = .ok (.iload_n 3, 1) := dk_29 (dk_at dksX3_touched_4 0 rfl rfl)
theorem dX3_touched_96 : decode cX3_touched 96 = .ok (.invokevirtual 150, 3) := dk_182 0 150 (dk_at dksX3_touched_4 1 rfl rfl)
theorem dX3_touched_99 : decode cX3_touched 99 = .ok (.ifCond .eq 10, 3) := dk_153 0 10 (dk_at dksX3_touched_4 4 rfl rfl)
theorem dX3_touched_102 : decode cX3_touched 102 = .ok (.aload_n 0, 1) := dk_42 (dk_at dksX3_touched_4 7 rfl rfl)
theorem dX3_touched_103 : decode cX3_touched 103 = .ok (.iload_n 2, 1) := dk_28 (dk_at dksX3_touched_4 8 rfl rfl)
theorem dX3_touched_104 : decode cX3_touched 104 = .ok (.iload_n 3, 1) := dk_29 (dk_at dksX3_touched_4 9 rfl rfl)
theorem dX3_touched_105 : decode cX3_touched 105 = .ok (.iconst 1, 1) := dk_4 (dk_at dksX3_touched_4 10 rfl rfl)
theorem dX3_touched_106 : decode cX3_touched 106 = .ok (.invokevirtual 146, 3) := dk_182 0 146 (dk_at dksX3_touched_4 11 rfl rfl)
theorem dX3_touched_109 : decode cX3_touched 109 = .ok (.iinc 3 1, 3) := dk_132 3 1 (dk_at dksX3_touched_4 14 rfl rfl)
theorem dX3_touched_112 : decode cX3_touched 112 = .ok (.goto (-29), 3) := dk_167 255 227 (dk_at dksX3_touched_4 17 rfl rfl)
theorem dX3_touched_115 : decode cX3_touched 115 = .ok (.iinc 2 1, 3) := dk_132 2 1 (dk_at dksX3_touched_4 20 rfl rfl)
theorem dX3_touched_118 : decode cX3_touched 118 = .ok (.goto (-62), 3) := dk_167 255 194 (dk_at dksX3_touched_5 0 rfl rfl)
theorem dX3_touched_121 : decode cX3_touched 121 = .ok (.return_, 1) := dk_177 (dk_at dksX3_touched_5 3 rfl rfl)
abbrev cX3_isStaleNow : ByteArray := prog_25_method_19_code
def yX3_isStaleNow : MethodName := ⟨RX3, "isStaleNow", "(II)Z"⟩
def dkwX3_isStaleNow_1 : List UInt8 := [172]
abbrev dktX3_isStaleNow_1 : List UInt8 := dkwX3_isStaleNow_1 ++ []
def dkwX3_isStaleNow_0 : List UInt8 := [42, 180, 0, 7, 17, 0, 208, 16, 7, 27, 104, 96, 28, 96, 46, 4, 160, 0, 7, 4, 167, 0, 4, 3]
abbrev dktX3_isStaleNow_0 : List UInt8 := dkwX3_isStaleNow_0 ++ dktX3_isStaleNow_1
theorem dksX3_isStaleNow_0 : cX3_isStaleNow.data.toList.drop 0 = dktX3_isStaleNow_0 := by decide +kernel
theorem dksX3_isStaleNow_1 : cX3_isStaleNow.data.toList.drop 24 = dktX3_isStaleNow_1 := dk_seg dksX3_isStaleNow_0 24 rfl rfl
theorem dX3_isStaleNow_0 : decode cX3_isStaleNow 0 = .ok (.aload_n 0, 1) := dk_42 (dk_at dksX3_isStaleNow_0 0 rfl rfl)
theorem dX3_isStaleNow_1 : decode cX3_isStaleNow 1 = .ok (.getfield 7, 3) := dk_180 0 7 (dk_at dksX3_isStaleNow_0 1 rfl rfl)
theorem dX3_isStaleNow_4 : decode cX3_isStaleNow 4 = .ok (.sipush 208, 3) := dk_17 0 208 (dk_at dksX3_isStaleNow_0 4 rfl rfl)
theorem dX3_isStaleNow_7 : decode cX3_isStaleNow 7 = .ok (.bipush 7, 2) := dk_16 7 (dk_at dksX3_isStaleNow_0 7 rfl rfl)
theorem dX3_isStaleNow_9 : decode cX3_isStaleNow 9 = .ok (.iload_n 1, 1) := dk_27 (dk_at dksX3_isStaleNow_0 9 rfl rfl)
theorem dX3_isStaleNow_10 : decode cX3_isStaleNow 10 = .ok (.imul, 1) := dk_104 (dk_at dksX3_isStaleNow_0 10 rfl rfl)
theorem dX3_isStaleNow_11 : decode cX3_isStaleNow 11 = .ok (.iadd, 1) := dk_96 (dk_at dksX3_isStaleNow_0 11 rfl rfl)
theorem dX3_isStaleNow_12 : decode cX3_isStaleNow 12 = .ok (.iload_n 2, 1) := dk_28 (dk_at dksX3_isStaleNow_0 12 rfl rfl)
theorem dX3_isStaleNow_13 : decode cX3_isStaleNow 13 = .ok (.iadd, 1) := dk_96 (dk_at dksX3_isStaleNow_0 13 rfl rfl)
theorem dX3_isStaleNow_14 : decode cX3_isStaleNow 14 = .ok (.iaload, 1) := dk_46 (dk_at dksX3_isStaleNow_0 14 rfl rfl)
theorem dX3_isStaleNow_15 : decode cX3_isStaleNow 15 = .ok (.iconst 1, 1) := dk_4 (dk_at dksX3_isStaleNow_0 15 rfl rfl)
theorem dX3_isStaleNow_16 : decode cX3_isStaleNow 16 = .ok (.if_icmp .ne 7, 3) := dk_160 0 7 (dk_at dksX3_isStaleNow_0 16 rfl rfl)
theorem dX3_isStaleNow_19 : decode cX3_isStaleNow 19 = .ok (.iconst 1, 1) := dk_4 (dk_at dksX3_isStaleNow_0 19 rfl rfl)
theorem dX3_isStaleNow_20 : decode cX3_isStaleNow 20 = .ok (.goto 4, 3) := dk_167 0 4 (dk_at dksX3_isStaleNow_0 20 rfl rfl)
theorem dX3_isStaleNow_23 : decode cX3_isStaleNow 23 = .ok (.iconst 0, 1) := dk_3 (dk_at dksX3_isStaleNow_0 23 rfl rfl)
theorem dX3_isStaleNow_24 : decode cX3_isStaleNow 24 = .ok (.ireturn, 1) := dk_172 (dk_at dksX3_isStaleNow_1 0 rfl rfl)
abbrev cX3_compute : ByteArray := prog_25_method_25_code
def yX3_compute : MethodName := ⟨RX3, "compute", "(II)V"⟩
def dkwX3_compute_1 : List UInt8 := [180, 0, 25, 182, 0, 134, 80, 132, 3, 1, 167, 255, 226, 177]
abbrev dktX3_compute_1 : List UInt8 := dkwX3_compute_1 ++ []
def dkwX3_compute_0 : List UInt8 := [3, 62, 29, 8, 162, 0, 31, 42, 180, 0, 25, 27, 28, 29, 184, 0, 131, 42, 27, 28, 29, 42]
abbrev dktX3_compute_0 : List UInt8 := dkwX3_compute_0 ++ dktX3_compute_1
theorem dksX3_compute_0 : cX3_compute.data.toList.drop 0 = dktX3_compute_0 := by decide +kernel
theorem dksX3_compute_1 : cX3_compute.data.toList.drop 22 = dktX3_compute_1 := dk_seg dksX3_compute_0 22 rfl rfl
theorem dX3_compute_0 : decode cX3_compute 0 = .ok (.iconst 0, 1) := dk_3 (dk_at dksX3_compute_0 0 rfl rfl)
theorem dX3_compute_1 : decode cX3_compute 1 = .ok (.istore_n 3, 1) := dk_62 (dk_at dksX3_compute_0 1 rfl rfl)
theorem dX3_compute_2 : decode cX3_compute 2 = .ok (.iload_n 3, 1) := dk_29 (dk_at dksX3_compute_0 2 rfl rfl)
theorem dX3_compute_3 : decode cX3_compute 3 = .ok (.iconst 5, 1) := dk_8 (dk_at dksX3_compute_0 3 rfl rfl)
theorem dX3_compute_4 : decode cX3_compute 4 = .ok (.if_icmp .ge 31, 3) := dk_162 0 31 (dk_at dksX3_compute_0 4 rfl rfl)
theorem dX3_compute_7 : decode cX3_compute 7 = .ok (.aload_n 0, 1) := dk_42 (dk_at dksX3_compute_0 7 rfl rfl)
theorem dX3_compute_8 : decode cX3_compute 8 = .ok (.getfield 25, 3) := dk_180 0 25 (dk_at dksX3_compute_0 8 rfl rfl)
theorem dX3_compute_11 : decode cX3_compute 11 = .ok (.iload_n 1, 1) := dk_27 (dk_at dksX3_compute_0 11 rfl rfl)
theorem dX3_compute_12 : decode cX3_compute 12 = .ok (.iload_n 2, 1) := dk_28 (dk_at dksX3_compute_0 12 rfl rfl)
theorem dX3_compute_13 : decode cX3_compute 13 = .ok (.iload_n 3, 1) := dk_29 (dk_at dksX3_compute_0 13 rfl rfl)
theorem dX3_compute_14 : decode cX3_compute 14 = .ok (.invokestatic 131, 3) := dk_184 0 131 (dk_at dksX3_compute_0 14 rfl rfl)
theorem dX3_compute_17 : decode cX3_compute 17 = .ok (.aload_n 0, 1) := dk_42 (dk_at dksX3_compute_0 17 rfl rfl)
theorem dX3_compute_18 : decode cX3_compute 18 = .ok (.iload_n 1, 1) := dk_27 (dk_at dksX3_compute_0 18 rfl rfl)
theorem dX3_compute_19 : decode cX3_compute 19 = .ok (.iload_n 2, 1) := dk_28 (dk_at dksX3_compute_0 19 rfl rfl)
theorem dX3_compute_20 : decode cX3_compute 20 = .ok (.iload_n 3, 1) := dk_29 (dk_at dksX3_compute_0 20 rfl rfl)
theorem dX3_compute_21 : decode cX3_compute 21 = .ok (.aload_n 0, 1) := dk_42 (dk_at dksX3_compute_0 21 rfl rfl)
theorem dX3_compute_22 : decode cX3_compute 22 = .ok (.getfield 25, 3) := dk_180 0 25 (dk_at dksX3_compute_1 0 rfl rfl)
theorem dX3_compute_25 : decode cX3_compute 25 = .ok (.invokevirtual 134, 3) := dk_182 0 134 (dk_at dksX3_compute_1 3 rfl rfl)
theorem dX3_compute_28 : decode cX3_compute 28 = .ok (.lastore, 1) := dk_80 (dk_at dksX3_compute_1 6 rfl rfl)
theorem dX3_compute_29 : decode cX3_compute 29 = .ok (.iinc 3 1, 3) := dk_132 3 1 (dk_at dksX3_compute_1 7 rfl rfl)
theorem dX3_compute_32 : decode cX3_compute 32 = .ok (.goto (-30), 3) := dk_167 255 226 (dk_at dksX3_compute_1 10 rfl rfl)
theorem dX3_compute_35 : decode cX3_compute 35 = .ok (.return_, 1) := dk_177 (dk_at dksX3_compute_1 13 rfl rfl)
abbrev cX3_at : ByteArray := prog_25_method_21_code
def yX3_at : MethodName := ⟨RX3, "at", "(III)I"⟩
def dkwX3_at_0 : List UInt8 := [8, 16, 7, 26, 104, 27, 96, 104, 28, 96, 172]
abbrev dktX3_at_0 : List UInt8 := dkwX3_at_0 ++ []
theorem dksX3_at_0 : cX3_at.data.toList.drop 0 = dktX3_at_0 := by decide +kernel
theorem dX3_at_0 : decode cX3_at 0 = .ok (.iconst 5, 1) := dk_8 (dk_at dksX3_at_0 0 rfl rfl)
theorem dX3_at_1 : decode cX3_at 1 = .ok (.bipush 7, 2) := dk_16 7 (dk_at dksX3_at_0 1 rfl rfl)
theorem dX3_at_3 : decode cX3_at 3 = .ok (.iload_n 0, 1) := dk_26 (dk_at dksX3_at_0 3 rfl rfl)
theorem dX3_at_4 : decode cX3_at 4 = .ok (.imul, 1) := dk_104 (dk_at dksX3_at_0 4 rfl rfl)
theorem dX3_at_5 : decode cX3_at 5 = .ok (.iload_n 1, 1) := dk_27 (dk_at dksX3_at_0 5 rfl rfl)
theorem dX3_at_6 : decode cX3_at 6 = .ok (.iadd, 1) := dk_96 (dk_at dksX3_at_0 6 rfl rfl)
theorem dX3_at_7 : decode cX3_at 7 = .ok (.imul, 1) := dk_104 (dk_at dksX3_at_0 7 rfl rfl)
theorem dX3_at_8 : decode cX3_at 8 = .ok (.iload_n 2, 1) := dk_28 (dk_at dksX3_at_0 8 rfl rfl)
theorem dX3_at_9 : decode cX3_at 9 = .ok (.iadd, 1) := dk_96 (dk_at dksX3_at_0 9 rfl rfl)
theorem dX3_at_10 : decode cX3_at 10 = .ok (.ireturn, 1) := dk_172 (dk_at dksX3_at_0 10 rfl rfl)
abbrev cX3_made : ByteArray := prog_25_method_24_code
def yX3_made : MethodName := ⟨RX3, "made", "(III[J)J"⟩
def dkwX3_made_6 : List UInt8 := [21, 9, 29, 184, 0, 131, 47, 97, 55, 7, 132, 9, 1, 167, 255, 227, 22, 7, 173]
abbrev dktX3_made_6 : List UInt8 := dkwX3_made_6 ++ []
def dkwX3_made_5 : List UInt8 := [101, 173, 9, 55, 7, 3, 54, 9, 21, 9, 28, 163, 0, 29, 22, 7, 25, 4, 42, 27, 5, 182, 0, 116]
abbrev dktX3_made_5 : List UInt8 := dkwX3_made_5 ++ dktX3_made_6
def dkwX3_made_4 : List UInt8 := [182, 0, 116, 16, 45, 160, 0, 21, 22, 5, 25, 4, 42, 27, 6, 182, 0, 116, 28, 29, 184, 0, 131, 47]
abbrev dktX3_made_4 : List UInt8 := dkwX3_made_4 ++ dktX3_made_5
def dkwX3_made_3 : List UInt8 := [160, 0, 21, 22, 5, 25, 4, 42, 27, 6, 182, 0, 116, 28, 29, 184, 0, 131, 47, 97, 173, 42, 27, 3]
abbrev dktX3_made_3 : List UInt8 := dkwX3_made_3 ++ dktX3_made_4
def dkwX3_made_2 : List UInt8 := [182, 0, 116, 133, 148, 155, 0, 8, 22, 5, 167, 0, 4, 9, 173, 42, 27, 3, 182, 0, 116, 16, 43]
abbrev dktX3_made_2 : List UInt8 := dkwX3_made_2 ++ dktX3_made_3
def dkwX3_made_1 : List UInt8 := [28, 29, 184, 0, 131, 47, 55, 5, 42, 27, 3, 182, 0, 116, 16, 107, 160, 0, 23, 22, 5, 42, 27, 4]
abbrev dktX3_made_1 : List UInt8 := dkwX3_made_1 ++ dktX3_made_2
def dkwX3_made_0 : List UInt8 := [42, 27, 182, 0, 123, 153, 0, 11, 42, 27, 28, 29, 182, 0, 127, 173, 25, 4, 42, 27, 5, 182, 0, 116]
abbrev dktX3_made_0 : List UInt8 := dkwX3_made_0 ++ dktX3_made_1
theorem dksX3_made_0 : cX3_made.data.toList.drop 0 = dktX3_made_0 := by decide +kernel
theorem dksX3_made_1 : cX3_made.data.toList.drop 24 = dktX3_made_1 := dk_seg dksX3_made_0 24 rfl rfl
theorem dksX3_made_2 : cX3_made.data.toList.drop 48 = dktX3_made_2 := dk_seg dksX3_made_1 24 rfl rfl
theorem dksX3_made_3 : cX3_made.data.toList.drop 71 = dktX3_made_3 := dk_seg dksX3_made_2 23 rfl rfl
theorem dksX3_made_4 : cX3_made.data.toList.drop 95 = dktX3_made_4 := dk_seg dksX3_made_3 24 rfl rfl
theorem dksX3_made_5 : cX3_made.data.toList.drop 119 = dktX3_made_5 := dk_seg dksX3_made_4 24 rfl rfl
theorem dksX3_made_6 : cX3_made.data.toList.drop 143 = dktX3_made_6 := dk_seg dksX3_made_5 24 rfl rfl
theorem dX3_made_0 : decode cX3_made 0 = .ok (.aload_n 0, 1) := dk_42 (dk_at dksX3_made_0 0 rfl rfl)
theorem dX3_made_1 : decode cX3_made 1 = .ok (.iload_n 1, 1) := dk_27 (dk_at dksX3_made_0 1 rfl rfl)
theorem dX3_made_2 : decode cX3_made 2 = .ok (.invokevirtual 123, 3) := dk_182 0 123 (dk_at dksX3_made_0 2 rfl rfl)
theorem dX3_made_5 : decode cX3_made 5 = .ok (.ifCond .eq 11, 3) := dk_153 0 11 (dk_at dksX3_made_0 5 rfl rfl)
theorem dX3_made_8 : decode cX3_made 8 = .ok (.aload_n 0, 1) := dk_42 (dk_at dksX3_made_0 8 rfl rfl)
theorem dX3_made_9 : decode cX3_made 9 = .ok (.iload_n 1, 1) := dk_27 (dk_at dksX3_made_0 9 rfl rfl)
theorem dX3_made_10 : decode cX3_made 10 = .ok (.iload_n 2, 1) := dk_28 (dk_at dksX3_made_0 10 rfl rfl)
theorem dX3_made_11 : decode cX3_made 11 = .ok (.iload_n 3, 1) := dk_29 (dk_at dksX3_made_0 11 rfl rfl)
theorem dX3_made_12 : decode cX3_made 12 = .ok (.invokevirtual 127, 3) := dk_182 0 127 (dk_at dksX3_made_0 12 rfl rfl)
theorem dX3_made_15 : decode cX3_made 15 = .ok (.lreturn, 1) := dk_173 (dk_at dksX3_made_0 15 rfl rfl)
theorem dX3_made_16 : decode cX3_made 16 = .ok (.aload 4, 2) := dk_25 4 (dk_at dksX3_made_0 16 rfl rfl)
theorem dX3_made_18 : decode cX3_made 18 = .ok (.aload_n 0, 1) := dk_42 (dk_at dksX3_made_0 18 rfl rfl)
theorem dX3_made_19 : decode cX3_made 19 = .ok (.iload_n 1, 1) := dk_27 (dk_at dksX3_made_0 19 rfl rfl)
theorem dX3_made_20 : decode cX3_made 20 = .ok (.iconst 2, 1) := dk_5 (dk_at dksX3_made_0 20 rfl rfl)
theorem dX3_made_21 : decode cX3_made 21 = .ok (.invokevirtual 116, 3) := dk_182 0 116 (dk_at dksX3_made_0 21 rfl rfl)
theorem dX3_made_24 : decode cX3_made 24 = .ok (.iload_n 2, 1) := dk_28 (dk_at dksX3_made_1 0 rfl rfl)
theorem dX3_made_25 : decode cX3_made 25 = .ok (.iload_n 3, 1) := dk_29 (dk_at dksX3_made_1 1 rfl rfl)
theorem dX3_made_26 : decode cX3_made 26 = .ok (.invokestatic 131, 3) := dk_184 0 131 (dk_at dksX3_made_1 2 rfl rfl)
theorem dX3_made_29 : decode cX3_made 29 = .ok (.laload, 1) := dk_47 (dk_at dksX3_made_1 5 rfl rfl)
theorem dX3_made_30 : decode cX3_made 30 = .ok (.lstore 5, 2) := dk_55 5 (dk_at dksX3_made_1 6 rfl rfl)
theorem dX3_made_32 : decode cX3_made 32 = .ok (.aload_n 0, 1) := dk_42 (dk_at dksX3_made_1 8 rfl rfl)
theorem dX3_made_33 : decode cX3_made 33 = .ok (.iload_n 1, 1) := dk_27 (dk_at dksX3_made_1 9 rfl rfl)
theorem dX3_made_34 : decode cX3_made 34 = .ok (.iconst 0, 1) := dk_3 (dk_at dksX3_made_1 10 rfl rfl)
theorem dX3_made_35 : decode cX3_made 35 = .ok (.invokevirtual 116, 3) := dk_182 0 116 (dk_at dksX3_made_1 11 rfl rfl)
theorem dX3_made_38 : decode cX3_made 38 = .ok (.bipush 107, 2) := dk_16 107 (dk_at dksX3_made_1 14 rfl rfl)
theorem dX3_made_40 : decode cX3_made 40 = .ok (.if_icmp .ne 23, 3) := dk_160 0 23 (dk_at dksX3_made_1 16 rfl rfl)
theorem dX3_made_43 : decode cX3_made 43 = .ok (.lload 5, 2) := dk_22 5 (dk_at dksX3_made_1 19 rfl rfl)
theorem dX3_made_45 : decode cX3_made 45 = .ok (.aload_n 0, 1) := dk_42 (dk_at dksX3_made_1 21 rfl rfl)
theorem dX3_made_46 : decode cX3_made 46 = .ok (.iload_n 1, 1) := dk_27 (dk_at dksX3_made_1 22 rfl rfl)
theorem dX3_made_47 : decode cX3_made 47 = .ok (.iconst 1, 1) := dk_4 (dk_at dksX3_made_1 23 rfl rfl)
theorem dX3_made_48 : decode cX3_made 48 = .ok (.invokevirtual 116, 3) := dk_182 0 116 (dk_at dksX3_made_2 0 rfl rfl)
theorem dX3_made_51 : decode cX3_made 51 = .ok (.i2l, 1) := dk_133 (dk_at dksX3_made_2 3 rfl rfl)
theorem dX3_made_52 : decode cX3_made 52 = .ok (.lcmp, 1) := dk_148 (dk_at dksX3_made_2 4 rfl rfl)
theorem dX3_made_53 : decode cX3_made 53 = .ok (.ifCond .lt 8, 3) := dk_155 0 8 (dk_at dksX3_made_2 5 rfl rfl)
theorem dX3_made_56 : decode cX3_made 56 = .ok (.lload 5, 2) := dk_22 5 (dk_at dksX3_made_2 8 rfl rfl)
theorem dX3_made_58 : decode cX3_made 58 = .ok (.goto 4, 3) := dk_167 0 4 (dk_at dksX3_made_2 10 rfl rfl)
theorem dX3_made_61 : decode cX3_made 61 = .ok (.lconst 0, 1) := dk_9 (dk_at dksX3_made_2 13 rfl rfl)
theorem dX3_made_62 : decode cX3_made 62 = .ok (.lreturn, 1) := dk_173 (dk_at dksX3_made_2 14 rfl rfl)
theorem dX3_made_63 : decode cX3_made 63 = .ok (.aload_n 0, 1) := dk_42 (dk_at dksX3_made_2 15 rfl rfl)
theorem dX3_made_64 : decode cX3_made 64 = .ok (.iload_n 1, 1) := dk_27 (dk_at dksX3_made_2 16 rfl rfl)
theorem dX3_made_65 : decode cX3_made 65 = .ok (.iconst 0, 1) := dk_3 (dk_at dksX3_made_2 17 rfl rfl)
theorem dX3_made_66 : decode cX3_made 66 = .ok (.invokevirtual 116, 3) := dk_182 0 116 (dk_at dksX3_made_2 18 rfl rfl)
theorem dX3_made_69 : decode cX3_made 69 = .ok (.bipush 43, 2) := dk_16 43 (dk_at dksX3_made_2 21 rfl rfl)
theorem dX3_made_71 : decode cX3_made 71 = .ok (.if_icmp .ne 21, 3) := dk_160 0 21 (dk_at dksX3_made_3 0 rfl rfl)
theorem dX3_made_74 : decode cX3_made 74 = .ok (.lload 5, 2) := dk_22 5 (dk_at dksX3_made_3 3 rfl rfl)
theorem dX3_made_76 : decode cX3_made 76 = .ok (.aload 4, 2) := dk_25 4 (dk_at dksX3_made_3 5 rfl rfl)
theorem dX3_made_78 : decode cX3_made 78 = .ok (.aload_n 0, 1) := dk_42 (dk_at dksX3_made_3 7 rfl rfl)
theorem dX3_made_79 : decode cX3_made 79 = .ok (.iload_n 1, 1) := dk_27 (dk_at dksX3_made_3 8 rfl rfl)
theorem dX3_made_80 : decode cX3_made 80 = .ok (.iconst 3, 1) := dk_6 (dk_at dksX3_made_3 9 rfl rfl)
theorem dX3_made_81 : decode cX3_made 81 = .ok (.invokevirtual 116, 3) := dk_182 0 116 (dk_at dksX3_made_3 10 rfl rfl)
theorem dX3_made_84 : decode cX3_made 84 = .ok (.iload_n 2, 1) := dk_28 (dk_at dksX3_made_3 13 rfl rfl)
theorem dX3_made_85 : decode cX3_made 85 = .ok (.iload_n 3, 1) := dk_29 (dk_at dksX3_made_3 14 rfl rfl)
theorem dX3_made_86 : decode cX3_made 86 = .ok (.invokestatic 131, 3) := dk_184 0 131 (dk_at dksX3_made_3 15 rfl rfl)
theorem dX3_made_89 : decode cX3_made 89 = .ok (.laload, 1) := dk_47 (dk_at dksX3_made_3 18 rfl rfl)
theorem dX3_made_90 : decode cX3_made 90 = .ok (.ladd, 1) := dk_97 (dk_at dksX3_made_3 19 rfl rfl)
theorem dX3_made_91 : decode cX3_made 91 = .ok (.lreturn, 1) := dk_173 (dk_at dksX3_made_3 20 rfl rfl)
theorem dX3_made_92 : decode cX3_made 92 = .ok (.aload_n 0, 1) := dk_42 (dk_at dksX3_made_3 21 rfl rfl)
theorem dX3_made_93 : decode cX3_made 93 = .ok (.iload_n 1, 1) := dk_27 (dk_at dksX3_made_3 22 rfl rfl)
theorem dX3_made_94 : decode cX3_made 94 = .ok (.iconst 0, 1) := dk_3 (dk_at dksX3_made_3 23 rfl rfl)
theorem dX3_made_95 : decode cX3_made 95 = .ok (.invokevirtual 116, 3) := dk_182 0 116 (dk_at dksX3_made_4 0 rfl rfl)
theorem dX3_made_98 : decode cX3_made 98 = .ok (.bipush 45, 2) := dk_16 45 (dk_at dksX3_made_4 3 rfl rfl)
theorem dX3_made_100 : decode cX3_made 100 = .ok (.if_icmp .ne 21, 3) := dk_160 0 21 (dk_at dksX3_made_4 5 rfl rfl)
theorem dX3_made_103 : decode cX3_made 103 = .ok (.lload 5, 2) := dk_22 5 (dk_at dksX3_made_4 8 rfl rfl)
theorem dX3_made_105 : decode cX3_made 105 = .ok (.aload 4, 2) := dk_25 4 (dk_at dksX3_made_4 10 rfl rfl)
theorem dX3_made_107 : decode cX3_made 107 = .ok (.aload_n 0, 1) := dk_42 (dk_at dksX3_made_4 12 rfl rfl)
theorem dX3_made_108 : decode cX3_made 108 = .ok (.iload_n 1, 1) := dk_27 (dk_at dksX3_made_4 13 rfl rfl)
theorem dX3_made_109 : decode cX3_made 109 = .ok (.iconst 3, 1) := dk_6 (dk_at dksX3_made_4 14 rfl rfl)
theorem dX3_made_110 : decode cX3_made 110 = .ok (.invokevirtual 116, 3) := dk_182 0 116 (dk_at dksX3_made_4 15 rfl rfl)
theorem dX3_made_113 : decode cX3_made 113 = .ok (.iload_n 2, 1) := dk_28 (dk_at dksX3_made_4 18 rfl rfl)
theorem dX3_made_114 : decode cX3_made 114 = .ok (.iload_n 3, 1) := dk_29 (dk_at dksX3_made_4 19 rfl rfl)
theorem dX3_made_115 : decode cX3_made 115 = .ok (.invokestatic 131, 3) := dk_184 0 131 (dk_at dksX3_made_4 20 rfl rfl)
theorem dX3_made_118 : decode cX3_made 118 = .ok (.laload, 1) := dk_47 (dk_at dksX3_made_4 23 rfl rfl)
theorem dX3_made_119 : decode cX3_made 119 = .ok (.lsub, 1) := dk_101 (dk_at dksX3_made_5 0 rfl rfl)
theorem dX3_made_120 : decode cX3_made 120 = .ok (.lreturn, 1) := dk_173 (dk_at dksX3_made_5 1 rfl rfl)
theorem dX3_made_121 : decode cX3_made 121 = .ok (.lconst 0, 1) := dk_9 (dk_at dksX3_made_5 2 rfl rfl)
theorem dX3_made_122 : decode cX3_made 122 = .ok (.lstore 7, 2) := dk_55 7 (dk_at dksX3_made_5 3 rfl rfl)
theorem dX3_made_124 : decode cX3_made 124 = .ok (.iconst 0, 1) := dk_3 (dk_at dksX3_made_5 5 rfl rfl)
theorem dX3_made_125 : decode cX3_made 125 = .ok (.istore 9, 2) := dk_54 9 (dk_at dksX3_made_5 6 rfl rfl)
theorem dX3_made_127 : decode cX3_made 127 = .ok (.iload 9, 2) := dk_21 9 (dk_at dksX3_made_5 8 rfl rfl)
theorem dX3_made_129 : decode cX3_made 129 = .ok (.iload_n 2, 1) := dk_28 (dk_at dksX3_made_5 10 rfl rfl)
theorem dX3_made_130 : decode cX3_made 130 = .ok (.if_icmp .gt 29, 3) := dk_163 0 29 (dk_at dksX3_made_5 11 rfl rfl)
theorem dX3_made_133 : decode cX3_made 133 = .ok (.lload 7, 2) := dk_22 7 (dk_at dksX3_made_5 14 rfl rfl)
theorem dX3_made_135 : decode cX3_made 135 = .ok (.aload 4, 2) := dk_25 4 (dk_at dksX3_made_5 16 rfl rfl)
theorem dX3_made_137 : decode cX3_made 137 = .ok (.aload_n 0, 1) := dk_42 (dk_at dksX3_made_5 18 rfl rfl)
theorem dX3_made_138 : decode cX3_made 138 = .ok (.iload_n 1, 1) := dk_27 (dk_at dksX3_made_5 19 rfl rfl)
theorem dX3_made_139 : decode cX3_made 139 = .ok (.iconst 2, 1) := dk_5 (dk_at dksX3_made_5 20 rfl rfl)
theorem dX3_made_140 : decode cX3_made 140 = .ok (.invokevirtual 116, 3) := dk_182 0 116 (dk_at dksX3_made_5 21 rfl rfl)
theorem dX3_made_143 : decode cX3_made 143 = .ok (.iload 9, 2) := dk_21 9 (dk_at dksX3_made_6 0 rfl rfl)
theorem dX3_made_145 : decode cX3_made 145 = .ok (.iload_n 3, 1) := dk_29 (dk_at dksX3_made_6 2 rfl rfl)
theorem dX3_made_146 : decode cX3_made 146 = .ok (.invokestatic 131, 3) := dk_184 0 131 (dk_at dksX3_made_6 3 rfl rfl)
theorem dX3_made_149 : decode cX3_made 149 = .ok (.laload, 1) := dk_47 (dk_at dksX3_made_6 6 rfl rfl)
theorem dX3_made_150 : decode cX3_made 150 = .ok (.ladd, 1) := dk_97 (dk_at dksX3_made_6 7 rfl rfl)
theorem dX3_made_151 : decode cX3_made 151 = .ok (.lstore 7, 2) := dk_55 7 (dk_at dksX3_made_6 8 rfl rfl)
theorem dX3_made_153 : decode cX3_made 153 = .ok (.iinc 9 1, 3) := dk_132 9 1 (dk_at dksX3_made_6 10 rfl rfl)
theorem dX3_made_156 : decode cX3_made 156 = .ok (.goto (-29), 3) := dk_167 255 227 (dk_at dksX3_made_6 13 rfl rfl)
theorem dX3_made_159 : decode cX3_made 159 = .ok (.lload 7, 2) := dk_22 7 (dk_at dksX3_made_6 16 rfl rfl)
theorem dX3_made_161 : decode cX3_made 161 = .ok (.lreturn, 1) := dk_173 (dk_at dksX3_made_6 18 rfl rfl)
abbrev cX3_isBase : ByteArray := prog_25_method_18_code
def yX3_isBase : MethodName := ⟨RX3, "isBase", "(I)Z"⟩
def dkwX3_isBase_1 : List UInt8 := [3, 182, 0, 116, 16, 120, 160, 0, 7, 4, 167, 0, 4, 3, 172]
abbrev dktX3_isBase_1 : List UInt8 := dkwX3_isBase_1 ++ []
def dkwX3_isBase_0 : List UInt8 := [42, 27, 3, 182, 0, 116, 16, 115, 159, 0, 25, 42, 27, 3, 182, 0, 116, 16, 110, 159, 0, 14, 42, 27]
abbrev dktX3_isBase_0 : List UInt8 := dkwX3_isBase_0 ++ dktX3_isBase_1
theorem dksX3_isBase_0 : cX3_isBase.data.toList.drop 0 = dktX3_isBase_0 := by decide +kernel
theorem dksX3_isBase_1 : cX3_isBase.data.toList.drop 24 = dktX3_isBase_1 := dk_seg dksX3_isBase_0 24 rfl rfl
theorem dX3_isBase_0 : decode cX3_isBase 0 = .ok (.aload_n 0, 1) := dk_42 (dk_at dksX3_isBase_0 0 rfl rfl)
theorem dX3_isBase_1 : decode cX3_isBase 1 = .ok (.iload_n 1, 1) := dk_27 (dk_at dksX3_isBase_0 1 rfl rfl)
theorem dX3_isBase_2 : decode cX3_isBase 2 = .ok (.iconst 0, 1) := dk_3 (dk_at dksX3_isBase_0 2 rfl rfl)
theorem dX3_isBase_3 : decode cX3_isBase 3 = .ok (.invokevirtual 116, 3) := dk_182 0 116 (dk_at dksX3_isBase_0 3 rfl rfl)
theorem dX3_isBase_6 : decode cX3_isBase 6 = .ok (.bipush 115, 2) := dk_16 115 (dk_at dksX3_isBase_0 6 rfl rfl)
theorem dX3_isBase_8 : decode cX3_isBase 8 = .ok (.if_icmp .eq 25, 3) := dk_159 0 25 (dk_at dksX3_isBase_0 8 rfl rfl)
theorem dX3_isBase_11 : decode cX3_isBase 11 = .ok (.aload_n 0, 1) := dk_42 (dk_at dksX3_isBase_0 11 rfl rfl)
theorem dX3_isBase_12 : decode cX3_isBase 12 = .ok (.iload_n 1, 1) := dk_27 (dk_at dksX3_isBase_0 12 rfl rfl)
theorem dX3_isBase_13 : decode cX3_isBase 13 = .ok (.iconst 0, 1) := dk_3 (dk_at dksX3_isBase_0 13 rfl rfl)
theorem dX3_isBase_14 : decode cX3_isBase 14 = .ok (.invokevirtual 116, 3) := dk_182 0 116 (dk_at dksX3_isBase_0 14 rfl rfl)
theorem dX3_isBase_17 : decode cX3_isBase 17 = .ok (.bipush 110, 2) := dk_16 110 (dk_at dksX3_isBase_0 17 rfl rfl)
theorem dX3_isBase_19 : decode cX3_isBase 19 = .ok (.if_icmp .eq 14, 3) := dk_159 0 14 (dk_at dksX3_isBase_0 19 rfl rfl)
theorem dX3_isBase_22 : decode cX3_isBase 22 = .ok (.aload_n 0, 1) := dk_42 (dk_at dksX3_isBase_0 22 rfl rfl)
theorem dX3_isBase_23 : decode cX3_isBase 23 = .ok (.iload_n 1, 1) := dk_27 (dk_at dksX3_isBase_0 23 rfl rfl)
theorem dX3_isBase_24 : decode cX3_isBase 24 = .ok (.iconst 0, 1) := dk_3 (dk_at dksX3_isBase_1 0 rfl rfl)
theorem dX3_isBase_25 : decode cX3_isBase 25 = .ok (.invokevirtual 116, 3) := dk_182 0 116 (dk_at dksX3_isBase_1 1 rfl rfl)
theorem dX3_isBase_28 : decode cX3_isBase 28 = .ok (.bipush 120, 2) := dk_16 120 (dk_at dksX3_isBase_1 4 rfl rfl)
theorem dX3_isBase_30 : decode cX3_isBase 30 = .ok (.if_icmp .ne 7, 3) := dk_160 0 7 (dk_at dksX3_isBase_1 6 rfl rfl)
theorem dX3_isBase_33 : decode cX3_isBase 33 = .ok (.iconst 1, 1) := dk_4 (dk_at dksX3_isBase_1 9 rfl rfl)
theorem dX3_isBase_34 : decode cX3_isBase 34 = .ok (.goto 4, 3) := dk_167 0 4 (dk_at dksX3_isBase_1 10 rfl rfl)
theorem dX3_isBase_37 : decode cX3_isBase 37 = .ok (.iconst 0, 1) := dk_3 (dk_at dksX3_isBase_1 13 rfl rfl)
theorem dX3_isBase_38 : decode cX3_isBase 38 = .ok (.ireturn, 1) := dk_172 (dk_at dksX3_isBase_1 14 rfl rfl)
abbrev cX3_s : ByteArray := prog_25_method_17_code
def yX3_s : MethodName := ⟨RX3, "s", "(II)I"⟩
def dkwX3_s_0 : List UInt8 := [42, 180, 0, 7, 17, 0, 176, 7, 27, 104, 96, 28, 96, 46, 172]
abbrev dktX3_s_0 : List UInt8 := dkwX3_s_0 ++ []
theorem dksX3_s_0 : cX3_s.data.toList.drop 0 = dktX3_s_0 := by decide +kernel
theorem dX3_s_0 : decode cX3_s 0 = .ok (.aload_n 0, 1) := dk_42 (dk_at dksX3_s_0 0 rfl rfl)
theorem dX3_s_1 : decode cX3_s 1 = .ok (.getfield 7, 3) := dk_180 0 7 (dk_at dksX3_s_0 1 rfl rfl)
theorem dX3_s_4 : decode cX3_s 4 = .ok (.sipush 176, 3) := dk_17 0 176 (dk_at dksX3_s_0 4 rfl rfl)
theorem dX3_s_7 : decode cX3_s 7 = .ok (.iconst 4, 1) := dk_7 (dk_at dksX3_s_0 7 rfl rfl)
theorem dX3_s_8 : decode cX3_s 8 = .ok (.iload_n 1, 1) := dk_27 (dk_at dksX3_s_0 8 rfl rfl)
theorem dX3_s_9 : decode cX3_s 9 = .ok (.imul, 1) := dk_104 (dk_at dksX3_s_0 9 rfl rfl)
theorem dX3_s_10 : decode cX3_s 10 = .ok (.iadd, 1) := dk_96 (dk_at dksX3_s_0 10 rfl rfl)
theorem dX3_s_11 : decode cX3_s 11 = .ok (.iload_n 2, 1) := dk_28 (dk_at dksX3_s_0 11 rfl rfl)
theorem dX3_s_12 : decode cX3_s 12 = .ok (.iadd, 1) := dk_96 (dk_at dksX3_s_0 12 rfl rfl)
theorem dX3_s_13 : decode cX3_s 13 = .ok (.iaload, 1) := dk_46 (dk_at dksX3_s_0 13 rfl rfl)
theorem dX3_s_14 : decode cX3_s 14 = .ok (.ireturn, 1) := dk_172 (dk_at dksX3_s_0 14 rfl rfl)
abbrev cX3_ofRows : ByteArray := prog_25_method_23_code
def yX3_ofRows : MethodName := ⟨RX3, "ofRows", "(III)J"⟩
def dkwX3_ofRows_4 : List UInt8 := [97, 55, 4, 132, 6, 1, 167, 255, 164, 22, 4, 173]
abbrev dktX3_ofRows_4 : List UInt8 := dkwX3_ofRows_4 ++ []
def dkwX3_ofRows_3 : List UInt8 := [55, 4, 167, 0, 25, 22, 4, 42, 27, 3, 182, 0, 116, 16, 115, 160, 0, 8, 22, 7, 167, 0, 4, 10]
abbrev dktX3_ofRows_3 : List UInt8 := dkwX3_ofRows_3 ++ dktX3_ofRows_4
def dkwX3_ofRows_2 : List UInt8 := [182, 0, 116, 16, 120, 160, 0, 23, 22, 7, 22, 4, 148, 158, 0, 8, 22, 7, 167, 0, 5, 22, 4]
abbrev dktX3_ofRows_2 : List UInt8 := dkwX3_ofRows_2 ++ dktX3_ofRows_3
def dkwX3_ofRows_1 : List UInt8 := [182, 0, 119, 154, 0, 6, 167, 0, 66, 42, 21, 6, 6, 182, 0, 108, 133, 55, 7, 42, 27, 3]
abbrev dktX3_ofRows_1 : List UInt8 := dkwX3_ofRows_1 ++ dktX3_ofRows_2
def dkwX3_ofRows_0 : List UInt8 := [9, 55, 4, 3, 54, 6, 21, 6, 42, 180, 0, 7, 4, 46, 162, 0, 87, 42, 21, 6, 27, 28, 29]
abbrev dktX3_ofRows_0 : List UInt8 := dkwX3_ofRows_0 ++ dktX3_ofRows_1
theorem dksX3_ofRows_0 : cX3_ofRows.data.toList.drop 0 = dktX3_ofRows_0 := by decide +kernel
theorem dksX3_ofRows_1 : cX3_ofRows.data.toList.drop 23 = dktX3_ofRows_1 := dk_seg dksX3_ofRows_0 23 rfl rfl
theorem dksX3_ofRows_2 : cX3_ofRows.data.toList.drop 45 = dktX3_ofRows_2 := dk_seg dksX3_ofRows_1 22 rfl rfl
theorem dksX3_ofRows_3 : cX3_ofRows.data.toList.drop 68 = dktX3_ofRows_3 := dk_seg dksX3_ofRows_2 23 rfl rfl
theorem dksX3_ofRows_4 : cX3_ofRows.data.toList.drop 92 = dktX3_ofRows_4 := dk_seg dksX3_ofRows_3 24 rfl rfl
theorem dX3_ofRows_0 : decode cX3_ofRows 0 = .ok (.lconst 0, 1) := dk_9 (dk_at dksX3_ofRows_0 0 rfl rfl)
theorem dX3_ofRows_1 : decode cX3_ofRows 1 = .ok (.lstore 4, 2) := dk_55 4 (dk_at dksX3_ofRows_0 1 rfl rfl)
theorem dX3_ofRows_3 : decode cX3_ofRows 3 = .ok (.iconst 0, 1) := dk_3 (dk_at dksX3_ofRows_0 3 rfl rfl)
theorem dX3_ofRows_4 : decode cX3_ofRows 4 = .ok (.istore 6, 2) := dk_54 6 (dk_at dksX3_ofRows_0 4 rfl rfl)
theorem dX3_ofRows_6 : decode cX3_ofRows 6 = .ok (.iload 6, 2) := dk_21 6 (dk_at dksX3_ofRows_0 6 rfl rfl)
theorem dX3_ofRows_8 : decode cX3_ofRows 8 = .ok (.aload_n 0, 1) := dk_42 (dk_at dksX3_ofRows_0 8 rfl rfl)
theorem dX3_ofRows_9 : decode cX3_ofRows 9 = .ok (.getfield 7, 3) := dk_180 0 7 (dk_at dksX3_ofRows_0 9 rfl rfl)
theorem dX3_ofRows_12 : decode cX3_ofRows 12 = .ok (.iconst 1, 1) := dk_4 (dk_at dksX3_ofRows_0 12 rfl rfl)
theorem dX3_ofRows_13 : decode cX3_ofRows 13 = .ok (.iaload, 1) := dk_46 (dk_at dksX3_ofRows_0 13 rfl rfl)
theorem dX3_ofRows_14 : decode cX3_ofRows 14 = .ok (.if_icmp .ge 87, 3) := dk_162 0 87 (dk_at dksX3_ofRows_0 14 rfl rfl)
theorem dX3_ofRows_17 : decode cX3_ofRows 17 = .ok (.aload_n 0, 1) := dk_42 (dk_at dksX3_ofRows_0 17 rfl rfl)
theorem dX3_ofRows_18 : decode cX3_ofRows 18 = .ok (.iload 6, 2) := dk_21 6 (dk_at dksX3_ofRows_0 18 rfl rfl)
theorem dX3_ofRows_20 : decode cX3_ofRows 20 = .ok (.iload_n 1, 1) := dk_27 (dk_at dksX3_ofRows_0 20 rfl rfl)
theorem dX3_ofRows_21 : decode cX3_ofRows 21 = .ok (.iload_n 2, 1) := dk_28 (dk_at dksX3_ofRows_0 21 rfl rfl)
theorem dX3_ofRows_22 : decode cX3_ofRows 22 = .ok (.iload_n 3, 1) := dk_29 (dk_at dksX3_ofRows_0 22 rfl rfl)
theorem dX3_ofRows_23 : decode cX3_ofRows 23 = .ok (.invokevirtual 119, 3) := dk_182 0 119 (dk_at dksX3_ofRows_1 0 rfl rfl)
theorem dX3_ofRows_26 : decode cX3_ofRows 26 = .ok (.ifCond .ne 6, 3) := dk_154 0 6 (dk_at dksX3_ofRows_1 3 rfl rfl)
theorem dX3_ofRows_29 : decode cX3_ofRows 29 = .ok (.goto 66, 3) := dk_167 0 66 (dk_at dksX3_ofRows_1 6 rfl rfl)
theorem dX3_ofRows_32 : decode cX3_ofRows 32 = .ok (.aload_n 0, 1) := dk_42 (dk_at dksX3_ofRows_1 9 rfl rfl)
theorem dX3_ofRows_33 : decode cX3_ofRows 33 = .ok (.iload 6, 2) := dk_21 6 (dk_at dksX3_ofRows_1 10 rfl rfl)
theorem dX3_ofRows_35 : decode cX3_ofRows 35 = .ok (.iconst 3, 1) := dk_6 (dk_at dksX3_ofRows_1 12 rfl rfl)
theorem dX3_ofRows_36 : decode cX3_ofRows 36 = .ok (.invokevirtual 108, 3) := dk_182 0 108 (dk_at dksX3_ofRows_1 13 rfl rfl)
theorem dX3_ofRows_39 : decode cX3_ofRows 39 = .ok (.i2l, 1) := dk_133 (dk_at dksX3_ofRows_1 16 rfl rfl)
theorem dX3_ofRows_40 : decode cX3_ofRows 40 = .ok (.lstore 7, 2) := dk_55 7 (dk_at dksX3_ofRows_1 17 rfl rfl)
theorem dX3_ofRows_42 : decode cX3_ofRows 42 = .ok (.aload_n 0, 1) := dk_42 (dk_at dksX3_ofRows_1 19 rfl rfl)
theorem dX3_ofRows_43 : decode cX3_ofRows 43 = .ok (.iload_n 1, 1) := dk_27 (dk_at dksX3_ofRows_1 20 rfl rfl)
theorem dX3_ofRows_44 : decode cX3_ofRows 44 = .ok (.iconst 0, 1) := dk_3 (dk_at dksX3_ofRows_1 21 rfl rfl)
theorem dX3_ofRows_45 : decode cX3_ofRows 45 = .ok (.invokevirtual 116, 3) := dk_182 0 116 (dk_at dksX3_ofRows_2 0 rfl rfl)
theorem dX3_ofRows_48 : decode cX3_ofRows 48 = .ok (.bipush 120, 2) := dk_16 120 (dk_at dksX3_ofRows_2 3 rfl rfl)
theorem dX3_ofRows_50 : decode cX3_ofRows 50 = .ok (.if_icmp .ne 23, 3) := dk_160 0 23 (dk_at dksX3_ofRows_2 5 rfl rfl)
theorem dX3_ofRows_53 : decode cX3_ofRows 53 = .ok (.lload 7, 2) := dk_22 7 (dk_at dksX3_ofRows_2 8 rfl rfl)
theorem dX3_ofRows_55 : decode cX3_ofRows 55 = .ok (.lload 4, 2) := dk_22 4 (dk_at dksX3_ofRows_2 10 rfl rfl)
theorem dX3_ofRows_57 : decode cX3_ofRows 57 = .ok (.lcmp, 1) := dk_148 (dk_at dksX3_ofRows_2 12 rfl rfl)
theorem dX3_ofRows_58 : decode cX3_ofRows 58 = .ok (.ifCond .le 8, 3) := dk_158 0 8 (dk_at dksX3_ofRows_2 13 rfl rfl)
theorem dX3_ofRows_61 : decode cX3_ofRows 61 = .ok (.lload 7, 2) := dk_22 7 (dk_at dksX3_ofRows_2 16 rfl rfl)
theorem dX3_ofRows_63 : decode cX3_ofRows 63 = .ok (.goto 5, 3) := dk_167 0 5 (dk_at dksX3_ofRows_2 18 rfl rfl)
theorem dX3_ofRows_66 : decode cX3_ofRows 66 = .ok (.lload 4, 2) := dk_22 4 (dk_at dksX3_ofRows_2 21 rfl rfl)
theorem dX3_ofRows_68 : decode cX3_ofRows 68 = .ok (.lstore 4, 2) := dk_55 4 (dk_at dksX3_ofRows_3 0 rfl rfl)
theorem dX3_ofRows_70 : decode cX3_ofRows 70 = .ok (.goto 25, 3) := dk_167 0 25 (dk_at dksX3_ofRows_3 2 rfl rfl)
theorem dX3_ofRows_73 : decode cX3_ofRows 73 = .ok (.lload 4, 2) := dk_22 4 (dk_at dksX3_ofRows_3 5 rfl rfl)
theorem dX3_ofRows_75 : decode cX3_ofRows 75 = .ok (.aload_n 0, 1) := dk_42 (dk_at dksX3_ofRows_3 7 rfl rfl)
theorem dX3_ofRows_76 : decode cX3_ofRows 76 = .ok (.iload_n 1, 1) := dk_27 (dk_at dksX3_ofRows_3 8 rfl rfl)
theorem dX3_ofRows_77 : decode cX3_ofRows 77 = .ok (.iconst 0, 1) := dk_3 (dk_at dksX3_ofRows_3 9 rfl rfl)
theorem dX3_ofRows_78 : decode cX3_ofRows 78 = .ok (.invokevirtual 116, 3) := dk_182 0 116 (dk_at dksX3_ofRows_3 10 rfl rfl)
theorem dX3_ofRows_81 : decode cX3_ofRows 81 = .ok (.bipush 115, 2) := dk_16 115 (dk_at dksX3_ofRows_3 13 rfl rfl)
theorem dX3_ofRows_83 : decode cX3_ofRows 83 = .ok (.if_icmp .ne 8, 3) := dk_160 0 8 (dk_at dksX3_ofRows_3 15 rfl rfl)
theorem dX3_ofRows_86 : decode cX3_ofRows 86 = .ok (.lload 7, 2) := dk_22 7 (dk_at dksX3_ofRows_3 18 rfl rfl)
theorem dX3_ofRows_88 : decode cX3_ofRows 88 = .ok (.goto 4, 3) := dk_167 0 4 (dk_at dksX3_ofRows_3 20 rfl rfl)
theorem dX3_ofRows_91 : decode cX3_ofRows 91 = .ok (.lconst 1, 1) := dk_10 (dk_at dksX3_ofRows_3 23 rfl rfl)
theorem dX3_ofRows_92 : decode cX3_ofRows 92 = .ok (.ladd, 1) := dk_97 (dk_at dksX3_ofRows_4 0 rfl rfl)
theorem dX3_ofRows_93 : decode cX3_ofRows 93 = .ok (.lstore 4, 2) := dk_55 4 (dk_at dksX3_ofRows_4 1 rfl rfl)
theorem dX3_ofRows_95 : decode cX3_ofRows 95 = .ok (.iinc 6 1, 3) := dk_132 6 1 (dk_at dksX3_ofRows_4 3 rfl rfl)
theorem dX3_ofRows_98 : decode cX3_ofRows 98 = .ok (.goto (-92), 3) := dk_167 255 164 (dk_at dksX3_ofRows_4 6 rfl rfl)
theorem dX3_ofRows_101 : decode cX3_ofRows 101 = .ok (.lload 4, 2) := dk_22 4 (dk_at dksX3_ofRows_4 9 rfl rfl)
theorem dX3_ofRows_103 : decode cX3_ofRows 103 = .ok (.lreturn, 1) := dk_173 (dk_at dksX3_ofRows_4 11 rfl rfl)
abbrev cX3_counts : ByteArray := prog_25_method_22_code
def yX3_counts : MethodName := ⟨RX3, "counts", "(IIII)Z"⟩
def dkwX3_counts_1 : List UInt8 := [182, 0, 108, 42, 28, 4, 182, 0, 116, 161, 0, 7, 4, 167, 0, 4, 3, 172]
abbrev dktX3_counts_1 : List UInt8 := dkwX3_counts_1 ++ []
def dkwX3_counts_0 : List UInt8 := [42, 27, 4, 182, 0, 108, 29, 160, 0, 33, 42, 27, 5, 182, 0, 108, 21, 4, 160, 0, 22, 42, 27, 6]
abbrev dktX3_counts_0 : List UInt8 := dkwX3_counts_0 ++ dktX3_counts_1
theorem dksX3_counts_0 : cX3_counts.data.toList.drop 0 = dktX3_counts_0 := by decide +kernel
theorem dksX3_counts_1 : cX3_counts.data.toList.drop 24 = dktX3_counts_1 := dk_seg dksX3_counts_0 24 rfl rfl
theorem dX3_counts_0 : decode cX3_counts 0 = .ok (.aload_n 0, 1) := dk_42 (dk_at dksX3_counts_0 0 rfl rfl)
theorem dX3_counts_1 : decode cX3_counts 1 = .ok (.iload_n 1, 1) := dk_27 (dk_at dksX3_counts_0 1 rfl rfl)
theorem dX3_counts_2 : decode cX3_counts 2 = .ok (.iconst 1, 1) := dk_4 (dk_at dksX3_counts_0 2 rfl rfl)
theorem dX3_counts_3 : decode cX3_counts 3 = .ok (.invokevirtual 108, 3) := dk_182 0 108 (dk_at dksX3_counts_0 3 rfl rfl)
theorem dX3_counts_6 : decode cX3_counts 6 = .ok (.iload_n 3, 1) := dk_29 (dk_at dksX3_counts_0 6 rfl rfl)
theorem dX3_counts_7 : decode cX3_counts 7 = .ok (.if_icmp .ne 33, 3) := dk_160 0 33 (dk_at dksX3_counts_0 7 rfl rfl)
theorem dX3_counts_10 : decode cX3_counts 10 = .ok (.aload_n 0, 1) := dk_42 (dk_at dksX3_counts_0 10 rfl rfl)
theorem dX3_counts_11 : decode cX3_counts 11 = .ok (.iload_n 1, 1) := dk_27 (dk_at dksX3_counts_0 11 rfl rfl)
theorem dX3_counts_12 : decode cX3_counts 12 = .ok (.iconst 2, 1) := dk_5 (dk_at dksX3_counts_0 12 rfl rfl)
theorem dX3_counts_13 : decode cX3_counts 13 = .ok (.invokevirtual 108, 3) := dk_182 0 108 (dk_at dksX3_counts_0 13 rfl rfl)
theorem dX3_counts_16 : decode cX3_counts 16 = .ok (.iload 4, 2) := dk_21 4 (dk_at dksX3_counts_0 16 rfl rfl)
theorem dX3_counts_18 : decode cX3_counts 18 = .ok (.if_icmp .ne 22, 3) := dk_160 0 22 (dk_at dksX3_counts_0 18 rfl rfl)
theorem dX3_counts_21 : decode cX3_counts 21 = .ok (.aload_n 0, 1) := dk_42 (dk_at dksX3_counts_0 21 rfl rfl)
theorem dX3_counts_22 : decode cX3_counts 22 = .ok (.iload_n 1, 1) := dk_27 (dk_at dksX3_counts_0 22 rfl rfl)
theorem dX3_counts_23 : decode cX3_counts 23 = .ok (.iconst 3, 1) := dk_6 (dk_at dksX3_counts_0 23 rfl rfl)
theorem dX3_counts_24 : decode cX3_counts 24 = .ok (.invokevirtual 108, 3) := dk_182 0 108 (dk_at dksX3_counts_1 0 rfl rfl)
theorem dX3_counts_27 : decode cX3_counts 27 = .ok (.aload_n 0, 1) := dk_42 (dk_at dksX3_counts_1 3 rfl rfl)
theorem dX3_counts_28 : decode cX3_counts 28 = .ok (.iload_n 2, 1) := dk_28 (dk_at dksX3_counts_1 4 rfl rfl)
theorem dX3_counts_29 : decode cX3_counts 29 = .ok (.iconst 1, 1) := dk_4 (dk_at dksX3_counts_1 5 rfl rfl)
theorem dX3_counts_30 : decode cX3_counts 30 = .ok (.invokevirtual 116, 3) := dk_182 0 116 (dk_at dksX3_counts_1 6 rfl rfl)
theorem dX3_counts_33 : decode cX3_counts 33 = .ok (.if_icmp .lt 7, 3) := dk_161 0 7 (dk_at dksX3_counts_1 9 rfl rfl)
theorem dX3_counts_36 : decode cX3_counts 36 = .ok (.iconst 1, 1) := dk_4 (dk_at dksX3_counts_1 12 rfl rfl)
theorem dX3_counts_37 : decode cX3_counts 37 = .ok (.goto 4, 3) := dk_167 0 4 (dk_at dksX3_counts_1 13 rfl rfl)
theorem dX3_counts_40 : decode cX3_counts 40 = .ok (.iconst 0, 1) := dk_3 (dk_at dksX3_counts_1 16 rfl rfl)
theorem dX3_counts_41 : decode cX3_counts 41 = .ok (.ireturn, 1) := dk_172 (dk_at dksX3_counts_1 17 rfl rfl)
abbrev cX3_r : ByteArray := prog_25_method_12_code
def yX3_r : MethodName := ⟨RX3, "r", "(II)I"⟩
def dkwX3_r_0 : List UInt8 := [42, 180, 0, 7, 16, 16, 7, 27, 104, 96, 28, 96, 46, 172]
abbrev dktX3_r_0 : List UInt8 := dkwX3_r_0 ++ []
theorem dksX3_r_0 : cX3_r.data.toList.drop 0 = dktX3_r_0 := by decide +kernel
theorem dX3_r_0 : decode cX3_r 0 = .ok (.aload_n 0, 1) := dk_42 (dk_at dksX3_r_0 0 rfl rfl)
theorem dX3_r_1 : decode cX3_r 1 = .ok (.getfield 7, 3) := dk_180 0 7 (dk_at dksX3_r_0 1 rfl rfl)
theorem dX3_r_4 : decode cX3_r 4 = .ok (.bipush 16, 2) := dk_16 16 (dk_at dksX3_r_0 4 rfl rfl)
theorem dX3_r_6 : decode cX3_r 6 = .ok (.iconst 4, 1) := dk_7 (dk_at dksX3_r_0 6 rfl rfl)
theorem dX3_r_7 : decode cX3_r 7 = .ok (.iload_n 1, 1) := dk_27 (dk_at dksX3_r_0 7 rfl rfl)
theorem dX3_r_8 : decode cX3_r 8 = .ok (.imul, 1) := dk_104 (dk_at dksX3_r_0 8 rfl rfl)
theorem dX3_r_9 : decode cX3_r 9 = .ok (.iadd, 1) := dk_96 (dk_at dksX3_r_0 9 rfl rfl)
theorem dX3_r_10 : decode cX3_r 10 = .ok (.iload_n 2, 1) := dk_28 (dk_at dksX3_r_0 10 rfl rfl)
theorem dX3_r_11 : decode cX3_r 11 = .ok (.iadd, 1) := dk_96 (dk_at dksX3_r_0 11 rfl rfl)
theorem dX3_r_12 : decode cX3_r 12 = .ok (.iaload, 1) := dk_46 (dk_at dksX3_r_0 12 rfl rfl)
theorem dX3_r_13 : decode cX3_r 13 = .ok (.ireturn, 1) := dk_172 (dk_at dksX3_r_0 13 rfl rfl)
abbrev cX3_mark : ByteArray := prog_25_method_20_code
def yX3_mark : MethodName := ⟨RX3, "mark", "(IIZ)V"⟩
def dkwX3_mark_1 : List UInt8 := [177]
abbrev dktX3_mark_1 : List UInt8 := dkwX3_mark_1 ++ []
def dkwX3_mark_0 : List UInt8 := [42, 180, 0, 7, 17, 0, 208, 16, 7, 27, 104, 96, 28, 96, 29, 153, 0, 7, 4, 167, 0, 4, 3, 79]
abbrev dktX3_mark_0 : List UInt8 := dkwX3_mark_0 ++ dktX3_mark_1
theorem dksX3_mark_0 : cX3_mark.data.toList.drop 0 = dktX3_mark_0 := by decide +kernel
theorem dksX3_mark_1 : cX3_mark.data.toList.drop 24 = dktX3_mark_1 := dk_seg dksX3_mark_0 24 rfl rfl
theorem dX3_mark_0 : decode cX3_mark 0 = .ok (.aload_n 0, 1) := dk_42 (dk_at dksX3_mark_0 0 rfl rfl)
theorem dX3_mark_1 : decode cX3_mark 1 = .ok (.getfield 7, 3) := dk_180 0 7 (dk_at dksX3_mark_0 1 rfl rfl)
theorem dX3_mark_4 : decode cX3_mark 4 = .ok (.sipush 208, 3) := dk_17 0 208 (dk_at dksX3_mark_0 4 rfl rfl)
theorem dX3_mark_7 : decode cX3_mark 7 = .ok (.bipush 7, 2) := dk_16 7 (dk_at dksX3_mark_0 7 rfl rfl)
theorem dX3_mark_9 : decode cX3_mark 9 = .ok (.iload_n 1, 1) := dk_27 (dk_at dksX3_mark_0 9 rfl rfl)
theorem dX3_mark_10 : decode cX3_mark 10 = .ok (.imul, 1) := dk_104 (dk_at dksX3_mark_0 10 rfl rfl)
theorem dX3_mark_11 : decode cX3_mark 11 = .ok (.iadd, 1) := dk_96 (dk_at dksX3_mark_0 11 rfl rfl)
theorem dX3_mark_12 : decode cX3_mark 12 = .ok (.iload_n 2, 1) := dk_28 (dk_at dksX3_mark_0 12 rfl rfl)
theorem dX3_mark_13 : decode cX3_mark 13 = .ok (.iadd, 1) := dk_96 (dk_at dksX3_mark_0 13 rfl rfl)
theorem dX3_mark_14 : decode cX3_mark 14 = .ok (.iload_n 3, 1) := dk_29 (dk_at dksX3_mark_0 14 rfl rfl)
theorem dX3_mark_15 : decode cX3_mark 15 = .ok (.ifCond .eq 7, 3) := dk_153 0 7 (dk_at dksX3_mark_0 15 rfl rfl)
theorem dX3_mark_18 : decode cX3_mark 18 = .ok (.iconst 1, 1) := dk_4 (dk_at dksX3_mark_0 18 rfl rfl)
theorem dX3_mark_19 : decode cX3_mark 19 = .ok (.goto 4, 3) := dk_167 0 4 (dk_at dksX3_mark_0 19 rfl rfl)
theorem dX3_mark_22 : decode cX3_mark 22 = .ok (.iconst 0, 1) := dk_3 (dk_at dksX3_mark_0 22 rfl rfl)
theorem dX3_mark_23 : decode cX3_mark 23 = .ok (.iastore, 1) := dk_79 (dk_at dksX3_mark_0 23 rfl rfl)
theorem dX3_mark_24 : decode cX3_mark 24 = .ok (.return_, 1) := dk_177 (dk_at dksX3_mark_1 0 rfl rfl)
abbrev cX3_isFromStale : ByteArray := prog_25_method_26_code
def yX3_isFromStale : MethodName := ⟨RX3, "isFromStale", "(II)Z"⟩
def dkwX3_isFromStale_3 : List UInt8 := [182, 0, 116, 21, 4, 182, 0, 138, 128, 62, 132, 4, 1, 167, 255, 221, 29, 172]
abbrev dktX3_isFromStale_3 : List UInt8 := dkwX3_isFromStale_3 ++ []
def dkwX3_isFromStale_2 : List UInt8 := [21, 4, 28, 162, 0, 35, 42, 27, 3, 182, 0, 116, 16, 114, 160, 0, 24, 29, 42, 42, 27, 5]
abbrev dktX3_isFromStale_2 : List UInt8 := dkwX3_isFromStale_2 ++ dktX3_isFromStale_3
def dkwX3_isFromStale_1 : List UInt8 := [42, 42, 27, 6, 182, 0, 116, 28, 182, 0, 138, 153, 0, 7, 4, 167, 0, 4, 3, 62, 3, 54, 4]
abbrev dktX3_isFromStale_1 : List UInt8 := dkwX3_isFromStale_1 ++ dktX3_isFromStale_2
def dkwX3_isFromStale_0 : List UInt8 := [42, 27, 182, 0, 123, 153, 0, 5, 3, 172, 42, 42, 27, 5, 182, 0, 116, 28, 182, 0, 138, 154, 0, 17]
abbrev dktX3_isFromStale_0 : List UInt8 := dkwX3_isFromStale_0 ++ dktX3_isFromStale_1
theorem dksX3_isFromStale_0 : cX3_isFromStale.data.toList.drop 0 = dktX3_isFromStale_0 := by decide +kernel
theorem dksX3_isFromStale_1 : cX3_isFromStale.data.toList.drop 24 = dktX3_isFromStale_1 := dk_seg dksX3_isFromStale_0 24 rfl rfl
theorem dksX3_isFromStale_2 : cX3_isFromStale.data.toList.drop 47 = dktX3_isFromStale_2 := dk_seg dksX3_isFromStale_1 23 rfl rfl
theorem dksX3_isFromStale_3 : cX3_isFromStale.data.toList.drop 69 = dktX3_isFromStale_3 := dk_seg dksX3_isFromStale_2 22 rfl rfl
theorem dX3_isFromStale_0 : decode cX3_isFromStale 0 = .ok (.aload_n 0, 1) := dk_42 (dk_at dksX3_isFromStale_0 0 rfl rfl)
theorem dX3_isFromStale_1 : decode cX3_isFromStale 1 = .ok (.iload_n 1, 1) := dk_27 (dk_at dksX3_isFromStale_0 1 rfl rfl)
theorem dX3_isFromStale_2 : decode cX3_isFromStale 2 = .ok (.invokevirtual 123, 3) := dk_182 0 123 (dk_at dksX3_isFromStale_0 2 rfl rfl)
theorem dX3_isFromStale_5 : decode cX3_isFromStale 5 = .ok (.ifCond .eq 5, 3) := dk_153 0 5 (dk_at dksX3_isFromStale_0 5 rfl rfl)
theorem dX3_isFromStale_8 : decode cX3_isFromStale 8 = .ok (.iconst 0, 1) := dk_3 (dk_at dksX3_isFromStale_0 8 rfl rfl)
theorem dX3_isFromStale_9 : decode cX3_isFromStale 9 = .ok (.ireturn, 1) := dk_172 (dk_at dksX3_isFromStale_0 9 rfl rfl)
theorem dX3_isFromStale_10 : decode cX3_isFromStale 10 = .ok (.aload_n 0, 1) := dk_42 (dk_at dksX3_isFromStale_0 10 rfl rfl)
theorem dX3_isFromStale_11 : decode cX3_isFromStale 11 = .ok (.aload_n 0, 1) := dk_42 (dk_at dksX3_isFromStale_0 11 rfl rfl)
theorem dX3_isFromStale_12 : decode cX3_isFromStale 12 = .ok (.iload_n 1, 1) := dk_27 (dk_at dksX3_isFromStale_0 12 rfl rfl)
theorem dX3_isFromStale_13 : decode cX3_isFromStale 13 = .ok (.iconst 2, 1) := dk_5 (dk_at dksX3_isFromStale_0 13 rfl rfl)
theorem dX3_isFromStale_14 : decode cX3_isFromStale 14 = .ok (.invokevirtual 116, 3) := dk_182 0 116 (dk_at dksX3_isFromStale_0 14 rfl rfl)
theorem dX3_isFromStale_17 : decode cX3_isFromStale 17 = .ok (.iload_n 2, 1) := dk_28 (dk_at dksX3_isFromStale_0 17 rfl rfl)
theorem dX3_isFromStale_18 : decode cX3_isFromStale 18 = .ok (.invokevirtual 138, 3) := dk_182 0 138 (dk_at dksX3_isFromStale_0 18 rfl rfl)
theorem dX3_isFromStale_21 : decode cX3_isFromStale 21 = .ok (.ifCond .ne 17, 3) := dk_154 0 17 (dk_at dksX3_isFromStale_0 21 rfl rfl)
theorem dX3_isFromStale_24 : decode cX3_isFromStale 24 = .ok (.aload_n 0, 1) := dk_42 (dk_at dksX3_isFromStale_1 0 rfl rfl)
theorem dX3_isFromStale_25 : decode cX3_isFromStale 25 = .ok (.aload_n 0, 1) := dk_42 (dk_at dksX3_isFromStale_1 1 rfl rfl)
theorem dX3_isFromStale_26 : decode cX3_isFromStale 26 = .ok (.iload_n 1, 1) := dk_27 (dk_at dksX3_isFromStale_1 2 rfl rfl)
theorem dX3_isFromStale_27 : decode cX3_isFromStale 27 = .ok (.iconst 3, 1) := dk_6 (dk_at dksX3_isFromStale_1 3 rfl rfl)
theorem dX3_isFromStale_28 : decode cX3_isFromStale 28 = .ok (.invokevirtual 116, 3) := dk_182 0 116 (dk_at dksX3_isFromStale_1 4 rfl rfl)
theorem dX3_isFromStale_31 : decode cX3_isFromStale 31 = .ok (.iload_n 2, 1) := dk_28 (dk_at dksX3_isFromStale_1 7 rfl rfl)
theorem dX3_isFromStale_32 : decode cX3_isFromStale 32 = .ok (.invokevirtual 138, 3) := dk_182 0 138 (dk_at dksX3_isFromStale_1 8 rfl rfl)
theorem dX3_isFromStale_35 : decode cX3_isFromStale 35 = .ok (.ifCond .eq 7, 3) := dk_153 0 7 (dk_at dksX3_isFromStale_1 11 rfl rfl)
theorem dX3_isFromStale_38 : decode cX3_isFromStale 38 = .ok (.iconst 1, 1) := dk_4 (dk_at dksX3_isFromStale_1 14 rfl rfl)
theorem dX3_isFromStale_39 : decode cX3_isFromStale 39 = .ok (.goto 4, 3) := dk_167 0 4 (dk_at dksX3_isFromStale_1 15 rfl rfl)
theorem dX3_isFromStale_42 : decode cX3_isFromStale 42 = .ok (.iconst 0, 1) := dk_3 (dk_at dksX3_isFromStale_1 18 rfl rfl)
theorem dX3_isFromStale_43 : decode cX3_isFromStale 43 = .ok (.istore_n 3, 1) := dk_62 (dk_at dksX3_isFromStale_1 19 rfl rfl)
theorem dX3_isFromStale_44 : decode cX3_isFromStale 44 = .ok (.iconst 0, 1) := dk_3 (dk_at dksX3_isFromStale_1 20 rfl rfl)
theorem dX3_isFromStale_45 : decode cX3_isFromStale 45 = .ok (.istore 4, 2) := dk_54 4 (dk_at dksX3_isFromStale_1 21 rfl rfl)
theorem dX3_isFromStale_47 : decode cX3_isFromStale 47 = .ok (.iload 4, 2) := dk_21 4 (dk_at dksX3_isFromStale_2 0 rfl rfl)
theorem dX3_isFromStale_49 : decode cX3_isFromStale 49 = .ok (.iload_n 2, 1) := dk_28 (dk_at dksX3_isFromStale_2 2 rfl rfl)
theorem dX3_isFromStale_50 : decode cX3_isFromStale 50 = .ok (.if_icmp .ge 35, 3) := dk_162 0 35 (dk_at dksX3_isFromStale_2 3 rfl rfl)
theorem dX3_isFromStale_53 : decode cX3_isFromStale 53 = .ok (.aload_n 0, 1) := dk_42 (dk_at dksX3_isFromStale_2 6 rfl rfl)
theorem dX3_isFromStale_54 : decode cX3_isFromStale 54 = .ok (.iload_n 1, 1) := dk_27 (dk_at dksX3_isFromStale_2 7 rfl rfl)
theorem dX3_isFromStale_55 : decode cX3_isFromStale 55 = .ok (.iconst 0, 1) := dk_3 (dk_at dksX3_isFromStale_2 8 rfl rfl)
theorem dX3_isFromStale_56 : decode cX3_isFromStale 56 = .ok (.invokevirtual 116, 3) := dk_182 0 116 (dk_at dksX3_isFromStale_2 9 rfl rfl)
theorem dX3_isFromStale_59 : decode cX3_isFromStale 59 = .ok (.bipush 114, 2) := dk_16 114 (dk_at dksX3_isFromStale_2 12 rfl rfl)
theorem dX3_isFromStale_61 : decode cX3_isFromStale 61 = .ok (.if_icmp .ne 24, 3) := dk_160 0 24 (dk_at dksX3_isFromStale_2 14 rfl rfl)
theorem dX3_isFromStale_64 : decode cX3_isFromStale 64 = .ok (.iload_n 3, 1) := dk_29 (dk_at dksX3_isFromStale_2 17 rfl rfl)
theorem dX3_isFromStale_65 : decode cX3_isFromStale 65 = .ok (.aload_n 0, 1) := dk_42 (dk_at dksX3_isFromStale_2 18 rfl rfl)
theorem dX3_isFromStale_66 : decode cX3_isFromStale 66 = .ok (.aload_n 0, 1) := dk_42 (dk_at dksX3_isFromStale_2 19 rfl rfl)
theorem dX3_isFromStale_67 : decode cX3_isFromStale 67 = .ok (.iload_n 1, 1) := dk_27 (dk_at dksX3_isFromStale_2 20 rfl rfl)
theorem dX3_isFromStale_68 : decode cX3_isFromStale 68 = .ok (.iconst 2, 1) := dk_5 (dk_at dksX3_isFromStale_2 21 rfl rfl)
theorem dX3_isFromStale_69 : decode cX3_isFromStale 69 = .ok (.invokevirtual 116, 3) := dk_182 0 116 (dk_at dksX3_isFromStale_3 0 rfl rfl)
theorem dX3_isFromStale_72 : decode cX3_isFromStale 72 = .ok (.iload 4, 2) := dk_21 4 (dk_at dksX3_isFromStale_3 3 rfl rfl)
theorem dX3_isFromStale_74 : decode cX3_isFromStale 74 = .ok (.invokevirtual 138, 3) := dk_182 0 138 (dk_at dksX3_isFromStale_3 5 rfl rfl)
theorem dX3_isFromStale_77 : decode cX3_isFromStale 77 = .ok (.ior, 1) := dk_128 (dk_at dksX3_isFromStale_3 8 rfl rfl)
theorem dX3_isFromStale_78 : decode cX3_isFromStale 78 = .ok (.istore_n 3, 1) := dk_62 (dk_at dksX3_isFromStale_3 9 rfl rfl)
theorem dX3_isFromStale_79 : decode cX3_isFromStale 79 = .ok (.iinc 4 1, 3) := dk_132 4 1 (dk_at dksX3_isFromStale_3 10 rfl rfl)
theorem dX3_isFromStale_82 : decode cX3_isFromStale 82 = .ok (.goto (-35), 3) := dk_167 255 221 (dk_at dksX3_isFromStale_3 13 rfl rfl)
theorem dX3_isFromStale_85 : decode cX3_isFromStale 85 = .ok (.iload_n 3, 1) := dk_29 (dk_at dksX3_isFromStale_3 16 rfl rfl)
theorem dX3_isFromStale_86 : decode cX3_isFromStale 86 = .ok (.ireturn, 1) := dk_172 (dk_at dksX3_isFromStale_3 17 rfl rfl)
abbrev cX3_commit : ByteArray := prog_25_method_8_code
def yX3_commit : MethodName := ⟨RX3, "commit", "(I)I"⟩
def dkwX3_commit_5 : List UInt8 := [42, 89, 180, 0, 51, 4, 96, 181, 0, 51, 27, 172]
abbrev dktX3_commit_5 : List UInt8 := dkwX3_commit_5 ++ []
def dkwX3_commit_4 : List UInt8 := [104, 184, 0, 100, 42, 180, 0, 29, 3, 42, 180, 0, 35, 17, 1, 24, 42, 180, 0, 51, 104, 184, 0, 104]
abbrev dktX3_commit_4 : List UInt8 := dkwX3_commit_4 ++ dktX3_commit_5
def dkwX3_commit_3 : List UInt8 := [180, 0, 51, 4, 100, 181, 0, 51, 42, 180, 0, 13, 3, 42, 180, 0, 19, 17, 1, 16, 42, 180, 0, 51]
abbrev dktX3_commit_3 : List UInt8 := dkwX3_commit_3 ++ dktX3_commit_4
def dkwX3_commit_2 : List UInt8 := [104, 42, 180, 0, 35, 17, 1, 24, 28, 4, 100, 104, 184, 0, 104, 132, 2, 1, 167, 255, 201, 42, 89]
abbrev dktX3_commit_2 : List UInt8 := dkwX3_commit_2 ++ dktX3_commit_3
def dkwX3_commit_1 : List UInt8 := [28, 104, 42, 180, 0, 19, 17, 1, 16, 28, 4, 100, 104, 184, 0, 100, 42, 180, 0, 35, 17, 1, 24, 28]
abbrev dktX3_commit_1 : List UInt8 := dkwX3_commit_1 ++ dktX3_commit_2
def dkwX3_commit_0 : List UInt8 := [42, 180, 0, 51, 16, 8, 160, 0, 73, 4, 61, 28, 16, 8, 162, 0, 55, 42, 180, 0, 19, 17, 1, 16]
abbrev dktX3_commit_0 : List UInt8 := dkwX3_commit_0 ++ dktX3_commit_1
theorem dksX3_commit_0 : cX3_commit.data.toList.drop 0 = dktX3_commit_0 := by decide +kernel
theorem dksX3_commit_1 : cX3_commit.data.toList.drop 24 = dktX3_commit_1 := dk_seg dksX3_commit_0 24 rfl rfl
theorem dksX3_commit_2 : cX3_commit.data.toList.drop 48 = dktX3_commit_2 := dk_seg dksX3_commit_1 24 rfl rfl
theorem dksX3_commit_3 : cX3_commit.data.toList.drop 71 = dktX3_commit_3 := dk_seg dksX3_commit_2 23 rfl rfl
theorem dksX3_commit_4 : cX3_commit.data.toList.drop 95 = dktX3_commit_4 := dk_seg dksX3_commit_3 24 rfl rfl
theorem dksX3_commit_5 : cX3_commit.data.toList.drop 119 = dktX3_commit_5 := dk_seg dksX3_commit_4 24 rfl rfl
theorem dX3_commit_0 : decode cX3_commit 0 = .ok (.aload_n 0, 1) := dk_42 (dk_at dksX3_commit_0 0 rfl rfl)
theorem dX3_commit_1 : decode cX3_commit 1 = .ok (.getfield 51, 3) := dk_180 0 51 (dk_at dksX3_commit_0 1 rfl rfl)
theorem dX3_commit_4 : decode cX3_commit 4 = .ok (.bipush 8, 2) := dk_16 8 (dk_at dksX3_commit_0 4 rfl rfl)
theorem dX3_commit_6 : decode cX3_commit 6 = .ok (.if_icmp .ne 73, 3) := dk_160 0 73 (dk_at dksX3_commit_0 6 rfl rfl)
theorem dX3_commit_9 : decode cX3_commit 9 = .ok (.iconst 1, 1) := dk_4 (dk_at dksX3_commit_0 9 rfl rfl)
theorem dX3_commit_10 : decode cX3_commit 10 = .ok (.istore_n 2, 1) := dk_61 (dk_at dksX3_commit_0 10 rfl rfl)
theorem dX3_commit_11 : decode cX3_commit 11 = .ok (.iload_n 2, 1) := dk_28 (dk_at dksX3_commit_0 11 rfl rfl)
theorem dX3_commit_12 : decode cX3_commit 12 = .ok (.bipush 8, 2) := dk_16 8 (dk_at dksX3_commit_0 12 rfl rfl)
theorem dX3_commit_14 : decode cX3_commit 14 = .ok (.if_icmp .ge 55, 3) := dk_162 0 55 (dk_at dksX3_commit_0 14 rfl rfl)
theorem dX3_commit_17 : decode cX3_commit 17 = .ok (.aload_n 0, 1) := dk_42 (dk_at dksX3_commit_0 17 rfl rfl)
theorem dX3_commit_18 : decode cX3_commit 18 = .ok (.getfield 19, 3) := dk_180 0 19 (dk_at dksX3_commit_0 18 rfl rfl)
theorem dX3_commit_21 : decode cX3_commit 21 = .ok (.sipush 272, 3) := dk_17 1 16 (dk_at dksX3_commit_0 21 rfl rfl)
theorem dX3_commit_24 : decode cX3_commit 24 = .ok (.iload_n 2, 1) := dk_28 (dk_at dksX3_commit_1 0 rfl rfl)
theorem dX3_commit_25 : decode cX3_commit 25 = .ok (.imul, 1) := dk_104 (dk_at dksX3_commit_1 1 rfl rfl)
theorem dX3_commit_26 : decode cX3_commit 26 = .ok (.aload_n 0, 1) := dk_42 (dk_at dksX3_commit_1 2 rfl rfl)
theorem dX3_commit_27 : decode cX3_commit 27 = .ok (.getfield 19, 3) := dk_180 0 19 (dk_at dksX3_commit_1 3 rfl rfl)
theorem dX3_commit_30 : decode cX3_commit 30 = .ok (.sipush 272, 3) := dk_17 1 16 (dk_at dksX3_commit_1 6 rfl rfl)
theorem dX3_commit_33 : decode cX3_commit 33 = .ok (.iload_n 2, 1) := dk_28 (dk_at dksX3_commit_1 9 rfl rfl)
theorem dX3_commit_34 : decode cX3_commit 34 = .ok (.iconst 1, 1) := dk_4 (dk_at dksX3_commit_1 10 rfl rfl)
theorem dX3_commit_35 : decode cX3_commit 35 = .ok (.isub, 1) := dk_100 (dk_at dksX3_commit_1 11 rfl rfl)
theorem dX3_commit_36 : decode cX3_commit 36 = .ok (.imul, 1) := dk_104 (dk_at dksX3_commit_1 12 rfl rfl)
theorem dX3_commit_37 : decode cX3_commit 37 = .ok (.invokestatic 100, 3) := dk_184 0 100 (dk_at dksX3_commit_1 13 rfl rfl)
theorem dX3_commit_40 : decode cX3_commit 40 = .ok (.aload_n 0, 1) := dk_42 (dk_at dksX3_commit_1 16 rfl rfl)
theorem dX3_commit_41 : decode cX3_commit 41 = .ok (.getfield 35, 3) := dk_180 0 35 (dk_at dksX3_commit_1 17 rfl rfl)
theorem dX3_commit_44 : decode cX3_commit 44 = .ok (.sipush 280, 3) := dk_17 1 24 (dk_at dksX3_commit_1 20 rfl rfl)
theorem dX3_commit_47 : decode cX3_commit 47 = .ok (.iload_n 2, 1) := dk_28 (dk_at dksX3_commit_1 23 rfl rfl)
theorem dX3_commit_48 : decode cX3_commit 48 = .ok (.imul, 1) := dk_104 (dk_at dksX3_commit_2 0 rfl rfl)
theorem dX3_commit_49 : decode cX3_commit 49 = .ok (.aload_n 0, 1) := dk_42 (dk_at dksX3_commit_2 1 rfl rfl)
theorem dX3_commit_50 : decode cX3_commit 50 = .ok (.getfield 35, 3) := dk_180 0 35 (dk_at dksX3_commit_2 2 rfl rfl)
theorem dX3_commit_53 : decode cX3_commit 53 = .ok (.sipush 280, 3) := dk_17 1 24 (dk_at dksX3_commit_2 5 rfl rfl)
theorem dX3_commit_56 : decode cX3_commit 56 = .ok (.iload_n 2, 1) := dk_28 (dk_at dksX3_commit_2 8 rfl rfl)
theorem dX3_commit_57 : decode cX3_commit 57 = .ok (.iconst 1, 1) := dk_4 (dk_at dksX3_commit_2 9 rfl rfl)
theorem dX3_commit_58 : decode cX3_commit 58 = .ok (.isub, 1) := dk_100 (dk_at dksX3_commit_2 10 rfl rfl)
theorem dX3_commit_59 : decode cX3_commit 59 = .ok (.imul, 1) := dk_104 (dk_at dksX3_commit_2 11 rfl rfl)
theorem dX3_commit_60 : decode cX3_commit 60 = .ok (.invokestatic 104, 3) := dk_184 0 104 (dk_at dksX3_commit_2 12 rfl rfl)
theorem dX3_commit_63 : decode cX3_commit 63 = .ok (.iinc 2 1, 3) := dk_132 2 1 (dk_at dksX3_commit_2 15 rfl rfl)
theorem dX3_commit_66 : decode cX3_commit 66 = .ok (.goto (-55), 3) := dk_167 255 201 (dk_at dksX3_commit_2 18 rfl rfl)
theorem dX3_commit_69 : decode cX3_commit 69 = .ok (.aload_n 0, 1) := dk_42 (dk_at dksX3_commit_2 21 rfl rfl)
theorem dX3_commit_70 : decode cX3_commit 70 = .ok (.dup, 1) := dk_89 (dk_at dksX3_commit_2 22 rfl rfl)
theorem dX3_commit_71 : decode cX3_commit 71 = .ok (.getfield 51, 3) := dk_180 0 51 (dk_at dksX3_commit_3 0 rfl rfl)
theorem dX3_commit_74 : decode cX3_commit 74 = .ok (.iconst 1, 1) := dk_4 (dk_at dksX3_commit_3 3 rfl rfl)
theorem dX3_commit_75 : decode cX3_commit 75 = .ok (.isub, 1) := dk_100 (dk_at dksX3_commit_3 4 rfl rfl)
theorem dX3_commit_76 : decode cX3_commit 76 = .ok (.putfield 51, 3) := dk_181 0 51 (dk_at dksX3_commit_3 5 rfl rfl)
theorem dX3_commit_79 : decode cX3_commit 79 = .ok (.aload_n 0, 1) := dk_42 (dk_at dksX3_commit_3 8 rfl rfl)
theorem dX3_commit_80 : decode cX3_commit 80 = .ok (.getfield 13, 3) := dk_180 0 13 (dk_at dksX3_commit_3 9 rfl rfl)
theorem dX3_commit_83 : decode cX3_commit 83 = .ok (.iconst 0, 1) := dk_3 (dk_at dksX3_commit_3 12 rfl rfl)
theorem dX3_commit_84 : decode cX3_commit 84 = .ok (.aload_n 0, 1) := dk_42 (dk_at dksX3_commit_3 13 rfl rfl)
theorem dX3_commit_85 : decode cX3_commit 85 = .ok (.getfield 19, 3) := dk_180 0 19 (dk_at dksX3_commit_3 14 rfl rfl)
theorem dX3_commit_88 : decode cX3_commit 88 = .ok (.sipush 272, 3) := dk_17 1 16 (dk_at dksX3_commit_3 17 rfl rfl)
theorem dX3_commit_91 : decode cX3_commit 91 = .ok (.aload_n 0, 1) := dk_42 (dk_at dksX3_commit_3 20 rfl rfl)
theorem dX3_commit_92 : decode cX3_commit 92 = .ok (.getfield 51, 3) := dk_180 0 51 (dk_at dksX3_commit_3 21 rfl rfl)
theorem dX3_commit_95 : decode cX3_commit 95 = .ok (.imul, 1) := dk_104 (dk_at dksX3_commit_4 0 rfl rfl)
theorem dX3_commit_96 : decode cX3_commit 96 = .ok (.invokestatic 100, 3) := dk_184 0 100 (dk_at dksX3_commit_4 1 rfl rfl)
theorem dX3_commit_99 : decode cX3_commit 99 = .ok (.aload_n 0, 1) := dk_42 (dk_at dksX3_commit_4 4 rfl rfl)
theorem dX3_commit_100 : decode cX3_commit 100 = .ok (.getfield 29, 3) := dk_180 0 29 (dk_at dksX3_commit_4 5 rfl rfl)
theorem dX3_commit_103 : decode cX3_commit 103 = .ok (.iconst 0, 1) := dk_3 (dk_at dksX3_commit_4 8 rfl rfl)
theorem dX3_commit_104 : decode cX3_commit 104 = .ok (.aload_n 0, 1) := dk_42 (dk_at dksX3_commit_4 9 rfl rfl)
theorem dX3_commit_105 : decode cX3_commit 105 = .ok (.getfield 35, 3) := dk_180 0 35 (dk_at dksX3_commit_4 10 rfl rfl)
theorem dX3_commit_108 : decode cX3_commit 108 = .ok (.sipush 280, 3) := dk_17 1 24 (dk_at dksX3_commit_4 13 rfl rfl)
theorem dX3_commit_111 : decode cX3_commit 111 = .ok (.aload_n 0, 1) := dk_42 (dk_at dksX3_commit_4 16 rfl rfl)
theorem dX3_commit_112 : decode cX3_commit 112 = .ok (.getfield 51, 3) := dk_180 0 51 (dk_at dksX3_commit_4 17 rfl rfl)
theorem dX3_commit_115 : decode cX3_commit 115 = .ok (.imul, 1) := dk_104 (dk_at dksX3_commit_4 20 rfl rfl)
theorem dX3_commit_116 : decode cX3_commit 116 = .ok (.invokestatic 104, 3) := dk_184 0 104 (dk_at dksX3_commit_4 21 rfl rfl)
theorem dX3_commit_119 : decode cX3_commit 119 = .ok (.aload_n 0, 1) := dk_42 (dk_at dksX3_commit_5 0 rfl rfl)
theorem dX3_commit_120 : decode cX3_commit 120 = .ok (.dup, 1) := dk_89 (dk_at dksX3_commit_5 1 rfl rfl)
theorem dX3_commit_121 : decode cX3_commit 121 = .ok (.getfield 51, 3) := dk_180 0 51 (dk_at dksX3_commit_5 2 rfl rfl)
theorem dX3_commit_124 : decode cX3_commit 124 = .ok (.iconst 1, 1) := dk_4 (dk_at dksX3_commit_5 5 rfl rfl)
theorem dX3_commit_125 : decode cX3_commit 125 = .ok (.iadd, 1) := dk_96 (dk_at dksX3_commit_5 6 rfl rfl)
theorem dX3_commit_126 : decode cX3_commit 126 = .ok (.putfield 51, 3) := dk_181 0 51 (dk_at dksX3_commit_5 7 rfl rfl)
theorem dX3_commit_129 : decode cX3_commit 129 = .ok (.iload_n 1, 1) := dk_27 (dk_at dksX3_commit_5 10 rfl rfl)
theorem dX3_commit_130 : decode cX3_commit 130 = .ok (.ireturn, 1) := dk_172 (dk_at dksX3_commit_5 11 rfl rfl)
abbrev cX3_removeRow : ByteArray := prog_25_method_33_code
def yX3_removeRow : MethodName := ⟨RX3, "removeRow", "(I)I"⟩
def dkwX3_removeRow_1 : List UInt8 := [42, 4, 182, 0, 169, 172]
abbrev dktX3_removeRow_1 : List UInt8 := dkwX3_removeRow_1 ++ []
def dkwX3_removeRow_0 : List UInt8 := [42, 182, 0, 163, 42, 27, 182, 0, 179, 155, 0, 15, 42, 42, 27, 182, 0, 182, 182, 0, 176, 167, 0, 8]
abbrev dktX3_removeRow_0 : List UInt8 := dkwX3_removeRow_0 ++ dktX3_removeRow_1
theorem dksX3_removeRow_0 : cX3_removeRow.data.toList.drop 0 = dktX3_removeRow_0 := by decide +kernel
theorem dksX3_removeRow_1 : cX3_removeRow.data.toList.drop 24 = dktX3_removeRow_1 := dk_seg dksX3_removeRow_0 24 rfl rfl
theorem dX3_removeRow_0 : decode cX3_removeRow 0 = .ok (.aload_n 0, 1) := dk_42 (dk_at dksX3_removeRow_0 0 rfl rfl)
theorem dX3_removeRow_1 : decode cX3_removeRow 1 = .ok (.invokevirtual 163, 3) := dk_182 0 163 (dk_at dksX3_removeRow_0 1 rfl rfl)
theorem dX3_removeRow_4 : decode cX3_removeRow 4 = .ok (.aload_n 0, 1) := dk_42 (dk_at dksX3_removeRow_0 4 rfl rfl)
theorem dX3_removeRow_5 : decode cX3_removeRow 5 = .ok (.iload_n 1, 1) := dk_27 (dk_at dksX3_removeRow_0 5 rfl rfl)
theorem dX3_removeRow_6 : decode cX3_removeRow 6 = .ok (.invokevirtual 179, 3) := dk_182 0 179 (dk_at dksX3_removeRow_0 6 rfl rfl)
theorem dX3_removeRow_9 : decode cX3_removeRow 9 = .ok (.ifCond .lt 15, 3) := dk_155 0 15 (dk_at dksX3_removeRow_0 9 rfl rfl)
theorem dX3_removeRow_12 : decode cX3_removeRow 12 = .ok (.aload_n 0, 1) := dk_42 (dk_at dksX3_removeRow_0 12 rfl rfl)
theorem dX3_removeRow_13 : decode cX3_removeRow 13 = .ok (.aload_n 0, 1) := dk_42 (dk_at dksX3_removeRow_0 13 rfl rfl)
theorem dX3_removeRow_14 : decode cX3_removeRow 14 = .ok (.iload_n 1, 1) := dk_27 (dk_at dksX3_removeRow_0 14 rfl rfl)
theorem dX3_removeRow_15 : decode cX3_removeRow 15 = .ok (.invokevirtual 182, 3) := dk_182 0 182 (dk_at dksX3_removeRow_0 15 rfl rfl)
theorem dX3_removeRow_18 : decode cX3_removeRow 18 = .ok (.invokevirtual 176, 3) := dk_182 0 176 (dk_at dksX3_removeRow_0 18 rfl rfl)
theorem dX3_removeRow_21 : decode cX3_removeRow 21 = .ok (.goto 8, 3) := dk_167 0 8 (dk_at dksX3_removeRow_0 21 rfl rfl)
theorem dX3_removeRow_24 : decode cX3_removeRow 24 = .ok (.aload_n 0, 1) := dk_42 (dk_at dksX3_removeRow_1 0 rfl rfl)
theorem dX3_removeRow_25 : decode cX3_removeRow 25 = .ok (.iconst 1, 1) := dk_4 (dk_at dksX3_removeRow_1 1 rfl rfl)
theorem dX3_removeRow_26 : decode cX3_removeRow 26 = .ok (.invokevirtual 169, 3) := dk_182 0 169 (dk_at dksX3_removeRow_1 2 rfl rfl)
theorem dX3_removeRow_29 : decode cX3_removeRow 29 = .ok (.ireturn, 1) := dk_172 (dk_at dksX3_removeRow_1 5 rfl rfl)
abbrev cX3_row : ByteArray := prog_25_method_13_code
def yX3_row : MethodName := ⟨RX3, "row", "(I)I"⟩
def dkwX3_row_1 : List UInt8 := [132, 2, 1, 167, 255, 231, 2, 172]
abbrev dktX3_row_1 : List UInt8 := dkwX3_row_1 ++ []
def dkwX3_row_0 : List UInt8 := [3, 61, 28, 42, 180, 0, 7, 4, 46, 162, 0, 21, 42, 28, 3, 182, 0, 108, 27, 160, 0, 5, 28, 172]
abbrev dktX3_row_0 : List UInt8 := dkwX3_row_0 ++ dktX3_row_1
theorem dksX3_row_0 : cX3_row.data.toList.drop 0 = dktX3_row_0 := by decide +kernel
theorem dksX3_row_1 : cX3_row.data.toList.drop 24 = dktX3_row_1 := dk_seg dksX3_row_0 24 rfl rfl
theorem dX3_row_0 : decode cX3_row 0 = .ok (.iconst 0, 1) := dk_3 (dk_at dksX3_row_0 0 rfl rfl)
theorem dX3_row_1 : decode cX3_row 1 = .ok (.istore_n 2, 1) := dk_61 (dk_at dksX3_row_0 1 rfl rfl)
theorem dX3_row_2 : decode cX3_row 2 = .ok (.iload_n 2, 1) := dk_28 (dk_at dksX3_row_0 2 rfl rfl)
theorem dX3_row_3 : decode cX3_row 3 = .ok (.aload_n 0, 1) := dk_42 (dk_at dksX3_row_0 3 rfl rfl)
theorem dX3_row_4 : decode cX3_row 4 = .ok (.getfield 7, 3) := dk_180 0 7 (dk_at dksX3_row_0 4 rfl rfl)
theorem dX3_row_7 : decode cX3_row 7 = .ok (.iconst 1, 1) := dk_4 (dk_at dksX3_row_0 7 rfl rfl)
theorem dX3_row_8 : decode cX3_row 8 = .ok (.iaload, 1) := dk_46 (dk_at dksX3_row_0 8 rfl rfl)
theorem dX3_row_9 : decode cX3_row 9 = .ok (.if_icmp .ge 21, 3) := dk_162 0 21 (dk_at dksX3_row_0 9 rfl rfl)
theorem dX3_row_12 : decode cX3_row 12 = .ok (.aload_n 0, 1) := dk_42 (dk_at dksX3_row_0 12 rfl rfl)
theorem dX3_row_13 : decode cX3_row 13 = .ok (.iload_n 2, 1) := dk_28 (dk_at dksX3_row_0 13 rfl rfl)
theorem dX3_row_14 : decode cX3_row 14 = .ok (.iconst 0, 1) := dk_3 (dk_at dksX3_row_0 14 rfl rfl)
theorem dX3_row_15 : decode cX3_row 15 = .ok (.invokevirtual 108, 3) := dk_182 0 108 (dk_at dksX3_row_0 15 rfl rfl)
theorem dX3_row_18 : decode cX3_row 18 = .ok (.iload_n 1, 1) := dk_27 (dk_at dksX3_row_0 18 rfl rfl)
theorem dX3_row_19 : decode cX3_row 19 = .ok (.if_icmp .ne 5, 3) := dk_160 0 5 (dk_at dksX3_row_0 19 rfl rfl)
theorem dX3_row_22 : decode cX3_row 22 = .ok (.iload_n 2, 1) := dk_28 (dk_at dksX3_row_0 22 rfl rfl)
theorem dX3_row_23 : decode cX3_row 23 = .ok (.ireturn, 1) := dk_172 (dk_at dksX3_row_0 23 rfl rfl)
theorem dX3_row_24 : decode cX3_row 24 = .ok (.iinc 2 1, 3) := dk_132 2 1 (dk_at dksX3_row_1 0 rfl rfl)
theorem dX3_row_27 : decode cX3_row 27 = .ok (.goto (-25), 3) := dk_167 255 231 (dk_at dksX3_row_1 3 rfl rfl)
theorem dX3_row_30 : decode cX3_row 30 = .ok (.iconst (-1), 1) := dk_2 (dk_at dksX3_row_1 6 rfl rfl)
theorem dX3_row_31 : decode cX3_row 31 = .ok (.ireturn, 1) := dk_172 (dk_at dksX3_row_1 7 rfl rfl)
abbrev cX3_goneRow : ByteArray := prog_25_method_32_code
def yX3_goneRow : MethodName := ⟨RX3, "goneRow", "(I)I"⟩
def dkwX3_goneRow_4 : List UInt8 := [21, 4, 172]
abbrev dktX3_goneRow_4 : List UInt8 := dkwX3_goneRow_4 ++ []
def dkwX3_goneRow_3 : List UInt8 := [21, 5, 42, 180, 0, 7, 21, 5, 7, 96, 46, 79, 132, 5, 1, 167, 255, 221, 42, 29, 182, 0, 159]
abbrev dktX3_goneRow_3 : List UInt8 := dkwX3_goneRow_3 ++ dktX3_goneRow_4
def dkwX3_goneRow_2 : List UInt8 := [96, 54, 5, 21, 5, 16, 16, 7, 42, 180, 0, 7, 4, 46, 104, 96, 162, 0, 25, 42, 180, 0, 7]
abbrev dktX3_goneRow_2 : List UInt8 := dkwX3_goneRow_2 ++ dktX3_goneRow_3
def dkwX3_goneRow_1 : List UInt8 := [180, 0, 7, 4, 92, 46, 4, 100, 79, 42, 180, 0, 7, 7, 92, 46, 4, 96, 79, 16, 16, 7, 28, 104]
abbrev dktX3_goneRow_1 : List UInt8 := dkwX3_goneRow_1 ++ dktX3_goneRow_2
def dkwX3_goneRow_0 : List UInt8 := [42, 27, 182, 0, 179, 61, 42, 28, 4, 182, 0, 108, 62, 42, 28, 6, 182, 0, 108, 54, 4, 42]
abbrev dktX3_goneRow_0 : List UInt8 := dkwX3_goneRow_0 ++ dktX3_goneRow_1
theorem dksX3_goneRow_0 : cX3_goneRow.data.toList.drop 0 = dktX3_goneRow_0 := by decide +kernel
theorem dksX3_goneRow_1 : cX3_goneRow.data.toList.drop 22 = dktX3_goneRow_1 := dk_seg dksX3_goneRow_0 22 rfl rfl
theorem dksX3_goneRow_2 : cX3_goneRow.data.toList.drop 46 = dktX3_goneRow_2 := dk_seg dksX3_goneRow_1 24 rfl rfl
theorem dksX3_goneRow_3 : cX3_goneRow.data.toList.drop 69 = dktX3_goneRow_3 := dk_seg dksX3_goneRow_2 23 rfl rfl
theorem dksX3_goneRow_4 : cX3_goneRow.data.toList.drop 92 = dktX3_goneRow_4 := dk_seg dksX3_goneRow_3 23 rfl rfl
theorem dX3_goneRow_0 : decode cX3_goneRow 0 = .ok (.aload_n 0, 1) := dk_42 (dk_at dksX3_goneRow_0 0 rfl rfl)
theorem dX3_goneRow_1 : decode cX3_goneRow 1 = .ok (.iload_n 1, 1) := dk_27 (dk_at dksX3_goneRow_0 1 rfl rfl)
theorem dX3_goneRow_2 : decode cX3_goneRow 2 = .ok (.invokevirtual 179, 3) := dk_182 0 179 (dk_at dksX3_goneRow_0 2 rfl rfl)
theorem dX3_goneRow_5 : decode cX3_goneRow 5 = .ok (.istore_n 2, 1) := dk_61 (dk_at dksX3_goneRow_0 5 rfl rfl)
theorem dX3_goneRow_6 : decode cX3_goneRow 6 = .ok (.aload_n 0, 1) := dk_42 (dk_at dksX3_goneRow_0 6 rfl rfl)
theorem dX3_goneRow_7 : decode cX3_goneRow 7 = .ok (.iload_n 2, 1) := dk_28 (dk_at dksX3_goneRow_0 7 rfl rfl)
theorem dX3_goneRow_8 : decode cX3_goneRow 8 = .ok (.iconst 1, 1) := dk_4 (dk_at dksX3_goneRow_0 8 rfl rfl)
theorem dX3_goneRow_9 : decode cX3_goneRow 9 = .ok (.invokevirtual 108, 3) := dk_182 0 108 (dk_at dksX3_goneRow_0 9 rfl rfl)
theorem dX3_goneRow_12 : decode cX3_goneRow 12 = .ok (.istore_n 3, 1) := dk_62 (dk_at dksX3_goneRow_0 12 rfl rfl)
theorem dX3_goneRow_13 : decode cX3_goneRow 13 = .ok (.aload_n 0, 1) := dk_42 (dk_at dksX3_goneRow_0 13 rfl rfl)
theorem dX3_goneRow_14 : decode cX3_goneRow 14 = .ok (.iload_n 2, 1) := dk_28 (dk_at dksX3_goneRow_0 14 rfl rfl)
theorem dX3_goneRow_15 : decode cX3_goneRow 15 = .ok (.iconst 3, 1) := dk_6 (dk_at dksX3_goneRow_0 15 rfl rfl)
theorem dX3_goneRow_16 : decode cX3_goneRow 16 = .ok (.invokevirtual 108, 3) := dk_182 0 108 (dk_at dksX3_goneRow_0 16 rfl rfl)
theorem dX3_goneRow_19 : decode cX3_goneRow 19 = .ok (.istore 4, 2) := dk_54 4 (dk_at dksX3_goneRow_0 19 rfl rfl)
theorem dX3_goneRow_21 : decode cX3_goneRow 21 = .ok (.aload_n 0, 1) := dk_42 (dk_at dksX3_goneRow_0 21 rfl rfl)
theorem dX3_goneRow_22 : decode cX3_goneRow 22 = .ok (.getfield 7, 3) := dk_180 0 7 (dk_at dksX3_goneRow_1 0 rfl rfl)
theorem dX3_goneRow_25 : decode cX3_goneRow 25 = .ok (.iconst 1, 1) := dk_4 (dk_at dksX3_goneRow_1 3 rfl rfl)
theorem dX3_goneRow_26 : decode cX3_goneRow 26 = .ok (.dup2, 1) := dk_92 (dk_at dksX3_goneRow_1 4 rfl rfl)
theorem dX3_goneRow_27 : decode cX3_goneRow 27 = .ok (.iaload, 1) := dk_46 (dk_at dksX3_goneRow_1 5 rfl rfl)
theorem dX3_goneRow_28 : decode cX3_goneRow 28 = .ok (.iconst 1, 1) := dk_4 (dk_at dksX3_goneRow_1 6 rfl rfl)
theorem dX3_goneRow_29 : decode cX3_goneRow 29 = .ok (.isub, 1) := dk_100 (dk_at dksX3_goneRow_1 7 rfl rfl)
theorem dX3_goneRow_30 : decode cX3_goneRow 30 = .ok (.iastore, 1) := dk_79 (dk_at dksX3_goneRow_1 8 rfl rfl)
theorem dX3_goneRow_31 : decode cX3_goneRow 31 = .ok (.aload_n 0, 1) := dk_42 (dk_at dksX3_goneRow_1 9 rfl rfl)
theorem dX3_goneRow_32 : decode cX3_goneRow 32 = .ok (.getfield 7, 3) := dk_180 0 7 (dk_at dksX3_goneRow_1 10 rfl rfl)
theorem dX3_goneRow_35 : decode cX3_goneRow 35 = .ok (.iconst 4, 1) := dk_7 (dk_at dksX3_goneRow_1 13 rfl rfl)
theorem dX3_goneRow_36 : decode cX3_goneRow 36 = .ok (.dup2, 1) := dk_92 (dk_at dksX3_goneRow_1 14 rfl rfl)
theorem dX3_goneRow_37 : decode cX3_goneRow 37 = .ok (.iaload, 1) := dk_46 (dk_at dksX3_goneRow_1 15 rfl rfl)
theorem dX3_goneRow_38 : decode cX3_goneRow 38 = .ok (.iconst 1, 1) := dk_4 (dk_at dksX3_goneRow_1 16 rfl rfl)
theorem dX3_goneRow_39 : decode cX3_goneRow 39 = .ok (.iadd, 1) := dk_96 (dk_at dksX3_goneRow_1 17 rfl rfl)
theorem dX3_goneRow_40 : decode cX3_goneRow 40 = .ok (.iastore, 1) := dk_79 (dk_at dksX3_goneRow_1 18 rfl rfl)
theorem dX3_goneRow_41 : decode cX3_goneRow 41 = .ok (.bipush 16, 2) := dk_16 16 (dk_at dksX3_goneRow_1 19 rfl rfl)
theorem dX3_goneRow_43 : decode cX3_goneRow 43 = .ok (.iconst 4, 1) := dk_7 (dk_at dksX3_goneRow_1 21 rfl rfl)
theorem dX3_goneRow_44 : decode cX3_goneRow 44 = .ok (.iload_n 2, 1) := dk_28 (dk_at dksX3_goneRow_1 22 rfl rfl)
theorem dX3_goneRow_45 : decode cX3_goneRow 45 = .ok (.imul, 1) := dk_104 (dk_at dksX3_goneRow_1 23 rfl rfl)
theorem dX3_goneRow_46 : decode cX3_goneRow 46 = .ok (.iadd, 1) := dk_96 (dk_at dksX3_goneRow_2 0 rfl rfl)
theorem dX3_goneRow_47 : decode cX3_goneRow 47 = .ok (.istore 5, 2) := dk_54 5 (dk_at dksX3_goneRow_2 1 rfl rfl)
theorem dX3_goneRow_49 : decode cX3_goneRow 49 = .ok (.iload 5, 2) := dk_21 5 (dk_at dksX3_goneRow_2 3 rfl rfl)
theorem dX3_goneRow_51 : decode cX3_goneRow 51 = .ok (.bipush 16, 2) := dk_16 16 (dk_at dksX3_goneRow_2 5 rfl rfl)
theorem dX3_goneRow_53 : decode cX3_goneRow 53 = .ok (.iconst 4, 1) := dk_7 (dk_at dksX3_goneRow_2 7 rfl rfl)
theorem dX3_goneRow_54 : decode cX3_goneRow 54 = .ok (.aload_n 0, 1) := dk_42 (dk_at dksX3_goneRow_2 8 rfl rfl)
theorem dX3_goneRow_55 : decode cX3_goneRow 55 = .ok (.getfield 7, 3) := dk_180 0 7 (dk_at dksX3_goneRow_2 9 rfl rfl)
theorem dX3_goneRow_58 : decode cX3_goneRow 58 = .ok (.iconst 1, 1) := dk_4 (dk_at dksX3_goneRow_2 12 rfl rfl)
theorem dX3_goneRow_59 : decode cX3_goneRow 59 = .ok (.iaload, 1) := dk_46 (dk_at dksX3_goneRow_2 13 rfl rfl)
theorem dX3_goneRow_60 : decode cX3_goneRow 60 = .ok (.imul, 1) := dk_104 (dk_at dksX3_goneRow_2 14 rfl rfl)
theorem dX3_goneRow_61 : decode cX3_goneRow 61 = .ok (.iadd, 1) := dk_96 (dk_at dksX3_goneRow_2 15 rfl rfl)
theorem dX3_goneRow_62 : decode cX3_goneRow 62 = .ok (.if_icmp .ge 25, 3) := dk_162 0 25 (dk_at dksX3_goneRow_2 16 rfl rfl)
theorem dX3_goneRow_65 : decode cX3_goneRow 65 = .ok (.aload_n 0, 1) := dk_42 (dk_at dksX3_goneRow_2 19 rfl rfl)
theorem dX3_goneRow_66 : decode cX3_goneRow 66 = .ok (.getfield 7, 3) := dk_180 0 7 (dk_at dksX3_goneRow_2 20 rfl rfl)
theorem dX3_goneRow_69 : decode cX3_goneRow 69 = .ok (.iload 5, 2) := dk_21 5 (dk_at dksX3_goneRow_3 0 rfl rfl)
theorem dX3_goneRow_71 : decode cX3_goneRow 71 = .ok (.aload_n 0, 1) := dk_42 (dk_at dksX3_goneRow_3 2 rfl rfl)
theorem dX3_goneRow_72 : decode cX3_goneRow 72 = .ok (.getfield 7, 3) := dk_180 0 7 (dk_at dksX3_goneRow_3 3 rfl rfl)
theorem dX3_goneRow_75 : decode cX3_goneRow 75 = .ok (.iload 5, 2) := dk_21 5 (dk_at dksX3_goneRow_3 6 rfl rfl)
theorem dX3_goneRow_77 : decode cX3_goneRow 77 = .ok (.iconst 4, 1) := dk_7 (dk_at dksX3_goneRow_3 8 rfl rfl)
theorem dX3_goneRow_78 : decode cX3_goneRow 78 = .ok (.iadd, 1) := dk_96 (dk_at dksX3_goneRow_3 9 rfl rfl)
theorem dX3_goneRow_79 : decode cX3_goneRow 79 = .ok (.iaload, 1) := dk_46 (dk_at dksX3_goneRow_3 10 rfl rfl)
theorem dX3_goneRow_80 : decode cX3_goneRow 80 = .ok (.iastore, 1) := dk_79 (dk_at dksX3_goneRow_3 11 rfl rfl)
theorem dX3_goneRow_81 : decode cX3_goneRow 81 = .ok (.iinc 5 1, 3) := dk_132 5 1 (dk_at dksX3_goneRow_3 12 rfl rfl)
theorem dX3_goneRow_84 : decode cX3_goneRow 84 = .ok (.goto (-35), 3) := dk_167 255 221 (dk_at dksX3_goneRow_3 15 rfl rfl)
theorem dX3_goneRow_87 : decode cX3_goneRow 87 = .ok (.aload_n 0, 1) := dk_42 (dk_at dksX3_goneRow_3 18 rfl rfl)
theorem dX3_goneRow_88 : decode cX3_goneRow 88 = .ok (.iload_n 3, 1) := dk_29 (dk_at dksX3_goneRow_3 19 rfl rfl)
theorem dX3_goneRow_89 : decode cX3_goneRow 89 = .ok (.invokevirtual 159, 3) := dk_182 0 159 (dk_at dksX3_goneRow_3 20 rfl rfl)
theorem dX3_goneRow_92 : decode cX3_goneRow 92 = .ok (.iload 4, 2) := dk_21 4 (dk_at dksX3_goneRow_4 0 rfl rfl)
theorem dX3_goneRow_94 : decode cX3_goneRow 94 = .ok (.ireturn, 1) := dk_172 (dk_at dksX3_goneRow_4 2 rfl rfl)
abbrev cX3_beginDay : ByteArray := prog_25_method_37_code
def yX3_beginDay : MethodName := ⟨RX3, "beginDay", "()I"⟩
def dkwX3_beginDay_1 : List UInt8 := [182, 0, 192, 182, 0, 176, 172]
abbrev dktX3_beginDay_1 : List UInt8 := dkwX3_beginDay_1 ++ []
def dkwX3_beginDay_0 : List UInt8 := [42, 182, 0, 163, 42, 182, 0, 188, 60, 27, 158, 0, 11, 42, 27, 182, 0, 169, 167, 0, 11, 42, 42]
abbrev dktX3_beginDay_0 : List UInt8 := dkwX3_beginDay_0 ++ dktX3_beginDay_1
theorem dksX3_beginDay_0 : cX3_beginDay.data.toList.drop 0 = dktX3_beginDay_0 := by decide +kernel
theorem dksX3_beginDay_1 : cX3_beginDay.data.toList.drop 23 = dktX3_beginDay_1 := dk_seg dksX3_beginDay_0 23 rfl rfl
theorem dX3_beginDay_0 : decode cX3_beginDay 0 = .ok (.aload_n 0, 1) := dk_42 (dk_at dksX3_beginDay_0 0 rfl rfl)
theorem dX3_beginDay_1 : decode cX3_beginDay 1 = .ok (.invokevirtual 163, 3) := dk_182 0 163 (dk_at dksX3_beginDay_0 1 rfl rfl)
theorem dX3_beginDay_4 : decode cX3_beginDay 4 = .ok (.aload_n 0, 1) := dk_42 (dk_at dksX3_beginDay_0 4 rfl rfl)
theorem dX3_beginDay_5 : decode cX3_beginDay 5 = .ok (.invokevirtual 188, 3) := dk_182 0 188 (dk_at dksX3_beginDay_0 5 rfl rfl)
theorem dX3_beginDay_8 : decode cX3_beginDay 8 = .ok (.istore_n 1, 1) := dk_60 (dk_at dksX3_beginDay_0 8 rfl rfl)
theorem dX3_beginDay_9 : decode cX3_beginDay 9 = .ok (.iload_n 1, 1) := dk_27 (dk_at dksX3_beginDay_0 9 rfl rfl)
theorem dX3_beginDay_10 : decode cX3_beginDay 10 = .ok (.ifCond .le 11, 3) := dk_158 0 11 (dk_at dksX3_beginDay_0 10 rfl rfl)
theorem dX3_beginDay_13 : decode cX3_beginDay 13 = .ok (.aload_n 0, 1) := dk_42 (dk_at dksX3_beginDay_0 13 rfl rfl)
theorem dX3_beginDay_14 : decode cX3_beginDay 14 = .ok (.iload_n 1, 1) := dk_27 (dk_at dksX3_beginDay_0 14 rfl rfl)
theorem dX3_beginDay_15 : decode cX3_beginDay 15 = .ok (.invokevirtual 169, 3) := dk_182 0 169 (dk_at dksX3_beginDay_0 15 rfl rfl)
theorem dX3_beginDay_18 : decode cX3_beginDay 18 = .ok (.goto 11, 3) := dk_167 0 11 (dk_at dksX3_beginDay_0 18 rfl rfl)
theorem dX3_beginDay_21 : decode cX3_beginDay 21 = .ok (.aload_n 0, 1) := dk_42 (dk_at dksX3_beginDay_0 21 rfl rfl)
theorem dX3_beginDay_22 : decode cX3_beginDay 22 = .ok (.aload_n 0, 1) := dk_42 (dk_at dksX3_beginDay_0 22 rfl rfl)
theorem dX3_beginDay_23 : decode cX3_beginDay 23 = .ok (.invokevirtual 192, 3) := dk_182 0 192 (dk_at dksX3_beginDay_1 0 rfl rfl)
theorem dX3_beginDay_26 : decode cX3_beginDay 26 = .ok (.invokevirtual 176, 3) := dk_182 0 176 (dk_at dksX3_beginDay_1 3 rfl rfl)
theorem dX3_beginDay_29 : decode cX3_beginDay 29 = .ok (.ireturn, 1) := dk_172 (dk_at dksX3_beginDay_1 6 rfl rfl)
abbrev cX3_cannotBegin : ByteArray := prog_25_method_34_code
def yX3_cannotBegin : MethodName := ⟨RX3, "cannotBegin", "()I"⟩
def dkwX3_cannotBegin_1 : List UInt8 := [167, 0, 4, 3, 172]
abbrev dktX3_cannotBegin_1 : List UInt8 := dkwX3_cannotBegin_1 ++ []
def dkwX3_cannotBegin_0 : List UInt8 := [42, 180, 0, 7, 3, 46, 16, 6, 160, 0, 18, 42, 5, 42, 180, 0, 7, 3, 46, 4, 182, 0, 156]
abbrev dktX3_cannotBegin_0 : List UInt8 := dkwX3_cannotBegin_0 ++ dktX3_cannotBegin_1
theorem dksX3_cannotBegin_0 : cX3_cannotBegin.data.toList.drop 0 = dktX3_cannotBegin_0 := by decide +kernel
theorem dksX3_cannotBegin_1 : cX3_cannotBegin.data.toList.drop 23 = dktX3_cannotBegin_1 := dk_seg dksX3_cannotBegin_0 23 rfl rfl
theorem dX3_cannotBegin_0 : decode cX3_cannotBegin 0 = .ok (.aload_n 0, 1) := dk_42 (dk_at dksX3_cannotBegin_0 0 rfl rfl)
theorem dX3_cannotBegin_1 : decode cX3_cannotBegin 1 = .ok (.getfield 7, 3) := dk_180 0 7 (dk_at dksX3_cannotBegin_0 1 rfl rfl)
theorem dX3_cannotBegin_4 : decode cX3_cannotBegin 4 = .ok (.iconst 0, 1) := dk_3 (dk_at dksX3_cannotBegin_0 4 rfl rfl)
theorem dX3_cannotBegin_5 : decode cX3_cannotBegin 5 = .ok (.iaload, 1) := dk_46 (dk_at dksX3_cannotBegin_0 5 rfl rfl)
theorem dX3_cannotBegin_6 : decode cX3_cannotBegin 6 = .ok (.bipush 6, 2) := dk_16 6 (dk_at dksX3_cannotBegin_0 6 rfl rfl)
theorem dX3_cannotBegin_8 : decode cX3_cannotBegin 8 = .ok (.if_icmp .ne 18, 3) := dk_160 0 18 (dk_at dksX3_cannotBegin_0 8 rfl rfl)
theorem dX3_cannotBegin_11 : decode cX3_cannotBegin 11 = .ok (.aload_n 0, 1) := dk_42 (dk_at dksX3_cannotBegin_0 11 rfl rfl)
theorem dX3_cannotBegin_12 : decode cX3_cannotBegin 12 = .ok (.iconst 2, 1) := dk_5 (dk_at dksX3_cannotBegin_0 12 rfl rfl)
theorem dX3_cannotBegin_13 : decode cX3_cannotBegin 13 = .ok (.aload_n 0, 1) := dk_42 (dk_at dksX3_cannotBegin_0 13 rfl rfl)
theorem dX3_cannotBegin_14 : decode cX3_cannotBegin 14 = .ok (.getfield 7, 3) := dk_180 0 7 (dk_at dksX3_cannotBegin_0 14 rfl rfl)
theorem dX3_cannotBegin_17 : decode cX3_cannotBegin 17 = .ok (.iconst 0, 1) := dk_3 (dk_at dksX3_cannotBegin_0 17 rfl rfl)
theorem dX3_cannotBegin_18 : decode cX3_cannotBegin 18 = .ok (.iaload, 1) := dk_46 (dk_at dksX3_cannotBegin_0 18 rfl rfl)
theorem dX3_cannotBegin_19 : decode cX3_cannotBegin 19 = .ok (.iconst 1, 1) := dk_4 (dk_at dksX3_cannotBegin_0 19 rfl rfl)
theorem dX3_cannotBegin_20 : decode cX3_cannotBegin 20 = .ok (.invokevirtual 156, 3) := dk_182 0 156 (dk_at dksX3_cannotBegin_0 20 rfl rfl)
theorem dX3_cannotBegin_23 : decode cX3_cannotBegin 23 = .ok (.goto 4, 3) := dk_167 0 4 (dk_at dksX3_cannotBegin_1 0 rfl rfl)
theorem dX3_cannotBegin_26 : decode cX3_cannotBegin 26 = .ok (.iconst 0, 1) := dk_3 (dk_at dksX3_cannotBegin_1 3 rfl rfl)
theorem dX3_cannotBegin_27 : decode cX3_cannotBegin 27 = .ok (.ireturn, 1) := dk_172 (dk_at dksX3_cannotBegin_1 4 rfl rfl)
abbrev cX3_begins : ByteArray := prog_25_method_36_code
def yX3_begins : MethodName := ⟨RX3, "begins", "()I"⟩
def dkwX3_begins_1 : List UInt8 := [27, 42, 28, 42, 180, 0, 7, 3, 46, 182, 0, 185, 96, 60, 132, 2, 1, 167, 255, 229, 27, 172]
abbrev dktX3_begins_1 : List UInt8 := dkwX3_begins_1 ++ []
def dkwX3_begins_0 : List UInt8 := [3, 60, 42, 180, 0, 7, 3, 92, 46, 4, 96, 79, 3, 61, 28, 42, 180, 0, 7, 6, 46, 162, 0, 23]
abbrev dktX3_begins_0 : List UInt8 := dkwX3_begins_0 ++ dktX3_begins_1
theorem dksX3_begins_0 : cX3_begins.data.toList.drop 0 = dktX3_begins_0 := by decide +kernel
theorem dksX3_begins_1 : cX3_begins.data.toList.drop 24 = dktX3_begins_1 := dk_seg dksX3_begins_0 24 rfl rfl
theorem dX3_begins_0 : decode cX3_begins 0 = .ok (.iconst 0, 1) := dk_3 (dk_at dksX3_begins_0 0 rfl rfl)
theorem dX3_begins_1 : decode cX3_begins 1 = .ok (.istore_n 1, 1) := dk_60 (dk_at dksX3_begins_0 1 rfl rfl)
theorem dX3_begins_2 : decode cX3_begins 2 = .ok (.aload_n 0, 1) := dk_42 (dk_at dksX3_begins_0 2 rfl rfl)
theorem dX3_begins_3 : decode cX3_begins 3 = .ok (.getfield 7, 3) := dk_180 0 7 (dk_at dksX3_begins_0 3 rfl rfl)
theorem dX3_begins_6 : decode cX3_begins 6 = .ok (.iconst 0, 1) := dk_3 (dk_at dksX3_begins_0 6 rfl rfl)
theorem dX3_begins_7 : decode cX3_begins 7 = .ok (.dup2, 1) := dk_92 (dk_at dksX3_begins_0 7 rfl rfl)
theorem dX3_begins_8 : decode cX3_begins 8 = .ok (.iaload, 1) := dk_46 (dk_at dksX3_begins_0 8 rfl rfl)
theorem dX3_begins_9 : decode cX3_begins 9 = .ok (.iconst 1, 1) := dk_4 (dk_at dksX3_begins_0 9 rfl rfl)
theorem dX3_begins_10 : decode cX3_begins 10 = .ok (.iadd, 1) := dk_96 (dk_at dksX3_begins_0 10 rfl rfl)
theorem dX3_begins_11 : decode cX3_begins 11 = .ok (.iastore, 1) := dk_79 (dk_at dksX3_begins_0 11 rfl rfl)
theorem dX3_begins_12 : decode cX3_begins 12 = .ok (.iconst 0, 1) := dk_3 (dk_at dksX3_begins_0 12 rfl rfl)
theorem dX3_begins_13 : decode cX3_begins 13 = .ok (.istore_n 2, 1) := dk_61 (dk_at dksX3_begins_0 13 rfl rfl)
theorem dX3_begins_14 : decode cX3_begins 14 = .ok (.iload_n 2, 1) := dk_28 (dk_at dksX3_begins_0 14 rfl rfl)
theorem dX3_begins_15 : decode cX3_begins 15 = .ok (.aload_n 0, 1) := dk_42 (dk_at dksX3_begins_0 15 rfl rfl)
theorem dX3_begins_16 : decode cX3_begins 16 = .ok (.getfield 7, 3) := dk_180 0 7 (dk_at dksX3_begins_0 16 rfl rfl)
theorem dX3_begins_19 : decode cX3_begins 19 = .ok (.iconst 3, 1) := dk_6 (dk_at dksX3_begins_0 19 rfl rfl)
theorem dX3_begins_20 : decode cX3_begins 20 = .ok (.iaload, 1) := dk_46 (dk_at dksX3_begins_0 20 rfl rfl)
theorem dX3_begins_21 : decode cX3_begins 21 = .ok (.if_icmp .ge 23, 3) := dk_162 0 23 (dk_at dksX3_begins_0 21 rfl rfl)
theorem dX3_begins_24 : decode cX3_begins 24 = .ok (.iload_n 1, 1) := dk_27 (dk_at dksX3_begins_1 0 rfl rfl)
theorem dX3_begins_25 : decode cX3_begins 25 = .ok (.aload_n 0, 1) := dk_42 (dk_at dksX3_begins_1 1 rfl rfl)
theorem dX3_begins_26 : decode cX3_begins 26 = .ok (.iload_n 2, 1) := dk_28 (dk_at dksX3_begins_1 2 rfl rfl)
theorem dX3_begins_27 : decode cX3_begins 27 = .ok (.aload_n 0, 1) := dk_42 (dk_at dksX3_begins_1 3 rfl rfl)
theorem dX3_begins_28 : decode cX3_begins 28 = .ok (.getfield 7, 3) := dk_180 0 7 (dk_at dksX3_begins_1 4 rfl rfl)
theorem dX3_begins_31 : decode cX3_begins 31 = .ok (.iconst 0, 1) := dk_3 (dk_at dksX3_begins_1 7 rfl rfl)
theorem dX3_begins_32 : decode cX3_begins 32 = .ok (.iaload, 1) := dk_46 (dk_at dksX3_begins_1 8 rfl rfl)
theorem dX3_begins_33 : decode cX3_begins 33 = .ok (.invokevirtual 185, 3) := dk_182 0 185 (dk_at dksX3_begins_1 9 rfl rfl)
theorem dX3_begins_36 : decode cX3_begins 36 = .ok (.iadd, 1) := dk_96 (dk_at dksX3_begins_1 12 rfl rfl)
theorem dX3_begins_37 : decode cX3_begins 37 = .ok (.istore_n 1, 1) := dk_60 (dk_at dksX3_begins_1 13 rfl rfl)
theorem dX3_begins_38 : decode cX3_begins 38 = .ok (.iinc 2 1, 3) := dk_132 2 1 (dk_at dksX3_begins_1 14 rfl rfl)
theorem dX3_begins_41 : decode cX3_begins 41 = .ok (.goto (-27), 3) := dk_167 255 229 (dk_at dksX3_begins_1 17 rfl rfl)
theorem dX3_begins_44 : decode cX3_begins 44 = .ok (.iload_n 1, 1) := dk_27 (dk_at dksX3_begins_1 20 rfl rfl)
theorem dX3_begins_45 : decode cX3_begins 45 = .ok (.ireturn, 1) := dk_172 (dk_at dksX3_begins_1 21 rfl rfl)
abbrev cX3_judged : ByteArray := prog_25_method_35_code
def yX3_judged : MethodName := ⟨RX3, "judged", "(II)I"⟩
def dkwX3_judged_1 : List UInt8 := [153, 0, 7, 4, 167, 0, 4, 3, 172]
abbrev dktX3_judged_1 : List UInt8 := dkwX3_judged_1 ++ []
def dkwX3_judged_0 : List UInt8 := [42, 27, 28, 182, 0, 142, 42, 27, 28, 42, 27, 28, 182, 0, 150, 182, 0, 146, 42, 27, 28, 182, 0, 138]
abbrev dktX3_judged_0 : List UInt8 := dkwX3_judged_0 ++ dktX3_judged_1
theorem dksX3_judged_0 : cX3_judged.data.toList.drop 0 = dktX3_judged_0 := by decide +kernel
theorem dksX3_judged_1 : cX3_judged.data.toList.drop 24 = dktX3_judged_1 := dk_seg dksX3_judged_0 24 rfl rfl
theorem dX3_judged_0 : decode cX3_judged 0 = .ok (.aload_n 0, 1) := dk_42 (dk_at dksX3_judged_0 0 rfl rfl)
theorem dX3_judged_1 : decode cX3_judged 1 = .ok (.iload_n 1, 1) := dk_27 (dk_at dksX3_judged_0 1 rfl rfl)
theorem dX3_judged_2 : decode cX3_judged 2 = .ok (.iload_n 2, 1) := dk_28 (dk_at dksX3_judged_0 2 rfl rfl)
theorem dX3_judged_3 : decode cX3_judged 3 = .ok (.invokevirtual 142, 3) := dk_182 0 142 (dk_at dksX3_judged_0 3 rfl rfl)
theorem dX3_judged_6 : decode cX3_judged 6 = .ok (.aload_n 0, 1) := dk_42 (dk_at dksX3_judged_0 6 rfl rfl)
theorem dX3_judged_7 : decode cX3_judged 7 = .ok (.iload_n 1, 1) := dk_27 (dk_at dksX3_judged_0 7 rfl rfl)
theorem dX3_judged_8 : decode cX3_judged 8 = .ok (.iload_n 2, 1) := dk_28 (dk_at dksX3_judged_0 8 rfl rfl)
theorem dX3_judged_9 : decode cX3_judged 9 = .ok (.aload_n 0, 1) := dk_42 (dk_at dksX3_judged_0 9 rfl rfl)
theorem dX3_judged_10 : decode cX3_judged 10 = .ok (.iload_n 1, 1) := dk_27 (dk_at dksX3_judged_0 10 rfl rfl)
theorem dX3_judged_11 : decode cX3_judged 11 = .ok (.iload_n 2, 1) := dk_28 (dk_at dksX3_judged_0 11 rfl rfl)
theorem dX3_judged_12 : decode cX3_judged 12 = .ok (.invokevirtual 150, 3) := dk_182 0 150 (dk_at dksX3_judged_0 12 rfl rfl)
theorem dX3_judged_15 : decode cX3_judged 15 = .ok (.invokevirtual 146, 3) := dk_182 0 146 (dk_at dksX3_judged_0 15 rfl rfl)
theorem dX3_judged_18 : decode cX3_judged 18 = .ok (.aload_n 0, 1) := dk_42 (dk_at dksX3_judged_0 18 rfl rfl)
theorem dX3_judged_19 : decode cX3_judged 19 = .ok (.iload_n 1, 1) := dk_27 (dk_at dksX3_judged_0 19 rfl rfl)
theorem dX3_judged_20 : decode cX3_judged 20 = .ok (.iload_n 2, 1) := dk_28 (dk_at dksX3_judged_0 20 rfl rfl)
theorem dX3_judged_21 : decode cX3_judged 21 = .ok (.invokevirtual 138, 3) := dk_182 0 138 (dk_at dksX3_judged_0 21 rfl rfl)
theorem dX3_judged_24 : decode cX3_judged 24 = .ok (.ifCond .eq 7, 3) := dk_153 0 7 (dk_at dksX3_judged_1 0 rfl rfl)
theorem dX3_judged_27 : decode cX3_judged 27 = .ok (.iconst 1, 1) := dk_4 (dk_at dksX3_judged_1 3 rfl rfl)
theorem dX3_judged_28 : decode cX3_judged 28 = .ok (.goto 4, 3) := dk_167 0 4 (dk_at dksX3_judged_1 4 rfl rfl)
theorem dX3_judged_31 : decode cX3_judged 31 = .ok (.iconst 0, 1) := dk_3 (dk_at dksX3_judged_1 7 rfl rfl)
theorem dX3_judged_32 : decode cX3_judged 32 = .ok (.ireturn, 1) := dk_172 (dk_at dksX3_judged_1 8 rfl rfl)
abbrev cX3_addBase : ByteArray := prog_25_method_41_code
def yX3_addBase : MethodName := ⟨RX3, "addBase", "(CI)I"⟩
def dkwX3_addBase_1 : List UInt8 := [42, 27, 28, 3, 3, 182, 0, 201, 182, 0, 176, 172]
abbrev dktX3_addBase_1 : List UInt8 := dkwX3_addBase_1 ++ []
def dkwX3_addBase_0 : List UInt8 := [42, 182, 0, 163, 42, 27, 28, 182, 0, 198, 62, 29, 158, 0, 11, 42, 29, 182, 0, 169, 167, 0, 15, 42]
abbrev dktX3_addBase_0 : List UInt8 := dkwX3_addBase_0 ++ dktX3_addBase_1
theorem dksX3_addBase_0 : cX3_addBase.data.toList.drop 0 = dktX3_addBase_0 := by decide +kernel
theorem dksX3_addBase_1 : cX3_addBase.data.toList.drop 24 = dktX3_addBase_1 := dk_seg dksX3_addBase_0 24 rfl rfl
theorem dX3_addBase_0 : decode cX3_addBase 0 = .ok (.aload_n 0, 1) := dk_42 (dk_at dksX3_addBase_0 0 rfl rfl)
theorem dX3_addBase_1 : decode cX3_addBase 1 = .ok (.invokevirtual 163, 3) := dk_182 0 163 (dk_at dksX3_addBase_0 1 rfl rfl)
theorem dX3_addBase_4 : decode cX3_addBase 4 = .ok (.aload_n 0, 1) := dk_42 (dk_at dksX3_addBase_0 4 rfl rfl)
theorem dX3_addBase_5 : decode cX3_addBase 5 = .ok (.iload_n 1, 1) := dk_27 (dk_at dksX3_addBase_0 5 rfl rfl)
theorem dX3_addBase_6 : decode cX3_addBase 6 = .ok (.iload_n 2, 1) := dk_28 (dk_at dksX3_addBase_0 6 rfl rfl)
theorem dX3_addBase_7 : decode cX3_addBase 7 = .ok (.invokevirtual 198, 3) := dk_182 0 198 (dk_at dksX3_addBase_0 7 rfl rfl)
theorem dX3_addBase_10 : decode cX3_addBase 10 = .ok (.istore_n 3, 1) := dk_62 (dk_at dksX3_addBase_0 10 rfl rfl)
theorem dX3_addBase_11 : decode cX3_addBase 11 = .ok (.iload_n 3, 1) := dk_29 (dk_at dksX3_addBase_0 11 rfl rfl)
theorem dX3_addBase_12 : decode cX3_addBase 12 = .ok (.ifCond .le 11, 3) := dk_158 0 11 (dk_at dksX3_addBase_0 12 rfl rfl)
theorem dX3_addBase_15 : decode cX3_addBase 15 = .ok (.aload_n 0, 1) := dk_42 (dk_at dksX3_addBase_0 15 rfl rfl)
theorem dX3_addBase_16 : decode cX3_addBase 16 = .ok (.iload_n 3, 1) := dk_29 (dk_at dksX3_addBase_0 16 rfl rfl)
theorem dX3_addBase_17 : decode cX3_addBase 17 = .ok (.invokevirtual 169, 3) := dk_182 0 169 (dk_at dksX3_addBase_0 17 rfl rfl)
theorem dX3_addBase_20 : decode cX3_addBase 20 = .ok (.goto 15, 3) := dk_167 0 15 (dk_at dksX3_addBase_0 20 rfl rfl)
theorem dX3_addBase_23 : decode cX3_addBase 23 = .ok (.aload_n 0, 1) := dk_42 (dk_at dksX3_addBase_0 23 rfl rfl)
theorem dX3_addBase_24 : decode cX3_addBase 24 = .ok (.aload_n 0, 1) := dk_42 (dk_at dksX3_addBase_1 0 rfl rfl)
theorem dX3_addBase_25 : decode cX3_addBase 25 = .ok (.iload_n 1, 1) := dk_27 (dk_at dksX3_addBase_1 1 rfl rfl)
theorem dX3_addBase_26 : decode cX3_addBase 26 = .ok (.iload_n 2, 1) := dk_28 (dk_at dksX3_addBase_1 2 rfl rfl)
theorem dX3_addBase_27 : decode cX3_addBase 27 = .ok (.iconst 0, 1) := dk_3 (dk_at dksX3_addBase_1 3 rfl rfl)
theorem dX3_addBase_28 : decode cX3_addBase 28 = .ok (.iconst 0, 1) := dk_3 (dk_at dksX3_addBase_1 4 rfl rfl)
theorem dX3_addBase_29 : decode cX3_addBase 29 = .ok (.invokevirtual 201, 3) := dk_182 0 201 (dk_at dksX3_addBase_1 5 rfl rfl)
theorem dX3_addBase_32 : decode cX3_addBase 32 = .ok (.invokevirtual 176, 3) := dk_182 0 176 (dk_at dksX3_addBase_1 8 rfl rfl)
theorem dX3_addBase_35 : decode cX3_addBase 35 = .ok (.ireturn, 1) := dk_172 (dk_at dksX3_addBase_1 11 rfl rfl)
abbrev cX3_cannotBase : ByteArray := prog_25_method_40_code
def yX3_cannotBase : MethodName := ⟨RX3, "cannotBase", "(II)I"⟩
def dkwX3_cannotBase_1 : List UInt8 := [29, 153, 0, 13, 28, 3, 16, 99, 184, 0, 112, 154, 0, 7, 4, 167, 0, 8, 42, 5, 182, 0, 195, 172]
abbrev dktX3_cannotBase_1 : List UInt8 := dkwX3_cannotBase_1 ++ []
def dkwX3_cannotBase_0 : List UInt8 := [27, 16, 115, 159, 0, 15, 27, 16, 110, 159, 0, 9, 27, 16, 120, 160, 0, 7, 4, 167, 0, 4, 3, 62]
abbrev dktX3_cannotBase_0 : List UInt8 := dkwX3_cannotBase_0 ++ dktX3_cannotBase_1
theorem dksX3_cannotBase_0 : cX3_cannotBase.data.toList.drop 0 = dktX3_cannotBase_0 := by decide +kernel
theorem dksX3_cannotBase_1 : cX3_cannotBase.data.toList.drop 24 = dktX3_cannotBase_1 := dk_seg dksX3_cannotBase_0 24 rfl rfl
theorem dX3_cannotBase_0 : decode cX3_cannotBase 0 = .ok (.iload_n 1, 1) := dk_27 (dk_at dksX3_cannotBase_0 0 rfl rfl)
theorem dX3_cannotBase_1 : decode cX3_cannotBase 1 = .ok (.bipush 115, 2) := dk_16 115 (dk_at dksX3_cannotBase_0 1 rfl rfl)
theorem dX3_cannotBase_3 : decode cX3_cannotBase 3 = .ok (.if_icmp .eq 15, 3) := dk_159 0 15 (dk_at dksX3_cannotBase_0 3 rfl rfl)
theorem dX3_cannotBase_6 : decode cX3_cannotBase 6 = .ok (.iload_n 1, 1) := dk_27 (dk_at dksX3_cannotBase_0 6 rfl rfl)
theorem dX3_cannotBase_7 : decode cX3_cannotBase 7 = .ok (.bipush 110, 2) := dk_16 110 (dk_at dksX3_cannotBase_0 7 rfl rfl)
theorem dX3_cannotBase_9 : decode cX3_cannotBase 9 = .ok (.if_icmp .eq 9, 3) := dk_159 0 9 (dk_at dksX3_cannotBase_0 9 rfl rfl)
theorem dX3_cannotBase_12 : decode cX3_cannotBase 12 = .ok (.iload_n 1, 1) := dk_27 (dk_at dksX3_cannotBase_0 12 rfl rfl)
theorem dX3_cannotBase_13 : decode cX3_cannotBase 13 = .ok (.bipush 120, 2) := dk_16 120 (dk_at dksX3_cannotBase_0 13 rfl rfl)
theorem dX3_cannotBase_15 : decode cX3_cannotBase 15 = .ok (.if_icmp .ne 7, 3) := dk_160 0 7 (dk_at dksX3_cannotBase_0 15 rfl rfl)
theorem dX3_cannotBase_18 : decode cX3_cannotBase 18 = .ok (.iconst 1, 1) := dk_4 (dk_at dksX3_cannotBase_0 18 rfl rfl)
theorem dX3_cannotBase_19 : decode cX3_cannotBase 19 = .ok (.goto 4, 3) := dk_167 0 4 (dk_at dksX3_cannotBase_0 19 rfl rfl)
theorem dX3_cannotBase_22 : decode cX3_cannotBase 22 = .ok (.iconst 0, 1) := dk_3 (dk_at dksX3_cannotBase_0 22 rfl rfl)
theorem dX3_cannotBase_23 : decode cX3_cannotBase 23 = .ok (.istore_n 3, 1) := dk_62 (dk_at dksX3_cannotBase_0 23 rfl rfl)
theorem dX3_cannotBase_24 : decode cX3_cannotBase 24 = .ok (.iload_n 3, 1) := dk_29 (dk_at dksX3_cannotBase_1 0 rfl rfl)
theorem dX3_cannotBase_25 : decode cX3_cannotBase 25 = .ok (.ifCond .eq 13, 3) := dk_153 0 13 (dk_at dksX3_cannotBase_1 1 rfl rfl)
theorem dX3_cannotBase_28 : decode cX3_cannotBase 28 = .ok (.iload_n 2, 1) := dk_28 (dk_at dksX3_cannotBase_1 4 rfl rfl)
theorem dX3_cannotBase_29 : decode cX3_cannotBase 29 = .ok (.iconst 0, 1) := dk_3 (dk_at dksX3_cannotBase_1 5 rfl rfl)
theorem dX3_cannotBase_30 : decode cX3_cannotBase 30 = .ok (.bipush 99, 2) := dk_16 99 (dk_at dksX3_cannotBase_1 6 rfl rfl)
theorem dX3_cannotBase_32 : decode cX3_cannotBase 32 = .ok (.invokestatic 112, 3) := dk_184 0 112 (dk_at dksX3_cannotBase_1 8 rfl rfl)
theorem dX3_cannotBase_35 : decode cX3_cannotBase 35 = .ok (.ifCond .ne 7, 3) := dk_154 0 7 (dk_at dksX3_cannotBase_1 11 rfl rfl)
theorem dX3_cannotBase_38 : decode cX3_cannotBase 38 = .ok (.iconst 1, 1) := dk_4 (dk_at dksX3_cannotBase_1 14 rfl rfl)
theorem dX3_cannotBase_39 : decode cX3_cannotBase 39 = .ok (.goto 8, 3) := dk_167 0 8 (dk_at dksX3_cannotBase_1 15 rfl rfl)
theorem dX3_cannotBase_42 : decode cX3_cannotBase 42 = .ok (.aload_n 0, 1) := dk_42 (dk_at dksX3_cannotBase_1 18 rfl rfl)
theorem dX3_cannotBase_43 : decode cX3_cannotBase 43 = .ok (.iconst 2, 1) := dk_5 (dk_at dksX3_cannotBase_1 19 rfl rfl)
theorem dX3_cannotBase_44 : decode cX3_cannotBase 44 = .ok (.invokevirtual 195, 3) := dk_182 0 195 (dk_at dksX3_cannotBase_1 20 rfl rfl)
theorem dX3_cannotBase_47 : decode cX3_cannotBase 47 = .ok (.ireturn, 1) := dk_172 (dk_at dksX3_cannotBase_1 23 rfl rfl)
abbrev cX3_cannotStep : ByteArray := prog_25_method_38_code
def yX3_cannotStep : MethodName := ⟨RX3, "cannotStep", "(I)I"⟩
def dkwX3_cannotStep_0 : List UInt8 := [42, 180, 0, 7, 6, 46, 16, 8, 160, 0, 14, 42, 4, 16, 8, 27, 182, 0, 156, 167, 0, 4, 3, 172]
abbrev dktX3_cannotStep_0 : List UInt8 := dkwX3_cannotStep_0 ++ []
theorem dksX3_cannotStep_0 : cX3_cannotStep.data.toList.drop 0 = dktX3_cannotStep_0 := by decide +kernel
theorem dX3_cannotStep_0 : decode cX3_cannotStep 0 = .ok (.aload_n 0, 1) := dk_42 (dk_at dksX3_cannotStep_0 0 rfl rfl)
theorem dX3_cannotStep_1 : decode cX3_cannotStep 1 = .ok (.getfield 7, 3) := dk_180 0 7 (dk_at dksX3_cannotStep_0 1 rfl rfl)
theorem dX3_cannotStep_4 : decode cX3_cannotStep 4 = .ok (.iconst 3, 1) := dk_6 (dk_at dksX3_cannotStep_0 4 rfl rfl)
theorem dX3_cannotStep_5 : decode cX3_cannotStep 5 = .ok (.iaload, 1) := dk_46 (dk_at dksX3_cannotStep_0 5 rfl rfl)
theorem dX3_cannotStep_6 : decode cX3_cannotStep 6 = .ok (.bipush 8, 2) := dk_16 8 (dk_at dksX3_cannotStep_0 6 rfl rfl)
theorem dX3_cannotStep_8 : decode cX3_cannotStep 8 = .ok (.if_icmp .ne 14, 3) := dk_160 0 14 (dk_at dksX3_cannotStep_0 8 rfl rfl)
theorem dX3_cannotStep_11 : decode cX3_cannotStep 11 = .ok (.aload_n 0, 1) := dk_42 (dk_at dksX3_cannotStep_0 11 rfl rfl)
theorem dX3_cannotStep_12 : decode cX3_cannotStep 12 = .ok (.iconst 1, 1) := dk_4 (dk_at dksX3_cannotStep_0 12 rfl rfl)
theorem dX3_cannotStep_13 : decode cX3_cannotStep 13 = .ok (.bipush 8, 2) := dk_16 8 (dk_at dksX3_cannotStep_0 13 rfl rfl)
theorem dX3_cannotStep_15 : decode cX3_cannotStep 15 = .ok (.iload_n 1, 1) := dk_27 (dk_at dksX3_cannotStep_0 15 rfl rfl)
theorem dX3_cannotStep_16 : decode cX3_cannotStep 16 = .ok (.invokevirtual 156, 3) := dk_182 0 156 (dk_at dksX3_cannotStep_0 16 rfl rfl)
theorem dX3_cannotStep_19 : decode cX3_cannotStep 19 = .ok (.goto 4, 3) := dk_167 0 4 (dk_at dksX3_cannotStep_0 19 rfl rfl)
theorem dX3_cannotStep_22 : decode cX3_cannotStep 22 = .ok (.iconst 0, 1) := dk_3 (dk_at dksX3_cannotStep_0 22 rfl rfl)
theorem dX3_cannotStep_23 : decode cX3_cannotStep 23 = .ok (.ireturn, 1) := dk_172 (dk_at dksX3_cannotStep_0 23 rfl rfl)
abbrev cX3_newStep : ByteArray := prog_25_method_39_code
def yX3_newStep : MethodName := ⟨RX3, "newStep", "(IIII)I"⟩
def dkwX3_newStep_4 : List UInt8 := [182, 0, 185, 96, 54, 7, 132, 8, 1, 167, 255, 229, 21, 5, 172]
abbrev dktX3_newStep_4 : List UInt8 := dkwX3_newStep_4 ++ []
def dkwX3_newStep_3 : List UInt8 := [4, 96, 79, 3, 54, 8, 21, 8, 42, 180, 0, 7, 3, 46, 163, 0, 22, 21, 7, 42, 21, 5, 21, 8]
abbrev dktX3_newStep_3 : List UInt8 := dkwX3_newStep_3 ++ dktX3_newStep_4
def dkwX3_newStep_2 : List UInt8 := [21, 6, 5, 96, 29, 79, 42, 180, 0, 7, 21, 6, 6, 96, 21, 4, 79, 42, 180, 0, 7, 6, 92, 46]
abbrev dktX3_newStep_2 : List UInt8 := dkwX3_newStep_2 ++ dktX3_newStep_3
def dkwX3_newStep_1 : List UInt8 := [180, 0, 7, 21, 6, 3, 96, 27, 79, 42, 180, 0, 7, 21, 6, 4, 96, 28, 79, 42, 180, 0, 7]
abbrev dktX3_newStep_1 : List UInt8 := dkwX3_newStep_1 ++ dktX3_newStep_2
def dkwX3_newStep_0 : List UInt8 := [42, 180, 0, 7, 6, 46, 54, 5, 17, 0, 176, 7, 21, 5, 104, 96, 54, 6, 3, 54, 7, 42]
abbrev dktX3_newStep_0 : List UInt8 := dkwX3_newStep_0 ++ dktX3_newStep_1
theorem dksX3_newStep_0 : cX3_newStep.data.toList.drop 0 = dktX3_newStep_0 := by decide +kernel
theorem dksX3_newStep_1 : cX3_newStep.data.toList.drop 22 = dktX3_newStep_1 := dk_seg dksX3_newStep_0 22 rfl rfl
theorem dksX3_newStep_2 : cX3_newStep.data.toList.drop 45 = dktX3_newStep_2 := dk_seg dksX3_newStep_1 23 rfl rfl
theorem dksX3_newStep_3 : cX3_newStep.data.toList.drop 69 = dktX3_newStep_3 := dk_seg dksX3_newStep_2 24 rfl rfl
theorem dksX3_newStep_4 : cX3_newStep.data.toList.drop 93 = dktX3_newStep_4 := dk_seg dksX3_newStep_3 24 rfl rfl
theorem dX3_newStep_0 : decode cX3_newStep 0 = .ok (.aload_n 0, 1) := dk_42 (dk_at dksX3_newStep_0 0 rfl rfl)
theorem dX3_newStep_1 : decode cX3_newStep 1 = .ok (.getfield 7, 3) := dk_180 0 7 (dk_at dksX3_newStep_0 1 rfl rfl)
theorem dX3_newStep_4 : decode cX3_newStep 4 = .ok (.iconst 3, 1) := dk_6 (dk_at dksX3_newStep_0 4 rfl rfl)
theorem dX3_newStep_5 : decode cX3_newStep 5 = .ok (.iaload, 1) := dk_46 (dk_at dksX3_newStep_0 5 rfl rfl)
theorem dX3_newStep_6 : decode cX3_newStep 6 = .ok (.istore 5, 2) := dk_54 5 (dk_at dksX3_newStep_0 6 rfl rfl)
theorem dX3_newStep_8 : decode cX3_newStep 8 = .ok (.sipush 176, 3) := dk_17 0 176 (dk_at dksX3_newStep_0 8 rfl rfl)
theorem dX3_newStep_11 : decode cX3_newStep 11 = .ok (.iconst 4, 1) := dk_7 (dk_at dksX3_newStep_0 11 rfl rfl)
theorem dX3_newStep_12 : decode cX3_newStep 12 = .ok (.iload 5, 2) := dk_21 5 (dk_at dksX3_newStep_0 12 rfl rfl)
theorem dX3_newStep_14 : decode cX3_newStep 14 = .ok (.imul, 1) := dk_104 (dk_at dksX3_newStep_0 14 rfl rfl)
theorem dX3_newStep_15 : decode cX3_newStep 15 = .ok (.iadd, 1) := dk_96 (dk_at dksX3_newStep_0 15 rfl rfl)
theorem dX3_newStep_16 : decode cX3_newStep 16 = .ok (.istore 6, 2) := dk_54 6 (dk_at dksX3_newStep_0 16 rfl rfl)
theorem dX3_newStep_18 : decode cX3_newStep 18 = .ok (.iconst 0, 1) := dk_3 (dk_at dksX3_newStep_0 18 rfl rfl)
theorem dX3_newStep_19 : decode cX3_newStep 19 = .ok (.istore 7, 2) := dk_54 7 (dk_at dksX3_newStep_0 19 rfl rfl)
theorem dX3_newStep_21 : decode cX3_newStep 21 = .ok (.aload_n 0, 1) := dk_42 (dk_at dksX3_newStep_0 21 rfl rfl)
theorem dX3_newStep_22 : decode cX3_newStep 22 = .ok (.getfield 7, 3) := dk_180 0 7 (dk_at dksX3_newStep_1 0 rfl rfl)
theorem dX3_newStep_25 : decode cX3_newStep 25 = .ok (.iload 6, 2) := dk_21 6 (dk_at dksX3_newStep_1 3 rfl rfl)
theorem dX3_newStep_27 : decode cX3_newStep 27 = .ok (.iconst 0, 1) := dk_3 (dk_at dksX3_newStep_1 5 rfl rfl)
theorem dX3_newStep_28 : decode cX3_newStep 28 = .ok (.iadd, 1) := dk_96 (dk_at dksX3_newStep_1 6 rfl rfl)
theorem dX3_newStep_29 : decode cX3_newStep 29 = .ok (.iload_n 1, 1) := dk_27 (dk_at dksX3_newStep_1 7 rfl rfl)
theorem dX3_newStep_30 : decode cX3_newStep 30 = .ok (.iastore, 1) := dk_79 (dk_at dksX3_newStep_1 8 rfl rfl)
theorem dX3_newStep_31 : decode cX3_newStep 31 = .ok (.aload_n 0, 1) := dk_42 (dk_at dksX3_newStep_1 9 rfl rfl)
theorem dX3_newStep_32 : decode cX3_newStep 32 = .ok (.getfield 7, 3) := dk_180 0 7 (dk_at dksX3_newStep_1 10 rfl rfl)
theorem dX3_newStep_35 : decode cX3_newStep 35 = .ok (.iload 6, 2) := dk_21 6 (dk_at dksX3_newStep_1 13 rfl rfl)
theorem dX3_newStep_37 : decode cX3_newStep 37 = .ok (.iconst 1, 1) := dk_4 (dk_at dksX3_newStep_1 15 rfl rfl)
theorem dX3_newStep_38 : decode cX3_newStep 38 = .ok (.iadd, 1) := dk_96 (dk_at dksX3_newStep_1 16 rfl rfl)
theorem dX3_newStep_39 : decode cX3_newStep 39 = .ok (.iload_n 2, 1) := dk_28 (dk_at dksX3_newStep_1 17 rfl rfl)
theorem dX3_newStep_40 : decode cX3_newStep 40 = .ok (.iastore, 1) := dk_79 (dk_at dksX3_newStep_1 18 rfl rfl)
theorem dX3_newStep_41 : decode cX3_newStep 41 = .ok (.aload_n 0, 1) := dk_42 (dk_at dksX3_newStep_1 19 rfl rfl)
theorem dX3_newStep_42 : decode cX3_newStep 42 = .ok (.getfield 7, 3) := dk_180 0 7 (dk_at dksX3_newStep_1 20 rfl rfl)
theorem dX3_newStep_45 : decode cX3_newStep 45 = .ok (.iload 6, 2) := dk_21 6 (dk_at dksX3_newStep_2 0 rfl rfl)
theorem dX3_newStep_47 : decode cX3_newStep 47 = .ok (.iconst 2, 1) := dk_5 (dk_at dksX3_newStep_2 2 rfl rfl)
theorem dX3_newStep_48 : decode cX3_newStep 48 = .ok (.iadd, 1) := dk_96 (dk_at dksX3_newStep_2 3 rfl rfl)
theorem dX3_newStep_49 : decode cX3_newStep 49 = .ok (.iload_n 3, 1) := dk_29 (dk_at dksX3_newStep_2 4 rfl rfl)
theorem dX3_newStep_50 : decode cX3_newStep 50 = .ok (.iastore, 1) := dk_79 (dk_at dksX3_newStep_2 5 rfl rfl)
theorem dX3_newStep_51 : decode cX3_newStep 51 = .ok (.aload_n 0, 1) := dk_42 (dk_at dksX3_newStep_2 6 rfl rfl)
theorem dX3_newStep_52 : decode cX3_newStep 52 = .ok (.getfield 7, 3) := dk_180 0 7 (dk_at dksX3_newStep_2 7 rfl rfl)
theorem dX3_newStep_55 : decode cX3_newStep 55 = .ok (.iload 6, 2) := dk_21 6 (dk_at dksX3_newStep_2 10 rfl rfl)
theorem dX3_newStep_57 : decode cX3_newStep 57 = .ok (.iconst 3, 1) := dk_6 (dk_at dksX3_newStep_2 12 rfl rfl)
theorem dX3_newStep_58 : decode cX3_newStep 58 = .ok (.iadd, 1) := dk_96 (dk_at dksX3_newStep_2 13 rfl rfl)
theorem dX3_newStep_59 : decode cX3_newStep 59 = .ok (.iload 4, 2) := dk_21 4 (dk_at dksX3_newStep_2 14 rfl rfl)
theorem dX3_newStep_61 : decode cX3_newStep 61 = .ok (.iastore, 1) := dk_79 (dk_at dksX3_newStep_2 16 rfl rfl)
theorem dX3_newStep_62 : decode cX3_newStep 62 = .ok (.aload_n 0, 1) := dk_42 (dk_at dksX3_newStep_2 17 rfl rfl)
theorem dX3_newStep_63 : decode cX3_newStep 63 = .ok (.getfield 7, 3) := dk_180 0 7 (dk_at dksX3_newStep_2 18 rfl rfl)
theorem dX3_newStep_66 : decode cX3_newStep 66 = .ok (.iconst 3, 1) := dk_6 (dk_at dksX3_newStep_2 21 rfl rfl)
theorem dX3_newStep_67 : decode cX3_newStep 67 = .ok (.dup2, 1) := dk_92 (dk_at dksX3_newStep_2 22 rfl rfl)
theorem dX3_newStep_68 : decode cX3_newStep 68 = .ok (.iaload, 1) := dk_46 (dk_at dksX3_newStep_2 23 rfl rfl)
theorem dX3_newStep_69 : decode cX3_newStep 69 = .ok (.iconst 1, 1) := dk_4 (dk_at dksX3_newStep_3 0 rfl rfl)
theorem dX3_newStep_70 : decode cX3_newStep 70 = .ok (.iadd, 1) := dk_96 (dk_at dksX3_newStep_3 1 rfl rfl)
theorem dX3_newStep_71 : decode cX3_newStep 71 = .ok (.iastore, 1) := dk_79 (dk_at dksX3_newStep_3 2 rfl rfl)
theorem dX3_newStep_72 : decode cX3_newStep 72 = .ok (.iconst 0, 1) := dk_3 (dk_at dksX3_newStep_3 3 rfl rfl)
theorem dX3_newStep_73 : decode cX3_newStep 73 = .ok (.istore 8, 2) := dk_54 8 (dk_at dksX3_newStep_3 4 rfl rfl)
theorem dX3_newStep_75 : decode cX3_newStep 75 = .ok (.iload 8, 2) := dk_21 8 (dk_at dksX3_newStep_3 6 rfl rfl)
theorem dX3_newStep_77 : decode cX3_newStep 77 = .ok (.aload_n 0, 1) := dk_42 (dk_at dksX3_newStep_3 8 rfl rfl)
theorem dX3_newStep_78 : decode cX3_newStep 78 = .ok (.getfield 7, 3) := dk_180 0 7 (dk_at dksX3_newStep_3 9 rfl rfl)
theorem dX3_newStep_81 : decode cX3_newStep 81 = .ok (.iconst 0, 1) := dk_3 (dk_at dksX3_newStep_3 12 rfl rfl)
theorem dX3_newStep_82 : decode cX3_newStep 82 = .ok (.iaload, 1) := dk_46 (dk_at dksX3_newStep_3 13 rfl rfl)
theorem dX3_newStep_83 : decode cX3_newStep 83 = .ok (.if_icmp .gt 22, 3) := dk_163 0 22 (dk_at dksX3_newStep_3 14 rfl rfl)
theorem dX3_newStep_86 : decode cX3_newStep 86 = .ok (.iload 7, 2) := dk_21 7 (dk_at dksX3_newStep_3 17 rfl rfl)
theorem dX3_newStep_88 : decode cX3_newStep 88 = .ok (.aload_n 0, 1) := dk_42 (dk_at dksX3_newStep_3 19 rfl rfl)
theorem dX3_newStep_89 : decode cX3_newStep 89 = .ok (.iload 5, 2) := dk_21 5 (dk_at dksX3_newStep_3 20 rfl rfl)
theorem dX3_newStep_91 : decode cX3_newStep 91 = .ok (.iload 8, 2) := dk_21 8 (dk_at dksX3_newStep_3 22 rfl rfl)
theorem dX3_newStep_93 : decode cX3_newStep 93 = .ok (.invokevirtual 185, 3) := dk_182 0 185 (dk_at dksX3_newStep_4 0 rfl rfl)
theorem dX3_newStep_96 : decode cX3_newStep 96 = .ok (.iadd, 1) := dk_96 (dk_at dksX3_newStep_4 3 rfl rfl)
theorem dX3_newStep_97 : decode cX3_newStep 97 = .ok (.istore 7, 2) := dk_54 7 (dk_at dksX3_newStep_4 4 rfl rfl)
theorem dX3_newStep_99 : decode cX3_newStep 99 = .ok (.iinc 8 1, 3) := dk_132 8 1 (dk_at dksX3_newStep_4 6 rfl rfl)
theorem dX3_newStep_102 : decode cX3_newStep 102 = .ok (.goto (-27), 3) := dk_167 255 229 (dk_at dksX3_newStep_4 9 rfl rfl)
theorem dX3_newStep_105 : decode cX3_newStep 105 = .ok (.iload 5, 2) := dk_21 5 (dk_at dksX3_newStep_4 12 rfl rfl)
theorem dX3_newStep_107 : decode cX3_newStep 107 = .ok (.ireturn, 1) := dk_172 (dk_at dksX3_newStep_4 14 rfl rfl)
abbrev cX3_addPair : ByteArray := prog_25_method_43_code
def yX3_addPair : MethodName := ⟨RX3, "addPair", "(CII)I"⟩
def dkwX3_addPair_1 : List UInt8 := [167, 0, 15, 42, 42, 27, 3, 28, 29, 182, 0, 201, 182, 0, 176, 172]
abbrev dktX3_addPair_1 : List UInt8 := dkwX3_addPair_1 ++ []
def dkwX3_addPair_0 : List UInt8 := [42, 182, 0, 163, 42, 27, 28, 29, 182, 0, 208, 54, 4, 21, 4, 158, 0, 12, 42, 21, 4, 182, 0, 169]
abbrev dktX3_addPair_0 : List UInt8 := dkwX3_addPair_0 ++ dktX3_addPair_1
theorem dksX3_addPair_0 : cX3_addPair.data.toList.drop 0 = dktX3_addPair_0 := by decide +kernel
theorem dksX3_addPair_1 : cX3_addPair.data.toList.drop 24 = dktX3_addPair_1 := dk_seg dksX3_addPair_0 24 rfl rfl
theorem dX3_addPair_0 : decode cX3_addPair 0 = .ok (.aload_n 0, 1) := dk_42 (dk_at dksX3_addPair_0 0 rfl rfl)
theorem dX3_addPair_1 : decode cX3_addPair 1 = .ok (.invokevirtual 163, 3) := dk_182 0 163 (dk_at dksX3_addPair_0 1 rfl rfl)
theorem dX3_addPair_4 : decode cX3_addPair 4 = .ok (.aload_n 0, 1) := dk_42 (dk_at dksX3_addPair_0 4 rfl rfl)
theorem dX3_addPair_5 : decode cX3_addPair 5 = .ok (.iload_n 1, 1) := dk_27 (dk_at dksX3_addPair_0 5 rfl rfl)
theorem dX3_addPair_6 : decode cX3_addPair 6 = .ok (.iload_n 2, 1) := dk_28 (dk_at dksX3_addPair_0 6 rfl rfl)
theorem dX3_addPair_7 : decode cX3_addPair 7 = .ok (.iload_n 3, 1) := dk_29 (dk_at dksX3_addPair_0 7 rfl rfl)
theorem dX3_addPair_8 : decode cX3_addPair 8 = .ok (.invokevirtual 208, 3) := dk_182 0 208 (dk_at dksX3_addPair_0 8 rfl rfl)
theorem dX3_addPair_11 : decode cX3_addPair 11 = .ok (.istore 4, 2) := dk_54 4 (dk_at dksX3_addPair_0 11 rfl rfl)
theorem dX3_addPair_13 : decode cX3_addPair 13 = .ok (.iload 4, 2) := dk_21 4 (dk_at dksX3_addPair_0 13 rfl rfl)
theorem dX3_addPair_15 : decode cX3_addPair 15 = .ok (.ifCond .le 12, 3) := dk_158 0 12 (dk_at dksX3_addPair_0 15 rfl rfl)
theorem dX3_addPair_18 : decode cX3_addPair 18 = .ok (.aload_n 0, 1) := dk_42 (dk_at dksX3_addPair_0 18 rfl rfl)
theorem dX3_addPair_19 : decode cX3_addPair 19 = .ok (.iload 4, 2) := dk_21 4 (dk_at dksX3_addPair_0 19 rfl rfl)
theorem dX3_addPair_21 : decode cX3_addPair 21 = .ok (.invokevirtual 169, 3) := dk_182 0 169 (dk_at dksX3_addPair_0 21 rfl rfl)
theorem dX3_addPair_24 : decode cX3_addPair 24 = .ok (.goto 15, 3) := dk_167 0 15 (dk_at dksX3_addPair_1 0 rfl rfl)
theorem dX3_addPair_27 : decode cX3_addPair 27 = .ok (.aload_n 0, 1) := dk_42 (dk_at dksX3_addPair_1 3 rfl rfl)
theorem dX3_addPair_28 : decode cX3_addPair 28 = .ok (.aload_n 0, 1) := dk_42 (dk_at dksX3_addPair_1 4 rfl rfl)
theorem dX3_addPair_29 : decode cX3_addPair 29 = .ok (.iload_n 1, 1) := dk_27 (dk_at dksX3_addPair_1 5 rfl rfl)
theorem dX3_addPair_30 : decode cX3_addPair 30 = .ok (.iconst 0, 1) := dk_3 (dk_at dksX3_addPair_1 6 rfl rfl)
theorem dX3_addPair_31 : decode cX3_addPair 31 = .ok (.iload_n 2, 1) := dk_28 (dk_at dksX3_addPair_1 7 rfl rfl)
theorem dX3_addPair_32 : decode cX3_addPair 32 = .ok (.iload_n 3, 1) := dk_29 (dk_at dksX3_addPair_1 8 rfl rfl)
theorem dX3_addPair_33 : decode cX3_addPair 33 = .ok (.invokevirtual 201, 3) := dk_182 0 201 (dk_at dksX3_addPair_1 9 rfl rfl)
theorem dX3_addPair_36 : decode cX3_addPair 36 = .ok (.invokevirtual 176, 3) := dk_182 0 176 (dk_at dksX3_addPair_1 12 rfl rfl)
theorem dX3_addPair_39 : decode cX3_addPair 39 = .ok (.ireturn, 1) := dk_172 (dk_at dksX3_addPair_1 15 rfl rfl)
abbrev cX3_cannotPair : ByteArray := prog_25_method_42_code
def yX3_cannotPair : MethodName := ⟨RX3, "cannotPair", "(III)I"⟩
def dkwX3_cannotPair_1 : List UInt8 := [182, 0, 205, 154, 0, 7, 5, 167, 0, 8, 42, 6, 182, 0, 195, 172]
abbrev dktX3_cannotPair_1 : List UInt8 := dkwX3_cannotPair_1 ++ []
def dkwX3_cannotPair_0 : List UInt8 := [27, 16, 43, 159, 0, 11, 27, 16, 45, 159, 0, 5, 4, 172, 42, 28, 182, 0, 205, 153, 0, 11, 42, 29]
abbrev dktX3_cannotPair_0 : List UInt8 := dkwX3_cannotPair_0 ++ dktX3_cannotPair_1
theorem dksX3_cannotPair_0 : cX3_cannotPair.data.toList.drop 0 = dktX3_cannotPair_0 := by decide +kernel
theorem dksX3_cannotPair_1 : cX3_cannotPair.data.toList.drop 24 = dktX3_cannotPair_1 := dk_seg dksX3_cannotPair_0 24 rfl rfl
theorem dX3_cannotPair_0 : decode cX3_cannotPair 0 = .ok (.iload_n 1, 1) := dk_27 (dk_at dksX3_cannotPair_0 0 rfl rfl)
theorem dX3_cannotPair_1 : decode cX3_cannotPair 1 = .ok (.bipush 43, 2) := dk_16 43 (dk_at dksX3_cannotPair_0 1 rfl rfl)
theorem dX3_cannotPair_3 : decode cX3_cannotPair 3 = .ok (.if_icmp .eq 11, 3) := dk_159 0 11 (dk_at dksX3_cannotPair_0 3 rfl rfl)
theorem dX3_cannotPair_6 : decode cX3_cannotPair 6 = .ok (.iload_n 1, 1) := dk_27 (dk_at dksX3_cannotPair_0 6 rfl rfl)
theorem dX3_cannotPair_7 : decode cX3_cannotPair 7 = .ok (.bipush 45, 2) := dk_16 45 (dk_at dksX3_cannotPair_0 7 rfl rfl)
theorem dX3_cannotPair_9 : decode cX3_cannotPair 9 = .ok (.if_icmp .eq 5, 3) := dk_159 0 5 (dk_at dksX3_cannotPair_0 9 rfl rfl)
theorem dX3_cannotPair_12 : decode cX3_cannotPair 12 = .ok (.iconst 1, 1) := dk_4 (dk_at dksX3_cannotPair_0 12 rfl rfl)
theorem dX3_cannotPair_13 : decode cX3_cannotPair 13 = .ok (.ireturn, 1) := dk_172 (dk_at dksX3_cannotPair_0 13 rfl rfl)
theorem dX3_cannotPair_14 : decode cX3_cannotPair 14 = .ok (.aload_n 0, 1) := dk_42 (dk_at dksX3_cannotPair_0 14 rfl rfl)
theorem dX3_cannotPair_15 : decode cX3_cannotPair 15 = .ok (.iload_n 2, 1) := dk_28 (dk_at dksX3_cannotPair_0 15 rfl rfl)
theorem dX3_cannotPair_16 : decode cX3_cannotPair 16 = .ok (.invokevirtual 205, 3) := dk_182 0 205 (dk_at dksX3_cannotPair_0 16 rfl rfl)
theorem dX3_cannotPair_19 : decode cX3_cannotPair 19 = .ok (.ifCond .eq 11, 3) := dk_153 0 11 (dk_at dksX3_cannotPair_0 19 rfl rfl)
theorem dX3_cannotPair_22 : decode cX3_cannotPair 22 = .ok (.aload_n 0, 1) := dk_42 (dk_at dksX3_cannotPair_0 22 rfl rfl)
theorem dX3_cannotPair_23 : decode cX3_cannotPair 23 = .ok (.iload_n 3, 1) := dk_29 (dk_at dksX3_cannotPair_0 23 rfl rfl)
theorem dX3_cannotPair_24 : decode cX3_cannotPair 24 = .ok (.invokevirtual 205, 3) := dk_182 0 205 (dk_at dksX3_cannotPair_1 0 rfl rfl)
theorem dX3_cannotPair_27 : decode cX3_cannotPair 27 = .ok (.ifCond .ne 7, 3) := dk_154 0 7 (dk_at dksX3_cannotPair_1 3 rfl rfl)
theorem dX3_cannotPair_30 : decode cX3_cannotPair 30 = .ok (.iconst 2, 1) := dk_5 (dk_at dksX3_cannotPair_1 6 rfl rfl)
theorem dX3_cannotPair_31 : decode cX3_cannotPair 31 = .ok (.goto 8, 3) := dk_167 0 8 (dk_at dksX3_cannotPair_1 7 rfl rfl)
theorem dX3_cannotPair_34 : decode cX3_cannotPair 34 = .ok (.aload_n 0, 1) := dk_42 (dk_at dksX3_cannotPair_1 10 rfl rfl)
theorem dX3_cannotPair_35 : decode cX3_cannotPair 35 = .ok (.iconst 3, 1) := dk_6 (dk_at dksX3_cannotPair_1 11 rfl rfl)
theorem dX3_cannotPair_36 : decode cX3_cannotPair 36 = .ok (.invokevirtual 195, 3) := dk_182 0 195 (dk_at dksX3_cannotPair_1 12 rfl rfl)
theorem dX3_cannotPair_39 : decode cX3_cannotPair 39 = .ok (.ireturn, 1) := dk_172 (dk_at dksX3_cannotPair_1 15 rfl rfl)
abbrev cX3_isStep : ByteArray := prog_25_method_15_code
def yX3_isStep : MethodName := ⟨RX3, "isStep", "(I)Z"⟩
def dkwX3_isStep_0 : List UInt8 := [27, 3, 42, 180, 0, 7, 6, 46, 4, 100, 184, 0, 112, 172]
abbrev dktX3_isStep_0 : List UInt8 := dkwX3_isStep_0 ++ []
theorem dksX3_isStep_0 : cX3_isStep.data.toList.drop 0 = dktX3_isStep_0 := by decide +kernel
theorem dX3_isStep_0 : decode cX3_isStep 0 = .ok (.iload_n 1, 1) := dk_27 (dk_at dksX3_isStep_0 0 rfl rfl)
theorem dX3_isStep_1 : decode cX3_isStep 1 = .ok (.iconst 0, 1) := dk_3 (dk_at dksX3_isStep_0 1 rfl rfl)
theorem dX3_isStep_2 : decode cX3_isStep 2 = .ok (.aload_n 0, 1) := dk_42 (dk_at dksX3_isStep_0 2 rfl rfl)
theorem dX3_isStep_3 : decode cX3_isStep 3 = .ok (.getfield 7, 3) := dk_180 0 7 (dk_at dksX3_isStep_0 3 rfl rfl)
theorem dX3_isStep_6 : decode cX3_isStep 6 = .ok (.iconst 3, 1) := dk_6 (dk_at dksX3_isStep_0 6 rfl rfl)
theorem dX3_isStep_7 : decode cX3_isStep 7 = .ok (.iaload, 1) := dk_46 (dk_at dksX3_isStep_0 7 rfl rfl)
theorem dX3_isStep_8 : decode cX3_isStep 8 = .ok (.iconst 1, 1) := dk_4 (dk_at dksX3_isStep_0 8 rfl rfl)
theorem dX3_isStep_9 : decode cX3_isStep 9 = .ok (.isub, 1) := dk_100 (dk_at dksX3_isStep_0 9 rfl rfl)
theorem dX3_isStep_10 : decode cX3_isStep 10 = .ok (.invokestatic 112, 3) := dk_184 0 112 (dk_at dksX3_isStep_0 10 rfl rfl)
theorem dX3_isStep_13 : decode cX3_isStep 13 = .ok (.ireturn, 1) := dk_172 (dk_at dksX3_isStep_0 13 rfl rfl)
abbrev cX3_addRunning : ByteArray := prog_25_method_45_code
def yX3_addRunning : MethodName := ⟨RX3, "addRunning", "(I)I"⟩
def dkwX3_addRunning_1 : List UInt8 := [16, 114, 3, 27, 27, 182, 0, 201, 182, 0, 176, 172]
abbrev dktX3_addRunning_1 : List UInt8 := dkwX3_addRunning_1 ++ []
def dkwX3_addRunning_0 : List UInt8 := [42, 182, 0, 163, 42, 27, 182, 0, 211, 61, 28, 158, 0, 11, 42, 28, 182, 0, 169, 167, 0, 16, 42, 42]
abbrev dktX3_addRunning_0 : List UInt8 := dkwX3_addRunning_0 ++ dktX3_addRunning_1
theorem dksX3_addRunning_0 : cX3_addRunning.data.toList.drop 0 = dktX3_addRunning_0 := by decide +kernel
theorem dksX3_addRunning_1 : cX3_addRunning.data.toList.drop 24 = dktX3_addRunning_1 := dk_seg dksX3_addRunning_0 24 rfl rfl
theorem dX3_addRunning_0 : decode cX3_addRunning 0 = .ok (.aload_n 0, 1) := dk_42 (dk_at dksX3_addRunning_0 0 rfl rfl)
theorem dX3_addRunning_1 : decode cX3_addRunning 1 = .ok (.invokevirtual 163, 3) := dk_182 0 163 (dk_at dksX3_addRunning_0 1 rfl rfl)
theorem dX3_addRunning_4 : decode cX3_addRunning 4 = .ok (.aload_n 0, 1) := dk_42 (dk_at dksX3_addRunning_0 4 rfl rfl)
theorem dX3_addRunning_5 : decode cX3_addRunning 5 = .ok (.iload_n 1, 1) := dk_27 (dk_at dksX3_addRunning_0 5 rfl rfl)
theorem dX3_addRunning_6 : decode cX3_addRunning 6 = .ok (.invokevirtual 211, 3) := dk_182 0 211 (dk_at dksX3_addRunning_0 6 rfl rfl)
theorem dX3_addRunning_9 : decode cX3_addRunning 9 = .ok (.istore_n 2, 1) := dk_61 (dk_at dksX3_addRunning_0 9 rfl rfl)
theorem dX3_addRunning_10 : decode cX3_addRunning 10 = .ok (.iload_n 2, 1) := dk_28 (dk_at dksX3_addRunning_0 10 rfl rfl)
theorem dX3_addRunning_11 : decode cX3_addRunning 11 = .ok (.ifCond .le 11, 3) := dk_158 0 11 (dk_at dksX3_addRunning_0 11 rfl rfl)
theorem dX3_addRunning_14 : decode cX3_addRunning 14 = .ok (.aload_n 0, 1) := dk_42 (dk_at dksX3_addRunning_0 14 rfl rfl)
theorem dX3_addRunning_15 : decode cX3_addRunning 15 = .ok (.iload_n 2, 1) := dk_28 (dk_at dksX3_addRunning_0 15 rfl rfl)
theorem dX3_addRunning_16 : decode cX3_addRunning 16 = .ok (.invokevirtual 169, 3) := dk_182 0 169 (dk_at dksX3_addRunning_0 16 rfl rfl)
theorem dX3_addRunning_19 : decode cX3_addRunning 19 = .ok (.goto 16, 3) := dk_167 0 16 (dk_at dksX3_addRunning_0 19 rfl rfl)
theorem dX3_addRunning_22 : decode cX3_addRunning 22 = .ok (.aload_n 0, 1) := dk_42 (dk_at dksX3_addRunning_0 22 rfl rfl)
theorem dX3_addRunning_23 : decode cX3_addRunning 23 = .ok (.aload_n 0, 1) := dk_42 (dk_at dksX3_addRunning_0 23 rfl rfl)
theorem dX3_addRunning_24 : decode cX3_addRunning 24 = .ok (.bipush 114, 2) := dk_16 114 (dk_at dksX3_addRunning_1 0 rfl rfl)
theorem dX3_addRunning_26 : decode cX3_addRunning 26 = .ok (.iconst 0, 1) := dk_3 (dk_at dksX3_addRunning_1 2 rfl rfl)
theorem dX3_addRunning_27 : decode cX3_addRunning 27 = .ok (.iload_n 1, 1) := dk_27 (dk_at dksX3_addRunning_1 3 rfl rfl)
theorem dX3_addRunning_28 : decode cX3_addRunning 28 = .ok (.iload_n 1, 1) := dk_27 (dk_at dksX3_addRunning_1 4 rfl rfl)
theorem dX3_addRunning_29 : decode cX3_addRunning 29 = .ok (.invokevirtual 201, 3) := dk_182 0 201 (dk_at dksX3_addRunning_1 5 rfl rfl)
theorem dX3_addRunning_32 : decode cX3_addRunning 32 = .ok (.invokevirtual 176, 3) := dk_182 0 176 (dk_at dksX3_addRunning_1 8 rfl rfl)
theorem dX3_addRunning_35 : decode cX3_addRunning 35 = .ok (.ireturn, 1) := dk_172 (dk_at dksX3_addRunning_1 11 rfl rfl)
abbrev cX3_cannotRun : ByteArray := prog_25_method_44_code
def yX3_cannotRun : MethodName := ⟨RX3, "cannotRun", "(I)I"⟩
def dkwX3_cannotRun_0 : List UInt8 := [42, 27, 182, 0, 205, 154, 0, 7, 4, 167, 0, 8, 42, 5, 182, 0, 195, 172]
abbrev dktX3_cannotRun_0 : List UInt8 := dkwX3_cannotRun_0 ++ []
theorem dksX3_cannotRun_0 : cX3_cannotRun.data.toList.drop 0 = dktX3_cannotRun_0 := by decide +kernel
theorem dX3_cannotRun_0 : decode cX3_cannotRun 0 = .ok (.aload_n 0, 1) := dk_42 (dk_at dksX3_cannotRun_0 0 rfl rfl)
theorem dX3_cannotRun_1 : decode cX3_cannotRun 1 = .ok (.iload_n 1, 1) := dk_27 (dk_at dksX3_cannotRun_0 1 rfl rfl)
theorem dX3_cannotRun_2 : decode cX3_cannotRun 2 = .ok (.invokevirtual 205, 3) := dk_182 0 205 (dk_at dksX3_cannotRun_0 2 rfl rfl)
theorem dX3_cannotRun_5 : decode cX3_cannotRun 5 = .ok (.ifCond .ne 7, 3) := dk_154 0 7 (dk_at dksX3_cannotRun_0 5 rfl rfl)
theorem dX3_cannotRun_8 : decode cX3_cannotRun 8 = .ok (.iconst 1, 1) := dk_4 (dk_at dksX3_cannotRun_0 8 rfl rfl)
theorem dX3_cannotRun_9 : decode cX3_cannotRun 9 = .ok (.goto 8, 3) := dk_167 0 8 (dk_at dksX3_cannotRun_0 9 rfl rfl)
theorem dX3_cannotRun_12 : decode cX3_cannotRun 12 = .ok (.aload_n 0, 1) := dk_42 (dk_at dksX3_cannotRun_0 12 rfl rfl)
theorem dX3_cannotRun_13 : decode cX3_cannotRun 13 = .ok (.iconst 2, 1) := dk_5 (dk_at dksX3_cannotRun_0 13 rfl rfl)
theorem dX3_cannotRun_14 : decode cX3_cannotRun 14 = .ok (.invokevirtual 195, 3) := dk_182 0 195 (dk_at dksX3_cannotRun_0 14 rfl rfl)
theorem dX3_cannotRun_17 : decode cX3_cannotRun 17 = .ok (.ireturn, 1) := dk_172 (dk_at dksX3_cannotRun_0 17 rfl rfl)
abbrev cX3_addBounded : ByteArray := prog_25_method_47_code
def yX3_addBounded : MethodName := ⟨RX3, "addBounded", "(II)I"⟩
def dkwX3_addBounded_1 : List UInt8 := [42, 16, 107, 28, 27, 27, 182, 0, 201, 182, 0, 176, 172]
abbrev dktX3_addBounded_1 : List UInt8 := dkwX3_addBounded_1 ++ []
def dkwX3_addBounded_0 : List UInt8 := [42, 182, 0, 163, 42, 27, 28, 182, 0, 214, 62, 29, 158, 0, 11, 42, 29, 182, 0, 169, 167, 0, 16, 42]
abbrev dktX3_addBounded_0 : List UInt8 := dkwX3_addBounded_0 ++ dktX3_addBounded_1
theorem dksX3_addBounded_0 : cX3_addBounded.data.toList.drop 0 = dktX3_addBounded_0 := by decide +kernel
theorem dksX3_addBounded_1 : cX3_addBounded.data.toList.drop 24 = dktX3_addBounded_1 := dk_seg dksX3_addBounded_0 24 rfl rfl
theorem dX3_addBounded_0 : decode cX3_addBounded 0 = .ok (.aload_n 0, 1) := dk_42 (dk_at dksX3_addBounded_0 0 rfl rfl)
theorem dX3_addBounded_1 : decode cX3_addBounded 1 = .ok (.invokevirtual 163, 3) := dk_182 0 163 (dk_at dksX3_addBounded_0 1 rfl rfl)
theorem dX3_addBounded_4 : decode cX3_addBounded 4 = .ok (.aload_n 0, 1) := dk_42 (dk_at dksX3_addBounded_0 4 rfl rfl)
theorem dX3_addBounded_5 : decode cX3_addBounded 5 = .ok (.iload_n 1, 1) := dk_27 (dk_at dksX3_addBounded_0 5 rfl rfl)
theorem dX3_addBounded_6 : decode cX3_addBounded 6 = .ok (.iload_n 2, 1) := dk_28 (dk_at dksX3_addBounded_0 6 rfl rfl)
theorem dX3_addBounded_7 : decode cX3_addBounded 7 = .ok (.invokevirtual 214, 3) := dk_182 0 214 (dk_at dksX3_addBounded_0 7 rfl rfl)
theorem dX3_addBounded_10 : decode cX3_addBounded 10 = .ok (.istore_n 3, 1) := dk_62 (dk_at dksX3_addBounded_0 10 rfl rfl)
theorem dX3_addBounded_11 : decode cX3_addBounded 11 = .ok (.iload_n 3, 1) := dk_29 (dk_at dksX3_addBounded_0 11 rfl rfl)
theorem dX3_addBounded_12 : decode cX3_addBounded 12 = .ok (.ifCond .le 11, 3) := dk_158 0 11 (dk_at dksX3_addBounded_0 12 rfl rfl)
theorem dX3_addBounded_15 : decode cX3_addBounded 15 = .ok (.aload_n 0, 1) := dk_42 (dk_at dksX3_addBounded_0 15 rfl rfl)
theorem dX3_addBounded_16 : decode cX3_addBounded 16 = .ok (.iload_n 3, 1) := dk_29 (dk_at dksX3_addBounded_0 16 rfl rfl)
theorem dX3_addBounded_17 : decode cX3_addBounded 17 = .ok (.invokevirtual 169, 3) := dk_182 0 169 (dk_at dksX3_addBounded_0 17 rfl rfl)
theorem dX3_addBounded_20 : decode cX3_addBounded 20 = .ok (.goto 16, 3) := dk_167 0 16 (dk_at dksX3_addBounded_0 20 rfl rfl)
theorem dX3_addBounded_23 : decode cX3_addBounded 23 = .ok (.aload_n 0, 1) := dk_42 (dk_at dksX3_addBounded_0 23 rfl rfl)
theorem dX3_addBounded_24 : decode cX3_addBounded 24 = .ok (.aload_n 0, 1) := dk_42 (dk_at dksX3_addBounded_1 0 rfl rfl)
theorem dX3_addBounded_25 : decode cX3_addBounded 25 = .ok (.bipush 107, 2) := dk_16 107 (dk_at dksX3_addBounded_1 1 rfl rfl)
theorem dX3_addBounded_27 : decode cX3_addBounded 27 = .ok (.iload_n 2, 1) := dk_28 (dk_at dksX3_addBounded_1 3 rfl rfl)
theorem dX3_addBounded_28 : decode cX3_addBounded 28 = .ok (.iload_n 1, 1) := dk_27 (dk_at dksX3_addBounded_1 4 rfl rfl)
theorem dX3_addBounded_29 : decode cX3_addBounded 29 = .ok (.iload_n 1, 1) := dk_27 (dk_at dksX3_addBounded_1 5 rfl rfl)
theorem dX3_addBounded_30 : decode cX3_addBounded 30 = .ok (.invokevirtual 201, 3) := dk_182 0 201 (dk_at dksX3_addBounded_1 6 rfl rfl)
theorem dX3_addBounded_33 : decode cX3_addBounded 33 = .ok (.invokevirtual 176, 3) := dk_182 0 176 (dk_at dksX3_addBounded_1 9 rfl rfl)
theorem dX3_addBounded_36 : decode cX3_addBounded 36 = .ok (.ireturn, 1) := dk_172 (dk_at dksX3_addBounded_1 12 rfl rfl)
abbrev cX3_cannotKeep : ByteArray := prog_25_method_46_code
def yX3_cannotKeep : MethodName := ⟨RX3, "cannotKeep", "(II)I"⟩
def dkwX3_cannotKeep_1 : List UInt8 := [167, 0, 8, 42, 6, 182, 0, 195, 172]
abbrev dktX3_cannotKeep_1 : List UInt8 := dkwX3_cannotKeep_1 ++ []
def dkwX3_cannotKeep_0 : List UInt8 := [42, 27, 182, 0, 205, 154, 0, 7, 4, 167, 0, 22, 28, 3, 16, 99, 184, 0, 112, 154, 0, 7, 5]
abbrev dktX3_cannotKeep_0 : List UInt8 := dkwX3_cannotKeep_0 ++ dktX3_cannotKeep_1
theorem dksX3_cannotKeep_0 : cX3_cannotKeep.data.toList.drop 0 = dktX3_cannotKeep_0 := by decide +kernel
theorem dksX3_cannotKeep_1 : cX3_cannotKeep.data.toList.drop 23 = dktX3_cannotKeep_1 := dk_seg dksX3_cannotKeep_0 23 rfl rfl
theorem dX3_cannotKeep_0 : decode cX3_cannotKeep 0 = .ok (.aload_n 0, 1) := dk_42 (dk_at dksX3_cannotKeep_0 0 rfl rfl)
theorem dX3_cannotKeep_1 : decode cX3_cannotKeep 1 = .ok (.iload_n 1, 1) := dk_27 (dk_at dksX3_cannotKeep_0 1 rfl rfl)
theorem dX3_cannotKeep_2 : decode cX3_cannotKeep 2 = .ok (.invokevirtual 205, 3) := dk_182 0 205 (dk_at dksX3_cannotKeep_0 2 rfl rfl)
theorem dX3_cannotKeep_5 : decode cX3_cannotKeep 5 = .ok (.ifCond .ne 7, 3) := dk_154 0 7 (dk_at dksX3_cannotKeep_0 5 rfl rfl)
theorem dX3_cannotKeep_8 : decode cX3_cannotKeep 8 = .ok (.iconst 1, 1) := dk_4 (dk_at dksX3_cannotKeep_0 8 rfl rfl)
theorem dX3_cannotKeep_9 : decode cX3_cannotKeep 9 = .ok (.goto 22, 3) := dk_167 0 22 (dk_at dksX3_cannotKeep_0 9 rfl rfl)
theorem dX3_cannotKeep_12 : decode cX3_cannotKeep 12 = .ok (.iload_n 2, 1) := dk_28 (dk_at dksX3_cannotKeep_0 12 rfl rfl)
theorem dX3_cannotKeep_13 : decode cX3_cannotKeep 13 = .ok (.iconst 0, 1) := dk_3 (dk_at dksX3_cannotKeep_0 13 rfl rfl)
theorem dX3_cannotKeep_14 : decode cX3_cannotKeep 14 = .ok (.bipush 99, 2) := dk_16 99 (dk_at dksX3_cannotKeep_0 14 rfl rfl)
theorem dX3_cannotKeep_16 : decode cX3_cannotKeep 16 = .ok (.invokestatic 112, 3) := dk_184 0 112 (dk_at dksX3_cannotKeep_0 16 rfl rfl)
theorem dX3_cannotKeep_19 : decode cX3_cannotKeep 19 = .ok (.ifCond .ne 7, 3) := dk_154 0 7 (dk_at dksX3_cannotKeep_0 19 rfl rfl)
theorem dX3_cannotKeep_22 : decode cX3_cannotKeep 22 = .ok (.iconst 2, 1) := dk_5 (dk_at dksX3_cannotKeep_0 22 rfl rfl)
theorem dX3_cannotKeep_23 : decode cX3_cannotKeep 23 = .ok (.goto 8, 3) := dk_167 0 8 (dk_at dksX3_cannotKeep_1 0 rfl rfl)
theorem dX3_cannotKeep_26 : decode cX3_cannotKeep 26 = .ok (.aload_n 0, 1) := dk_42 (dk_at dksX3_cannotKeep_1 3 rfl rfl)
theorem dX3_cannotKeep_27 : decode cX3_cannotKeep 27 = .ok (.iconst 3, 1) := dk_6 (dk_at dksX3_cannotKeep_1 4 rfl rfl)
theorem dX3_cannotKeep_28 : decode cX3_cannotKeep 28 = .ok (.invokevirtual 195, 3) := dk_182 0 195 (dk_at dksX3_cannotKeep_1 5 rfl rfl)
theorem dX3_cannotKeep_31 : decode cX3_cannotKeep 31 = .ok (.ireturn, 1) := dk_172 (dk_at dksX3_cannotKeep_1 8 rfl rfl)
abbrev cX3_removeStep : ByteArray := prog_25_method_51_code
def yX3_removeStep : MethodName := ⟨RX3, "removeStep", "(I)I"⟩
def dkwX3_removeStep_1 : List UInt8 := [27, 182, 0, 223, 182, 0, 176, 172]
abbrev dktX3_removeStep_1 : List UInt8 := dkwX3_removeStep_1 ++ []
def dkwX3_removeStep_0 : List UInt8 := [42, 182, 0, 163, 42, 27, 182, 0, 220, 61, 28, 158, 0, 11, 42, 28, 182, 0, 169, 167, 0, 12, 42, 42]
abbrev dktX3_removeStep_0 : List UInt8 := dkwX3_removeStep_0 ++ dktX3_removeStep_1
theorem dksX3_removeStep_0 : cX3_removeStep.data.toList.drop 0 = dktX3_removeStep_0 := by decide +kernel
theorem dksX3_removeStep_1 : cX3_removeStep.data.toList.drop 24 = dktX3_removeStep_1 := dk_seg dksX3_removeStep_0 24 rfl rfl
theorem dX3_removeStep_0 : decode cX3_removeStep 0 = .ok (.aload_n 0, 1) := dk_42 (dk_at dksX3_removeStep_0 0 rfl rfl)
theorem dX3_removeStep_1 : decode cX3_removeStep 1 = .ok (.invokevirtual 163, 3) := dk_182 0 163 (dk_at dksX3_removeStep_0 1 rfl rfl)
theorem dX3_removeStep_4 : decode cX3_removeStep 4 = .ok (.aload_n 0, 1) := dk_42 (dk_at dksX3_removeStep_0 4 rfl rfl)
theorem dX3_removeStep_5 : decode cX3_removeStep 5 = .ok (.iload_n 1, 1) := dk_27 (dk_at dksX3_removeStep_0 5 rfl rfl)
theorem dX3_removeStep_6 : decode cX3_removeStep 6 = .ok (.invokevirtual 220, 3) := dk_182 0 220 (dk_at dksX3_removeStep_0 6 rfl rfl)
theorem dX3_removeStep_9 : decode cX3_removeStep 9 = .ok (.istore_n 2, 1) := dk_61 (dk_at dksX3_removeStep_0 9 rfl rfl)
theorem dX3_removeStep_10 : decode cX3_removeStep 10 = .ok (.iload_n 2, 1) := dk_28 (dk_at dksX3_removeStep_0 10 rfl rfl)
theorem dX3_removeStep_11 : decode cX3_removeStep 11 = .ok (.ifCond .le 11, 3) := dk_158 0 11 (dk_at dksX3_removeStep_0 11 rfl rfl)
theorem dX3_removeStep_14 : decode cX3_removeStep 14 = .ok (.aload_n 0, 1) := dk_42 (dk_at dksX3_removeStep_0 14 rfl rfl)
theorem dX3_removeStep_15 : decode cX3_removeStep 15 = .ok (.iload_n 2, 1) := dk_28 (dk_at dksX3_removeStep_0 15 rfl rfl)
theorem dX3_removeStep_16 : decode cX3_removeStep 16 = .ok (.invokevirtual 169, 3) := dk_182 0 169 (dk_at dksX3_removeStep_0 16 rfl rfl)
theorem dX3_removeStep_19 : decode cX3_removeStep 19 = .ok (.goto 12, 3) := dk_167 0 12 (dk_at dksX3_removeStep_0 19 rfl rfl)
theorem dX3_removeStep_22 : decode cX3_removeStep 22 = .ok (.aload_n 0, 1) := dk_42 (dk_at dksX3_removeStep_0 22 rfl rfl)
theorem dX3_removeStep_23 : decode cX3_removeStep 23 = .ok (.aload_n 0, 1) := dk_42 (dk_at dksX3_removeStep_0 23 rfl rfl)
theorem dX3_removeStep_24 : decode cX3_removeStep 24 = .ok (.iload_n 1, 1) := dk_27 (dk_at dksX3_removeStep_1 0 rfl rfl)
theorem dX3_removeStep_25 : decode cX3_removeStep 25 = .ok (.invokevirtual 223, 3) := dk_182 0 223 (dk_at dksX3_removeStep_1 1 rfl rfl)
theorem dX3_removeStep_28 : decode cX3_removeStep 28 = .ok (.invokevirtual 176, 3) := dk_182 0 176 (dk_at dksX3_removeStep_1 4 rfl rfl)
theorem dX3_removeStep_31 : decode cX3_removeStep 31 = .ok (.ireturn, 1) := dk_172 (dk_at dksX3_removeStep_1 7 rfl rfl)
abbrev cX3_cannotCut : ByteArray := prog_25_method_49_code
def yX3_cannotCut : MethodName := ⟨RX3, "cannotCut", "(I)I"⟩
def dkwX3_cannotCut_2 : List UInt8 := [172]
abbrev dktX3_cannotCut_2 : List UInt8 := dkwX3_cannotCut_2 ++ []
def dkwX3_cannotCut_1 : List UInt8 := [42, 27, 28, 182, 0, 217, 153, 0, 11, 42, 7, 28, 5, 182, 0, 156, 172, 132, 2, 1, 167, 255, 226, 3]
abbrev dktX3_cannotCut_1 : List UInt8 := dkwX3_cannotCut_1 ++ dktX3_cannotCut_2
def dkwX3_cannotCut_0 : List UInt8 := [42, 27, 182, 0, 205, 154, 0, 5, 4, 172, 27, 4, 96, 61, 28, 42, 180, 0, 7, 6, 46, 162, 0, 26]
abbrev dktX3_cannotCut_0 : List UInt8 := dkwX3_cannotCut_0 ++ dktX3_cannotCut_1
theorem dksX3_cannotCut_0 : cX3_cannotCut.data.toList.drop 0 = dktX3_cannotCut_0 := by decide +kernel
theorem dksX3_cannotCut_1 : cX3_cannotCut.data.toList.drop 24 = dktX3_cannotCut_1 := dk_seg dksX3_cannotCut_0 24 rfl rfl
theorem dksX3_cannotCut_2 : cX3_cannotCut.data.toList.drop 48 = dktX3_cannotCut_2 := dk_seg dksX3_cannotCut_1 24 rfl rfl
theorem dX3_cannotCut_0 : decode cX3_cannotCut 0 = .ok (.aload_n 0, 1) := dk_42 (dk_at dksX3_cannotCut_0 0 rfl rfl)
theorem dX3_cannotCut_1 : decode cX3_cannotCut 1 = .ok (.iload_n 1, 1) := dk_27 (dk_at dksX3_cannotCut_0 1 rfl rfl)
theorem dX3_cannotCut_2 : decode cX3_cannotCut 2 = .ok (.invokevirtual 205, 3) := dk_182 0 205 (dk_at dksX3_cannotCut_0 2 rfl rfl)
theorem dX3_cannotCut_5 : decode cX3_cannotCut 5 = .ok (.ifCond .ne 5, 3) := dk_154 0 5 (dk_at dksX3_cannotCut_0 5 rfl rfl)
theorem dX3_cannotCut_8 : decode cX3_cannotCut 8 = .ok (.iconst 1, 1) := dk_4 (dk_at dksX3_cannotCut_0 8 rfl rfl)
theorem dX3_cannotCut_9 : decode cX3_cannotCut 9 = .ok (.ireturn, 1) := dk_172 (dk_at dksX3_cannotCut_0 9 rfl rfl)
theorem dX3_cannotCut_10 : decode cX3_cannotCut 10 = .ok (.iload_n 1, 1) := dk_27 (dk_at dksX3_cannotCut_0 10 rfl rfl)
theorem dX3_cannotCut_11 : decode cX3_cannotCut 11 = .ok (.iconst 1, 1) := dk_4 (dk_at dksX3_cannotCut_0 11 rfl rfl)
theorem dX3_cannotCut_12 : decode cX3_cannotCut 12 = .ok (.iadd, 1) := dk_96 (dk_at dksX3_cannotCut_0 12 rfl rfl)
theorem dX3_cannotCut_13 : decode cX3_cannotCut 13 = .ok (.istore_n 2, 1) := dk_61 (dk_at dksX3_cannotCut_0 13 rfl rfl)
theorem dX3_cannotCut_14 : decode cX3_cannotCut 14 = .ok (.iload_n 2, 1) := dk_28 (dk_at dksX3_cannotCut_0 14 rfl rfl)
theorem dX3_cannotCut_15 : decode cX3_cannotCut 15 = .ok (.aload_n 0, 1) := dk_42 (dk_at dksX3_cannotCut_0 15 rfl rfl)
theorem dX3_cannotCut_16 : decode cX3_cannotCut 16 = .ok (.getfield 7, 3) := dk_180 0 7 (dk_at dksX3_cannotCut_0 16 rfl rfl)
theorem dX3_cannotCut_19 : decode cX3_cannotCut 19 = .ok (.iconst 3, 1) := dk_6 (dk_at dksX3_cannotCut_0 19 rfl rfl)
theorem dX3_cannotCut_20 : decode cX3_cannotCut 20 = .ok (.iaload, 1) := dk_46 (dk_at dksX3_cannotCut_0 20 rfl rfl)
theorem dX3_cannotCut_21 : decode cX3_cannotCut 21 = .ok (.if_icmp .ge 26, 3) := dk_162 0 26 (dk_at dksX3_cannotCut_0 21 rfl rfl)
theorem dX3_cannotCut_24 : decode cX3_cannotCut 24 = .ok (.aload_n 0, 1) := dk_42 (dk_at dksX3_cannotCut_1 0 rfl rfl)
theorem dX3_cannotCut_25 : decode cX3_cannotCut 25 = .ok (.iload_n 1, 1) := dk_27 (dk_at dksX3_cannotCut_1 1 rfl rfl)
theorem dX3_cannotCut_26 : decode cX3_cannotCut 26 = .ok (.iload_n 2, 1) := dk_28 (dk_at dksX3_cannotCut_1 2 rfl rfl)
theorem dX3_cannotCut_27 : decode cX3_cannotCut 27 = .ok (.invokevirtual 217, 3) := dk_182 0 217 (dk_at dksX3_cannotCut_1 3 rfl rfl)
theorem dX3_cannotCut_30 : decode cX3_cannotCut 30 = .ok (.ifCond .eq 11, 3) := dk_153 0 11 (dk_at dksX3_cannotCut_1 6 rfl rfl)
theorem dX3_cannotCut_33 : decode cX3_cannotCut 33 = .ok (.aload_n 0, 1) := dk_42 (dk_at dksX3_cannotCut_1 9 rfl rfl)
theorem dX3_cannotCut_34 : decode cX3_cannotCut 34 = .ok (.iconst 4, 1) := dk_7 (dk_at dksX3_cannotCut_1 10 rfl rfl)
theorem dX3_cannotCut_35 : decode cX3_cannotCut 35 = .ok (.iload_n 2, 1) := dk_28 (dk_at dksX3_cannotCut_1 11 rfl rfl)
theorem dX3_cannotCut_36 : decode cX3_cannotCut 36 = .ok (.iconst 2, 1) := dk_5 (dk_at dksX3_cannotCut_1 12 rfl rfl)
theorem dX3_cannotCut_37 : decode cX3_cannotCut 37 = .ok (.invokevirtual 156, 3) := dk_182 0 156 (dk_at dksX3_cannotCut_1 13 rfl rfl)
theorem dX3_cannotCut_40 : decode cX3_cannotCut 40 = .ok (.ireturn, 1) := dk_172 (dk_at dksX3_cannotCut_1 16 rfl rfl)
theorem dX3_cannotCut_41 : decode cX3_cannotCut 41 = .ok (.iinc 2 1, 3) := dk_132 2 1 (dk_at dksX3_cannotCut_1 17 rfl rfl)
theorem dX3_cannotCut_44 : decode cX3_cannotCut 44 = .ok (.goto (-30), 3) := dk_167 255 226 (dk_at dksX3_cannotCut_1 20 rfl rfl)
theorem dX3_cannotCut_47 : decode cX3_cannotCut 47 = .ok (.iconst 0, 1) := dk_3 (dk_at dksX3_cannotCut_1 23 rfl rfl)
theorem dX3_cannotCut_48 : decode cX3_cannotCut 48 = .ok (.ireturn, 1) := dk_172 (dk_at dksX3_cannotCut_2 0 rfl rfl)
abbrev cX3_isInput : ByteArray := prog_25_method_48_code
def yX3_isInput : MethodName := ⟨RX3, "isInput", "(II)Z"⟩
def dkwX3_isInput_1 : List UInt8 := [27, 160, 0, 7, 4, 167, 0, 4, 3, 172]
abbrev dktX3_isInput_1 : List UInt8 := dkwX3_isInput_1 ++ []
def dkwX3_isInput_0 : List UInt8 := [42, 28, 182, 0, 123, 154, 0, 27, 42, 28, 5, 182, 0, 116, 27, 159, 0, 13, 42, 28, 6, 182, 0, 116]
abbrev dktX3_isInput_0 : List UInt8 := dkwX3_isInput_0 ++ dktX3_isInput_1
theorem dksX3_isInput_0 : cX3_isInput.data.toList.drop 0 = dktX3_isInput_0 := by decide +kernel
theorem dksX3_isInput_1 : cX3_isInput.data.toList.drop 24 = dktX3_isInput_1 := dk_seg dksX3_isInput_0 24 rfl rfl
theorem dX3_isInput_0 : decode cX3_isInput 0 = .ok (.aload_n 0, 1) := dk_42 (dk_at dksX3_isInput_0 0 rfl rfl)
theorem dX3_isInput_1 : decode cX3_isInput 1 = .ok (.iload_n 2, 1) := dk_28 (dk_at dksX3_isInput_0 1 rfl rfl)
theorem dX3_isInput_2 : decode cX3_isInput 2 = .ok (.invokevirtual 123, 3) := dk_182 0 123 (dk_at dksX3_isInput_0 2 rfl rfl)
theorem dX3_isInput_5 : decode cX3_isInput 5 = .ok (.ifCond .ne 27, 3) := dk_154 0 27 (dk_at dksX3_isInput_0 5 rfl rfl)
theorem dX3_isInput_8 : decode cX3_isInput 8 = .ok (.aload_n 0, 1) := dk_42 (dk_at dksX3_isInput_0 8 rfl rfl)
theorem dX3_isInput_9 : decode cX3_isInput 9 = .ok (.iload_n 2, 1) := dk_28 (dk_at dksX3_isInput_0 9 rfl rfl)
theorem dX3_isInput_10 : decode cX3_isInput 10 = .ok (.iconst 2, 1) := dk_5 (dk_at dksX3_isInput_0 10 rfl rfl)
theorem dX3_isInput_11 : decode cX3_isInput 11 = .ok (.invokevirtual 116, 3) := dk_182 0 116 (dk_at dksX3_isInput_0 11 rfl rfl)
theorem dX3_isInput_14 : decode cX3_isInput 14 = .ok (.iload_n 1, 1) := dk_27 (dk_at dksX3_isInput_0 14 rfl rfl)
theorem dX3_isInput_15 : decode cX3_isInput 15 = .ok (.if_icmp .eq 13, 3) := dk_159 0 13 (dk_at dksX3_isInput_0 15 rfl rfl)
theorem dX3_isInput_18 : decode cX3_isInput 18 = .ok (.aload_n 0, 1) := dk_42 (dk_at dksX3_isInput_0 18 rfl rfl)
theorem dX3_isInput_19 : decode cX3_isInput 19 = .ok (.iload_n 2, 1) := dk_28 (dk_at dksX3_isInput_0 19 rfl rfl)
theorem dX3_isInput_20 : decode cX3_isInput 20 = .ok (.iconst 3, 1) := dk_6 (dk_at dksX3_isInput_0 20 rfl rfl)
theorem dX3_isInput_21 : decode cX3_isInput 21 = .ok (.invokevirtual 116, 3) := dk_182 0 116 (dk_at dksX3_isInput_0 21 rfl rfl)
theorem dX3_isInput_24 : decode cX3_isInput 24 = .ok (.iload_n 1, 1) := dk_27 (dk_at dksX3_isInput_1 0 rfl rfl)
theorem dX3_isInput_25 : decode cX3_isInput 25 = .ok (.if_icmp .ne 7, 3) := dk_160 0 7 (dk_at dksX3_isInput_1 1 rfl rfl)
theorem dX3_isInput_28 : decode cX3_isInput 28 = .ok (.iconst 1, 1) := dk_4 (dk_at dksX3_isInput_1 4 rfl rfl)
theorem dX3_isInput_29 : decode cX3_isInput 29 = .ok (.goto 4, 3) := dk_167 0 4 (dk_at dksX3_isInput_1 5 rfl rfl)
theorem dX3_isInput_32 : decode cX3_isInput 32 = .ok (.iconst 0, 1) := dk_3 (dk_at dksX3_isInput_1 8 rfl rfl)
theorem dX3_isInput_33 : decode cX3_isInput 33 = .ok (.ireturn, 1) := dk_172 (dk_at dksX3_isInput_1 9 rfl rfl)
abbrev cX3_cut : ByteArray := prog_25_method_50_code
def yX3_cut : MethodName := ⟨RX3, "cut", "(I)I"⟩
def dkwX3_cut_9 : List UInt8 := [4, 167, 0, 4, 3, 100, 79, 132, 2, 1, 167, 255, 179, 42, 180, 0, 7, 6, 46, 172]
abbrev dktX3_cut_9 : List UInt8 := dkwX3_cut_9 ++ []
def dkwX3_cut_8 : List UInt8 := [3, 100, 79, 42, 180, 0, 7, 29, 6, 96, 92, 46, 42, 180, 0, 7, 29, 6, 96, 46, 27, 164, 0, 7]
abbrev dktX3_cut_8 : List UInt8 := dkwX3_cut_8 ++ dktX3_cut_9
def dkwX3_cut_7 : List UInt8 := [180, 0, 7, 29, 5, 96, 92, 46, 42, 180, 0, 7, 29, 5, 96, 46, 27, 164, 0, 7, 4, 167, 0, 4]
abbrev dktX3_cut_7 : List UInt8 := dkwX3_cut_7 ++ dktX3_cut_8
def dkwX3_cut_6 : List UInt8 := [167, 255, 223, 27, 61, 28, 42, 180, 0, 7, 6, 46, 162, 0, 73, 17, 0, 176, 7, 28, 104, 96, 62, 42]
abbrev dktX3_cut_6 : List UInt8 := dkwX3_cut_6 ++ dktX3_cut_7
def dkwX3_cut_5 : List UInt8 := [184, 0, 131, 162, 0, 24, 42, 180, 0, 25, 28, 42, 180, 0, 25, 28, 16, 35, 96, 47, 80, 132, 2, 1]
abbrev dktX3_cut_5 : List UInt8 := dkwX3_cut_5 ++ dktX3_cut_6
def dkwX3_cut_4 : List UInt8 := [79, 132, 2, 1, 167, 255, 221, 27, 3, 3, 184, 0, 131, 61, 28, 42, 180, 0, 7, 6, 46, 3, 3]
abbrev dktX3_cut_4 : List UInt8 := dkwX3_cut_4 ++ dktX3_cut_5
def dkwX3_cut_3 : List UInt8 := [180, 0, 7, 6, 46, 104, 96, 162, 0, 24, 42, 180, 0, 7, 28, 42, 180, 0, 7, 28, 16, 7, 96, 46]
abbrev dktX3_cut_3 : List UInt8 := dkwX3_cut_3 ++ dktX3_cut_4
def dkwX3_cut_2 : List UInt8 := [132, 2, 1, 167, 255, 223, 17, 0, 208, 16, 7, 27, 104, 96, 61, 28, 17, 0, 208, 16, 7, 42]
abbrev dktX3_cut_2 : List UInt8 := dkwX3_cut_2 ++ dktX3_cut_3
def dkwX3_cut_1 : List UInt8 := [180, 0, 7, 6, 46, 104, 96, 162, 0, 23, 42, 180, 0, 7, 28, 42, 180, 0, 7, 28, 7, 96, 46, 79]
abbrev dktX3_cut_1 : List UInt8 := dkwX3_cut_1 ++ dktX3_cut_2
def dkwX3_cut_0 : List UInt8 := [42, 180, 0, 7, 6, 92, 46, 4, 100, 79, 17, 0, 176, 7, 27, 104, 96, 61, 28, 17, 0, 176, 7, 42]
abbrev dktX3_cut_0 : List UInt8 := dkwX3_cut_0 ++ dktX3_cut_1
theorem dksX3_cut_0 : cX3_cut.data.toList.drop 0 = dktX3_cut_0 := by decide +kernel
theorem dksX3_cut_1 : cX3_cut.data.toList.drop 24 = dktX3_cut_1 := dk_seg dksX3_cut_0 24 rfl rfl
theorem dksX3_cut_2 : cX3_cut.data.toList.drop 48 = dktX3_cut_2 := dk_seg dksX3_cut_1 24 rfl rfl
theorem dksX3_cut_3 : cX3_cut.data.toList.drop 70 = dktX3_cut_3 := dk_seg dksX3_cut_2 22 rfl rfl
theorem dksX3_cut_4 : cX3_cut.data.toList.drop 94 = dktX3_cut_4 := dk_seg dksX3_cut_3 24 rfl rfl
theorem dksX3_cut_5 : cX3_cut.data.toList.drop 117 = dktX3_cut_5 := dk_seg dksX3_cut_4 23 rfl rfl
theorem dksX3_cut_6 : cX3_cut.data.toList.drop 141 = dktX3_cut_6 := dk_seg dksX3_cut_5 24 rfl rfl
theorem dksX3_cut_7 : cX3_cut.data.toList.drop 165 = dktX3_cut_7 := dk_seg dksX3_cut_6 24 rfl rfl
theorem dksX3_cut_8 : cX3_cut.data.toList.drop 189 = dktX3_cut_8 := dk_seg dksX3_cut_7 24 rfl rfl
theorem dksX3_cut_9 : cX3_cut.data.toList.drop 213 = dktX3_cut_9 := dk_seg dksX3_cut_8 24 rfl rfl
theorem dX3_cut_0 : decode cX3_cut 0 = .ok (.aload_n 0, 1) := dk_42 (dk_at dksX3_cut_0 0 rfl rfl)
theorem dX3_cut_1 : decode cX3_cut 1 = .ok (.getfield 7, 3) := dk_180 0 7 (dk_at dksX3_cut_0 1 rfl rfl)
theorem dX3_cut_4 : decode cX3_cut 4 = .ok (.iconst 3, 1) := dk_6 (dk_at dksX3_cut_0 4 rfl rfl)
theorem dX3_cut_5 : decode cX3_cut 5 = .ok (.dup2, 1) := dk_92 (dk_at dksX3_cut_0 5 rfl rfl)
theorem dX3_cut_6 : decode cX3_cut 6 = .ok (.iaload, 1) := dk_46 (dk_at dksX3_cut_0 6 rfl rfl)
theorem dX3_cut_7 : decode cX3_cut 7 = .ok (.iconst 1, 1) := dk_4 (dk_at dksX3_cut_0 7 rfl rfl)
theorem dX3_cut_8 : decode cX3_cut 8 = .ok (.isub, 1) := dk_100 (dk_at dksX3_cut_0 8 rfl rfl)
theorem dX3_cut_9 : decode cX3_cut 9 = .ok (.iastore, 1) := dk_79 (dk_at dksX3_cut_0 9 rfl rfl)
theorem dX3_cut_10 : decode cX3_cut 10 = .ok (.sipush 176, 3) := dk_17 0 176 (dk_at dksX3_cut_0 10 rfl rfl)
theorem dX3_cut_13 : decode cX3_cut 13 = .ok (.iconst 4, 1) := dk_7 (dk_at dksX3_cut_0 13 rfl rfl)
theorem dX3_cut_14 : decode cX3_cut 14 = .ok (.iload_n 1, 1) := dk_27 (dk_at dksX3_cut_0 14 rfl rfl)
theorem dX3_cut_15 : decode cX3_cut 15 = .ok (.imul, 1) := dk_104 (dk_at dksX3_cut_0 15 rfl rfl)
theorem dX3_cut_16 : decode cX3_cut 16 = .ok (.iadd, 1) := dk_96 (dk_at dksX3_cut_0 16 rfl rfl)
theorem dX3_cut_17 : decode cX3_cut 17 = .ok (.istore_n 2, 1) := dk_61 (dk_at dksX3_cut_0 17 rfl rfl)
theorem dX3_cut_18 : decode cX3_cut 18 = .ok (.iload_n 2, 1) := dk_28 (dk_at dksX3_cut_0 18 rfl rfl)
theorem dX3_cut_19 : decode cX3_cut 19 = .ok (.sipush 176, 3) := dk_17 0 176 (dk_at dksX3_cut_0 19 rfl rfl)
theorem dX3_cut_22 : decode cX3_cut 22 = .ok (.iconst 4, 1) := dk_7 (dk_at dksX3_cut_0 22 rfl rfl)
theorem dX3_cut_23 : decode cX3_cut 23 = .ok (.aload_n 0, 1) := dk_42 (dk_at dksX3_cut_0 23 rfl rfl)
theorem dX3_cut_24 : decode cX3_cut 24 = .ok (.getfield 7, 3) := dk_180 0 7 (dk_at dksX3_cut_1 0 rfl rfl)
theorem dX3_cut_27 : decode cX3_cut 27 = .ok (.iconst 3, 1) := dk_6 (dk_at dksX3_cut_1 3 rfl rfl)
theorem dX3_cut_28 : decode cX3_cut 28 = .ok (.iaload, 1) := dk_46 (dk_at dksX3_cut_1 4 rfl rfl)
theorem dX3_cut_29 : decode cX3_cut 29 = .ok (.imul, 1) := dk_104 (dk_at dksX3_cut_1 5 rfl rfl)
theorem dX3_cut_30 : decode cX3_cut 30 = .ok (.iadd, 1) := dk_96 (dk_at dksX3_cut_1 6 rfl rfl)
theorem dX3_cut_31 : decode cX3_cut 31 = .ok (.if_icmp .ge 23, 3) := dk_162 0 23 (dk_at dksX3_cut_1 7 rfl rfl)
theorem dX3_cut_34 : decode cX3_cut 34 = .ok (.aload_n 0, 1) := dk_42 (dk_at dksX3_cut_1 10 rfl rfl)
theorem dX3_cut_35 : decode cX3_cut 35 = .ok (.getfield 7, 3) := dk_180 0 7 (dk_at dksX3_cut_1 11 rfl rfl)
theorem dX3_cut_38 : decode cX3_cut 38 = .ok (.iload_n 2, 1) := dk_28 (dk_at dksX3_cut_1 14 rfl rfl)
theorem dX3_cut_39 : decode cX3_cut 39 = .ok (.aload_n 0, 1) := dk_42 (dk_at dksX3_cut_1 15 rfl rfl)
theorem dX3_cut_40 : decode cX3_cut 40 = .ok (.getfield 7, 3) := dk_180 0 7 (dk_at dksX3_cut_1 16 rfl rfl)
theorem dX3_cut_43 : decode cX3_cut 43 = .ok (.iload_n 2, 1) := dk_28 (dk_at dksX3_cut_1 19 rfl rfl)
theorem dX3_cut_44 : decode cX3_cut 44 = .ok (.iconst 4, 1) := dk_7 (dk_at dksX3_cut_1 20 rfl rfl)
theorem dX3_cut_45 : decode cX3_cut 45 = .ok (.iadd, 1) := dk_96 (dk_at dksX3_cut_1 21 rfl rfl)
theorem dX3_cut_46 : decode cX3_cut 46 = .ok (.iaload, 1) := dk_46 (dk_at dksX3_cut_1 22 rfl rfl)
theorem dX3_cut_47 : decode cX3_cut 47 = .ok (.iastore, 1) := dk_79 (dk_at dksX3_cut_1 23 rfl rfl)
theorem dX3_cut_48 : decode cX3_cut 48 = .ok (.iinc 2 1, 3) := dk_132 2 1 (dk_at dksX3_cut_2 0 rfl rfl)
theorem dX3_cut_51 : decode cX3_cut 51 = .ok (.goto (-33), 3) := dk_167 255 223 (dk_at dksX3_cut_2 3 rfl rfl)
theorem dX3_cut_54 : decode cX3_cut 54 = .ok (.sipush 208, 3) := dk_17 0 208 (dk_at dksX3_cut_2 6 rfl rfl)
theorem dX3_cut_57 : decode cX3_cut 57 = .ok (.bipush 7, 2) := dk_16 7 (dk_at dksX3_cut_2 9 rfl rfl)
theorem dX3_cut_59 : decode cX3_cut 59 = .ok (.iload_n 1, 1) := dk_27 (dk_at dksX3_cut_2 11 rfl rfl)
theorem dX3_cut_60 : decode cX3_cut 60 = .ok (.imul, 1) := dk_104 (dk_at dksX3_cut_2 12 rfl rfl)
theorem dX3_cut_61 : decode cX3_cut 61 = .ok (.iadd, 1) := dk_96 (dk_at dksX3_cut_2 13 rfl rfl)
theorem dX3_cut_62 : decode cX3_cut 62 = .ok (.istore_n 2, 1) := dk_61 (dk_at dksX3_cut_2 14 rfl rfl)
theorem dX3_cut_63 : decode cX3_cut 63 = .ok (.iload_n 2, 1) := dk_28 (dk_at dksX3_cut_2 15 rfl rfl)
theorem dX3_cut_64 : decode cX3_cut 64 = .ok (.sipush 208, 3) := dk_17 0 208 (dk_at dksX3_cut_2 16 rfl rfl)
theorem dX3_cut_67 : decode cX3_cut 67 = .ok (.bipush 7, 2) := dk_16 7 (dk_at dksX3_cut_2 19 rfl rfl)
theorem dX3_cut_69 : decode cX3_cut 69 = .ok (.aload_n 0, 1) := dk_42 (dk_at dksX3_cut_2 21 rfl rfl)
theorem dX3_cut_70 : decode cX3_cut 70 = .ok (.getfield 7, 3) := dk_180 0 7 (dk_at dksX3_cut_3 0 rfl rfl)
theorem dX3_cut_73 : decode cX3_cut 73 = .ok (.iconst 3, 1) := dk_6 (dk_at dksX3_cut_3 3 rfl rfl)
theorem dX3_cut_74 : decode cX3_cut 74 = .ok (.iaload, 1) := dk_46 (dk_at dksX3_cut_3 4 rfl rfl)
theorem dX3_cut_75 : decode cX3_cut 75 = .ok (.imul, 1) := dk_104 (dk_at dksX3_cut_3 5 rfl rfl)
theorem dX3_cut_76 : decode cX3_cut 76 = .ok (.iadd, 1) := dk_96 (dk_at dksX3_cut_3 6 rfl rfl)
theorem dX3_cut_77 : decode cX3_cut 77 = .ok (.if_icmp .ge 24, 3) := dk_162 0 24 (dk_at dksX3_cut_3 7 rfl rfl)
theorem dX3_cut_80 : decode cX3_cut 80 = .ok (.aload_n 0, 1) := dk_42 (dk_at dksX3_cut_3 10 rfl rfl)
theorem dX3_cut_81 : decode cX3_cut 81 = .ok (.getfield 7, 3) := dk_180 0 7 (dk_at dksX3_cut_3 11 rfl rfl)
theorem dX3_cut_84 : decode cX3_cut 84 = .ok (.iload_n 2, 1) := dk_28 (dk_at dksX3_cut_3 14 rfl rfl)
theorem dX3_cut_85 : decode cX3_cut 85 = .ok (.aload_n 0, 1) := dk_42 (dk_at dksX3_cut_3 15 rfl rfl)
theorem dX3_cut_86 : decode cX3_cut 86 = .ok (.getfield 7, 3) := dk_180 0 7 (dk_at dksX3_cut_3 16 rfl rfl)
theorem dX3_cut_89 : decode cX3_cut 89 = .ok (.iload_n 2, 1) := dk_28 (dk_at dksX3_cut_3 19 rfl rfl)
theorem dX3_cut_90 : decode cX3_cut 90 = .ok (.bipush 7, 2) := dk_16 7 (dk_at dksX3_cut_3 20 rfl rfl)
theorem dX3_cut_92 : decode cX3_cut 92 = .ok (.iadd, 1) := dk_96 (dk_at dksX3_cut_3 22 rfl rfl)
theorem dX3_cut_93 : decode cX3_cut 93 = .ok (.iaload, 1) := dk_46 (dk_at dksX3_cut_3 23 rfl rfl)
theorem dX3_cut_94 : decode cX3_cut 94 = .ok (.iastore, 1) := dk_79 (dk_at dksX3_cut_4 0 rfl rfl)
theorem dX3_cut_95 : decode cX3_cut 95 = .ok (.iinc 2 1, 3) := dk_132 2 1 (dk_at dksX3_cut_4 1 rfl rfl)
theorem dX3_cut_98 : decode cX3_cut 98 = .ok (.goto (-35), 3) := dk_167 255 221 (dk_at dksX3_cut_4 4 rfl rfl)
theorem dX3_cut_101 : decode cX3_cut 101 = .ok (.iload_n 1, 1) := dk_27 (dk_at dksX3_cut_4 7 rfl rfl)
theorem dX3_cut_102 : decode cX3_cut 102 = .ok (.iconst 0, 1) := dk_3 (dk_at dksX3_cut_4 8 rfl rfl)
theorem dX3_cut_103 : decode cX3_cut 103 = .ok (.iconst 0, 1) := dk_3 (dk_at dksX3_cut_4 9 rfl rfl)
theorem dX3_cut_104 : decode cX3_cut 104 = .ok (.invokestatic 131, 3) := dk_184 0 131 (dk_at dksX3_cut_4 10 rfl rfl)
theorem dX3_cut_107 : decode cX3_cut 107 = .ok (.istore_n 2, 1) := dk_61 (dk_at dksX3_cut_4 13 rfl rfl)
theorem dX3_cut_108 : decode cX3_cut 108 = .ok (.iload_n 2, 1) := dk_28 (dk_at dksX3_cut_4 14 rfl rfl)
theorem dX3_cut_109 : decode cX3_cut 109 = .ok (.aload_n 0, 1) := dk_42 (dk_at dksX3_cut_4 15 rfl rfl)
theorem dX3_cut_110 : decode cX3_cut 110 = .ok (.getfield 7, 3) := dk_180 0 7 (dk_at dksX3_cut_4 16 rfl rfl)
theorem dX3_cut_113 : decode cX3_cut 113 = .ok (.iconst 3, 1) := dk_6 (dk_at dksX3_cut_4 19 rfl rfl)
theorem dX3_cut_114 : decode cX3_cut 114 = .ok (.iaload, 1) := dk_46 (dk_at dksX3_cut_4 20 rfl rfl)
theorem dX3_cut_115 : decode cX3_cut 115 = .ok (.iconst 0, 1) := dk_3 (dk_at dksX3_cut_4 21 rfl rfl)
theorem dX3_cut_116 : decode cX3_cut 116 = .ok (.iconst 0, 1) := dk_3 (dk_at dksX3_cut_4 22 rfl rfl)
theorem dX3_cut_117 : decode cX3_cut 117 = .ok (.invokestatic 131, 3) := dk_184 0 131 (dk_at dksX3_cut_5 0 rfl rfl)
theorem dX3_cut_120 : decode cX3_cut 120 = .ok (.if_icmp .ge 24, 3) := dk_162 0 24 (dk_at dksX3_cut_5 3 rfl rfl)
theorem dX3_cut_123 : decode cX3_cut 123 = .ok (.aload_n 0, 1) := dk_42 (dk_at dksX3_cut_5 6 rfl rfl)
theorem dX3_cut_124 : decode cX3_cut 124 = .ok (.getfield 25, 3) := dk_180 0 25 (dk_at dksX3_cut_5 7 rfl rfl)
theorem dX3_cut_127 : decode cX3_cut 127 = .ok (.iload_n 2, 1) := dk_28 (dk_at dksX3_cut_5 10 rfl rfl)
theorem dX3_cut_128 : decode cX3_cut 128 = .ok (.aload_n 0, 1) := dk_42 (dk_at dksX3_cut_5 11 rfl rfl)
theorem dX3_cut_129 : decode cX3_cut 129 = .ok (.getfield 25, 3) := dk_180 0 25 (dk_at dksX3_cut_5 12 rfl rfl)
theorem dX3_cut_132 : decode cX3_cut 132 = .ok (.iload_n 2, 1) := dk_28 (dk_at dksX3_cut_5 15 rfl rfl)
theorem dX3_cut_133 : decode cX3_cut 133 = .ok (.bipush 35, 2) := dk_16 35 (dk_at dksX3_cut_5 16 rfl rfl)
theorem dX3_cut_135 : decode cX3_cut 135 = .ok (.iadd, 1) := dk_96 (dk_at dksX3_cut_5 18 rfl rfl)
theorem dX3_cut_136 : decode cX3_cut 136 = .ok (.laload, 1) := dk_47 (dk_at dksX3_cut_5 19 rfl rfl)
theorem dX3_cut_137 : decode cX3_cut 137 = .ok (.lastore, 1) := dk_80 (dk_at dksX3_cut_5 20 rfl rfl)
theorem dX3_cut_138 : decode cX3_cut 138 = .ok (.iinc 2 1, 3) := dk_132 2 1 (dk_at dksX3_cut_5 21 rfl rfl)
theorem dX3_cut_141 : decode cX3_cut 141 = .ok (.goto (-33), 3) := dk_167 255 223 (dk_at dksX3_cut_6 0 rfl rfl)
theorem dX3_cut_144 : decode cX3_cut 144 = .ok (.iload_n 1, 1) := dk_27 (dk_at dksX3_cut_6 3 rfl rfl)
theorem dX3_cut_145 : decode cX3_cut 145 = .ok (.istore_n 2, 1) := dk_61 (dk_at dksX3_cut_6 4 rfl rfl)
theorem dX3_cut_146 : decode cX3_cut 146 = .ok (.iload_n 2, 1) := dk_28 (dk_at dksX3_cut_6 5 rfl rfl)
theorem dX3_cut_147 : decode cX3_cut 147 = .ok (.aload_n 0, 1) := dk_42 (dk_at dksX3_cut_6 6 rfl rfl)
theorem dX3_cut_148 : decode cX3_cut 148 = .ok (.getfield 7, 3) := dk_180 0 7 (dk_at dksX3_cut_6 7 rfl rfl)
theorem dX3_cut_151 : decode cX3_cut 151 = .ok (.iconst 3, 1) := dk_6 (dk_at dksX3_cut_6 10 rfl rfl)
theorem dX3_cut_152 : decode cX3_cut 152 = .ok (.iaload, 1) := dk_46 (dk_at dksX3_cut_6 11 rfl rfl)
theorem dX3_cut_153 : decode cX3_cut 153 = .ok (.if_icmp .ge 73, 3) := dk_162 0 73 (dk_at dksX3_cut_6 12 rfl rfl)
theorem dX3_cut_156 : decode cX3_cut 156 = .ok (.sipush 176, 3) := dk_17 0 176 (dk_at dksX3_cut_6 15 rfl rfl)
theorem dX3_cut_159 : decode cX3_cut 159 = .ok (.iconst 4, 1) := dk_7 (dk_at dksX3_cut_6 18 rfl rfl)
theorem dX3_cut_160 : decode cX3_cut 160 = .ok (.iload_n 2, 1) := dk_28 (dk_at dksX3_cut_6 19 rfl rfl)
theorem dX3_cut_161 : decode cX3_cut 161 = .ok (.imul, 1) := dk_104 (dk_at dksX3_cut_6 20 rfl rfl)
theorem dX3_cut_162 : decode cX3_cut 162 = .ok (.iadd, 1) := dk_96 (dk_at dksX3_cut_6 21 rfl rfl)
theorem dX3_cut_163 : decode cX3_cut 163 = .ok (.istore_n 3, 1) := dk_62 (dk_at dksX3_cut_6 22 rfl rfl)
theorem dX3_cut_164 : decode cX3_cut 164 = .ok (.aload_n 0, 1) := dk_42 (dk_at dksX3_cut_6 23 rfl rfl)
theorem dX3_cut_165 : decode cX3_cut 165 = .ok (.getfield 7, 3) := dk_180 0 7 (dk_at dksX3_cut_7 0 rfl rfl)
theorem dX3_cut_168 : decode cX3_cut 168 = .ok (.iload_n 3, 1) := dk_29 (dk_at dksX3_cut_7 3 rfl rfl)
theorem dX3_cut_169 : decode cX3_cut 169 = .ok (.iconst 2, 1) := dk_5 (dk_at dksX3_cut_7 4 rfl rfl)
theorem dX3_cut_170 : decode cX3_cut 170 = .ok (.iadd, 1) := dk_96 (dk_at dksX3_cut_7 5 rfl rfl)
theorem dX3_cut_171 : decode cX3_cut 171 = .ok (.dup2, 1) := dk_92 (dk_at dksX3_cut_7 6 rfl rfl)
theorem dX3_cut_172 : decode cX3_cut 172 = .ok (.iaload, 1) := dk_46 (dk_at dksX3_cut_7 7 rfl rfl)
theorem dX3_cut_173 : decode cX3_cut 173 = .ok (.aload_n 0, 1) := dk_42 (dk_at dksX3_cut_7 8 rfl rfl)
theorem dX3_cut_174 : decode cX3_cut 174 = .ok (.getfield 7, 3) := dk_180 0 7 (dk_at dksX3_cut_7 9 rfl rfl)
theorem dX3_cut_177 : decode cX3_cut 177 = .ok (.iload_n 3, 1) := dk_29 (dk_at dksX3_cut_7 12 rfl rfl)
theorem dX3_cut_178 : decode cX3_cut 178 = .ok (.iconst 2, 1) := dk_5 (dk_at dksX3_cut_7 13 rfl rfl)
theorem dX3_cut_179 : decode cX3_cut 179 = .ok (.iadd, 1) := dk_96 (dk_at dksX3_cut_7 14 rfl rfl)
theorem dX3_cut_180 : decode cX3_cut 180 = .ok (.iaload, 1) := dk_46 (dk_at dksX3_cut_7 15 rfl rfl)
theorem dX3_cut_181 : decode cX3_cut 181 = .ok (.iload_n 1, 1) := dk_27 (dk_at dksX3_cut_7 16 rfl rfl)
theorem dX3_cut_182 : decode cX3_cut 182 = .ok (.if_icmp .le 7, 3) := dk_164 0 7 (dk_at dksX3_cut_7 17 rfl rfl)
theorem dX3_cut_185 : decode cX3_cut 185 = .ok (.iconst 1, 1) := dk_4 (dk_at dksX3_cut_7 20 rfl rfl)
theorem dX3_cut_186 : decode cX3_cut 186 = .ok (.goto 4, 3) := dk_167 0 4 (dk_at dksX3_cut_7 21 rfl rfl)
theorem dX3_cut_189 : decode cX3_cut 189 = .ok (.iconst 0, 1) := dk_3 (dk_at dksX3_cut_8 0 rfl rfl)
theorem dX3_cut_190 : decode cX3_cut 190 = .ok (.isub, 1) := dk_100 (dk_at dksX3_cut_8 1 rfl rfl)
theorem dX3_cut_191 : decode cX3_cut 191 = .ok (.iastore, 1) := dk_79 (dk_at dksX3_cut_8 2 rfl rfl)
theorem dX3_cut_192 : decode cX3_cut 192 = .ok (.aload_n 0, 1) := dk_42 (dk_at dksX3_cut_8 3 rfl rfl)
theorem dX3_cut_193 : decode cX3_cut 193 = .ok (.getfield 7, 3) := dk_180 0 7 (dk_at dksX3_cut_8 4 rfl rfl)
theorem dX3_cut_196 : decode cX3_cut 196 = .ok (.iload_n 3, 1) := dk_29 (dk_at dksX3_cut_8 7 rfl rfl)
theorem dX3_cut_197 : decode cX3_cut 197 = .ok (.iconst 3, 1) := dk_6 (dk_at dksX3_cut_8 8 rfl rfl)
theorem dX3_cut_198 : decode cX3_cut 198 = .ok (.iadd, 1) := dk_96 (dk_at dksX3_cut_8 9 rfl rfl)
theorem dX3_cut_199 : decode cX3_cut 199 = .ok (.dup2, 1) := dk_92 (dk_at dksX3_cut_8 10 rfl rfl)
theorem dX3_cut_200 : decode cX3_cut 200 = .ok (.iaload, 1) := dk_46 (dk_at dksX3_cut_8 11 rfl rfl)
theorem dX3_cut_201 : decode cX3_cut 201 = .ok (.aload_n 0, 1) := dk_42 (dk_at dksX3_cut_8 12 rfl rfl)
theorem dX3_cut_202 : decode cX3_cut 202 = .ok (.getfield 7, 3) := dk_180 0 7 (dk_at dksX3_cut_8 13 rfl rfl)
theorem dX3_cut_205 : decode cX3_cut 205 = .ok (.iload_n 3, 1) := dk_29 (dk_at dksX3_cut_8 16 rfl rfl)
theorem dX3_cut_206 : decode cX3_cut 206 = .ok (.iconst 3, 1) := dk_6 (dk_at dksX3_cut_8 17 rfl rfl)
theorem dX3_cut_207 : decode cX3_cut 207 = .ok (.iadd, 1) := dk_96 (dk_at dksX3_cut_8 18 rfl rfl)
theorem dX3_cut_208 : decode cX3_cut 208 = .ok (.iaload, 1) := dk_46 (dk_at dksX3_cut_8 19 rfl rfl)
theorem dX3_cut_209 : decode cX3_cut 209 = .ok (.iload_n 1, 1) := dk_27 (dk_at dksX3_cut_8 20 rfl rfl)
theorem dX3_cut_210 : decode cX3_cut 210 = .ok (.if_icmp .le 7, 3) := dk_164 0 7 (dk_at dksX3_cut_8 21 rfl rfl)
theorem dX3_cut_213 : decode cX3_cut 213 = .ok (.iconst 1, 1) := dk_4 (dk_at dksX3_cut_9 0 rfl rfl)
theorem dX3_cut_214 : decode cX3_cut 214 = .ok (.goto 4, 3) := dk_167 0 4 (dk_at dksX3_cut_9 1 rfl rfl)
theorem dX3_cut_217 : decode cX3_cut 217 = .ok (.iconst 0, 1) := dk_3 (dk_at dksX3_cut_9 4 rfl rfl)
theorem dX3_cut_218 : decode cX3_cut 218 = .ok (.isub, 1) := dk_100 (dk_at dksX3_cut_9 5 rfl rfl)
theorem dX3_cut_219 : decode cX3_cut 219 = .ok (.iastore, 1) := dk_79 (dk_at dksX3_cut_9 6 rfl rfl)
theorem dX3_cut_220 : decode cX3_cut 220 = .ok (.iinc 2 1, 3) := dk_132 2 1 (dk_at dksX3_cut_9 7 rfl rfl)
theorem dX3_cut_223 : decode cX3_cut 223 = .ok (.goto (-77), 3) := dk_167 255 179 (dk_at dksX3_cut_9 10 rfl rfl)
theorem dX3_cut_226 : decode cX3_cut 226 = .ok (.aload_n 0, 1) := dk_42 (dk_at dksX3_cut_9 13 rfl rfl)
theorem dX3_cut_227 : decode cX3_cut 227 = .ok (.getfield 7, 3) := dk_180 0 7 (dk_at dksX3_cut_9 14 rfl rfl)
theorem dX3_cut_230 : decode cX3_cut 230 = .ok (.iconst 3, 1) := dk_6 (dk_at dksX3_cut_9 17 rfl rfl)
theorem dX3_cut_231 : decode cX3_cut 231 = .ok (.iaload, 1) := dk_46 (dk_at dksX3_cut_9 18 rfl rfl)
theorem dX3_cut_232 : decode cX3_cut 232 = .ok (.ireturn, 1) := dk_172 (dk_at dksX3_cut_9 19 rfl rfl)
abbrev cX3_repair : ByteArray := prog_25_method_54_code
def yX3_repair : MethodName := ⟨RX3, "repair", "(I)I"⟩
def dkwX3_repair_1 : List UInt8 := [27, 182, 0, 232, 182, 0, 176, 172]
abbrev dktX3_repair_1 : List UInt8 := dkwX3_repair_1 ++ []
def dkwX3_repair_0 : List UInt8 := [42, 182, 0, 163, 42, 27, 182, 0, 229, 61, 28, 158, 0, 11, 42, 28, 182, 0, 169, 167, 0, 12, 42, 42]
abbrev dktX3_repair_0 : List UInt8 := dkwX3_repair_0 ++ dktX3_repair_1
theorem dksX3_repair_0 : cX3_repair.data.toList.drop 0 = dktX3_repair_0 := by decide +kernel
theorem dksX3_repair_1 : cX3_repair.data.toList.drop 24 = dktX3_repair_1 := dk_seg dksX3_repair_0 24 rfl rfl
theorem dX3_repair_0 : decode cX3_repair 0 = .ok (.aload_n 0, 1) := dk_42 (dk_at dksX3_repair_0 0 rfl rfl)
theorem dX3_repair_1 : decode cX3_repair 1 = .ok (.invokevirtual 163, 3) := dk_182 0 163 (dk_at dksX3_repair_0 1 rfl rfl)
theorem dX3_repair_4 : decode cX3_repair 4 = .ok (.aload_n 0, 1) := dk_42 (dk_at dksX3_repair_0 4 rfl rfl)
theorem dX3_repair_5 : decode cX3_repair 5 = .ok (.iload_n 1, 1) := dk_27 (dk_at dksX3_repair_0 5 rfl rfl)
theorem dX3_repair_6 : decode cX3_repair 6 = .ok (.invokevirtual 229, 3) := dk_182 0 229 (dk_at dksX3_repair_0 6 rfl rfl)
theorem dX3_repair_9 : decode cX3_repair 9 = .ok (.istore_n 2, 1) := dk_61 (dk_at dksX3_repair_0 9 rfl rfl)
theorem dX3_repair_10 : decode cX3_repair 10 = .ok (.iload_n 2, 1) := dk_28 (dk_at dksX3_repair_0 10 rfl rfl)
theorem dX3_repair_11 : decode cX3_repair 11 = .ok (.ifCond .le 11, 3) := dk_158 0 11 (dk_at dksX3_repair_0 11 rfl rfl)
theorem dX3_repair_14 : decode cX3_repair 14 = .ok (.aload_n 0, 1) := dk_42 (dk_at dksX3_repair_0 14 rfl rfl)
theorem dX3_repair_15 : decode cX3_repair 15 = .ok (.iload_n 2, 1) := dk_28 (dk_at dksX3_repair_0 15 rfl rfl)
theorem dX3_repair_16 : decode cX3_repair 16 = .ok (.invokevirtual 169, 3) := dk_182 0 169 (dk_at dksX3_repair_0 16 rfl rfl)
theorem dX3_repair_19 : decode cX3_repair 19 = .ok (.goto 12, 3) := dk_167 0 12 (dk_at dksX3_repair_0 19 rfl rfl)
theorem dX3_repair_22 : decode cX3_repair 22 = .ok (.aload_n 0, 1) := dk_42 (dk_at dksX3_repair_0 22 rfl rfl)
theorem dX3_repair_23 : decode cX3_repair 23 = .ok (.aload_n 0, 1) := dk_42 (dk_at dksX3_repair_0 23 rfl rfl)
theorem dX3_repair_24 : decode cX3_repair 24 = .ok (.iload_n 1, 1) := dk_27 (dk_at dksX3_repair_1 0 rfl rfl)
theorem dX3_repair_25 : decode cX3_repair 25 = .ok (.invokevirtual 232, 3) := dk_182 0 232 (dk_at dksX3_repair_1 1 rfl rfl)
theorem dX3_repair_28 : decode cX3_repair 28 = .ok (.invokevirtual 176, 3) := dk_182 0 176 (dk_at dksX3_repair_1 4 rfl rfl)
theorem dX3_repair_31 : decode cX3_repair 31 = .ok (.ireturn, 1) := dk_172 (dk_at dksX3_repair_1 7 rfl rfl)
abbrev cX3_cannotRepair : ByteArray := prog_25_method_52_code
def yX3_cannotRepair : MethodName := ⟨RX3, "cannotRepair", "(I)I"⟩
def dkwX3_cannotRepair_2 : List UInt8 := [132, 3, 1, 167, 255, 226, 132, 2, 1, 167, 255, 213, 3, 172]
abbrev dktX3_cannotRepair_2 : List UInt8 := dkwX3_cannotRepair_2 ++ []
def dkwX3_cannotRepair_1 : List UInt8 := [6, 46, 162, 0, 26, 42, 29, 28, 182, 0, 138, 153, 0, 11, 42, 6, 28, 5, 182, 0, 156, 172]
abbrev dktX3_cannotRepair_1 : List UInt8 := dkwX3_cannotRepair_1 ++ dktX3_cannotRepair_2
def dkwX3_cannotRepair_0 : List UInt8 := [42, 27, 182, 0, 226, 154, 0, 5, 4, 172, 3, 61, 28, 27, 162, 0, 44, 3, 62, 29, 42, 180, 0, 7]
abbrev dktX3_cannotRepair_0 : List UInt8 := dkwX3_cannotRepair_0 ++ dktX3_cannotRepair_1
theorem dksX3_cannotRepair_0 : cX3_cannotRepair.data.toList.drop 0 = dktX3_cannotRepair_0 := by decide +kernel
theorem dksX3_cannotRepair_1 : cX3_cannotRepair.data.toList.drop 24 = dktX3_cannotRepair_1 := dk_seg dksX3_cannotRepair_0 24 rfl rfl
theorem dksX3_cannotRepair_2 : cX3_cannotRepair.data.toList.drop 46 = dktX3_cannotRepair_2 := dk_seg dksX3_cannotRepair_1 22 rfl rfl
theorem dX3_cannotRepair_0 : decode cX3_cannotRepair 0 = .ok (.aload_n 0, 1) := dk_42 (dk_at dksX3_cannotRepair_0 0 rfl rfl)
theorem dX3_cannotRepair_1 : decode cX3_cannotRepair 1 = .ok (.iload_n 1, 1) := dk_27 (dk_at dksX3_cannotRepair_0 1 rfl rfl)
theorem dX3_cannotRepair_2 : decode cX3_cannotRepair 2 = .ok (.invokevirtual 226, 3) := dk_182 0 226 (dk_at dksX3_cannotRepair_0 2 rfl rfl)
theorem dX3_cannotRepair_5 : decode cX3_cannotRepair 5 = .ok (.ifCond .ne 5, 3) := dk_154 0 5 (dk_at dksX3_cannotRepair_0 5 rfl rfl)
theorem dX3_cannotRepair_8 : decode cX3_cannotRepair 8 = .ok (.iconst 1, 1) := dk_4 (dk_at dksX3_cannotRepair_0 8 rfl rfl)
theorem dX3_cannotRepair_9 : decode cX3_cannotRepair 9 = .ok (.ireturn, 1) := dk_172 (dk_at dksX3_cannotRepair_0 9 rfl rfl)
theorem dX3_cannotRepair_10 : decode cX3_cannotRepair 10 = .ok (.iconst 0, 1) := dk_3 (dk_at dksX3_cannotRepair_0 10 rfl rfl)
theorem dX3_cannotRepair_11 : decode cX3_cannotRepair 11 = .ok (.istore_n 2, 1) := dk_61 (dk_at dksX3_cannotRepair_0 11 rfl rfl)
theorem dX3_cannotRepair_12 : decode cX3_cannotRepair 12 = .ok (.iload_n 2, 1) := dk_28 (dk_at dksX3_cannotRepair_0 12 rfl rfl)
theorem dX3_cannotRepair_13 : decode cX3_cannotRepair 13 = .ok (.iload_n 1, 1) := dk_27 (dk_at dksX3_cannotRepair_0 13 rfl rfl)
theorem dX3_cannotRepair_14 : decode cX3_cannotRepair 14 = .ok (.if_icmp .ge 44, 3) := dk_162 0 44 (dk_at dksX3_cannotRepair_0 14 rfl rfl)
theorem dX3_cannotRepair_17 : decode cX3_cannotRepair 17 = .ok (.iconst 0, 1) := dk_3 (dk_at dksX3_cannotRepair_0 17 rfl rfl)
theorem dX3_cannotRepair_18 : decode cX3_cannotRepair 18 = .ok (.istore_n 3, 1) := dk_62 (dk_at dksX3_cannotRepair_0 18 rfl rfl)
theorem dX3_cannotRepair_19 : decode cX3_cannotRepair 19 = .ok (.iload_n 3, 1) := dk_29 (dk_at dksX3_cannotRepair_0 19 rfl rfl)
theorem dX3_cannotRepair_20 : decode cX3_cannotRepair 20 = .ok (.aload_n 0, 1) := dk_42 (dk_at dksX3_cannotRepair_0 20 rfl rfl)
theorem dX3_cannotRepair_21 : decode cX3_cannotRepair 21 = .ok (.getfield 7, 3) := dk_180 0 7 (dk_at dksX3_cannotRepair_0 21 rfl rfl)
theorem dX3_cannotRepair_24 : decode cX3_cannotRepair 24 = .ok (.iconst 3, 1) := dk_6 (dk_at dksX3_cannotRepair_1 0 rfl rfl)
theorem dX3_cannotRepair_25 : decode cX3_cannotRepair 25 = .ok (.iaload, 1) := dk_46 (dk_at dksX3_cannotRepair_1 1 rfl rfl)
theorem dX3_cannotRepair_26 : decode cX3_cannotRepair 26 = .ok (.if_icmp .ge 26, 3) := dk_162 0 26 (dk_at dksX3_cannotRepair_1 2 rfl rfl)
theorem dX3_cannotRepair_29 : decode cX3_cannotRepair 29 = .ok (.aload_n 0, 1) := dk_42 (dk_at dksX3_cannotRepair_1 5 rfl rfl)
theorem dX3_cannotRepair_30 : decode cX3_cannotRepair 30 = .ok (.iload_n 3, 1) := dk_29 (dk_at dksX3_cannotRepair_1 6 rfl rfl)
theorem dX3_cannotRepair_31 : decode cX3_cannotRepair 31 = .ok (.iload_n 2, 1) := dk_28 (dk_at dksX3_cannotRepair_1 7 rfl rfl)
theorem dX3_cannotRepair_32 : decode cX3_cannotRepair 32 = .ok (.invokevirtual 138, 3) := dk_182 0 138 (dk_at dksX3_cannotRepair_1 8 rfl rfl)
theorem dX3_cannotRepair_35 : decode cX3_cannotRepair 35 = .ok (.ifCond .eq 11, 3) := dk_153 0 11 (dk_at dksX3_cannotRepair_1 11 rfl rfl)
theorem dX3_cannotRepair_38 : decode cX3_cannotRepair 38 = .ok (.aload_n 0, 1) := dk_42 (dk_at dksX3_cannotRepair_1 14 rfl rfl)
theorem dX3_cannotRepair_39 : decode cX3_cannotRepair 39 = .ok (.iconst 3, 1) := dk_6 (dk_at dksX3_cannotRepair_1 15 rfl rfl)
theorem dX3_cannotRepair_40 : decode cX3_cannotRepair 40 = .ok (.iload_n 2, 1) := dk_28 (dk_at dksX3_cannotRepair_1 16 rfl rfl)
theorem dX3_cannotRepair_41 : decode cX3_cannotRepair 41 = .ok (.iconst 2, 1) := dk_5 (dk_at dksX3_cannotRepair_1 17 rfl rfl)
theorem dX3_cannotRepair_42 : decode cX3_cannotRepair 42 = .ok (.invokevirtual 156, 3) := dk_182 0 156 (dk_at dksX3_cannotRepair_1 18 rfl rfl)
theorem dX3_cannotRepair_45 : decode cX3_cannotRepair 45 = .ok (.ireturn, 1) := dk_172 (dk_at dksX3_cannotRepair_1 21 rfl rfl)
theorem dX3_cannotRepair_46 : decode cX3_cannotRepair 46 = .ok (.iinc 3 1, 3) := dk_132 3 1 (dk_at dksX3_cannotRepair_2 0 rfl rfl)
theorem dX3_cannotRepair_49 : decode cX3_cannotRepair 49 = .ok (.goto (-30), 3) := dk_167 255 226 (dk_at dksX3_cannotRepair_2 3 rfl rfl)
theorem dX3_cannotRepair_52 : decode cX3_cannotRepair 52 = .ok (.iinc 2 1, 3) := dk_132 2 1 (dk_at dksX3_cannotRepair_2 6 rfl rfl)
theorem dX3_cannotRepair_55 : decode cX3_cannotRepair 55 = .ok (.goto (-43), 3) := dk_167 255 213 (dk_at dksX3_cannotRepair_2 9 rfl rfl)
theorem dX3_cannotRepair_58 : decode cX3_cannotRepair 58 = .ok (.iconst 0, 1) := dk_3 (dk_at dksX3_cannotRepair_2 12 rfl rfl)
theorem dX3_cannotRepair_59 : decode cX3_cannotRepair 59 = .ok (.ireturn, 1) := dk_172 (dk_at dksX3_cannotRepair_2 13 rfl rfl)
abbrev cX3_isDay : ByteArray := prog_25_method_16_code
def yX3_isDay : MethodName := ⟨RX3, "isDay", "(I)Z"⟩
def dkwX3_isDay_0 : List UInt8 := [27, 3, 42, 180, 0, 7, 3, 46, 184, 0, 112, 172]
abbrev dktX3_isDay_0 : List UInt8 := dkwX3_isDay_0 ++ []
theorem dksX3_isDay_0 : cX3_isDay.data.toList.drop 0 = dktX3_isDay_0 := by decide +kernel
theorem dX3_isDay_0 : decode cX3_isDay 0 = .ok (.iload_n 1, 1) := dk_27 (dk_at dksX3_isDay_0 0 rfl rfl)
theorem dX3_isDay_1 : decode cX3_isDay 1 = .ok (.iconst 0, 1) := dk_3 (dk_at dksX3_isDay_0 1 rfl rfl)
theorem dX3_isDay_2 : decode cX3_isDay 2 = .ok (.aload_n 0, 1) := dk_42 (dk_at dksX3_isDay_0 2 rfl rfl)
theorem dX3_isDay_3 : decode cX3_isDay 3 = .ok (.getfield 7, 3) := dk_180 0 7 (dk_at dksX3_isDay_0 3 rfl rfl)
theorem dX3_isDay_6 : decode cX3_isDay 6 = .ok (.iconst 0, 1) := dk_3 (dk_at dksX3_isDay_0 6 rfl rfl)
theorem dX3_isDay_7 : decode cX3_isDay 7 = .ok (.iaload, 1) := dk_46 (dk_at dksX3_isDay_0 7 rfl rfl)
theorem dX3_isDay_8 : decode cX3_isDay 8 = .ok (.invokestatic 112, 3) := dk_184 0 112 (dk_at dksX3_isDay_0 8 rfl rfl)
theorem dX3_isDay_11 : decode cX3_isDay 11 = .ok (.ireturn, 1) := dk_172 (dk_at dksX3_isDay_0 11 rfl rfl)
abbrev cX3_repairs : ByteArray := prog_25_method_53_code
def yX3_repairs : MethodName := ⟨RX3, "repairs", "(I)I"⟩
def dkwX3_repairs_2 : List UInt8 := [167, 255, 213, 42, 180, 0, 7, 16, 6, 92, 46, 28, 96, 79, 28, 172]
abbrev dktX3_repairs_2 : List UInt8 := dkwX3_repairs_2 ++ []
def dkwX3_repairs_1 : List UInt8 := [4, 167, 0, 4, 3, 96, 61, 42, 29, 27, 182, 0, 142, 42, 29, 27, 3, 182, 0, 146, 132, 3, 1]
abbrev dktX3_repairs_1 : List UInt8 := dkwX3_repairs_1 ++ dktX3_repairs_2
def dkwX3_repairs_0 : List UInt8 := [3, 61, 3, 62, 29, 42, 180, 0, 7, 6, 46, 162, 0, 39, 28, 42, 29, 27, 182, 0, 138, 153, 0, 7]
abbrev dktX3_repairs_0 : List UInt8 := dkwX3_repairs_0 ++ dktX3_repairs_1
theorem dksX3_repairs_0 : cX3_repairs.data.toList.drop 0 = dktX3_repairs_0 := by decide +kernel
theorem dksX3_repairs_1 : cX3_repairs.data.toList.drop 24 = dktX3_repairs_1 := dk_seg dksX3_repairs_0 24 rfl rfl
theorem dksX3_repairs_2 : cX3_repairs.data.toList.drop 47 = dktX3_repairs_2 := dk_seg dksX3_repairs_1 23 rfl rfl
theorem dX3_repairs_0 : decode cX3_repairs 0 = .ok (.iconst 0, 1) := dk_3 (dk_at dksX3_repairs_0 0 rfl rfl)
theorem dX3_repairs_1 : decode cX3_repairs 1 = .ok (.istore_n 2, 1) := dk_61 (dk_at dksX3_repairs_0 1 rfl rfl)
theorem dX3_repairs_2 : decode cX3_repairs 2 = .ok (.iconst 0, 1) := dk_3 (dk_at dksX3_repairs_0 2 rfl rfl)
theorem dX3_repairs_3 : decode cX3_repairs 3 = .ok (.istore_n 3, 1) := dk_62 (dk_at dksX3_repairs_0 3 rfl rfl)
theorem dX3_repairs_4 : decode cX3_repairs 4 = .ok (.iload_n 3, 1) := dk_29 (dk_at dksX3_repairs_0 4 rfl rfl)
theorem dX3_repairs_5 : decode cX3_repairs 5 = .ok (.aload_n 0, 1) := dk_42 (dk_at dksX3_repairs_0 5 rfl rfl)
theorem dX3_repairs_6 : decode cX3_repairs 6 = .ok (.getfield 7, 3) := dk_180 0 7 (dk_at dksX3_repairs_0 6 rfl rfl)
theorem dX3_repairs_9 : decode cX3_repairs 9 = .ok (.iconst 3, 1) := dk_6 (dk_at dksX3_repairs_0 9 rfl rfl)
theorem dX3_repairs_10 : decode cX3_repairs 10 = .ok (.iaload, 1) := dk_46 (dk_at dksX3_repairs_0 10 rfl rfl)
theorem dX3_repairs_11 : decode cX3_repairs 11 = .ok (.if_icmp .ge 39, 3) := dk_162 0 39 (dk_at dksX3_repairs_0 11 rfl rfl)
theorem dX3_repairs_14 : decode cX3_repairs 14 = .ok (.iload_n 2, 1) := dk_28 (dk_at dksX3_repairs_0 14 rfl rfl)
theorem dX3_repairs_15 : decode cX3_repairs 15 = .ok (.aload_n 0, 1) := dk_42 (dk_at dksX3_repairs_0 15 rfl rfl)
theorem dX3_repairs_16 : decode cX3_repairs 16 = .ok (.iload_n 3, 1) := dk_29 (dk_at dksX3_repairs_0 16 rfl rfl)
theorem dX3_repairs_17 : decode cX3_repairs 17 = .ok (.iload_n 1, 1) := dk_27 (dk_at dksX3_repairs_0 17 rfl rfl)
theorem dX3_repairs_18 : decode cX3_repairs 18 = .ok (.invokevirtual 138, 3) := dk_182 0 138 (dk_at dksX3_repairs_0 18 rfl rfl)
theorem dX3_repairs_21 : decode cX3_repairs 21 = .ok (.ifCond .eq 7, 3) := dk_153 0 7 (dk_at dksX3_repairs_0 21 rfl rfl)
theorem dX3_repairs_24 : decode cX3_repairs 24 = .ok (.iconst 1, 1) := dk_4 (dk_at dksX3_repairs_1 0 rfl rfl)
theorem dX3_repairs_25 : decode cX3_repairs 25 = .ok (.goto 4, 3) := dk_167 0 4 (dk_at dksX3_repairs_1 1 rfl rfl)
theorem dX3_repairs_28 : decode cX3_repairs 28 = .ok (.iconst 0, 1) := dk_3 (dk_at dksX3_repairs_1 4 rfl rfl)
theorem dX3_repairs_29 : decode cX3_repairs 29 = .ok (.iadd, 1) := dk_96 (dk_at dksX3_repairs_1 5 rfl rfl)
theorem dX3_repairs_30 : decode cX3_repairs 30 = .ok (.istore_n 2, 1) := dk_61 (dk_at dksX3_repairs_1 6 rfl rfl)
theorem dX3_repairs_31 : decode cX3_repairs 31 = .ok (.aload_n 0, 1) := dk_42 (dk_at dksX3_repairs_1 7 rfl rfl)
theorem dX3_repairs_32 : decode cX3_repairs 32 = .ok (.iload_n 3, 1) := dk_29 (dk_at dksX3_repairs_1 8 rfl rfl)
theorem dX3_repairs_33 : decode cX3_repairs 33 = .ok (.iload_n 1, 1) := dk_27 (dk_at dksX3_repairs_1 9 rfl rfl)
theorem dX3_repairs_34 : decode cX3_repairs 34 = .ok (.invokevirtual 142, 3) := dk_182 0 142 (dk_at dksX3_repairs_1 10 rfl rfl)
theorem dX3_repairs_37 : decode cX3_repairs 37 = .ok (.aload_n 0, 1) := dk_42 (dk_at dksX3_repairs_1 13 rfl rfl)
theorem dX3_repairs_38 : decode cX3_repairs 38 = .ok (.iload_n 3, 1) := dk_29 (dk_at dksX3_repairs_1 14 rfl rfl)
theorem dX3_repairs_39 : decode cX3_repairs 39 = .ok (.iload_n 1, 1) := dk_27 (dk_at dksX3_repairs_1 15 rfl rfl)
theorem dX3_repairs_40 : decode cX3_repairs 40 = .ok (.iconst 0, 1) := dk_3 (dk_at dksX3_repairs_1 16 rfl rfl)
theorem dX3_repairs_41 : decode cX3_repairs 41 = .ok (.invokevirtual 146, 3) := dk_182 0 146 (dk_at dksX3_repairs_1 17 rfl rfl)
theorem dX3_repairs_44 : decode cX3_repairs 44 = .ok (.iinc 3 1, 3) := dk_132 3 1 (dk_at dksX3_repairs_1 20 rfl rfl)
theorem dX3_repairs_47 : decode cX3_repairs 47 = .ok (.goto (-43), 3) := dk_167 255 213 (dk_at dksX3_repairs_2 0 rfl rfl)
theorem dX3_repairs_50 : decode cX3_repairs 50 = .ok (.aload_n 0, 1) := dk_42 (dk_at dksX3_repairs_2 3 rfl rfl)
theorem dX3_repairs_51 : decode cX3_repairs 51 = .ok (.getfield 7, 3) := dk_180 0 7 (dk_at dksX3_repairs_2 4 rfl rfl)
theorem dX3_repairs_54 : decode cX3_repairs 54 = .ok (.bipush 6, 2) := dk_16 6 (dk_at dksX3_repairs_2 7 rfl rfl)
theorem dX3_repairs_56 : decode cX3_repairs 56 = .ok (.dup2, 1) := dk_92 (dk_at dksX3_repairs_2 9 rfl rfl)
theorem dX3_repairs_57 : decode cX3_repairs 57 = .ok (.iaload, 1) := dk_46 (dk_at dksX3_repairs_2 10 rfl rfl)
theorem dX3_repairs_58 : decode cX3_repairs 58 = .ok (.iload_n 2, 1) := dk_28 (dk_at dksX3_repairs_2 11 rfl rfl)
theorem dX3_repairs_59 : decode cX3_repairs 59 = .ok (.iadd, 1) := dk_96 (dk_at dksX3_repairs_2 12 rfl rfl)
theorem dX3_repairs_60 : decode cX3_repairs 60 = .ok (.iastore, 1) := dk_79 (dk_at dksX3_repairs_2 13 rfl rfl)
theorem dX3_repairs_61 : decode cX3_repairs 61 = .ok (.iload_n 2, 1) := dk_28 (dk_at dksX3_repairs_2 14 rfl rfl)
theorem dX3_repairs_62 : decode cX3_repairs 62 = .ok (.ireturn, 1) := dk_172 (dk_at dksX3_repairs_2 15 rfl rfl)
abbrev cX3_today : ByteArray := prog_25_method_55_code
def yX3_today : MethodName := ⟨RX3, "today", "()I"⟩
def dkwX3_today_0 : List UInt8 := [42, 42, 180, 0, 7, 3, 46, 182, 0, 235, 172]
abbrev dktX3_today_0 : List UInt8 := dkwX3_today_0 ++ []
theorem dksX3_today_0 : cX3_today.data.toList.drop 0 = dktX3_today_0 := by decide +kernel
theorem dX3_today_0 : decode cX3_today 0 = .ok (.aload_n 0, 1) := dk_42 (dk_at dksX3_today_0 0 rfl rfl)
theorem dX3_today_1 : decode cX3_today 1 = .ok (.aload_n 0, 1) := dk_42 (dk_at dksX3_today_0 1 rfl rfl)
theorem dX3_today_2 : decode cX3_today 2 = .ok (.getfield 7, 3) := dk_180 0 7 (dk_at dksX3_today_0 2 rfl rfl)
theorem dX3_today_5 : decode cX3_today 5 = .ok (.iconst 0, 1) := dk_3 (dk_at dksX3_today_0 5 rfl rfl)
theorem dX3_today_6 : decode cX3_today 6 = .ok (.iaload, 1) := dk_46 (dk_at dksX3_today_0 6 rfl rfl)
theorem dX3_today_7 : decode cX3_today 7 = .ok (.invokevirtual 235, 3) := dk_182 0 235 (dk_at dksX3_today_0 7 rfl rfl)
theorem dX3_today_10 : decode cX3_today 10 = .ok (.ireturn, 1) := dk_172 (dk_at dksX3_today_0 10 rfl rfl)
abbrev cX3_plain : ByteArray := prog_25_method_9_code
def yX3_plain : MethodName := ⟨RX3, "plain", "(I)I"⟩
def dkwX3_plain_0 : List UInt8 := [42, 3, 181, 0, 47, 27, 172]
abbrev dktX3_plain_0 : List UInt8 := dkwX3_plain_0 ++ []
theorem dksX3_plain_0 : cX3_plain.data.toList.drop 0 = dktX3_plain_0 := by decide +kernel
theorem dX3_plain_0 : decode cX3_plain 0 = .ok (.aload_n 0, 1) := dk_42 (dk_at dksX3_plain_0 0 rfl rfl)
theorem dX3_plain_1 : decode cX3_plain 1 = .ok (.iconst 0, 1) := dk_3 (dk_at dksX3_plain_0 1 rfl rfl)
theorem dX3_plain_2 : decode cX3_plain 2 = .ok (.putfield 47, 3) := dk_181 0 47 (dk_at dksX3_plain_0 2 rfl rfl)
theorem dX3_plain_5 : decode cX3_plain 5 = .ok (.iload_n 1, 1) := dk_27 (dk_at dksX3_plain_0 5 rfl rfl)
theorem dX3_plain_6 : decode cX3_plain 6 = .ok (.ireturn, 1) := dk_172 (dk_at dksX3_plain_0 6 rfl rfl)
abbrev cX3_rows : ByteArray := prog_25_method_56_code
def yX3_rows : MethodName := ⟨RX3, "rows", "()I"⟩
def dkwX3_rows_0 : List UInt8 := [42, 42, 180, 0, 7, 4, 46, 182, 0, 235, 172]
abbrev dktX3_rows_0 : List UInt8 := dkwX3_rows_0 ++ []
theorem dksX3_rows_0 : cX3_rows.data.toList.drop 0 = dktX3_rows_0 := by decide +kernel
theorem dX3_rows_0 : decode cX3_rows 0 = .ok (.aload_n 0, 1) := dk_42 (dk_at dksX3_rows_0 0 rfl rfl)
theorem dX3_rows_1 : decode cX3_rows 1 = .ok (.aload_n 0, 1) := dk_42 (dk_at dksX3_rows_0 1 rfl rfl)
theorem dX3_rows_2 : decode cX3_rows 2 = .ok (.getfield 7, 3) := dk_180 0 7 (dk_at dksX3_rows_0 2 rfl rfl)
theorem dX3_rows_5 : decode cX3_rows 5 = .ok (.iconst 1, 1) := dk_4 (dk_at dksX3_rows_0 5 rfl rfl)
theorem dX3_rows_6 : decode cX3_rows 6 = .ok (.iaload, 1) := dk_46 (dk_at dksX3_rows_0 6 rfl rfl)
theorem dX3_rows_7 : decode cX3_rows 7 = .ok (.invokevirtual 235, 3) := dk_182 0 235 (dk_at dksX3_rows_0 7 rfl rfl)
theorem dX3_rows_10 : decode cX3_rows 10 = .ok (.ireturn, 1) := dk_172 (dk_at dksX3_rows_0 10 rfl rfl)
abbrev cX3_rowAt : ByteArray := prog_25_method_57_code
def yX3_rowAt : MethodName := ⟨RX3, "rowAt", "(I)I"⟩
def dkwX3_rowAt_1 : List UInt8 := [42, 27, 3, 182, 0, 108, 172]
abbrev dktX3_rowAt_1 : List UInt8 := dkwX3_rowAt_1 ++ []
def dkwX3_rowAt_0 : List UInt8 := [42, 27, 3, 42, 180, 0, 7, 4, 46, 4, 100, 184, 0, 112, 182, 0, 238, 158, 0, 7, 3, 167, 0, 9]
abbrev dktX3_rowAt_0 : List UInt8 := dkwX3_rowAt_0 ++ dktX3_rowAt_1
theorem dksX3_rowAt_0 : cX3_rowAt.data.toList.drop 0 = dktX3_rowAt_0 := by decide +kernel
theorem dksX3_rowAt_1 : cX3_rowAt.data.toList.drop 24 = dktX3_rowAt_1 := dk_seg dksX3_rowAt_0 24 rfl rfl
theorem dX3_rowAt_0 : decode cX3_rowAt 0 = .ok (.aload_n 0, 1) := dk_42 (dk_at dksX3_rowAt_0 0 rfl rfl)
theorem dX3_rowAt_1 : decode cX3_rowAt 1 = .ok (.iload_n 1, 1) := dk_27 (dk_at dksX3_rowAt_0 1 rfl rfl)
theorem dX3_rowAt_2 : decode cX3_rowAt 2 = .ok (.iconst 0, 1) := dk_3 (dk_at dksX3_rowAt_0 2 rfl rfl)
theorem dX3_rowAt_3 : decode cX3_rowAt 3 = .ok (.aload_n 0, 1) := dk_42 (dk_at dksX3_rowAt_0 3 rfl rfl)
theorem dX3_rowAt_4 : decode cX3_rowAt 4 = .ok (.getfield 7, 3) := dk_180 0 7 (dk_at dksX3_rowAt_0 4 rfl rfl)
theorem dX3_rowAt_7 : decode cX3_rowAt 7 = .ok (.iconst 1, 1) := dk_4 (dk_at dksX3_rowAt_0 7 rfl rfl)
theorem dX3_rowAt_8 : decode cX3_rowAt 8 = .ok (.iaload, 1) := dk_46 (dk_at dksX3_rowAt_0 8 rfl rfl)
theorem dX3_rowAt_9 : decode cX3_rowAt 9 = .ok (.iconst 1, 1) := dk_4 (dk_at dksX3_rowAt_0 9 rfl rfl)
theorem dX3_rowAt_10 : decode cX3_rowAt 10 = .ok (.isub, 1) := dk_100 (dk_at dksX3_rowAt_0 10 rfl rfl)
theorem dX3_rowAt_11 : decode cX3_rowAt 11 = .ok (.invokestatic 112, 3) := dk_184 0 112 (dk_at dksX3_rowAt_0 11 rfl rfl)
theorem dX3_rowAt_14 : decode cX3_rowAt 14 = .ok (.invokevirtual 238, 3) := dk_182 0 238 (dk_at dksX3_rowAt_0 14 rfl rfl)
theorem dX3_rowAt_17 : decode cX3_rowAt 17 = .ok (.ifCond .le 7, 3) := dk_158 0 7 (dk_at dksX3_rowAt_0 17 rfl rfl)
theorem dX3_rowAt_20 : decode cX3_rowAt 20 = .ok (.iconst 0, 1) := dk_3 (dk_at dksX3_rowAt_0 20 rfl rfl)
theorem dX3_rowAt_21 : decode cX3_rowAt 21 = .ok (.goto 9, 3) := dk_167 0 9 (dk_at dksX3_rowAt_0 21 rfl rfl)
theorem dX3_rowAt_24 : decode cX3_rowAt 24 = .ok (.aload_n 0, 1) := dk_42 (dk_at dksX3_rowAt_1 0 rfl rfl)
theorem dX3_rowAt_25 : decode cX3_rowAt 25 = .ok (.iload_n 1, 1) := dk_27 (dk_at dksX3_rowAt_1 1 rfl rfl)
theorem dX3_rowAt_26 : decode cX3_rowAt 26 = .ok (.iconst 0, 1) := dk_3 (dk_at dksX3_rowAt_1 2 rfl rfl)
theorem dX3_rowAt_27 : decode cX3_rowAt 27 = .ok (.invokevirtual 108, 3) := dk_182 0 108 (dk_at dksX3_rowAt_1 3 rfl rfl)
theorem dX3_rowAt_30 : decode cX3_rowAt 30 = .ok (.ireturn, 1) := dk_172 (dk_at dksX3_rowAt_1 6 rfl rfl)
abbrev cX3_checked : ByteArray := prog_25_method_10_code
def yX3_checked : MethodName := ⟨RX3, "checked", "(Z)I"⟩
def dkwX3_checked_0 : List UInt8 := [42, 27, 153, 0, 7, 3, 167, 0, 4, 4, 181, 0, 47, 42, 180, 0, 47, 172]
abbrev dktX3_checked_0 : List UInt8 := dkwX3_checked_0 ++ []
theorem dksX3_checked_0 : cX3_checked.data.toList.drop 0 = dktX3_checked_0 := by decide +kernel
theorem dX3_checked_0 : decode cX3_checked 0 = .ok (.aload_n 0, 1) := dk_42 (dk_at dksX3_checked_0 0 rfl rfl)
theorem dX3_checked_1 : decode cX3_checked 1 = .ok (.iload_n 1, 1) := dk_27 (dk_at dksX3_checked_0 1 rfl rfl)
theorem dX3_checked_2 : decode cX3_checked 2 = .ok (.ifCond .eq 7, 3) := dk_153 0 7 (dk_at dksX3_checked_0 2 rfl rfl)
theorem dX3_checked_5 : decode cX3_checked 5 = .ok (.iconst 0, 1) := dk_3 (dk_at dksX3_checked_0 5 rfl rfl)
theorem dX3_checked_6 : decode cX3_checked 6 = .ok (.goto 4, 3) := dk_167 0 4 (dk_at dksX3_checked_0 6 rfl rfl)
theorem dX3_checked_9 : decode cX3_checked 9 = .ok (.iconst 1, 1) := dk_4 (dk_at dksX3_checked_0 9 rfl rfl)
theorem dX3_checked_10 : decode cX3_checked 10 = .ok (.putfield 47, 3) := dk_181 0 47 (dk_at dksX3_checked_0 10 rfl rfl)
theorem dX3_checked_13 : decode cX3_checked 13 = .ok (.aload_n 0, 1) := dk_42 (dk_at dksX3_checked_0 13 rfl rfl)
theorem dX3_checked_14 : decode cX3_checked 14 = .ok (.getfield 47, 3) := dk_180 0 47 (dk_at dksX3_checked_0 14 rfl rfl)
theorem dX3_checked_17 : decode cX3_checked 17 = .ok (.ireturn, 1) := dk_172 (dk_at dksX3_checked_0 17 rfl rfl)
abbrev cX3_dayOf : ByteArray := prog_25_method_58_code
def yX3_dayOf : MethodName := ⟨RX3, "dayOf", "(I)I"⟩
def dkwX3_dayOf_1 : List UInt8 := [42, 42, 27, 182, 0, 179, 4, 182, 0, 108, 172]
abbrev dktX3_dayOf_1 : List UInt8 := dkwX3_dayOf_1 ++ []
def dkwX3_dayOf_0 : List UInt8 := [42, 42, 27, 182, 0, 179, 155, 0, 7, 4, 167, 0, 4, 3, 182, 0, 238, 158, 0, 7, 3, 167, 0, 13]
abbrev dktX3_dayOf_0 : List UInt8 := dkwX3_dayOf_0 ++ dktX3_dayOf_1
theorem dksX3_dayOf_0 : cX3_dayOf.data.toList.drop 0 = dktX3_dayOf_0 := by decide +kernel
theorem dksX3_dayOf_1 : cX3_dayOf.data.toList.drop 24 = dktX3_dayOf_1 := dk_seg dksX3_dayOf_0 24 rfl rfl
theorem dX3_dayOf_0 : decode cX3_dayOf 0 = .ok (.aload_n 0, 1) := dk_42 (dk_at dksX3_dayOf_0 0 rfl rfl)
theorem dX3_dayOf_1 : decode cX3_dayOf 1 = .ok (.aload_n 0, 1) := dk_42 (dk_at dksX3_dayOf_0 1 rfl rfl)
theorem dX3_dayOf_2 : decode cX3_dayOf 2 = .ok (.iload_n 1, 1) := dk_27 (dk_at dksX3_dayOf_0 2 rfl rfl)
theorem dX3_dayOf_3 : decode cX3_dayOf 3 = .ok (.invokevirtual 179, 3) := dk_182 0 179 (dk_at dksX3_dayOf_0 3 rfl rfl)
theorem dX3_dayOf_6 : decode cX3_dayOf 6 = .ok (.ifCond .lt 7, 3) := dk_155 0 7 (dk_at dksX3_dayOf_0 6 rfl rfl)
theorem dX3_dayOf_9 : decode cX3_dayOf 9 = .ok (.iconst 1, 1) := dk_4 (dk_at dksX3_dayOf_0 9 rfl rfl)
theorem dX3_dayOf_10 : decode cX3_dayOf 10 = .ok (.goto 4, 3) := dk_167 0 4 (dk_at dksX3_dayOf_0 10 rfl rfl)
theorem dX3_dayOf_13 : decode cX3_dayOf 13 = .ok (.iconst 0, 1) := dk_3 (dk_at dksX3_dayOf_0 13 rfl rfl)
theorem dX3_dayOf_14 : decode cX3_dayOf 14 = .ok (.invokevirtual 238, 3) := dk_182 0 238 (dk_at dksX3_dayOf_0 14 rfl rfl)
theorem dX3_dayOf_17 : decode cX3_dayOf 17 = .ok (.ifCond .le 7, 3) := dk_158 0 7 (dk_at dksX3_dayOf_0 17 rfl rfl)
theorem dX3_dayOf_20 : decode cX3_dayOf 20 = .ok (.iconst 0, 1) := dk_3 (dk_at dksX3_dayOf_0 20 rfl rfl)
theorem dX3_dayOf_21 : decode cX3_dayOf 21 = .ok (.goto 13, 3) := dk_167 0 13 (dk_at dksX3_dayOf_0 21 rfl rfl)
theorem dX3_dayOf_24 : decode cX3_dayOf 24 = .ok (.aload_n 0, 1) := dk_42 (dk_at dksX3_dayOf_1 0 rfl rfl)
theorem dX3_dayOf_25 : decode cX3_dayOf 25 = .ok (.aload_n 0, 1) := dk_42 (dk_at dksX3_dayOf_1 1 rfl rfl)
theorem dX3_dayOf_26 : decode cX3_dayOf 26 = .ok (.iload_n 1, 1) := dk_27 (dk_at dksX3_dayOf_1 2 rfl rfl)
theorem dX3_dayOf_27 : decode cX3_dayOf 27 = .ok (.invokevirtual 179, 3) := dk_182 0 179 (dk_at dksX3_dayOf_1 3 rfl rfl)
theorem dX3_dayOf_30 : decode cX3_dayOf 30 = .ok (.iconst 1, 1) := dk_4 (dk_at dksX3_dayOf_1 6 rfl rfl)
theorem dX3_dayOf_31 : decode cX3_dayOf 31 = .ok (.invokevirtual 108, 3) := dk_182 0 108 (dk_at dksX3_dayOf_1 7 rfl rfl)
theorem dX3_dayOf_34 : decode cX3_dayOf 34 = .ok (.ireturn, 1) := dk_172 (dk_at dksX3_dayOf_1 10 rfl rfl)
abbrev cX3_groupOf : ByteArray := prog_25_method_59_code
def yX3_groupOf : MethodName := ⟨RX3, "groupOf", "(I)C"⟩
def dkwX3_groupOf_1 : List UInt8 := [167, 0, 17, 16, 97, 42, 42, 27, 182, 0, 179, 5, 182, 0, 108, 96, 146, 172]
abbrev dktX3_groupOf_1 : List UInt8 := dkwX3_groupOf_1 ++ []
def dkwX3_groupOf_0 : List UInt8 := [42, 42, 27, 182, 0, 179, 155, 0, 7, 4, 167, 0, 4, 3, 182, 0, 238, 158, 0, 8, 16, 32]
abbrev dktX3_groupOf_0 : List UInt8 := dkwX3_groupOf_0 ++ dktX3_groupOf_1
theorem dksX3_groupOf_0 : cX3_groupOf.data.toList.drop 0 = dktX3_groupOf_0 := by decide +kernel
theorem dksX3_groupOf_1 : cX3_groupOf.data.toList.drop 22 = dktX3_groupOf_1 := dk_seg dksX3_groupOf_0 22 rfl rfl
theorem dX3_groupOf_0 : decode cX3_groupOf 0 = .ok (.aload_n 0, 1) := dk_42 (dk_at dksX3_groupOf_0 0 rfl rfl)
theorem dX3_groupOf_1 : decode cX3_groupOf 1 = .ok (.aload_n 0, 1) := dk_42 (dk_at dksX3_groupOf_0 1 rfl rfl)
theorem dX3_groupOf_2 : decode cX3_groupOf 2 = .ok (.iload_n 1, 1) := dk_27 (dk_at dksX3_groupOf_0 2 rfl rfl)
theorem dX3_groupOf_3 : decode cX3_groupOf 3 = .ok (.invokevirtual 179, 3) := dk_182 0 179 (dk_at dksX3_groupOf_0 3 rfl rfl)
theorem dX3_groupOf_6 : decode cX3_groupOf 6 = .ok (.ifCond .lt 7, 3) := dk_155 0 7 (dk_at dksX3_groupOf_0 6 rfl rfl)
theorem dX3_groupOf_9 : decode cX3_groupOf 9 = .ok (.iconst 1, 1) := dk_4 (dk_at dksX3_groupOf_0 9 rfl rfl)
theorem dX3_groupOf_10 : decode cX3_groupOf 10 = .ok (.goto 4, 3) := dk_167 0 4 (dk_at dksX3_groupOf_0 10 rfl rfl)
theorem dX3_groupOf_13 : decode cX3_groupOf 13 = .ok (.iconst 0, 1) := dk_3 (dk_at dksX3_groupOf_0 13 rfl rfl)
theorem dX3_groupOf_14 : decode cX3_groupOf 14 = .ok (.invokevirtual 238, 3) := dk_182 0 238 (dk_at dksX3_groupOf_0 14 rfl rfl)
theorem dX3_groupOf_17 : decode cX3_groupOf 17 = .ok (.ifCond .le 8, 3) := dk_158 0 8 (dk_at dksX3_groupOf_0 17 rfl rfl)
theorem dX3_groupOf_20 : decode cX3_groupOf 20 = .ok (.bipush 32, 2) := dk_16 32 (dk_at dksX3_groupOf_0 20 rfl rfl)
theorem dX3_groupOf_22 : decode cX3_groupOf 22 = .ok (.goto 17, 3) := dk_167 0 17 (dk_at dksX3_groupOf_1 0 rfl rfl)
theorem dX3_groupOf_25 : decode cX3_groupOf 25 = .ok (.bipush 97, 2) := dk_16 97 (dk_at dksX3_groupOf_1 3 rfl rfl)
theorem dX3_groupOf_27 : decode cX3_groupOf 27 = .ok (.aload_n 0, 1) := dk_42 (dk_at dksX3_groupOf_1 5 rfl rfl)
theorem dX3_groupOf_28 : decode cX3_groupOf 28 = .ok (.aload_n 0, 1) := dk_42 (dk_at dksX3_groupOf_1 6 rfl rfl)
theorem dX3_groupOf_29 : decode cX3_groupOf 29 = .ok (.iload_n 1, 1) := dk_27 (dk_at dksX3_groupOf_1 7 rfl rfl)
theorem dX3_groupOf_30 : decode cX3_groupOf 30 = .ok (.invokevirtual 179, 3) := dk_182 0 179 (dk_at dksX3_groupOf_1 8 rfl rfl)
theorem dX3_groupOf_33 : decode cX3_groupOf 33 = .ok (.iconst 2, 1) := dk_5 (dk_at dksX3_groupOf_1 11 rfl rfl)
theorem dX3_groupOf_34 : decode cX3_groupOf 34 = .ok (.invokevirtual 108, 3) := dk_182 0 108 (dk_at dksX3_groupOf_1 12 rfl rfl)
theorem dX3_groupOf_37 : decode cX3_groupOf 37 = .ok (.iadd, 1) := dk_96 (dk_at dksX3_groupOf_1 15 rfl rfl)
theorem dX3_groupOf_38 : decode cX3_groupOf 38 = .ok (.i2c, 1) := dk_146 (dk_at dksX3_groupOf_1 16 rfl rfl)
theorem dX3_groupOf_39 : decode cX3_groupOf 39 = .ok (.ireturn, 1) := dk_172 (dk_at dksX3_groupOf_1 17 rfl rfl)
abbrev cX3_rowByAmount : ByteArray := prog_25_method_60_code
def yX3_rowByAmount : MethodName := ⟨RX3, "rowByAmount", "(I)I"⟩
def dkwX3_rowByAmount_4 : List UInt8 := [182, 0, 108, 172, 132, 2, 1, 167, 255, 163, 42, 4, 182, 0, 169, 172]
abbrev dktX3_rowByAmount_4 : List UInt8 := dkwX3_rowByAmount_4 ++ []
def dkwX3_rowByAmount_3 : List UInt8 := [162, 0, 7, 4, 167, 0, 4, 3, 96, 62, 132, 4, 1, 167, 255, 196, 29, 27, 160, 0, 10, 42, 28, 3]
abbrev dktX3_rowByAmount_3 : List UInt8 := dkwX3_rowByAmount_3 ++ dktX3_rowByAmount_4
def dkwX3_rowByAmount_2 : List UInt8 := [163, 0, 25, 42, 21, 4, 6, 182, 0, 108, 42, 28, 6, 182, 0, 108, 160, 0, 13, 21, 4, 28]
abbrev dktX3_rowByAmount_2 : List UInt8 := dkwX3_rowByAmount_2 ++ dktX3_rowByAmount_3
def dkwX3_rowByAmount_1 : List UInt8 := [42, 180, 0, 7, 4, 46, 162, 0, 55, 29, 42, 21, 4, 6, 182, 0, 108, 42, 28, 6, 182, 0, 108]
abbrev dktX3_rowByAmount_1 : List UInt8 := dkwX3_rowByAmount_1 ++ dktX3_rowByAmount_2
def dkwX3_rowByAmount_0 : List UInt8 := [42, 3, 181, 0, 47, 3, 61, 28, 42, 180, 0, 7, 4, 46, 162, 0, 89, 3, 62, 3, 54, 4, 21, 4]
abbrev dktX3_rowByAmount_0 : List UInt8 := dkwX3_rowByAmount_0 ++ dktX3_rowByAmount_1
theorem dksX3_rowByAmount_0 : cX3_rowByAmount.data.toList.drop 0 = dktX3_rowByAmount_0 := by decide +kernel
theorem dksX3_rowByAmount_1 : cX3_rowByAmount.data.toList.drop 24 = dktX3_rowByAmount_1 := dk_seg dksX3_rowByAmount_0 24 rfl rfl
theorem dksX3_rowByAmount_2 : cX3_rowByAmount.data.toList.drop 47 = dktX3_rowByAmount_2 := dk_seg dksX3_rowByAmount_1 23 rfl rfl
theorem dksX3_rowByAmount_3 : cX3_rowByAmount.data.toList.drop 69 = dktX3_rowByAmount_3 := dk_seg dksX3_rowByAmount_2 22 rfl rfl
theorem dksX3_rowByAmount_4 : cX3_rowByAmount.data.toList.drop 93 = dktX3_rowByAmount_4 := dk_seg dksX3_rowByAmount_3 24 rfl rfl
theorem dX3_rowByAmount_0 : decode cX3_rowByAmount 0 = .ok (.aload_n 0, 1) := dk_42 (dk_at dksX3_rowByAmount_0 0 rfl rfl)
theorem dX3_rowByAmount_1 : decode cX3_rowByAmount 1 = .ok (.iconst 0, 1) := dk_3 (dk_at dksX3_rowByAmount_0 1 rfl rfl)
theorem dX3_rowByAmount_2 : decode cX3_rowByAmount 2 = .ok (.putfield 47, 3) := dk_181 0 47 (dk_at dksX3_rowByAmount_0 2 rfl rfl)
theorem dX3_rowByAmount_5 : decode cX3_rowByAmount 5 = .ok (.iconst 0, 1) := dk_3 (dk_at dksX3_rowByAmount_0 5 rfl rfl)
theorem dX3_rowByAmount_6 : decode cX3_rowByAmount 6 = .ok (.istore_n 2, 1) := dk_61 (dk_at dksX3_rowByAmount_0 6 rfl rfl)
theorem dX3_rowByAmount_7 : decode cX3_rowByAmount 7 = .ok (.iload_n 2, 1) := dk_28 (dk_at dksX3_rowByAmount_0 7 rfl rfl)
theorem dX3_rowByAmount_8 : decode cX3_rowByAmount 8 = .ok (.aload_n 0, 1) := dk_42 (dk_at dksX3_rowByAmount_0 8 rfl rfl)
theorem dX3_rowByAmount_9 : decode cX3_rowByAmount 9 = .ok (.getfield 7, 3) := dk_180 0 7 (dk_at dksX3_rowByAmount_0 9 rfl rfl)
theorem dX3_rowByAmount_12 : decode cX3_rowByAmount 12 = .ok (.iconst 1, 1) := dk_4 (dk_at dksX3_rowByAmount_0 12 rfl rfl)
theorem dX3_rowByAmount_13 : decode cX3_rowByAmount 13 = .ok (.iaload, 1) := dk_46 (dk_at dksX3_rowByAmount_0 13 rfl rfl)
theorem dX3_rowByAmount_14 : decode cX3_rowByAmount 14 = .ok (.if_icmp .ge 89, 3) := dk_162 0 89 (dk_at dksX3_rowByAmount_0 14 rfl rfl)
theorem dX3_rowByAmount_17 : decode cX3_rowByAmount 17 = .ok (.iconst 0, 1) := dk_3 (dk_at dksX3_rowByAmount_0 17 rfl rfl)
theorem dX3_rowByAmount_18 : decode cX3_rowByAmount 18 = .ok (.istore_n 3, 1) := dk_62 (dk_at dksX3_rowByAmount_0 18 rfl rfl)
theorem dX3_rowByAmount_19 : decode cX3_rowByAmount 19 = .ok (.iconst 0, 1) := dk_3 (dk_at dksX3_rowByAmount_0 19 rfl rfl)
theorem dX3_rowByAmount_20 : decode cX3_rowByAmount 20 = .ok (.istore 4, 2) := dk_54 4 (dk_at dksX3_rowByAmount_0 20 rfl rfl)
theorem dX3_rowByAmount_22 : decode cX3_rowByAmount 22 = .ok (.iload 4, 2) := dk_21 4 (dk_at dksX3_rowByAmount_0 22 rfl rfl)
theorem dX3_rowByAmount_24 : decode cX3_rowByAmount 24 = .ok (.aload_n 0, 1) := dk_42 (dk_at dksX3_rowByAmount_1 0 rfl rfl)
theorem dX3_rowByAmount_25 : decode cX3_rowByAmount 25 = .ok (.getfield 7, 3) := dk_180 0 7 (dk_at dksX3_rowByAmount_1 1 rfl rfl)
theorem dX3_rowByAmount_28 : decode cX3_rowByAmount 28 = .ok (.iconst 1, 1) := dk_4 (dk_at dksX3_rowByAmount_1 4 rfl rfl)
theorem dX3_rowByAmount_29 : decode cX3_rowByAmount 29 = .ok (.iaload, 1) := dk_46 (dk_at dksX3_rowByAmount_1 5 rfl rfl)
theorem dX3_rowByAmount_30 : decode cX3_rowByAmount 30 = .ok (.if_icmp .ge 55, 3) := dk_162 0 55 (dk_at dksX3_rowByAmount_1 6 rfl rfl)
theorem dX3_rowByAmount_33 : decode cX3_rowByAmount 33 = .ok (.iload_n 3, 1) := dk_29 (dk_at dksX3_rowByAmount_1 9 rfl rfl)
theorem dX3_rowByAmount_34 : decode cX3_rowByAmount 34 = .ok (.aload_n 0, 1) := dk_42 (dk_at dksX3_rowByAmount_1 10 rfl rfl)
theorem dX3_rowByAmount_35 : decode cX3_rowByAmount 35 = .ok (.iload 4, 2) := dk_21 4 (dk_at dksX3_rowByAmount_1 11 rfl rfl)
theorem dX3_rowByAmount_37 : decode cX3_rowByAmount 37 = .ok (.iconst 3, 1) := dk_6 (dk_at dksX3_rowByAmount_1 13 rfl rfl)
theorem dX3_rowByAmount_38 : decode cX3_rowByAmount 38 = .ok (.invokevirtual 108, 3) := dk_182 0 108 (dk_at dksX3_rowByAmount_1 14 rfl rfl)
theorem dX3_rowByAmount_41 : decode cX3_rowByAmount 41 = .ok (.aload_n 0, 1) := dk_42 (dk_at dksX3_rowByAmount_1 17 rfl rfl)
theorem dX3_rowByAmount_42 : decode cX3_rowByAmount 42 = .ok (.iload_n 2, 1) := dk_28 (dk_at dksX3_rowByAmount_1 18 rfl rfl)
theorem dX3_rowByAmount_43 : decode cX3_rowByAmount 43 = .ok (.iconst 3, 1) := dk_6 (dk_at dksX3_rowByAmount_1 19 rfl rfl)
theorem dX3_rowByAmount_44 : decode cX3_rowByAmount 44 = .ok (.invokevirtual 108, 3) := dk_182 0 108 (dk_at dksX3_rowByAmount_1 20 rfl rfl)
theorem dX3_rowByAmount_47 : decode cX3_rowByAmount 47 = .ok (.if_icmp .gt 25, 3) := dk_163 0 25 (dk_at dksX3_rowByAmount_2 0 rfl rfl)
theorem dX3_rowByAmount_50 : decode cX3_rowByAmount 50 = .ok (.aload_n 0, 1) := dk_42 (dk_at dksX3_rowByAmount_2 3 rfl rfl)
theorem dX3_rowByAmount_51 : decode cX3_rowByAmount 51 = .ok (.iload 4, 2) := dk_21 4 (dk_at dksX3_rowByAmount_2 4 rfl rfl)
theorem dX3_rowByAmount_53 : decode cX3_rowByAmount 53 = .ok (.iconst 3, 1) := dk_6 (dk_at dksX3_rowByAmount_2 6 rfl rfl)
theorem dX3_rowByAmount_54 : decode cX3_rowByAmount 54 = .ok (.invokevirtual 108, 3) := dk_182 0 108 (dk_at dksX3_rowByAmount_2 7 rfl rfl)
theorem dX3_rowByAmount_57 : decode cX3_rowByAmount 57 = .ok (.aload_n 0, 1) := dk_42 (dk_at dksX3_rowByAmount_2 10 rfl rfl)
theorem dX3_rowByAmount_58 : decode cX3_rowByAmount 58 = .ok (.iload_n 2, 1) := dk_28 (dk_at dksX3_rowByAmount_2 11 rfl rfl)
theorem dX3_rowByAmount_59 : decode cX3_rowByAmount 59 = .ok (.iconst 3, 1) := dk_6 (dk_at dksX3_rowByAmount_2 12 rfl rfl)
theorem dX3_rowByAmount_60 : decode cX3_rowByAmount 60 = .ok (.invokevirtual 108, 3) := dk_182 0 108 (dk_at dksX3_rowByAmount_2 13 rfl rfl)
theorem dX3_rowByAmount_63 : decode cX3_rowByAmount 63 = .ok (.if_icmp .ne 13, 3) := dk_160 0 13 (dk_at dksX3_rowByAmount_2 16 rfl rfl)
theorem dX3_rowByAmount_66 : decode cX3_rowByAmount 66 = .ok (.iload 4, 2) := dk_21 4 (dk_at dksX3_rowByAmount_2 19 rfl rfl)
theorem dX3_rowByAmount_68 : decode cX3_rowByAmount 68 = .ok (.iload_n 2, 1) := dk_28 (dk_at dksX3_rowByAmount_2 21 rfl rfl)
theorem dX3_rowByAmount_69 : decode cX3_rowByAmount 69 = .ok (.if_icmp .ge 7, 3) := dk_162 0 7 (dk_at dksX3_rowByAmount_3 0 rfl rfl)
theorem dX3_rowByAmount_72 : decode cX3_rowByAmount 72 = .ok (.iconst 1, 1) := dk_4 (dk_at dksX3_rowByAmount_3 3 rfl rfl)
theorem dX3_rowByAmount_73 : decode cX3_rowByAmount 73 = .ok (.goto 4, 3) := dk_167 0 4 (dk_at dksX3_rowByAmount_3 4 rfl rfl)
theorem dX3_rowByAmount_76 : decode cX3_rowByAmount 76 = .ok (.iconst 0, 1) := dk_3 (dk_at dksX3_rowByAmount_3 7 rfl rfl)
theorem dX3_rowByAmount_77 : decode cX3_rowByAmount 77 = .ok (.iadd, 1) := dk_96 (dk_at dksX3_rowByAmount_3 8 rfl rfl)
theorem dX3_rowByAmount_78 : decode cX3_rowByAmount 78 = .ok (.istore_n 3, 1) := dk_62 (dk_at dksX3_rowByAmount_3 9 rfl rfl)
theorem dX3_rowByAmount_79 : decode cX3_rowByAmount 79 = .ok (.iinc 4 1, 3) := dk_132 4 1 (dk_at dksX3_rowByAmount_3 10 rfl rfl)
theorem dX3_rowByAmount_82 : decode cX3_rowByAmount 82 = .ok (.goto (-60), 3) := dk_167 255 196 (dk_at dksX3_rowByAmount_3 13 rfl rfl)
theorem dX3_rowByAmount_85 : decode cX3_rowByAmount 85 = .ok (.iload_n 3, 1) := dk_29 (dk_at dksX3_rowByAmount_3 16 rfl rfl)
theorem dX3_rowByAmount_86 : decode cX3_rowByAmount 86 = .ok (.iload_n 1, 1) := dk_27 (dk_at dksX3_rowByAmount_3 17 rfl rfl)
theorem dX3_rowByAmount_87 : decode cX3_rowByAmount 87 = .ok (.if_icmp .ne 10, 3) := dk_160 0 10 (dk_at dksX3_rowByAmount_3 18 rfl rfl)
theorem dX3_rowByAmount_90 : decode cX3_rowByAmount 90 = .ok (.aload_n 0, 1) := dk_42 (dk_at dksX3_rowByAmount_3 21 rfl rfl)
theorem dX3_rowByAmount_91 : decode cX3_rowByAmount 91 = .ok (.iload_n 2, 1) := dk_28 (dk_at dksX3_rowByAmount_3 22 rfl rfl)
theorem dX3_rowByAmount_92 : decode cX3_rowByAmount 92 = .ok (.iconst 0, 1) := dk_3 (dk_at dksX3_rowByAmount_3 23 rfl rfl)
theorem dX3_rowByAmount_93 : decode cX3_rowByAmount 93 = .ok (.invokevirtual 108, 3) := dk_182 0 108 (dk_at dksX3_rowByAmount_4 0 rfl rfl)
theorem dX3_rowByAmount_96 : decode cX3_rowByAmount 96 = .ok (.ireturn, 1) := dk_172 (dk_at dksX3_rowByAmount_4 3 rfl rfl)
theorem dX3_rowByAmount_97 : decode cX3_rowByAmount 97 = .ok (.iinc 2 1, 3) := dk_132 2 1 (dk_at dksX3_rowByAmount_4 4 rfl rfl)
theorem dX3_rowByAmount_100 : decode cX3_rowByAmount 100 = .ok (.goto (-93), 3) := dk_167 255 163 (dk_at dksX3_rowByAmount_4 7 rfl rfl)
theorem dX3_rowByAmount_103 : decode cX3_rowByAmount 103 = .ok (.aload_n 0, 1) := dk_42 (dk_at dksX3_rowByAmount_4 10 rfl rfl)
theorem dX3_rowByAmount_104 : decode cX3_rowByAmount 104 = .ok (.iconst 1, 1) := dk_4 (dk_at dksX3_rowByAmount_4 11 rfl rfl)
theorem dX3_rowByAmount_105 : decode cX3_rowByAmount 105 = .ok (.invokevirtual 169, 3) := dk_182 0 169 (dk_at dksX3_rowByAmount_4 12 rfl rfl)
theorem dX3_rowByAmount_108 : decode cX3_rowByAmount 108 = .ok (.ireturn, 1) := dk_172 (dk_at dksX3_rowByAmount_4 15 rfl rfl)
abbrev cX3_steps : ByteArray := prog_25_method_61_code
def yX3_steps : MethodName := ⟨RX3, "steps", "()I"⟩
def dkwX3_steps_0 : List UInt8 := [42, 42, 180, 0, 7, 6, 46, 182, 0, 235, 172]
abbrev dktX3_steps_0 : List UInt8 := dkwX3_steps_0 ++ []
theorem dksX3_steps_0 : cX3_steps.data.toList.drop 0 = dktX3_steps_0 := by decide +kernel
theorem dX3_steps_0 : decode cX3_steps 0 = .ok (.aload_n 0, 1) := dk_42 (dk_at dksX3_steps_0 0 rfl rfl)
theorem dX3_steps_1 : decode cX3_steps 1 = .ok (.aload_n 0, 1) := dk_42 (dk_at dksX3_steps_0 1 rfl rfl)
theorem dX3_steps_2 : decode cX3_steps 2 = .ok (.getfield 7, 3) := dk_180 0 7 (dk_at dksX3_steps_0 2 rfl rfl)
theorem dX3_steps_5 : decode cX3_steps 5 = .ok (.iconst 3, 1) := dk_6 (dk_at dksX3_steps_0 5 rfl rfl)
theorem dX3_steps_6 : decode cX3_steps 6 = .ok (.iaload, 1) := dk_46 (dk_at dksX3_steps_0 6 rfl rfl)
theorem dX3_steps_7 : decode cX3_steps 7 = .ok (.invokevirtual 235, 3) := dk_182 0 235 (dk_at dksX3_steps_0 7 rfl rfl)
theorem dX3_steps_10 : decode cX3_steps 10 = .ok (.ireturn, 1) := dk_172 (dk_at dksX3_steps_0 10 rfl rfl)
abbrev cX3_kind : ByteArray := prog_25_method_62_code
def yX3_kind : MethodName := ⟨RX3, "kind", "(I)C"⟩
def dkwX3_kind_1 : List UInt8 := [172]
abbrev dktX3_kind_1 : List UInt8 := dkwX3_kind_1 ++ []
def dkwX3_kind_0 : List UInt8 := [42, 42, 27, 182, 0, 205, 182, 0, 238, 158, 0, 8, 16, 32, 167, 0, 10, 42, 27, 3, 182, 0, 116, 146]
abbrev dktX3_kind_0 : List UInt8 := dkwX3_kind_0 ++ dktX3_kind_1
theorem dksX3_kind_0 : cX3_kind.data.toList.drop 0 = dktX3_kind_0 := by decide +kernel
theorem dksX3_kind_1 : cX3_kind.data.toList.drop 24 = dktX3_kind_1 := dk_seg dksX3_kind_0 24 rfl rfl
theorem dX3_kind_0 : decode cX3_kind 0 = .ok (.aload_n 0, 1) := dk_42 (dk_at dksX3_kind_0 0 rfl rfl)
theorem dX3_kind_1 : decode cX3_kind 1 = .ok (.aload_n 0, 1) := dk_42 (dk_at dksX3_kind_0 1 rfl rfl)
theorem dX3_kind_2 : decode cX3_kind 2 = .ok (.iload_n 1, 1) := dk_27 (dk_at dksX3_kind_0 2 rfl rfl)
theorem dX3_kind_3 : decode cX3_kind 3 = .ok (.invokevirtual 205, 3) := dk_182 0 205 (dk_at dksX3_kind_0 3 rfl rfl)
theorem dX3_kind_6 : decode cX3_kind 6 = .ok (.invokevirtual 238, 3) := dk_182 0 238 (dk_at dksX3_kind_0 6 rfl rfl)
theorem dX3_kind_9 : decode cX3_kind 9 = .ok (.ifCond .le 8, 3) := dk_158 0 8 (dk_at dksX3_kind_0 9 rfl rfl)
theorem dX3_kind_12 : decode cX3_kind 12 = .ok (.bipush 32, 2) := dk_16 32 (dk_at dksX3_kind_0 12 rfl rfl)
theorem dX3_kind_14 : decode cX3_kind 14 = .ok (.goto 10, 3) := dk_167 0 10 (dk_at dksX3_kind_0 14 rfl rfl)
theorem dX3_kind_17 : decode cX3_kind 17 = .ok (.aload_n 0, 1) := dk_42 (dk_at dksX3_kind_0 17 rfl rfl)
theorem dX3_kind_18 : decode cX3_kind 18 = .ok (.iload_n 1, 1) := dk_27 (dk_at dksX3_kind_0 18 rfl rfl)
theorem dX3_kind_19 : decode cX3_kind 19 = .ok (.iconst 0, 1) := dk_3 (dk_at dksX3_kind_0 19 rfl rfl)
theorem dX3_kind_20 : decode cX3_kind 20 = .ok (.invokevirtual 116, 3) := dk_182 0 116 (dk_at dksX3_kind_0 20 rfl rfl)
theorem dX3_kind_23 : decode cX3_kind 23 = .ok (.i2c, 1) := dk_146 (dk_at dksX3_kind_0 23 rfl rfl)
theorem dX3_kind_24 : decode cX3_kind 24 = .ok (.ireturn, 1) := dk_172 (dk_at dksX3_kind_1 0 rfl rfl)
abbrev cX3_dependsOn : ByteArray := prog_25_method_64_code
def yX3_dependsOn : MethodName := ⟨RX3, "dependsOn", "(II)Z"⟩
def dkwX3_dependsOn_2 : List UInt8 := [160, 0, 7, 4, 167, 0, 4, 3, 172]
abbrev dktX3_dependsOn_2 : List UInt8 := dkwX3_dependsOn_2 ++ []
def dkwX3_dependsOn_1 : List UInt8 := [182, 0, 238, 158, 0, 5, 3, 172, 42, 182, 0, 242, 42, 180, 0, 22, 27, 46, 28, 122, 4, 126, 4]
abbrev dktX3_dependsOn_1 : List UInt8 := dkwX3_dependsOn_1 ++ dktX3_dependsOn_2
def dkwX3_dependsOn_0 : List UInt8 := [42, 42, 27, 182, 0, 205, 153, 0, 15, 42, 28, 182, 0, 205, 153, 0, 7, 4, 167, 0, 4, 3]
abbrev dktX3_dependsOn_0 : List UInt8 := dkwX3_dependsOn_0 ++ dktX3_dependsOn_1
theorem dksX3_dependsOn_0 : cX3_dependsOn.data.toList.drop 0 = dktX3_dependsOn_0 := by decide +kernel
theorem dksX3_dependsOn_1 : cX3_dependsOn.data.toList.drop 22 = dktX3_dependsOn_1 := dk_seg dksX3_dependsOn_0 22 rfl rfl
theorem dksX3_dependsOn_2 : cX3_dependsOn.data.toList.drop 45 = dktX3_dependsOn_2 := dk_seg dksX3_dependsOn_1 23 rfl rfl
theorem dX3_dependsOn_0 : decode cX3_dependsOn 0 = .ok (.aload_n 0, 1) := dk_42 (dk_at dksX3_dependsOn_0 0 rfl rfl)
theorem dX3_dependsOn_1 : decode cX3_dependsOn 1 = .ok (.aload_n 0, 1) := dk_42 (dk_at dksX3_dependsOn_0 1 rfl rfl)
theorem dX3_dependsOn_2 : decode cX3_dependsOn 2 = .ok (.iload_n 1, 1) := dk_27 (dk_at dksX3_dependsOn_0 2 rfl rfl)
theorem dX3_dependsOn_3 : decode cX3_dependsOn 3 = .ok (.invokevirtual 205, 3) := dk_182 0 205 (dk_at dksX3_dependsOn_0 3 rfl rfl)
theorem dX3_dependsOn_6 : decode cX3_dependsOn 6 = .ok (.ifCond .eq 15, 3) := dk_153 0 15 (dk_at dksX3_dependsOn_0 6 rfl rfl)
theorem dX3_dependsOn_9 : decode cX3_dependsOn 9 = .ok (.aload_n 0, 1) := dk_42 (dk_at dksX3_dependsOn_0 9 rfl rfl)
theorem dX3_dependsOn_10 : decode cX3_dependsOn 10 = .ok (.iload_n 2, 1) := dk_28 (dk_at dksX3_dependsOn_0 10 rfl rfl)
theorem dX3_dependsOn_11 : decode cX3_dependsOn 11 = .ok (.invokevirtual 205, 3) := dk_182 0 205 (dk_at dksX3_dependsOn_0 11 rfl rfl)
theorem dX3_dependsOn_14 : decode cX3_dependsOn 14 = .ok (.ifCond .eq 7, 3) := dk_153 0 7 (dk_at dksX3_dependsOn_0 14 rfl rfl)
theorem dX3_dependsOn_17 : decode cX3_dependsOn 17 = .ok (.iconst 1, 1) := dk_4 (dk_at dksX3_dependsOn_0 17 rfl rfl)
theorem dX3_dependsOn_18 : decode cX3_dependsOn 18 = .ok (.goto 4, 3) := dk_167 0 4 (dk_at dksX3_dependsOn_0 18 rfl rfl)
theorem dX3_dependsOn_21 : decode cX3_dependsOn 21 = .ok (.iconst 0, 1) := dk_3 (dk_at dksX3_dependsOn_0 21 rfl rfl)
theorem dX3_dependsOn_22 : decode cX3_dependsOn 22 = .ok (.invokevirtual 238, 3) := dk_182 0 238 (dk_at dksX3_dependsOn_1 0 rfl rfl)
theorem dX3_dependsOn_25 : decode cX3_dependsOn 25 = .ok (.ifCond .le 5, 3) := dk_158 0 5 (dk_at dksX3_dependsOn_1 3 rfl rfl)
theorem dX3_dependsOn_28 : decode cX3_dependsOn 28 = .ok (.iconst 0, 1) := dk_3 (dk_at dksX3_dependsOn_1 6 rfl rfl)
theorem dX3_dependsOn_29 : decode cX3_dependsOn 29 = .ok (.ireturn, 1) := dk_172 (dk_at dksX3_dependsOn_1 7 rfl rfl)
theorem dX3_dependsOn_30 : decode cX3_dependsOn 30 = .ok (.aload_n 0, 1) := dk_42 (dk_at dksX3_dependsOn_1 8 rfl rfl)
theorem dX3_dependsOn_31 : decode cX3_dependsOn 31 = .ok (.invokevirtual 242, 3) := dk_182 0 242 (dk_at dksX3_dependsOn_1 9 rfl rfl)
theorem dX3_dependsOn_34 : decode cX3_dependsOn 34 = .ok (.aload_n 0, 1) := dk_42 (dk_at dksX3_dependsOn_1 12 rfl rfl)
theorem dX3_dependsOn_35 : decode cX3_dependsOn 35 = .ok (.getfield 22, 3) := dk_180 0 22 (dk_at dksX3_dependsOn_1 13 rfl rfl)
theorem dX3_dependsOn_38 : decode cX3_dependsOn 38 = .ok (.iload_n 1, 1) := dk_27 (dk_at dksX3_dependsOn_1 16 rfl rfl)
theorem dX3_dependsOn_39 : decode cX3_dependsOn 39 = .ok (.iaload, 1) := dk_46 (dk_at dksX3_dependsOn_1 17 rfl rfl)
theorem dX3_dependsOn_40 : decode cX3_dependsOn 40 = .ok (.iload_n 2, 1) := dk_28 (dk_at dksX3_dependsOn_1 18 rfl rfl)
theorem dX3_dependsOn_41 : decode cX3_dependsOn 41 = .ok (.ishr, 1) := dk_122 (dk_at dksX3_dependsOn_1 19 rfl rfl)
theorem dX3_dependsOn_42 : decode cX3_dependsOn 42 = .ok (.iconst 1, 1) := dk_4 (dk_at dksX3_dependsOn_1 20 rfl rfl)
theorem dX3_dependsOn_43 : decode cX3_dependsOn 43 = .ok (.iand, 1) := dk_126 (dk_at dksX3_dependsOn_1 21 rfl rfl)
theorem dX3_dependsOn_44 : decode cX3_dependsOn 44 = .ok (.iconst 1, 1) := dk_4 (dk_at dksX3_dependsOn_1 22 rfl rfl)
theorem dX3_dependsOn_45 : decode cX3_dependsOn 45 = .ok (.if_icmp .ne 7, 3) := dk_160 0 7 (dk_at dksX3_dependsOn_2 0 rfl rfl)
theorem dX3_dependsOn_48 : decode cX3_dependsOn 48 = .ok (.iconst 1, 1) := dk_4 (dk_at dksX3_dependsOn_2 3 rfl rfl)
theorem dX3_dependsOn_49 : decode cX3_dependsOn 49 = .ok (.goto 4, 3) := dk_167 0 4 (dk_at dksX3_dependsOn_2 4 rfl rfl)
theorem dX3_dependsOn_52 : decode cX3_dependsOn 52 = .ok (.iconst 0, 1) := dk_3 (dk_at dksX3_dependsOn_2 7 rfl rfl)
theorem dX3_dependsOn_53 : decode cX3_dependsOn 53 = .ok (.ireturn, 1) := dk_172 (dk_at dksX3_dependsOn_2 8 rfl rfl)
abbrev cX3_layReached : ByteArray := prog_25_method_63_code
def yX3_layReached : MethodName := ⟨RX3, "layReached", "()V"⟩
def dkwX3_layReached_3 : List UInt8 := [79, 132, 1, 1, 167, 255, 184, 177]
abbrev dktX3_layReached_3 : List UInt8 := dkwX3_layReached_3 ++ []
def dkwX3_layReached_2 : List UInt8 := [42, 180, 0, 22, 42, 27, 5, 182, 0, 116, 46, 128, 42, 180, 0, 22, 42, 27, 6, 182, 0, 116, 46, 128]
abbrev dktX3_layReached_2 : List UInt8 := dkwX3_layReached_2 ++ dktX3_layReached_3
def dkwX3_layReached_1 : List UInt8 := [153, 0, 7, 3, 167, 0, 44, 4, 42, 27, 5, 182, 0, 116, 120, 4, 42, 27, 6, 182, 0, 116, 120, 128]
abbrev dktX3_layReached_1 : List UInt8 := dkwX3_layReached_1 ++ dktX3_layReached_2
def dkwX3_layReached_0 : List UInt8 := [3, 60, 27, 42, 180, 0, 7, 6, 46, 162, 0, 68, 42, 180, 0, 22, 27, 42, 27, 182, 0, 123]
abbrev dktX3_layReached_0 : List UInt8 := dkwX3_layReached_0 ++ dktX3_layReached_1
theorem dksX3_layReached_0 : cX3_layReached.data.toList.drop 0 = dktX3_layReached_0 := by decide +kernel
theorem dksX3_layReached_1 : cX3_layReached.data.toList.drop 22 = dktX3_layReached_1 := dk_seg dksX3_layReached_0 22 rfl rfl
theorem dksX3_layReached_2 : cX3_layReached.data.toList.drop 46 = dktX3_layReached_2 := dk_seg dksX3_layReached_1 24 rfl rfl
theorem dksX3_layReached_3 : cX3_layReached.data.toList.drop 70 = dktX3_layReached_3 := dk_seg dksX3_layReached_2 24 rfl rfl
theorem dX3_layReached_0 : decode cX3_layReached 0 = .ok (.iconst 0, 1) := dk_3 (dk_at dksX3_layReached_0 0 rfl rfl)
theorem dX3_layReached_1 : decode cX3_layReached 1 = .ok (.istore_n 1, 1) := dk_60 (dk_at dksX3_layReached_0 1 rfl rfl)
theorem dX3_layReached_2 : decode cX3_layReached 2 = .ok (.iload_n 1, 1) := dk_27 (dk_at dksX3_layReached_0 2 rfl rfl)
theorem dX3_layReached_3 : decode cX3_layReached 3 = .ok (.aload_n 0, 1) := dk_42 (dk_at dksX3_layReached_0 3 rfl rfl)
theorem dX3_layReached_4 : decode cX3_layReached 4 = .ok (.getfield 7, 3) := dk_180 0 7 (dk_at dksX3_layReached_0 4 rfl rfl)
theorem dX3_layReached_7 : decode cX3_layReached 7 = .ok (.iconst 3, 1) := dk_6 (dk_at dksX3_layReached_0 7 rfl rfl)
theorem dX3_layReached_8 : decode cX3_layReached 8 = .ok (.iaload, 1) := dk_46 (dk_at dksX3_layReached_0 8 rfl rfl)
theorem dX3_layReached_9 : decode cX3_layReached 9 = .ok (.if_icmp .ge 68, 3) := dk_162 0 68 (dk_at dksX3_layReached_0 9 rfl rfl)
theorem dX3_layReached_12 : decode cX3_layReached 12 = .ok (.aload_n 0, 1) := dk_42 (dk_at dksX3_layReached_0 12 rfl rfl)
theorem dX3_layReached_13 : decode cX3_layReached 13 = .ok (.getfield 22, 3) := dk_180 0 22 (dk_at dksX3_layReached_0 13 rfl rfl)
theorem dX3_layReached_16 : decode cX3_layReached 16 = .ok (.iload_n 1, 1) := dk_27 (dk_at dksX3_layReached_0 16 rfl rfl)
theorem dX3_layReached_17 : decode cX3_layReached 17 = .ok (.aload_n 0, 1) := dk_42 (dk_at dksX3_layReached_0 17 rfl rfl)
theorem dX3_layReached_18 : decode cX3_layReached 18 = .ok (.iload_n 1, 1) := dk_27 (dk_at dksX3_layReached_0 18 rfl rfl)
theorem dX3_layReached_19 : decode cX3_layReached 19 = .ok (.invokevirtual 123, 3) := dk_182 0 123 (dk_at dksX3_layReached_0 19 rfl rfl)
theorem dX3_layReached_22 : decode cX3_layReached 22 = .ok (.ifCond .eq 7, 3) := dk_153 0 7 (dk_at dksX3_layReached_1 0 rfl rfl)
theorem dX3_layReached_25 : decode cX3_layReached 25 = .ok (.iconst 0, 1) := dk_3 (dk_at dksX3_layReached_1 3 rfl rfl)
theorem dX3_layReached_26 : decode cX3_layReached 26 = .ok (.goto 44, 3) := dk_167 0 44 (dk_at dksX3_layReached_1 4 rfl rfl)
theorem dX3_layReached_29 : decode cX3_layReached 29 = .ok (.iconst 1, 1) := dk_4 (dk_at dksX3_layReached_1 7 rfl rfl)
theorem dX3_layReached_30 : decode cX3_layReached 30 = .ok (.aload_n 0, 1) := dk_42 (dk_at dksX3_layReached_1 8 rfl rfl)
theorem dX3_layReached_31 : decode cX3_layReached 31 = .ok (.iload_n 1, 1) := dk_27 (dk_at dksX3_layReached_1 9 rfl rfl)
theorem dX3_layReached_32 : decode cX3_layReached 32 = .ok (.iconst 2, 1) := dk_5 (dk_at dksX3_layReached_1 10 rfl rfl)
theorem dX3_layReached_33 : decode cX3_layReached 33 = .ok (.invokevirtual 116, 3) := dk_182 0 116 (dk_at dksX3_layReached_1 11 rfl rfl)
theorem dX3_layReached_36 : decode cX3_layReached 36 = .ok (.ishl, 1) := dk_120 (dk_at dksX3_layReached_1 14 rfl rfl)
theorem dX3_layReached_37 : decode cX3_layReached 37 = .ok (.iconst 1, 1) := dk_4 (dk_at dksX3_layReached_1 15 rfl rfl)
theorem dX3_layReached_38 : decode cX3_layReached 38 = .ok (.aload_n 0, 1) := dk_42 (dk_at dksX3_layReached_1 16 rfl rfl)
theorem dX3_layReached_39 : decode cX3_layReached 39 = .ok (.iload_n 1, 1) := dk_27 (dk_at dksX3_layReached_1 17 rfl rfl)
theorem dX3_layReached_40 : decode cX3_layReached 40 = .ok (.iconst 3, 1) := dk_6 (dk_at dksX3_layReached_1 18 rfl rfl)
theorem dX3_layReached_41 : decode cX3_layReached 41 = .ok (.invokevirtual 116, 3) := dk_182 0 116 (dk_at dksX3_layReached_1 19 rfl rfl)
theorem dX3_layReached_44 : decode cX3_layReached 44 = .ok (.ishl, 1) := dk_120 (dk_at dksX3_layReached_1 22 rfl rfl)
theorem dX3_layReached_45 : decode cX3_layReached 45 = .ok (.ior, 1) := dk_128 (dk_at dksX3_layReached_1 23 rfl rfl)
theorem dX3_layReached_46 : decode cX3_layReached 46 = .ok (.aload_n 0, 1) := dk_42 (dk_at dksX3_layReached_2 0 rfl rfl)
theorem dX3_layReached_47 : decode cX3_layReached 47 = .ok (.getfield 22, 3) := dk_180 0 22 (dk_at dksX3_layReached_2 1 rfl rfl)
theorem dX3_layReached_50 : decode cX3_layReached 50 = .ok (.aload_n 0, 1) := dk_42 (dk_at dksX3_layReached_2 4 rfl rfl)
theorem dX3_layReached_51 : decode cX3_layReached 51 = .ok (.iload_n 1, 1) := dk_27 (dk_at dksX3_layReached_2 5 rfl rfl)
theorem dX3_layReached_52 : decode cX3_layReached 52 = .ok (.iconst 2, 1) := dk_5 (dk_at dksX3_layReached_2 6 rfl rfl)
theorem dX3_layReached_53 : decode cX3_layReached 53 = .ok (.invokevirtual 116, 3) := dk_182 0 116 (dk_at dksX3_layReached_2 7 rfl rfl)
theorem dX3_layReached_56 : decode cX3_layReached 56 = .ok (.iaload, 1) := dk_46 (dk_at dksX3_layReached_2 10 rfl rfl)
theorem dX3_layReached_57 : decode cX3_layReached 57 = .ok (.ior, 1) := dk_128 (dk_at dksX3_layReached_2 11 rfl rfl)
theorem dX3_layReached_58 : decode cX3_layReached 58 = .ok (.aload_n 0, 1) := dk_42 (dk_at dksX3_layReached_2 12 rfl rfl)
theorem dX3_layReached_59 : decode cX3_layReached 59 = .ok (.getfield 22, 3) := dk_180 0 22 (dk_at dksX3_layReached_2 13 rfl rfl)
theorem dX3_layReached_62 : decode cX3_layReached 62 = .ok (.aload_n 0, 1) := dk_42 (dk_at dksX3_layReached_2 16 rfl rfl)
theorem dX3_layReached_63 : decode cX3_layReached 63 = .ok (.iload_n 1, 1) := dk_27 (dk_at dksX3_layReached_2 17 rfl rfl)
theorem dX3_layReached_64 : decode cX3_layReached 64 = .ok (.iconst 3, 1) := dk_6 (dk_at dksX3_layReached_2 18 rfl rfl)
theorem dX3_layReached_65 : decode cX3_layReached 65 = .ok (.invokevirtual 116, 3) := dk_182 0 116 (dk_at dksX3_layReached_2 19 rfl rfl)
theorem dX3_layReached_68 : decode cX3_layReached 68 = .ok (.iaload, 1) := dk_46 (dk_at dksX3_layReached_2 22 rfl rfl)
theorem dX3_layReached_69 : decode cX3_layReached 69 = .ok (.ior, 1) := dk_128 (dk_at dksX3_layReached_2 23 rfl rfl)
theorem dX3_layReached_70 : decode cX3_layReached 70 = .ok (.iastore, 1) := dk_79 (dk_at dksX3_layReached_3 0 rfl rfl)
theorem dX3_layReached_71 : decode cX3_layReached 71 = .ok (.iinc 1 1, 3) := dk_132 1 1 (dk_at dksX3_layReached_3 1 rfl rfl)
theorem dX3_layReached_74 : decode cX3_layReached 74 = .ok (.goto (-72), 3) := dk_167 255 184 (dk_at dksX3_layReached_3 4 rfl rfl)
theorem dX3_layReached_77 : decode cX3_layReached 77 = .ok (.return_, 1) := dk_177 (dk_at dksX3_layReached_3 7 rfl rfl)
abbrev cX3_level : ByteArray := prog_25_method_65_code
def yX3_level : MethodName := ⟨RX3, "level", "(I)I"⟩
def dkwX3_level_3 : List UInt8 := [4, 96, 167, 0, 7, 21, 4, 4, 96, 79, 132, 2, 1, 167, 255, 189, 42, 180, 0, 22, 27, 46, 172]
abbrev dktX3_level_3 : List UInt8 := dkwX3_level_3 ++ []
def dkwX3_level_2 : List UInt8 := [42, 180, 0, 22, 28, 42, 28, 182, 0, 123, 153, 0, 7, 3, 167, 0, 19, 29, 21, 4, 164, 0, 9, 29]
abbrev dktX3_level_2 : List UInt8 := dkwX3_level_2 ++ dktX3_level_3
def dkwX3_level_1 : List UInt8 := [180, 0, 22, 42, 28, 5, 182, 0, 116, 46, 62, 42, 180, 0, 22, 42, 28, 6, 182, 0, 116, 46, 54, 4]
abbrev dktX3_level_1 : List UInt8 := dkwX3_level_1 ++ dktX3_level_2
def dkwX3_level_0 : List UInt8 := [42, 42, 27, 182, 0, 205, 182, 0, 238, 158, 0, 5, 3, 172, 3, 61, 28, 27, 163, 0, 68, 42]
abbrev dktX3_level_0 : List UInt8 := dkwX3_level_0 ++ dktX3_level_1
theorem dksX3_level_0 : cX3_level.data.toList.drop 0 = dktX3_level_0 := by decide +kernel
theorem dksX3_level_1 : cX3_level.data.toList.drop 22 = dktX3_level_1 := dk_seg dksX3_level_0 22 rfl rfl
theorem dksX3_level_2 : cX3_level.data.toList.drop 46 = dktX3_level_2 := dk_seg dksX3_level_1 24 rfl rfl
theorem dksX3_level_3 : cX3_level.data.toList.drop 70 = dktX3_level_3 := dk_seg dksX3_level_2 24 rfl rfl
theorem dX3_level_0 : decode cX3_level 0 = .ok (.aload_n 0, 1) := dk_42 (dk_at dksX3_level_0 0 rfl rfl)
theorem dX3_level_1 : decode cX3_level 1 = .ok (.aload_n 0, 1) := dk_42 (dk_at dksX3_level_0 1 rfl rfl)
theorem dX3_level_2 : decode cX3_level 2 = .ok (.iload_n 1, 1) := dk_27 (dk_at dksX3_level_0 2 rfl rfl)
theorem dX3_level_3 : decode cX3_level 3 = .ok (.invokevirtual 205, 3) := dk_182 0 205 (dk_at dksX3_level_0 3 rfl rfl)
theorem dX3_level_6 : decode cX3_level 6 = .ok (.invokevirtual 238, 3) := dk_182 0 238 (dk_at dksX3_level_0 6 rfl rfl)
theorem dX3_level_9 : decode cX3_level 9 = .ok (.ifCond .le 5, 3) := dk_158 0 5 (dk_at dksX3_level_0 9 rfl rfl)
theorem dX3_level_12 : decode cX3_level 12 = .ok (.iconst 0, 1) := dk_3 (dk_at dksX3_level_0 12 rfl rfl)
theorem dX3_level_13 : decode cX3_level 13 = .ok (.ireturn, 1) := dk_172 (dk_at dksX3_level_0 13 rfl rfl)
theorem dX3_level_14 : decode cX3_level 14 = .ok (.iconst 0, 1) := dk_3 (dk_at dksX3_level_0 14 rfl rfl)
theorem dX3_level_15 : decode cX3_level 15 = .ok (.istore_n 2, 1) := dk_61 (dk_at dksX3_level_0 15 rfl rfl)
theorem dX3_level_16 : decode cX3_level 16 = .ok (.iload_n 2, 1) := dk_28 (dk_at dksX3_level_0 16 rfl rfl)
theorem dX3_level_17 : decode cX3_level 17 = .ok (.iload_n 1, 1) := dk_27 (dk_at dksX3_level_0 17 rfl rfl)
theorem dX3_level_18 : decode cX3_level 18 = .ok (.if_icmp .gt 68, 3) := dk_163 0 68 (dk_at dksX3_level_0 18 rfl rfl)
theorem dX3_level_21 : decode cX3_level 21 = .ok (.aload_n 0, 1) := dk_42 (dk_at dksX3_level_0 21 rfl rfl)
theorem dX3_level_22 : decode cX3_level 22 = .ok (.getfield 22, 3) := dk_180 0 22 (dk_at dksX3_level_1 0 rfl rfl)
theorem dX3_level_25 : decode cX3_level 25 = .ok (.aload_n 0, 1) := dk_42 (dk_at dksX3_level_1 3 rfl rfl)
theorem dX3_level_26 : decode cX3_level 26 = .ok (.iload_n 2, 1) := dk_28 (dk_at dksX3_level_1 4 rfl rfl)
theorem dX3_level_27 : decode cX3_level 27 = .ok (.iconst 2, 1) := dk_5 (dk_at dksX3_level_1 5 rfl rfl)
theorem dX3_level_28 : decode cX3_level 28 = .ok (.invokevirtual 116, 3) := dk_182 0 116 (dk_at dksX3_level_1 6 rfl rfl)
theorem dX3_level_31 : decode cX3_level 31 = .ok (.iaload, 1) := dk_46 (dk_at dksX3_level_1 9 rfl rfl)
theorem dX3_level_32 : decode cX3_level 32 = .ok (.istore_n 3, 1) := dk_62 (dk_at dksX3_level_1 10 rfl rfl)
theorem dX3_level_33 : decode cX3_level 33 = .ok (.aload_n 0, 1) := dk_42 (dk_at dksX3_level_1 11 rfl rfl)
theorem dX3_level_34 : decode cX3_level 34 = .ok (.getfield 22, 3) := dk_180 0 22 (dk_at dksX3_level_1 12 rfl rfl)
theorem dX3_level_37 : decode cX3_level 37 = .ok (.aload_n 0, 1) := dk_42 (dk_at dksX3_level_1 15 rfl rfl)
theorem dX3_level_38 : decode cX3_level 38 = .ok (.iload_n 2, 1) := dk_28 (dk_at dksX3_level_1 16 rfl rfl)
theorem dX3_level_39 : decode cX3_level 39 = .ok (.iconst 3, 1) := dk_6 (dk_at dksX3_level_1 17 rfl rfl)
theorem dX3_level_40 : decode cX3_level 40 = .ok (.invokevirtual 116, 3) := dk_182 0 116 (dk_at dksX3_level_1 18 rfl rfl)
theorem dX3_level_43 : decode cX3_level 43 = .ok (.iaload, 1) := dk_46 (dk_at dksX3_level_1 21 rfl rfl)
theorem dX3_level_44 : decode cX3_level 44 = .ok (.istore 4, 2) := dk_54 4 (dk_at dksX3_level_1 22 rfl rfl)
theorem dX3_level_46 : decode cX3_level 46 = .ok (.aload_n 0, 1) := dk_42 (dk_at dksX3_level_2 0 rfl rfl)
theorem dX3_level_47 : decode cX3_level 47 = .ok (.getfield 22, 3) := dk_180 0 22 (dk_at dksX3_level_2 1 rfl rfl)
theorem dX3_level_50 : decode cX3_level 50 = .ok (.iload_n 2, 1) := dk_28 (dk_at dksX3_level_2 4 rfl rfl)
theorem dX3_level_51 : decode cX3_level 51 = .ok (.aload_n 0, 1) := dk_42 (dk_at dksX3_level_2 5 rfl rfl)
theorem dX3_level_52 : decode cX3_level 52 = .ok (.iload_n 2, 1) := dk_28 (dk_at dksX3_level_2 6 rfl rfl)
theorem dX3_level_53 : decode cX3_level 53 = .ok (.invokevirtual 123, 3) := dk_182 0 123 (dk_at dksX3_level_2 7 rfl rfl)
theorem dX3_level_56 : decode cX3_level 56 = .ok (.ifCond .eq 7, 3) := dk_153 0 7 (dk_at dksX3_level_2 10 rfl rfl)
theorem dX3_level_59 : decode cX3_level 59 = .ok (.iconst 0, 1) := dk_3 (dk_at dksX3_level_2 13 rfl rfl)
theorem dX3_level_60 : decode cX3_level 60 = .ok (.goto 19, 3) := dk_167 0 19 (dk_at dksX3_level_2 14 rfl rfl)
theorem dX3_level_63 : decode cX3_level 63 = .ok (.iload_n 3, 1) := dk_29 (dk_at dksX3_level_2 17 rfl rfl)
theorem dX3_level_64 : decode cX3_level 64 = .ok (.iload 4, 2) := dk_21 4 (dk_at dksX3_level_2 18 rfl rfl)
theorem dX3_level_66 : decode cX3_level 66 = .ok (.if_icmp .le 9, 3) := dk_164 0 9 (dk_at dksX3_level_2 20 rfl rfl)
theorem dX3_level_69 : decode cX3_level 69 = .ok (.iload_n 3, 1) := dk_29 (dk_at dksX3_level_2 23 rfl rfl)
theorem dX3_level_70 : decode cX3_level 70 = .ok (.iconst 1, 1) := dk_4 (dk_at dksX3_level_3 0 rfl rfl)
theorem dX3_level_71 : decode cX3_level 71 = .ok (.iadd, 1) := dk_96 (dk_at dksX3_level_3 1 rfl rfl)
theorem dX3_level_72 : decode cX3_level 72 = .ok (.goto 7, 3) := dk_167 0 7 (dk_at dksX3_level_3 2 rfl rfl)
theorem dX3_level_75 : decode cX3_level 75 = .ok (.iload 4, 2) := dk_21 4 (dk_at dksX3_level_3 5 rfl rfl)
theorem dX3_level_77 : decode cX3_level 77 = .ok (.iconst 1, 1) := dk_4 (dk_at dksX3_level_3 7 rfl rfl)
theorem dX3_level_78 : decode cX3_level 78 = .ok (.iadd, 1) := dk_96 (dk_at dksX3_level_3 8 rfl rfl)
theorem dX3_level_79 : decode cX3_level 79 = .ok (.iastore, 1) := dk_79 (dk_at dksX3_level_3 9 rfl rfl)
theorem dX3_level_80 : decode cX3_level 80 = .ok (.iinc 2 1, 3) := dk_132 2 1 (dk_at dksX3_level_3 10 rfl rfl)
theorem dX3_level_83 : decode cX3_level 83 = .ok (.goto (-67), 3) := dk_167 255 189 (dk_at dksX3_level_3 13 rfl rfl)
theorem dX3_level_86 : decode cX3_level 86 = .ok (.aload_n 0, 1) := dk_42 (dk_at dksX3_level_3 16 rfl rfl)
theorem dX3_level_87 : decode cX3_level 87 = .ok (.getfield 22, 3) := dk_180 0 22 (dk_at dksX3_level_3 17 rfl rfl)
theorem dX3_level_90 : decode cX3_level 90 = .ok (.iload_n 1, 1) := dk_27 (dk_at dksX3_level_3 20 rfl rfl)
theorem dX3_level_91 : decode cX3_level 91 = .ok (.iaload, 1) := dk_46 (dk_at dksX3_level_3 21 rfl rfl)
theorem dX3_level_92 : decode cX3_level 92 = .ok (.ireturn, 1) := dk_172 (dk_at dksX3_level_3 22 rfl rfl)
abbrev cX3_value : ByteArray := prog_25_method_67_code
def yX3_value : MethodName := ⟨RX3, "value", "(IIC)J"⟩
def dkwX3_value_1 : List UInt8 := [180, 0, 25, 27, 28, 29, 16, 97, 100, 184, 0, 131, 47, 173]
abbrev dktX3_value_1 : List UInt8 := dkwX3_value_1 ++ []
def dkwX3_value_0 : List UInt8 := [42, 42, 27, 28, 29, 182, 0, 245, 181, 0, 47, 42, 180, 0, 47, 158, 0, 7, 9, 167, 0, 17, 42]
abbrev dktX3_value_0 : List UInt8 := dkwX3_value_0 ++ dktX3_value_1
theorem dksX3_value_0 : cX3_value.data.toList.drop 0 = dktX3_value_0 := by decide +kernel
theorem dksX3_value_1 : cX3_value.data.toList.drop 23 = dktX3_value_1 := dk_seg dksX3_value_0 23 rfl rfl
theorem dX3_value_0 : decode cX3_value 0 = .ok (.aload_n 0, 1) := dk_42 (dk_at dksX3_value_0 0 rfl rfl)
theorem dX3_value_1 : decode cX3_value 1 = .ok (.aload_n 0, 1) := dk_42 (dk_at dksX3_value_0 1 rfl rfl)
theorem dX3_value_2 : decode cX3_value 2 = .ok (.iload_n 1, 1) := dk_27 (dk_at dksX3_value_0 2 rfl rfl)
theorem dX3_value_3 : decode cX3_value 3 = .ok (.iload_n 2, 1) := dk_28 (dk_at dksX3_value_0 3 rfl rfl)
theorem dX3_value_4 : decode cX3_value 4 = .ok (.iload_n 3, 1) := dk_29 (dk_at dksX3_value_0 4 rfl rfl)
theorem dX3_value_5 : decode cX3_value 5 = .ok (.invokevirtual 245, 3) := dk_182 0 245 (dk_at dksX3_value_0 5 rfl rfl)
theorem dX3_value_8 : decode cX3_value 8 = .ok (.putfield 47, 3) := dk_181 0 47 (dk_at dksX3_value_0 8 rfl rfl)
theorem dX3_value_11 : decode cX3_value 11 = .ok (.aload_n 0, 1) := dk_42 (dk_at dksX3_value_0 11 rfl rfl)
theorem dX3_value_12 : decode cX3_value 12 = .ok (.getfield 47, 3) := dk_180 0 47 (dk_at dksX3_value_0 12 rfl rfl)
theorem dX3_value_15 : decode cX3_value 15 = .ok (.ifCond .le 7, 3) := dk_158 0 7 (dk_at dksX3_value_0 15 rfl rfl)
theorem dX3_value_18 : decode cX3_value 18 = .ok (.lconst 0, 1) := dk_9 (dk_at dksX3_value_0 18 rfl rfl)
theorem dX3_value_19 : decode cX3_value 19 = .ok (.goto 17, 3) := dk_167 0 17 (dk_at dksX3_value_0 19 rfl rfl)
theorem dX3_value_22 : decode cX3_value 22 = .ok (.aload_n 0, 1) := dk_42 (dk_at dksX3_value_0 22 rfl rfl)
theorem dX3_value_23 : decode cX3_value 23 = .ok (.getfield 25, 3) := dk_180 0 25 (dk_at dksX3_value_1 0 rfl rfl)
theorem dX3_value_26 : decode cX3_value 26 = .ok (.iload_n 1, 1) := dk_27 (dk_at dksX3_value_1 3 rfl rfl)
theorem dX3_value_27 : decode cX3_value 27 = .ok (.iload_n 2, 1) := dk_28 (dk_at dksX3_value_1 4 rfl rfl)
theorem dX3_value_28 : decode cX3_value 28 = .ok (.iload_n 3, 1) := dk_29 (dk_at dksX3_value_1 5 rfl rfl)
theorem dX3_value_29 : decode cX3_value 29 = .ok (.bipush 97, 2) := dk_16 97 (dk_at dksX3_value_1 6 rfl rfl)
theorem dX3_value_31 : decode cX3_value 31 = .ok (.isub, 1) := dk_100 (dk_at dksX3_value_1 8 rfl rfl)
theorem dX3_value_32 : decode cX3_value 32 = .ok (.invokestatic 131, 3) := dk_184 0 131 (dk_at dksX3_value_1 9 rfl rfl)
theorem dX3_value_35 : decode cX3_value 35 = .ok (.laload, 1) := dk_47 (dk_at dksX3_value_1 12 rfl rfl)
theorem dX3_value_36 : decode cX3_value 36 = .ok (.lreturn, 1) := dk_173 (dk_at dksX3_value_1 13 rfl rfl)
abbrev cX3_cannotAsk : ByteArray := prog_25_method_66_code
def yX3_cannotAsk : MethodName := ⟨RX3, "cannotAsk", "(III)I"⟩
def dkwX3_cannotAsk_1 : List UInt8 := [153, 0, 7, 3, 167, 0, 4, 5, 172]
abbrev dktX3_cannotAsk_1 : List UInt8 := dkwX3_cannotAsk_1 ++ []
def dkwX3_cannotAsk_0 : List UInt8 := [42, 27, 182, 0, 205, 154, 0, 5, 4, 172, 42, 28, 182, 0, 226, 153, 0, 14, 29, 184, 0, 153]
abbrev dktX3_cannotAsk_0 : List UInt8 := dkwX3_cannotAsk_0 ++ dktX3_cannotAsk_1
theorem dksX3_cannotAsk_0 : cX3_cannotAsk.data.toList.drop 0 = dktX3_cannotAsk_0 := by decide +kernel
theorem dksX3_cannotAsk_1 : cX3_cannotAsk.data.toList.drop 22 = dktX3_cannotAsk_1 := dk_seg dksX3_cannotAsk_0 22 rfl rfl
theorem dX3_cannotAsk_0 : decode cX3_cannotAsk 0 = .ok (.aload_n 0, 1) := dk_42 (dk_at dksX3_cannotAsk_0 0 rfl rfl)
theorem dX3_cannotAsk_1 : decode cX3_cannotAsk 1 = .ok (.iload_n 1, 1) := dk_27 (dk_at dksX3_cannotAsk_0 1 rfl rfl)
theorem dX3_cannotAsk_2 : decode cX3_cannotAsk 2 = .ok (.invokevirtual 205, 3) := dk_182 0 205 (dk_at dksX3_cannotAsk_0 2 rfl rfl)
theorem dX3_cannotAsk_5 : decode cX3_cannotAsk 5 = .ok (.ifCond .ne 5, 3) := dk_154 0 5 (dk_at dksX3_cannotAsk_0 5 rfl rfl)
theorem dX3_cannotAsk_8 : decode cX3_cannotAsk 8 = .ok (.iconst 1, 1) := dk_4 (dk_at dksX3_cannotAsk_0 8 rfl rfl)
theorem dX3_cannotAsk_9 : decode cX3_cannotAsk 9 = .ok (.ireturn, 1) := dk_172 (dk_at dksX3_cannotAsk_0 9 rfl rfl)
theorem dX3_cannotAsk_10 : decode cX3_cannotAsk 10 = .ok (.aload_n 0, 1) := dk_42 (dk_at dksX3_cannotAsk_0 10 rfl rfl)
theorem dX3_cannotAsk_11 : decode cX3_cannotAsk 11 = .ok (.iload_n 2, 1) := dk_28 (dk_at dksX3_cannotAsk_0 11 rfl rfl)
theorem dX3_cannotAsk_12 : decode cX3_cannotAsk 12 = .ok (.invokevirtual 226, 3) := dk_182 0 226 (dk_at dksX3_cannotAsk_0 12 rfl rfl)
theorem dX3_cannotAsk_15 : decode cX3_cannotAsk 15 = .ok (.ifCond .eq 14, 3) := dk_153 0 14 (dk_at dksX3_cannotAsk_0 15 rfl rfl)
theorem dX3_cannotAsk_18 : decode cX3_cannotAsk 18 = .ok (.iload_n 3, 1) := dk_29 (dk_at dksX3_cannotAsk_0 18 rfl rfl)
theorem dX3_cannotAsk_19 : decode cX3_cannotAsk 19 = .ok (.invokestatic 153, 3) := dk_184 0 153 (dk_at dksX3_cannotAsk_0 19 rfl rfl)
theorem dX3_cannotAsk_22 : decode cX3_cannotAsk 22 = .ok (.ifCond .eq 7, 3) := dk_153 0 7 (dk_at dksX3_cannotAsk_1 0 rfl rfl)
theorem dX3_cannotAsk_25 : decode cX3_cannotAsk 25 = .ok (.iconst 0, 1) := dk_3 (dk_at dksX3_cannotAsk_1 3 rfl rfl)
theorem dX3_cannotAsk_26 : decode cX3_cannotAsk 26 = .ok (.goto 4, 3) := dk_167 0 4 (dk_at dksX3_cannotAsk_1 4 rfl rfl)
theorem dX3_cannotAsk_29 : decode cX3_cannotAsk 29 = .ok (.iconst 2, 1) := dk_5 (dk_at dksX3_cannotAsk_1 7 rfl rfl)
theorem dX3_cannotAsk_30 : decode cX3_cannotAsk 30 = .ok (.ireturn, 1) := dk_172 (dk_at dksX3_cannotAsk_1 8 rfl rfl)
abbrev cX3_valueAnew : ByteArray := prog_25_method_68_code
def yX3_valueAnew : MethodName := ⟨RX3, "valueAnew", "(IIC)J"⟩
def dkwX3_valueAnew_1 : List UInt8 := [42, 180, 0, 38, 27, 28, 29, 16, 97, 100, 184, 0, 131, 47, 173]
abbrev dktX3_valueAnew_1 : List UInt8 := dkwX3_valueAnew_1 ++ []
def dkwX3_valueAnew_0 : List UInt8 := [42, 42, 27, 28, 29, 182, 0, 245, 181, 0, 47, 42, 180, 0, 47, 158, 0, 5, 9, 173, 42, 182, 0, 248]
abbrev dktX3_valueAnew_0 : List UInt8 := dkwX3_valueAnew_0 ++ dktX3_valueAnew_1
theorem dksX3_valueAnew_0 : cX3_valueAnew.data.toList.drop 0 = dktX3_valueAnew_0 := by decide +kernel
theorem dksX3_valueAnew_1 : cX3_valueAnew.data.toList.drop 24 = dktX3_valueAnew_1 := dk_seg dksX3_valueAnew_0 24 rfl rfl
theorem dX3_valueAnew_0 : decode cX3_valueAnew 0 = .ok (.aload_n 0, 1) := dk_42 (dk_at dksX3_valueAnew_0 0 rfl rfl)
theorem dX3_valueAnew_1 : decode cX3_valueAnew 1 = .ok (.aload_n 0, 1) := dk_42 (dk_at dksX3_valueAnew_0 1 rfl rfl)
theorem dX3_valueAnew_2 : decode cX3_valueAnew 2 = .ok (.iload_n 1, 1) := dk_27 (dk_at dksX3_valueAnew_0 2 rfl rfl)
theorem dX3_valueAnew_3 : decode cX3_valueAnew 3 = .ok (.iload_n 2, 1) := dk_28 (dk_at dksX3_valueAnew_0 3 rfl rfl)
theorem dX3_valueAnew_4 : decode cX3_valueAnew 4 = .ok (.iload_n 3, 1) := dk_29 (dk_at dksX3_valueAnew_0 4 rfl rfl)
theorem dX3_valueAnew_5 : decode cX3_valueAnew 5 = .ok (.invokevirtual 245, 3) := dk_182 0 245 (dk_at dksX3_valueAnew_0 5 rfl rfl)
theorem dX3_valueAnew_8 : decode cX3_valueAnew 8 = .ok (.putfield 47, 3) := dk_181 0 47 (dk_at dksX3_valueAnew_0 8 rfl rfl)
theorem dX3_valueAnew_11 : decode cX3_valueAnew 11 = .ok (.aload_n 0, 1) := dk_42 (dk_at dksX3_valueAnew_0 11 rfl rfl)
theorem dX3_valueAnew_12 : decode cX3_valueAnew 12 = .ok (.getfield 47, 3) := dk_180 0 47 (dk_at dksX3_valueAnew_0 12 rfl rfl)
theorem dX3_valueAnew_15 : decode cX3_valueAnew 15 = .ok (.ifCond .le 5, 3) := dk_158 0 5 (dk_at dksX3_valueAnew_0 15 rfl rfl)
theorem dX3_valueAnew_18 : decode cX3_valueAnew 18 = .ok (.lconst 0, 1) := dk_9 (dk_at dksX3_valueAnew_0 18 rfl rfl)
theorem dX3_valueAnew_19 : decode cX3_valueAnew 19 = .ok (.lreturn, 1) := dk_173 (dk_at dksX3_valueAnew_0 19 rfl rfl)
theorem dX3_valueAnew_20 : decode cX3_valueAnew 20 = .ok (.aload_n 0, 1) := dk_42 (dk_at dksX3_valueAnew_0 20 rfl rfl)
theorem dX3_valueAnew_21 : decode cX3_valueAnew 21 = .ok (.invokevirtual 248, 3) := dk_182 0 248 (dk_at dksX3_valueAnew_0 21 rfl rfl)
theorem dX3_valueAnew_24 : decode cX3_valueAnew 24 = .ok (.aload_n 0, 1) := dk_42 (dk_at dksX3_valueAnew_1 0 rfl rfl)
theorem dX3_valueAnew_25 : decode cX3_valueAnew 25 = .ok (.getfield 38, 3) := dk_180 0 38 (dk_at dksX3_valueAnew_1 1 rfl rfl)
theorem dX3_valueAnew_28 : decode cX3_valueAnew 28 = .ok (.iload_n 1, 1) := dk_27 (dk_at dksX3_valueAnew_1 4 rfl rfl)
theorem dX3_valueAnew_29 : decode cX3_valueAnew 29 = .ok (.iload_n 2, 1) := dk_28 (dk_at dksX3_valueAnew_1 5 rfl rfl)
theorem dX3_valueAnew_30 : decode cX3_valueAnew 30 = .ok (.iload_n 3, 1) := dk_29 (dk_at dksX3_valueAnew_1 6 rfl rfl)
theorem dX3_valueAnew_31 : decode cX3_valueAnew 31 = .ok (.bipush 97, 2) := dk_16 97 (dk_at dksX3_valueAnew_1 7 rfl rfl)
theorem dX3_valueAnew_33 : decode cX3_valueAnew 33 = .ok (.isub, 1) := dk_100 (dk_at dksX3_valueAnew_1 9 rfl rfl)
theorem dX3_valueAnew_34 : decode cX3_valueAnew 34 = .ok (.invokestatic 131, 3) := dk_184 0 131 (dk_at dksX3_valueAnew_1 10 rfl rfl)
theorem dX3_valueAnew_37 : decode cX3_valueAnew 37 = .ok (.laload, 1) := dk_47 (dk_at dksX3_valueAnew_1 13 rfl rfl)
theorem dX3_valueAnew_38 : decode cX3_valueAnew 38 = .ok (.lreturn, 1) := dk_173 (dk_at dksX3_valueAnew_1 14 rfl rfl)
abbrev cX3_layAnew : ByteArray := prog_25_method_27_code
def yX3_layAnew : MethodName := ⟨RX3, "layAnew", "()V"⟩
def dkwX3_layAnew_3 : List UInt8 := [167, 255, 190, 177]
abbrev dktX3_layAnew_3 : List UInt8 := dkwX3_layAnew_3 ++ []
def dkwX3_layAnew_2 : List UInt8 := [180, 0, 38, 182, 0, 134, 80, 132, 3, 1, 167, 255, 226, 132, 2, 1, 167, 255, 208, 132, 1, 1]
abbrev dktX3_layAnew_2 : List UInt8 := dkwX3_layAnew_2 ++ dktX3_layAnew_3
def dkwX3_layAnew_1 : List UInt8 := [3, 62, 29, 8, 162, 0, 31, 42, 180, 0, 38, 27, 28, 29, 184, 0, 131, 42, 27, 28, 29, 42]
abbrev dktX3_layAnew_1 : List UInt8 := dkwX3_layAnew_1 ++ dktX3_layAnew_2
def dkwX3_layAnew_0 : List UInt8 := [3, 60, 27, 42, 180, 0, 7, 6, 46, 162, 0, 62, 3, 61, 28, 42, 180, 0, 7, 3, 46, 163, 0, 44]
abbrev dktX3_layAnew_0 : List UInt8 := dkwX3_layAnew_0 ++ dktX3_layAnew_1
theorem dksX3_layAnew_0 : cX3_layAnew.data.toList.drop 0 = dktX3_layAnew_0 := by decide +kernel
theorem dksX3_layAnew_1 : cX3_layAnew.data.toList.drop 24 = dktX3_layAnew_1 := dk_seg dksX3_layAnew_0 24 rfl rfl
theorem dksX3_layAnew_2 : cX3_layAnew.data.toList.drop 46 = dktX3_layAnew_2 := dk_seg dksX3_layAnew_1 22 rfl rfl
theorem dksX3_layAnew_3 : cX3_layAnew.data.toList.drop 68 = dktX3_layAnew_3 := dk_seg dksX3_layAnew_2 22 rfl rfl
theorem dX3_layAnew_0 : decode cX3_layAnew 0 = .ok (.iconst 0, 1) := dk_3 (dk_at dksX3_layAnew_0 0 rfl rfl)
theorem dX3_layAnew_1 : decode cX3_layAnew 1 = .ok (.istore_n 1, 1) := dk_60 (dk_at dksX3_layAnew_0 1 rfl rfl)
theorem dX3_layAnew_2 : decode cX3_layAnew 2 = .ok (.iload_n 1, 1) := dk_27 (dk_at dksX3_layAnew_0 2 rfl rfl)
theorem dX3_layAnew_3 : decode cX3_layAnew 3 = .ok (.aload_n 0, 1) := dk_42 (dk_at dksX3_layAnew_0 3 rfl rfl)
theorem dX3_layAnew_4 : decode cX3_layAnew 4 = .ok (.getfield 7, 3) := dk_180 0 7 (dk_at dksX3_layAnew_0 4 rfl rfl)
theorem dX3_layAnew_7 : decode cX3_layAnew 7 = .ok (.iconst 3, 1) := dk_6 (dk_at dksX3_layAnew_0 7 rfl rfl)
theorem dX3_layAnew_8 : decode cX3_layAnew 8 = .ok (.iaload, 1) := dk_46 (dk_at dksX3_layAnew_0 8 rfl rfl)
theorem dX3_layAnew_9 : decode cX3_layAnew 9 = .ok (.if_icmp .ge 62, 3) := dk_162 0 62 (dk_at dksX3_layAnew_0 9 rfl rfl)
theorem dX3_layAnew_12 : decode cX3_layAnew 12 = .ok (.iconst 0, 1) := dk_3 (dk_at dksX3_layAnew_0 12 rfl rfl)
theorem dX3_layAnew_13 : decode cX3_layAnew 13 = .ok (.istore_n 2, 1) := dk_61 (dk_at dksX3_layAnew_0 13 rfl rfl)
theorem dX3_layAnew_14 : decode cX3_layAnew 14 = .ok (.iload_n 2, 1) := dk_28 (dk_at dksX3_layAnew_0 14 rfl rfl)
theorem dX3_layAnew_15 : decode cX3_layAnew 15 = .ok (.aload_n 0, 1) := dk_42 (dk_at dksX3_layAnew_0 15 rfl rfl)
theorem dX3_layAnew_16 : decode cX3_layAnew 16 = .ok (.getfield 7, 3) := dk_180 0 7 (dk_at dksX3_layAnew_0 16 rfl rfl)
theorem dX3_layAnew_19 : decode cX3_layAnew 19 = .ok (.iconst 0, 1) := dk_3 (dk_at dksX3_layAnew_0 19 rfl rfl)
theorem dX3_layAnew_20 : decode cX3_layAnew 20 = .ok (.iaload, 1) := dk_46 (dk_at dksX3_layAnew_0 20 rfl rfl)
theorem dX3_layAnew_21 : decode cX3_layAnew 21 = .ok (.if_icmp .gt 44, 3) := dk_163 0 44 (dk_at dksX3_layAnew_0 21 rfl rfl)
theorem dX3_layAnew_24 : decode cX3_layAnew 24 = .ok (.iconst 0, 1) := dk_3 (dk_at dksX3_layAnew_1 0 rfl rfl)
theorem dX3_layAnew_25 : decode cX3_layAnew 25 = .ok (.istore_n 3, 1) := dk_62 (dk_at dksX3_layAnew_1 1 rfl rfl)
theorem dX3_layAnew_26 : decode cX3_layAnew 26 = .ok (.iload_n 3, 1) := dk_29 (dk_at dksX3_layAnew_1 2 rfl rfl)
theorem dX3_layAnew_27 : decode cX3_layAnew 27 = .ok (.iconst 5, 1) := dk_8 (dk_at dksX3_layAnew_1 3 rfl rfl)
theorem dX3_layAnew_28 : decode cX3_layAnew 28 = .ok (.if_icmp .ge 31, 3) := dk_162 0 31 (dk_at dksX3_layAnew_1 4 rfl rfl)
theorem dX3_layAnew_31 : decode cX3_layAnew 31 = .ok (.aload_n 0, 1) := dk_42 (dk_at dksX3_layAnew_1 7 rfl rfl)
theorem dX3_layAnew_32 : decode cX3_layAnew 32 = .ok (.getfield 38, 3) := dk_180 0 38 (dk_at dksX3_layAnew_1 8 rfl rfl)
theorem dX3_layAnew_35 : decode cX3_layAnew 35 = .ok (.iload_n 1, 1) := dk_27 (dk_at dksX3_layAnew_1 11 rfl rfl)
theorem dX3_layAnew_36 : decode cX3_layAnew 36 = .ok (.iload_n 2, 1) := dk_28 (dk_at dksX3_layAnew_1 12 rfl rfl)
theorem dX3_layAnew_37 : decode cX3_layAnew 37 = .ok (.iload_n 3, 1) := dk_29 (dk_at dksX3_layAnew_1 13 rfl rfl)
theorem dX3_layAnew_38 : decode cX3_layAnew 38 = .ok (.invokestatic 131, 3) := dk_184 0 131 (dk_at dksX3_layAnew_1 14 rfl rfl)
theorem dX3_layAnew_41 : decode cX3_layAnew 41 = .ok (.aload_n 0, 1) := dk_42 (dk_at dksX3_layAnew_1 17 rfl rfl)
theorem dX3_layAnew_42 : decode cX3_layAnew 42 = .ok (.iload_n 1, 1) := dk_27 (dk_at dksX3_layAnew_1 18 rfl rfl)
theorem dX3_layAnew_43 : decode cX3_layAnew 43 = .ok (.iload_n 2, 1) := dk_28 (dk_at dksX3_layAnew_1 19 rfl rfl)
theorem dX3_layAnew_44 : decode cX3_layAnew 44 = .ok (.iload_n 3, 1) := dk_29 (dk_at dksX3_layAnew_1 20 rfl rfl)
theorem dX3_layAnew_45 : decode cX3_layAnew 45 = .ok (.aload_n 0, 1) := dk_42 (dk_at dksX3_layAnew_1 21 rfl rfl)
theorem dX3_layAnew_46 : decode cX3_layAnew 46 = .ok (.getfield 38, 3) := dk_180 0 38 (dk_at dksX3_layAnew_2 0 rfl rfl)
theorem dX3_layAnew_49 : decode cX3_layAnew 49 = .ok (.invokevirtual 134, 3) := dk_182 0 134 (dk_at dksX3_layAnew_2 3 rfl rfl)
theorem dX3_layAnew_52 : decode cX3_layAnew 52 = .ok (.lastore, 1) := dk_80 (dk_at dksX3_layAnew_2 6 rfl rfl)
theorem dX3_layAnew_53 : decode cX3_layAnew 53 = .ok (.iinc 3 1, 3) := dk_132 3 1 (dk_at dksX3_layAnew_2 7 rfl rfl)
theorem dX3_layAnew_56 : decode cX3_layAnew 56 = .ok (.goto (-30), 3) := dk_167 255 226 (dk_at dksX3_layAnew_2 10 rfl rfl)
theorem dX3_layAnew_59 : decode cX3_layAnew 59 = .ok (.iinc 2 1, 3) := dk_132 2 1 (dk_at dksX3_layAnew_2 13 rfl rfl)
theorem dX3_layAnew_62 : decode cX3_layAnew 62 = .ok (.goto (-48), 3) := dk_167 255 208 (dk_at dksX3_layAnew_2 16 rfl rfl)
theorem dX3_layAnew_65 : decode cX3_layAnew 65 = .ok (.iinc 1 1, 3) := dk_132 1 1 (dk_at dksX3_layAnew_2 19 rfl rfl)
theorem dX3_layAnew_68 : decode cX3_layAnew 68 = .ok (.goto (-66), 3) := dk_167 255 190 (dk_at dksX3_layAnew_3 0 rfl rfl)
theorem dX3_layAnew_71 : decode cX3_layAnew 71 = .ok (.return_, 1) := dk_177 (dk_at dksX3_layAnew_3 3 rfl rfl)
abbrev cX3_total : ByteArray := prog_25_method_69_code
def yX3_total : MethodName := ⟨RX3, "total", "(II)J"⟩
def dkwX3_total_2 : List UInt8 := [167, 255, 225, 33, 173]
abbrev dktX3_total_2 : List UInt8 := dkwX3_total_2 ++ []
def dkwX3_total_1 : List UInt8 := [180, 0, 47, 154, 0, 24, 33, 42, 180, 0, 25, 27, 28, 21, 5, 184, 0, 131, 47, 97, 66, 132, 5, 1]
abbrev dktX3_total_1 : List UInt8 := dkwX3_total_1 ++ dktX3_total_2
def dkwX3_total_0 : List UInt8 := [42, 42, 27, 28, 16, 97, 182, 0, 245, 181, 0, 47, 9, 66, 3, 54, 5, 21, 5, 8, 162, 0, 31, 42]
abbrev dktX3_total_0 : List UInt8 := dkwX3_total_0 ++ dktX3_total_1
theorem dksX3_total_0 : cX3_total.data.toList.drop 0 = dktX3_total_0 := by decide +kernel
theorem dksX3_total_1 : cX3_total.data.toList.drop 24 = dktX3_total_1 := dk_seg dksX3_total_0 24 rfl rfl
theorem dksX3_total_2 : cX3_total.data.toList.drop 48 = dktX3_total_2 := dk_seg dksX3_total_1 24 rfl rfl
theorem dX3_total_0 : decode cX3_total 0 = .ok (.aload_n 0, 1) := dk_42 (dk_at dksX3_total_0 0 rfl rfl)
theorem dX3_total_1 : decode cX3_total 1 = .ok (.aload_n 0, 1) := dk_42 (dk_at dksX3_total_0 1 rfl rfl)
theorem dX3_total_2 : decode cX3_total 2 = .ok (.iload_n 1, 1) := dk_27 (dk_at dksX3_total_0 2 rfl rfl)
theorem dX3_total_3 : decode cX3_total 3 = .ok (.iload_n 2, 1) := dk_28 (dk_at dksX3_total_0 3 rfl rfl)
theorem dX3_total_4 : decode cX3_total 4 = .ok (.bipush 97, 2) := dk_16 97 (dk_at dksX3_total_0 4 rfl rfl)
theorem dX3_total_6 : decode cX3_total 6 = .ok (.invokevirtual 245, 3) := dk_182 0 245 (dk_at dksX3_total_0 6 rfl rfl)
theorem dX3_total_9 : decode cX3_total 9 = .ok (.putfield 47, 3) := dk_181 0 47 (dk_at dksX3_total_0 9 rfl rfl)
theorem dX3_total_12 : decode cX3_total 12 = .ok (.lconst 0, 1) := dk_9 (dk_at dksX3_total_0 12 rfl rfl)
theorem dX3_total_13 : decode cX3_total 13 = .ok (.lstore_n 3, 1) := dk_66 (dk_at dksX3_total_0 13 rfl rfl)
theorem dX3_total_14 : decode cX3_total 14 = .ok (.iconst 0, 1) := dk_3 (dk_at dksX3_total_0 14 rfl rfl)
theorem dX3_total_15 : decode cX3_total 15 = .ok (.istore 5, 2) := dk_54 5 (dk_at dksX3_total_0 15 rfl rfl)
theorem dX3_total_17 : decode cX3_total 17 = .ok (.iload 5, 2) := dk_21 5 (dk_at dksX3_total_0 17 rfl rfl)
theorem dX3_total_19 : decode cX3_total 19 = .ok (.iconst 5, 1) := dk_8 (dk_at dksX3_total_0 19 rfl rfl)
theorem dX3_total_20 : decode cX3_total 20 = .ok (.if_icmp .ge 31, 3) := dk_162 0 31 (dk_at dksX3_total_0 20 rfl rfl)
theorem dX3_total_23 : decode cX3_total 23 = .ok (.aload_n 0, 1) := dk_42 (dk_at dksX3_total_0 23 rfl rfl)
theorem dX3_total_24 : decode cX3_total 24 = .ok (.getfield 47, 3) := dk_180 0 47 (dk_at dksX3_total_1 0 rfl rfl)
theorem dX3_total_27 : decode cX3_total 27 = .ok (.ifCond .ne 24, 3) := dk_154 0 24 (dk_at dksX3_total_1 3 rfl rfl)
theorem dX3_total_30 : decode cX3_total 30 = .ok (.lload_n 3, 1) := dk_33 (dk_at dksX3_total_1 6 rfl rfl)
theorem dX3_total_31 : decode cX3_total 31 = .ok (.aload_n 0, 1) := dk_42 (dk_at dksX3_total_1 7 rfl rfl)
theorem dX3_total_32 : decode cX3_total 32 = .ok (.getfield 25, 3) := dk_180 0 25 (dk_at dksX3_total_1 8 rfl rfl)
theorem dX3_total_35 : decode cX3_total 35 = .ok (.iload_n 1, 1) := dk_27 (dk_at dksX3_total_1 11 rfl rfl)
theorem dX3_total_36 : decode cX3_total 36 = .ok (.iload_n 2, 1) := dk_28 (dk_at dksX3_total_1 12 rfl rfl)
theorem dX3_total_37 : decode cX3_total 37 = .ok (.iload 5, 2) := dk_21 5 (dk_at dksX3_total_1 13 rfl rfl)
theorem dX3_total_39 : decode cX3_total 39 = .ok (.invokestatic 131, 3) := dk_184 0 131 (dk_at dksX3_total_1 15 rfl rfl)
theorem dX3_total_42 : decode cX3_total 42 = .ok (.laload, 1) := dk_47 (dk_at dksX3_total_1 18 rfl rfl)
theorem dX3_total_43 : decode cX3_total 43 = .ok (.ladd, 1) := dk_97 (dk_at dksX3_total_1 19 rfl rfl)
theorem dX3_total_44 : decode cX3_total 44 = .ok (.lstore_n 3, 1) := dk_66 (dk_at dksX3_total_1 20 rfl rfl)
theorem dX3_total_45 : decode cX3_total 45 = .ok (.iinc 5 1, 3) := dk_132 5 1 (dk_at dksX3_total_1 21 rfl rfl)
theorem dX3_total_48 : decode cX3_total 48 = .ok (.goto (-31), 3) := dk_167 255 225 (dk_at dksX3_total_2 0 rfl rfl)
theorem dX3_total_51 : decode cX3_total 51 = .ok (.lload_n 3, 1) := dk_33 (dk_at dksX3_total_2 3 rfl rfl)
theorem dX3_total_52 : decode cX3_total 52 = .ok (.lreturn, 1) := dk_173 (dk_at dksX3_total_2 4 rfl rfl)
abbrev cX3_isStale : ByteArray := prog_25_method_70_code
def yX3_isStale : MethodName := ⟨RX3, "isStale", "(II)Z"⟩
def dkwX3_isStale_1 : List UInt8 := [182, 0, 138, 153, 0, 7, 4, 167, 0, 4, 3, 172]
abbrev dktX3_isStale_1 : List UInt8 := dkwX3_isStale_1 ++ []
def dkwX3_isStale_0 : List UInt8 := [42, 42, 27, 28, 16, 97, 182, 0, 245, 181, 0, 47, 42, 180, 0, 47, 154, 0, 16, 42, 27, 28]
abbrev dktX3_isStale_0 : List UInt8 := dkwX3_isStale_0 ++ dktX3_isStale_1
theorem dksX3_isStale_0 : cX3_isStale.data.toList.drop 0 = dktX3_isStale_0 := by decide +kernel
theorem dksX3_isStale_1 : cX3_isStale.data.toList.drop 22 = dktX3_isStale_1 := dk_seg dksX3_isStale_0 22 rfl rfl
theorem dX3_isStale_0 : decode cX3_isStale 0 = .ok (.aload_n 0, 1) := dk_42 (dk_at dksX3_isStale_0 0 rfl rfl)
theorem dX3_isStale_1 : decode cX3_isStale 1 = .ok (.aload_n 0, 1) := dk_42 (dk_at dksX3_isStale_0 1 rfl rfl)
theorem dX3_isStale_2 : decode cX3_isStale 2 = .ok (.iload_n 1, 1) := dk_27 (dk_at dksX3_isStale_0 2 rfl rfl)
theorem dX3_isStale_3 : decode cX3_isStale 3 = .ok (.iload_n 2, 1) := dk_28 (dk_at dksX3_isStale_0 3 rfl rfl)
theorem dX3_isStale_4 : decode cX3_isStale 4 = .ok (.bipush 97, 2) := dk_16 97 (dk_at dksX3_isStale_0 4 rfl rfl)
theorem dX3_isStale_6 : decode cX3_isStale 6 = .ok (.invokevirtual 245, 3) := dk_182 0 245 (dk_at dksX3_isStale_0 6 rfl rfl)
theorem dX3_isStale_9 : decode cX3_isStale 9 = .ok (.putfield 47, 3) := dk_181 0 47 (dk_at dksX3_isStale_0 9 rfl rfl)
theorem dX3_isStale_12 : decode cX3_isStale 12 = .ok (.aload_n 0, 1) := dk_42 (dk_at dksX3_isStale_0 12 rfl rfl)
theorem dX3_isStale_13 : decode cX3_isStale 13 = .ok (.getfield 47, 3) := dk_180 0 47 (dk_at dksX3_isStale_0 13 rfl rfl)
theorem dX3_isStale_16 : decode cX3_isStale 16 = .ok (.ifCond .ne 16, 3) := dk_154 0 16 (dk_at dksX3_isStale_0 16 rfl rfl)
theorem dX3_isStale_19 : decode cX3_isStale 19 = .ok (.aload_n 0, 1) := dk_42 (dk_at dksX3_isStale_0 19 rfl rfl)
theorem dX3_isStale_20 : decode cX3_isStale 20 = .ok (.iload_n 1, 1) := dk_27 (dk_at dksX3_isStale_0 20 rfl rfl)
theorem dX3_isStale_21 : decode cX3_isStale 21 = .ok (.iload_n 2, 1) := dk_28 (dk_at dksX3_isStale_0 21 rfl rfl)
theorem dX3_isStale_22 : decode cX3_isStale 22 = .ok (.invokevirtual 138, 3) := dk_182 0 138 (dk_at dksX3_isStale_1 0 rfl rfl)
theorem dX3_isStale_25 : decode cX3_isStale 25 = .ok (.ifCond .eq 7, 3) := dk_153 0 7 (dk_at dksX3_isStale_1 3 rfl rfl)
theorem dX3_isStale_28 : decode cX3_isStale 28 = .ok (.iconst 1, 1) := dk_4 (dk_at dksX3_isStale_1 6 rfl rfl)
theorem dX3_isStale_29 : decode cX3_isStale 29 = .ok (.goto 4, 3) := dk_167 0 4 (dk_at dksX3_isStale_1 7 rfl rfl)
theorem dX3_isStale_32 : decode cX3_isStale 32 = .ok (.iconst 0, 1) := dk_3 (dk_at dksX3_isStale_1 10 rfl rfl)
theorem dX3_isStale_33 : decode cX3_isStale 33 = .ok (.ireturn, 1) := dk_172 (dk_at dksX3_isStale_1 11 rfl rfl)
abbrev cX3_stale : ByteArray := prog_25_method_72_code
def yX3_stale : MethodName := ⟨RX3, "stale", "()I"⟩
def dkwX3_stale_0 : List UInt8 := [42, 42, 182, 0, 251, 182, 0, 235, 172]
abbrev dktX3_stale_0 : List UInt8 := dkwX3_stale_0 ++ []
theorem dksX3_stale_0 : cX3_stale.data.toList.drop 0 = dktX3_stale_0 := by decide +kernel
theorem dX3_stale_0 : decode cX3_stale 0 = .ok (.aload_n 0, 1) := dk_42 (dk_at dksX3_stale_0 0 rfl rfl)
theorem dX3_stale_1 : decode cX3_stale 1 = .ok (.aload_n 0, 1) := dk_42 (dk_at dksX3_stale_0 1 rfl rfl)
theorem dX3_stale_2 : decode cX3_stale 2 = .ok (.invokevirtual 251, 3) := dk_182 0 251 (dk_at dksX3_stale_0 2 rfl rfl)
theorem dX3_stale_5 : decode cX3_stale 5 = .ok (.invokevirtual 235, 3) := dk_182 0 235 (dk_at dksX3_stale_0 5 rfl rfl)
theorem dX3_stale_8 : decode cX3_stale 8 = .ok (.ireturn, 1) := dk_172 (dk_at dksX3_stale_0 8 rfl rfl)
abbrev cX3_staleCount : ByteArray := prog_25_method_71_code
def yX3_staleCount : MethodName := ⟨RX3, "staleCount", "()I"⟩
def dkwX3_staleCount_2 : List UInt8 := [167, 255, 226, 132, 2, 1, 167, 255, 208, 27, 172]
abbrev dktX3_staleCount_2 : List UInt8 := dkwX3_staleCount_2 ++ []
def dkwX3_staleCount_1 : List UInt8 := [163, 0, 26, 27, 42, 28, 29, 182, 0, 138, 153, 0, 7, 4, 167, 0, 4, 3, 96, 60, 132, 3, 1]
abbrev dktX3_staleCount_1 : List UInt8 := dkwX3_staleCount_1 ++ dktX3_staleCount_2
def dkwX3_staleCount_0 : List UInt8 := [3, 60, 3, 61, 28, 42, 180, 0, 7, 6, 46, 162, 0, 44, 3, 62, 29, 42, 180, 0, 7, 3, 46]
abbrev dktX3_staleCount_0 : List UInt8 := dkwX3_staleCount_0 ++ dktX3_staleCount_1
theorem dksX3_staleCount_0 : cX3_staleCount.data.toList.drop 0 = dktX3_staleCount_0 := by decide +kernel
theorem dksX3_staleCount_1 : cX3_staleCount.data.toList.drop 23 = dktX3_staleCount_1 := dk_seg dksX3_staleCount_0 23 rfl rfl
theorem dksX3_staleCount_2 : cX3_staleCount.data.toList.drop 46 = dktX3_staleCount_2 := dk_seg dksX3_staleCount_1 23 rfl rfl
theorem dX3_staleCount_0 : decode cX3_staleCount 0 = .ok (.iconst 0, 1) := dk_3 (dk_at dksX3_staleCount_0 0 rfl rfl)
theorem dX3_staleCount_1 : decode cX3_staleCount 1 = .ok (.istore_n 1, 1) := dk_60 (dk_at dksX3_staleCount_0 1 rfl rfl)
theorem dX3_staleCount_2 : decode cX3_staleCount 2 = .ok (.iconst 0, 1) := dk_3 (dk_at dksX3_staleCount_0 2 rfl rfl)
theorem dX3_staleCount_3 : decode cX3_staleCount 3 = .ok (.istore_n 2, 1) := dk_61 (dk_at dksX3_staleCount_0 3 rfl rfl)
theorem dX3_staleCount_4 : decode cX3_staleCount 4 = .ok (.iload_n 2, 1) := dk_28 (dk_at dksX3_staleCount_0 4 rfl rfl)
theorem dX3_staleCount_5 : decode cX3_staleCount 5 = .ok (.aload_n 0, 1) := dk_42 (dk_at dksX3_staleCount_0 5 rfl rfl)
theorem dX3_staleCount_6 : decode cX3_staleCount 6 = .ok (.getfield 7, 3) := dk_180 0 7 (dk_at dksX3_staleCount_0 6 rfl rfl)
theorem dX3_staleCount_9 : decode cX3_staleCount 9 = .ok (.iconst 3, 1) := dk_6 (dk_at dksX3_staleCount_0 9 rfl rfl)
theorem dX3_staleCount_10 : decode cX3_staleCount 10 = .ok (.iaload, 1) := dk_46 (dk_at dksX3_staleCount_0 10 rfl rfl)
theorem dX3_staleCount_11 : decode cX3_staleCount 11 = .ok (.if_icmp .ge 44, 3) := dk_162 0 44 (dk_at dksX3_staleCount_0 11 rfl rfl)
theorem dX3_staleCount_14 : decode cX3_staleCount 14 = .ok (.iconst 0, 1) := dk_3 (dk_at dksX3_staleCount_0 14 rfl rfl)
theorem dX3_staleCount_15 : decode cX3_staleCount 15 = .ok (.istore_n 3, 1) := dk_62 (dk_at dksX3_staleCount_0 15 rfl rfl)
theorem dX3_staleCount_16 : decode cX3_staleCount 16 = .ok (.iload_n 3, 1) := dk_29 (dk_at dksX3_staleCount_0 16 rfl rfl)
theorem dX3_staleCount_17 : decode cX3_staleCount 17 = .ok (.aload_n 0, 1) := dk_42 (dk_at dksX3_staleCount_0 17 rfl rfl)
theorem dX3_staleCount_18 : decode cX3_staleCount 18 = .ok (.getfield 7, 3) := dk_180 0 7 (dk_at dksX3_staleCount_0 18 rfl rfl)
theorem dX3_staleCount_21 : decode cX3_staleCount 21 = .ok (.iconst 0, 1) := dk_3 (dk_at dksX3_staleCount_0 21 rfl rfl)
theorem dX3_staleCount_22 : decode cX3_staleCount 22 = .ok (.iaload, 1) := dk_46 (dk_at dksX3_staleCount_0 22 rfl rfl)
theorem dX3_staleCount_23 : decode cX3_staleCount 23 = .ok (.if_icmp .gt 26, 3) := dk_163 0 26 (dk_at dksX3_staleCount_1 0 rfl rfl)
theorem dX3_staleCount_26 : decode cX3_staleCount 26 = .ok (.iload_n 1, 1) := dk_27 (dk_at dksX3_staleCount_1 3 rfl rfl)
theorem dX3_staleCount_27 : decode cX3_staleCount 27 = .ok (.aload_n 0, 1) := dk_42 (dk_at dksX3_staleCount_1 4 rfl rfl)
theorem dX3_staleCount_28 : decode cX3_staleCount 28 = .ok (.iload_n 2, 1) := dk_28 (dk_at dksX3_staleCount_1 5 rfl rfl)
theorem dX3_staleCount_29 : decode cX3_staleCount 29 = .ok (.iload_n 3, 1) := dk_29 (dk_at dksX3_staleCount_1 6 rfl rfl)
theorem dX3_staleCount_30 : decode cX3_staleCount 30 = .ok (.invokevirtual 138, 3) := dk_182 0 138 (dk_at dksX3_staleCount_1 7 rfl rfl)
theorem dX3_staleCount_33 : decode cX3_staleCount 33 = .ok (.ifCond .eq 7, 3) := dk_153 0 7 (dk_at dksX3_staleCount_1 10 rfl rfl)
theorem dX3_staleCount_36 : decode cX3_staleCount 36 = .ok (.iconst 1, 1) := dk_4 (dk_at dksX3_staleCount_1 13 rfl rfl)
theorem dX3_staleCount_37 : decode cX3_staleCount 37 = .ok (.goto 4, 3) := dk_167 0 4 (dk_at dksX3_staleCount_1 14 rfl rfl)
theorem dX3_staleCount_40 : decode cX3_staleCount 40 = .ok (.iconst 0, 1) := dk_3 (dk_at dksX3_staleCount_1 17 rfl rfl)
theorem dX3_staleCount_41 : decode cX3_staleCount 41 = .ok (.iadd, 1) := dk_96 (dk_at dksX3_staleCount_1 18 rfl rfl)
theorem dX3_staleCount_42 : decode cX3_staleCount 42 = .ok (.istore_n 1, 1) := dk_60 (dk_at dksX3_staleCount_1 19 rfl rfl)
theorem dX3_staleCount_43 : decode cX3_staleCount 43 = .ok (.iinc 3 1, 3) := dk_132 3 1 (dk_at dksX3_staleCount_1 20 rfl rfl)
theorem dX3_staleCount_46 : decode cX3_staleCount 46 = .ok (.goto (-30), 3) := dk_167 255 226 (dk_at dksX3_staleCount_2 0 rfl rfl)
theorem dX3_staleCount_49 : decode cX3_staleCount 49 = .ok (.iinc 2 1, 3) := dk_132 2 1 (dk_at dksX3_staleCount_2 3 rfl rfl)
theorem dX3_staleCount_52 : decode cX3_staleCount 52 = .ok (.goto (-48), 3) := dk_167 255 208 (dk_at dksX3_staleCount_2 6 rfl rfl)
theorem dX3_staleCount_55 : decode cX3_staleCount 55 = .ok (.iload_n 1, 1) := dk_27 (dk_at dksX3_staleCount_2 9 rfl rfl)
theorem dX3_staleCount_56 : decode cX3_staleCount 56 = .ok (.ireturn, 1) := dk_172 (dk_at dksX3_staleCount_2 10 rfl rfl)
abbrev cX3_wrong : ByteArray := prog_25_method_73_code
def yX3_wrong : MethodName := ⟨RX3, "wrong", "()I"⟩
def dkwX3_wrong_4 : List UInt8 := [132, 2, 1, 167, 255, 174, 27, 172]
abbrev dktX3_wrong_4 : List UInt8 := dkwX3_wrong_4 ++ []
def dkwX3_wrong_3 : List UInt8 := [153, 0, 7, 4, 167, 0, 4, 3, 96, 60, 132, 4, 1, 167, 255, 211, 132, 3, 1, 167, 255, 192]
abbrev dktX3_wrong_3 : List UInt8 := dkwX3_wrong_3 ++ dktX3_wrong_4
def dkwX3_wrong_2 : List UInt8 := [180, 0, 25, 28, 29, 21, 4, 184, 0, 131, 47, 42, 180, 0, 38, 28, 29, 21, 4, 184, 0, 131, 47, 148]
abbrev dktX3_wrong_2 : List UInt8 := dkwX3_wrong_2 ++ dktX3_wrong_3
def dkwX3_wrong_1 : List UInt8 := [62, 29, 42, 180, 0, 7, 3, 46, 163, 0, 60, 3, 54, 4, 21, 4, 8, 162, 0, 45, 27, 42]
abbrev dktX3_wrong_1 : List UInt8 := dkwX3_wrong_1 ++ dktX3_wrong_2
def dkwX3_wrong_0 : List UInt8 := [42, 3, 181, 0, 47, 42, 182, 0, 248, 3, 60, 3, 61, 28, 42, 180, 0, 7, 6, 46, 162, 0, 78, 3]
abbrev dktX3_wrong_0 : List UInt8 := dkwX3_wrong_0 ++ dktX3_wrong_1
theorem dksX3_wrong_0 : cX3_wrong.data.toList.drop 0 = dktX3_wrong_0 := by decide +kernel
theorem dksX3_wrong_1 : cX3_wrong.data.toList.drop 24 = dktX3_wrong_1 := dk_seg dksX3_wrong_0 24 rfl rfl
theorem dksX3_wrong_2 : cX3_wrong.data.toList.drop 46 = dktX3_wrong_2 := dk_seg dksX3_wrong_1 22 rfl rfl
theorem dksX3_wrong_3 : cX3_wrong.data.toList.drop 70 = dktX3_wrong_3 := dk_seg dksX3_wrong_2 24 rfl rfl
theorem dksX3_wrong_4 : cX3_wrong.data.toList.drop 92 = dktX3_wrong_4 := dk_seg dksX3_wrong_3 22 rfl rfl
theorem dX3_wrong_0 : decode cX3_wrong 0 = .ok (.aload_n 0, 1) := dk_42 (dk_at dksX3_wrong_0 0 rfl rfl)
theorem dX3_wrong_1 : decode cX3_wrong 1 = .ok (.iconst 0, 1) := dk_3 (dk_at dksX3_wrong_0 1 rfl rfl)
theorem dX3_wrong_2 : decode cX3_wrong 2 = .ok (.putfield 47, 3) := dk_181 0 47 (dk_at dksX3_wrong_0 2 rfl rfl)
theorem dX3_wrong_5 : decode cX3_wrong 5 = .ok (.aload_n 0, 1) := dk_42 (dk_at dksX3_wrong_0 5 rfl rfl)
theorem dX3_wrong_6 : decode cX3_wrong 6 = .ok (.invokevirtual 248, 3) := dk_182 0 248 (dk_at dksX3_wrong_0 6 rfl rfl)
theorem dX3_wrong_9 : decode cX3_wrong 9 = .ok (.iconst 0, 1) := dk_3 (dk_at dksX3_wrong_0 9 rfl rfl)
theorem dX3_wrong_10 : decode cX3_wrong 10 = .ok (.istore_n 1, 1) := dk_60 (dk_at dksX3_wrong_0 10 rfl rfl)
theorem dX3_wrong_11 : decode cX3_wrong 11 = .ok (.iconst 0, 1) := dk_3 (dk_at dksX3_wrong_0 11 rfl rfl)
theorem dX3_wrong_12 : decode cX3_wrong 12 = .ok (.istore_n 2, 1) := dk_61 (dk_at dksX3_wrong_0 12 rfl rfl)
theorem dX3_wrong_13 : decode cX3_wrong 13 = .ok (.iload_n 2, 1) := dk_28 (dk_at dksX3_wrong_0 13 rfl rfl)
theorem dX3_wrong_14 : decode cX3_wrong 14 = .ok (.aload_n 0, 1) := dk_42 (dk_at dksX3_wrong_0 14 rfl rfl)
theorem dX3_wrong_15 : decode cX3_wrong 15 = .ok (.getfield 7, 3) := dk_180 0 7 (dk_at dksX3_wrong_0 15 rfl rfl)
theorem dX3_wrong_18 : decode cX3_wrong 18 = .ok (.iconst 3, 1) := dk_6 (dk_at dksX3_wrong_0 18 rfl rfl)
theorem dX3_wrong_19 : decode cX3_wrong 19 = .ok (.iaload, 1) := dk_46 (dk_at dksX3_wrong_0 19 rfl rfl)
theorem dX3_wrong_20 : decode cX3_wrong 20 = .ok (.if_icmp .ge 78, 3) := dk_162 0 78 (dk_at dksX3_wrong_0 20 rfl rfl)
theorem dX3_wrong_23 : decode cX3_wrong 23 = .ok (.iconst 0, 1) := dk_3 (dk_at dksX3_wrong_0 23 rfl rfl)
theorem dX3_wrong_24 : decode cX3_wrong 24 = .ok (.istore_n 3, 1) := dk_62 (dk_at dksX3_wrong_1 0 rfl rfl)
theorem dX3_wrong_25 : decode cX3_wrong 25 = .ok (.iload_n 3, 1) := dk_29 (dk_at dksX3_wrong_1 1 rfl rfl)
theorem dX3_wrong_26 : decode cX3_wrong 26 = .ok (.aload_n 0, 1) := dk_42 (dk_at dksX3_wrong_1 2 rfl rfl)
theorem dX3_wrong_27 : decode cX3_wrong 27 = .ok (.getfield 7, 3) := dk_180 0 7 (dk_at dksX3_wrong_1 3 rfl rfl)
theorem dX3_wrong_30 : decode cX3_wrong 30 = .ok (.iconst 0, 1) := dk_3 (dk_at dksX3_wrong_1 6 rfl rfl)
theorem dX3_wrong_31 : decode cX3_wrong 31 = .ok (.iaload, 1) := dk_46 (dk_at dksX3_wrong_1 7 rfl rfl)
theorem dX3_wrong_32 : decode cX3_wrong 32 = .ok (.if_icmp .gt 60, 3) := dk_163 0 60 (dk_at dksX3_wrong_1 8 rfl rfl)
theorem dX3_wrong_35 : decode cX3_wrong 35 = .ok (.iconst 0, 1) := dk_3 (dk_at dksX3_wrong_1 11 rfl rfl)
theorem dX3_wrong_36 : decode cX3_wrong 36 = .ok (.istore 4, 2) := dk_54 4 (dk_at dksX3_wrong_1 12 rfl rfl)
theorem dX3_wrong_38 : decode cX3_wrong 38 = .ok (.iload 4, 2) := dk_21 4 (dk_at dksX3_wrong_1 14 rfl rfl)
theorem dX3_wrong_40 : decode cX3_wrong 40 = .ok (.iconst 5, 1) := dk_8 (dk_at dksX3_wrong_1 16 rfl rfl)
theorem dX3_wrong_41 : decode cX3_wrong 41 = .ok (.if_icmp .ge 45, 3) := dk_162 0 45 (dk_at dksX3_wrong_1 17 rfl rfl)
theorem dX3_wrong_44 : decode cX3_wrong 44 = .ok (.iload_n 1, 1) := dk_27 (dk_at dksX3_wrong_1 20 rfl rfl)
theorem dX3_wrong_45 : decode cX3_wrong 45 = .ok (.aload_n 0, 1) := dk_42 (dk_at dksX3_wrong_1 21 rfl rfl)
theorem dX3_wrong_46 : decode cX3_wrong 46 = .ok (.getfield 25, 3) := dk_180 0 25 (dk_at dksX3_wrong_2 0 rfl rfl)
theorem dX3_wrong_49 : decode cX3_wrong 49 = .ok (.iload_n 2, 1) := dk_28 (dk_at dksX3_wrong_2 3 rfl rfl)
theorem dX3_wrong_50 : decode cX3_wrong 50 = .ok (.iload_n 3, 1) := dk_29 (dk_at dksX3_wrong_2 4 rfl rfl)
theorem dX3_wrong_51 : decode cX3_wrong 51 = .ok (.iload 4, 2) := dk_21 4 (dk_at dksX3_wrong_2 5 rfl rfl)
theorem dX3_wrong_53 : decode cX3_wrong 53 = .ok (.invokestatic 131, 3) := dk_184 0 131 (dk_at dksX3_wrong_2 7 rfl rfl)
theorem dX3_wrong_56 : decode cX3_wrong 56 = .ok (.laload, 1) := dk_47 (dk_at dksX3_wrong_2 10 rfl rfl)
theorem dX3_wrong_57 : decode cX3_wrong 57 = .ok (.aload_n 0, 1) := dk_42 (dk_at dksX3_wrong_2 11 rfl rfl)
theorem dX3_wrong_58 : decode cX3_wrong 58 = .ok (.getfield 38, 3) := dk_180 0 38 (dk_at dksX3_wrong_2 12 rfl rfl)
theorem dX3_wrong_61 : decode cX3_wrong 61 = .ok (.iload_n 2, 1) := dk_28 (dk_at dksX3_wrong_2 15 rfl rfl)
theorem dX3_wrong_62 : decode cX3_wrong 62 = .ok (.iload_n 3, 1) := dk_29 (dk_at dksX3_wrong_2 16 rfl rfl)
theorem dX3_wrong_63 : decode cX3_wrong 63 = .ok (.iload 4, 2) := dk_21 4 (dk_at dksX3_wrong_2 17 rfl rfl)
theorem dX3_wrong_65 : decode cX3_wrong 65 = .ok (.invokestatic 131, 3) := dk_184 0 131 (dk_at dksX3_wrong_2 19 rfl rfl)
theorem dX3_wrong_68 : decode cX3_wrong 68 = .ok (.laload, 1) := dk_47 (dk_at dksX3_wrong_2 22 rfl rfl)
theorem dX3_wrong_69 : decode cX3_wrong 69 = .ok (.lcmp, 1) := dk_148 (dk_at dksX3_wrong_2 23 rfl rfl)
theorem dX3_wrong_70 : decode cX3_wrong 70 = .ok (.ifCond .eq 7, 3) := dk_153 0 7 (dk_at dksX3_wrong_3 0 rfl rfl)
theorem dX3_wrong_73 : decode cX3_wrong 73 = .ok (.iconst 1, 1) := dk_4 (dk_at dksX3_wrong_3 3 rfl rfl)
theorem dX3_wrong_74 : decode cX3_wrong 74 = .ok (.goto 4, 3) := dk_167 0 4 (dk_at dksX3_wrong_3 4 rfl rfl)
theorem dX3_wrong_77 : decode cX3_wrong 77 = .ok (.iconst 0, 1) := dk_3 (dk_at dksX3_wrong_3 7 rfl rfl)
theorem dX3_wrong_78 : decode cX3_wrong 78 = .ok (.iadd, 1) := dk_96 (dk_at dksX3_wrong_3 8 rfl rfl)
theorem dX3_wrong_79 : decode cX3_wrong 79 = .ok (.istore_n 1, 1) := dk_60 (dk_at dksX3_wrong_3 9 rfl rfl)
theorem dX3_wrong_80 : decode cX3_wrong 80 = .ok (.iinc 4 1, 3) := dk_132 4 1 (dk_at dksX3_wrong_3 10 rfl rfl)
theorem dX3_wrong_83 : decode cX3_wrong 83 = .ok (.goto (-45), 3) := dk_167 255 211 (dk_at dksX3_wrong_3 13 rfl rfl)
theorem dX3_wrong_86 : decode cX3_wrong 86 = .ok (.iinc 3 1, 3) := dk_132 3 1 (dk_at dksX3_wrong_3 16 rfl rfl)
theorem dX3_wrong_89 : decode cX3_wrong 89 = .ok (.goto (-64), 3) := dk_167 255 192 (dk_at dksX3_wrong_3 19 rfl rfl)
theorem dX3_wrong_92 : decode cX3_wrong 92 = .ok (.iinc 2 1, 3) := dk_132 2 1 (dk_at dksX3_wrong_4 0 rfl rfl)
theorem dX3_wrong_95 : decode cX3_wrong 95 = .ok (.goto (-82), 3) := dk_167 255 174 (dk_at dksX3_wrong_4 3 rfl rfl)
theorem dX3_wrong_98 : decode cX3_wrong 98 = .ok (.iload_n 1, 1) := dk_27 (dk_at dksX3_wrong_4 6 rfl rfl)
theorem dX3_wrong_99 : decode cX3_wrong 99 = .ok (.ireturn, 1) := dk_172 (dk_at dksX3_wrong_4 7 rfl rfl)
abbrev cX3_rowsBehind : ByteArray := prog_25_method_77_code
def yX3_rowsBehind : MethodName := ⟨RX3, "rowsBehind", "(IIC)I"⟩
def dkwX3_rowsBehind_0 : List UInt8 := [42, 27, 28, 29, 182, 1, 4, 172]
abbrev dktX3_rowsBehind_0 : List UInt8 := dkwX3_rowsBehind_0 ++ []
theorem dksX3_rowsBehind_0 : cX3_rowsBehind.data.toList.drop 0 = dktX3_rowsBehind_0 := by decide +kernel
theorem dX3_rowsBehind_0 : decode cX3_rowsBehind 0 = .ok (.aload_n 0, 1) := dk_42 (dk_at dksX3_rowsBehind_0 0 rfl rfl)
theorem dX3_rowsBehind_1 : decode cX3_rowsBehind 1 = .ok (.iload_n 1, 1) := dk_27 (dk_at dksX3_rowsBehind_0 1 rfl rfl)
theorem dX3_rowsBehind_2 : decode cX3_rowsBehind 2 = .ok (.iload_n 2, 1) := dk_28 (dk_at dksX3_rowsBehind_0 2 rfl rfl)
theorem dX3_rowsBehind_3 : decode cX3_rowsBehind 3 = .ok (.iload_n 3, 1) := dk_29 (dk_at dksX3_rowsBehind_0 3 rfl rfl)
theorem dX3_rowsBehind_4 : decode cX3_rowsBehind 4 = .ok (.invokevirtual 260, 3) := dk_182 1 4 (dk_at dksX3_rowsBehind_0 4 rfl rfl)
theorem dX3_rowsBehind_7 : decode cX3_rowsBehind 7 = .ok (.ireturn, 1) := dk_172 (dk_at dksX3_rowsBehind_0 7 rfl rfl)
abbrev cX3_count : ByteArray := prog_25_method_76_code
def yX3_count : MethodName := ⟨RX3, "count", "(III)I"⟩
def dkwX3_count_3 : List UInt8 := [3, 96, 54, 4, 132, 5, 1, 167, 255, 211, 21, 4, 172]
abbrev dktX3_count_3 : List UInt8 := dkwX3_count_3 ++ []
def dkwX3_count_2 : List UInt8 := [180, 0, 41, 16, 7, 27, 104, 28, 96, 47, 21, 5, 123, 10, 127, 10, 148, 154, 0, 7, 4, 167, 0, 4]
abbrev dktX3_count_2 : List UInt8 := dkwX3_count_2 ++ dktX3_count_3
def dkwX3_count_1 : List UInt8 := [100, 182, 1, 1, 3, 54, 4, 3, 54, 5, 21, 5, 42, 180, 0, 7, 4, 46, 162, 0, 40, 21, 4, 42]
abbrev dktX3_count_1 : List UInt8 := dkwX3_count_1 ++ dktX3_count_2
def dkwX3_count_0 : List UInt8 := [42, 42, 27, 28, 29, 182, 0, 245, 181, 0, 47, 42, 180, 0, 47, 158, 0, 5, 3, 172, 42, 29, 16, 97]
abbrev dktX3_count_0 : List UInt8 := dkwX3_count_0 ++ dktX3_count_1
theorem dksX3_count_0 : cX3_count.data.toList.drop 0 = dktX3_count_0 := by decide +kernel
theorem dksX3_count_1 : cX3_count.data.toList.drop 24 = dktX3_count_1 := dk_seg dksX3_count_0 24 rfl rfl
theorem dksX3_count_2 : cX3_count.data.toList.drop 48 = dktX3_count_2 := dk_seg dksX3_count_1 24 rfl rfl
theorem dksX3_count_3 : cX3_count.data.toList.drop 72 = dktX3_count_3 := dk_seg dksX3_count_2 24 rfl rfl
theorem dX3_count_0 : decode cX3_count 0 = .ok (.aload_n 0, 1) := dk_42 (dk_at dksX3_count_0 0 rfl rfl)
theorem dX3_count_1 : decode cX3_count 1 = .ok (.aload_n 0, 1) := dk_42 (dk_at dksX3_count_0 1 rfl rfl)
theorem dX3_count_2 : decode cX3_count 2 = .ok (.iload_n 1, 1) := dk_27 (dk_at dksX3_count_0 2 rfl rfl)
theorem dX3_count_3 : decode cX3_count 3 = .ok (.iload_n 2, 1) := dk_28 (dk_at dksX3_count_0 3 rfl rfl)
theorem dX3_count_4 : decode cX3_count 4 = .ok (.iload_n 3, 1) := dk_29 (dk_at dksX3_count_0 4 rfl rfl)
theorem dX3_count_5 : decode cX3_count 5 = .ok (.invokevirtual 245, 3) := dk_182 0 245 (dk_at dksX3_count_0 5 rfl rfl)
theorem dX3_count_8 : decode cX3_count 8 = .ok (.putfield 47, 3) := dk_181 0 47 (dk_at dksX3_count_0 8 rfl rfl)
theorem dX3_count_11 : decode cX3_count 11 = .ok (.aload_n 0, 1) := dk_42 (dk_at dksX3_count_0 11 rfl rfl)
theorem dX3_count_12 : decode cX3_count 12 = .ok (.getfield 47, 3) := dk_180 0 47 (dk_at dksX3_count_0 12 rfl rfl)
theorem dX3_count_15 : decode cX3_count 15 = .ok (.ifCond .le 5, 3) := dk_158 0 5 (dk_at dksX3_count_0 15 rfl rfl)
theorem dX3_count_18 : decode cX3_count 18 = .ok (.iconst 0, 1) := dk_3 (dk_at dksX3_count_0 18 rfl rfl)
theorem dX3_count_19 : decode cX3_count 19 = .ok (.ireturn, 1) := dk_172 (dk_at dksX3_count_0 19 rfl rfl)
theorem dX3_count_20 : decode cX3_count 20 = .ok (.aload_n 0, 1) := dk_42 (dk_at dksX3_count_0 20 rfl rfl)
theorem dX3_count_21 : decode cX3_count 21 = .ok (.iload_n 3, 1) := dk_29 (dk_at dksX3_count_0 21 rfl rfl)
theorem dX3_count_22 : decode cX3_count 22 = .ok (.bipush 97, 2) := dk_16 97 (dk_at dksX3_count_0 22 rfl rfl)
theorem dX3_count_24 : decode cX3_count 24 = .ok (.isub, 1) := dk_100 (dk_at dksX3_count_1 0 rfl rfl)
theorem dX3_count_25 : decode cX3_count 25 = .ok (.invokevirtual 257, 3) := dk_182 1 1 (dk_at dksX3_count_1 1 rfl rfl)
theorem dX3_count_28 : decode cX3_count 28 = .ok (.iconst 0, 1) := dk_3 (dk_at dksX3_count_1 4 rfl rfl)
theorem dX3_count_29 : decode cX3_count 29 = .ok (.istore 4, 2) := dk_54 4 (dk_at dksX3_count_1 5 rfl rfl)
theorem dX3_count_31 : decode cX3_count 31 = .ok (.iconst 0, 1) := dk_3 (dk_at dksX3_count_1 7 rfl rfl)
theorem dX3_count_32 : decode cX3_count 32 = .ok (.istore 5, 2) := dk_54 5 (dk_at dksX3_count_1 8 rfl rfl)
theorem dX3_count_34 : decode cX3_count 34 = .ok (.iload 5, 2) := dk_21 5 (dk_at dksX3_count_1 10 rfl rfl)
theorem dX3_count_36 : decode cX3_count 36 = .ok (.aload_n 0, 1) := dk_42 (dk_at dksX3_count_1 12 rfl rfl)
theorem dX3_count_37 : decode cX3_count 37 = .ok (.getfield 7, 3) := dk_180 0 7 (dk_at dksX3_count_1 13 rfl rfl)
theorem dX3_count_40 : decode cX3_count 40 = .ok (.iconst 1, 1) := dk_4 (dk_at dksX3_count_1 16 rfl rfl)
theorem dX3_count_41 : decode cX3_count 41 = .ok (.iaload, 1) := dk_46 (dk_at dksX3_count_1 17 rfl rfl)
theorem dX3_count_42 : decode cX3_count 42 = .ok (.if_icmp .ge 40, 3) := dk_162 0 40 (dk_at dksX3_count_1 18 rfl rfl)
theorem dX3_count_45 : decode cX3_count 45 = .ok (.iload 4, 2) := dk_21 4 (dk_at dksX3_count_1 21 rfl rfl)
theorem dX3_count_47 : decode cX3_count 47 = .ok (.aload_n 0, 1) := dk_42 (dk_at dksX3_count_1 23 rfl rfl)
theorem dX3_count_48 : decode cX3_count 48 = .ok (.getfield 41, 3) := dk_180 0 41 (dk_at dksX3_count_2 0 rfl rfl)
theorem dX3_count_51 : decode cX3_count 51 = .ok (.bipush 7, 2) := dk_16 7 (dk_at dksX3_count_2 3 rfl rfl)
theorem dX3_count_53 : decode cX3_count 53 = .ok (.iload_n 1, 1) := dk_27 (dk_at dksX3_count_2 5 rfl rfl)
theorem dX3_count_54 : decode cX3_count 54 = .ok (.imul, 1) := dk_104 (dk_at dksX3_count_2 6 rfl rfl)
theorem dX3_count_55 : decode cX3_count 55 = .ok (.iload_n 2, 1) := dk_28 (dk_at dksX3_count_2 7 rfl rfl)
theorem dX3_count_56 : decode cX3_count 56 = .ok (.iadd, 1) := dk_96 (dk_at dksX3_count_2 8 rfl rfl)
theorem dX3_count_57 : decode cX3_count 57 = .ok (.laload, 1) := dk_47 (dk_at dksX3_count_2 9 rfl rfl)
theorem dX3_count_58 : decode cX3_count 58 = .ok (.iload 5, 2) := dk_21 5 (dk_at dksX3_count_2 10 rfl rfl)
theorem dX3_count_60 : decode cX3_count 60 = .ok (.lshr, 1) := dk_123 (dk_at dksX3_count_2 12 rfl rfl)
theorem dX3_count_61 : decode cX3_count 61 = .ok (.lconst 1, 1) := dk_10 (dk_at dksX3_count_2 13 rfl rfl)
theorem dX3_count_62 : decode cX3_count 62 = .ok (.land, 1) := dk_127 (dk_at dksX3_count_2 14 rfl rfl)
theorem dX3_count_63 : decode cX3_count 63 = .ok (.lconst 1, 1) := dk_10 (dk_at dksX3_count_2 15 rfl rfl)
theorem dX3_count_64 : decode cX3_count 64 = .ok (.lcmp, 1) := dk_148 (dk_at dksX3_count_2 16 rfl rfl)
theorem dX3_count_65 : decode cX3_count 65 = .ok (.ifCond .ne 7, 3) := dk_154 0 7 (dk_at dksX3_count_2 17 rfl rfl)
theorem dX3_count_68 : decode cX3_count 68 = .ok (.iconst 1, 1) := dk_4 (dk_at dksX3_count_2 20 rfl rfl)
theorem dX3_count_69 : decode cX3_count 69 = .ok (.goto 4, 3) := dk_167 0 4 (dk_at dksX3_count_2 21 rfl rfl)
theorem dX3_count_72 : decode cX3_count 72 = .ok (.iconst 0, 1) := dk_3 (dk_at dksX3_count_3 0 rfl rfl)
theorem dX3_count_73 : decode cX3_count 73 = .ok (.iadd, 1) := dk_96 (dk_at dksX3_count_3 1 rfl rfl)
theorem dX3_count_74 : decode cX3_count 74 = .ok (.istore 4, 2) := dk_54 4 (dk_at dksX3_count_3 2 rfl rfl)
theorem dX3_count_76 : decode cX3_count 76 = .ok (.iinc 5 1, 3) := dk_132 5 1 (dk_at dksX3_count_3 4 rfl rfl)
theorem dX3_count_79 : decode cX3_count 79 = .ok (.goto (-45), 3) := dk_167 255 211 (dk_at dksX3_count_3 7 rfl rfl)
theorem dX3_count_82 : decode cX3_count 82 = .ok (.iload 4, 2) := dk_21 4 (dk_at dksX3_count_3 10 rfl rfl)
theorem dX3_count_84 : decode cX3_count 84 = .ok (.ireturn, 1) := dk_172 (dk_at dksX3_count_3 12 rfl rfl)
abbrev cX3_layBehind : ByteArray := prog_25_method_75_code
def yX3_layBehind : MethodName := ⟨RX3, "layBehind", "(I)V"⟩
def dkwX3_layBehind_6 : List UInt8 := [132, 3, 1, 167, 255, 124, 132, 2, 1, 167, 255, 106, 177]
abbrev dktX3_layBehind_6 : List UInt8 := dkwX3_layBehind_6 ++ []
def dkwX3_layBehind_5 : List UInt8 := [180, 0, 41, 16, 7, 42, 28, 5, 182, 0, 116, 104, 21, 5, 96, 47, 129, 80, 132, 5, 1, 167, 255, 209]
abbrev dktX3_layBehind_5 : List UInt8 := dkwX3_layBehind_5 ++ dktX3_layBehind_6
def dkwX3_layBehind_4 : List UInt8 := [162, 0, 47, 42, 28, 3, 182, 0, 116, 16, 114, 160, 0, 36, 42, 180, 0, 41, 21, 4, 92, 47, 42]
abbrev dktX3_layBehind_4 : List UInt8 := dkwX3_layBehind_4 ++ dktX3_layBehind_5
def dkwX3_layBehind_3 : List UInt8 := [42, 180, 0, 41, 16, 7, 42, 28, 6, 182, 0, 116, 104, 29, 96, 47, 129, 80, 3, 54, 5, 21, 5, 29]
abbrev dktX3_layBehind_3 : List UInt8 := dkwX3_layBehind_3 ++ dktX3_layBehind_4
def dkwX3_layBehind_2 : List UInt8 := [29, 27, 182, 0, 254, 167, 0, 36, 42, 180, 0, 41, 16, 7, 42, 28, 5, 182, 0, 116, 104, 29, 96, 47]
abbrev dktX3_layBehind_2 : List UInt8 := dkwX3_layBehind_2 ++ dktX3_layBehind_3
def dkwX3_layBehind_1 : List UInt8 := [16, 7, 28, 104, 29, 96, 54, 4, 42, 180, 0, 41, 21, 4, 42, 28, 182, 0, 123, 153, 0, 13, 42, 28]
abbrev dktX3_layBehind_1 : List UInt8 := dkwX3_layBehind_1 ++ dktX3_layBehind_2
def dkwX3_layBehind_0 : List UInt8 := [3, 61, 28, 42, 180, 0, 7, 6, 46, 162, 0, 146, 3, 62, 29, 42, 180, 0, 7, 3, 46, 163, 0, 128]
abbrev dktX3_layBehind_0 : List UInt8 := dkwX3_layBehind_0 ++ dktX3_layBehind_1
theorem dksX3_layBehind_0 : cX3_layBehind.data.toList.drop 0 = dktX3_layBehind_0 := by decide +kernel
theorem dksX3_layBehind_1 : cX3_layBehind.data.toList.drop 24 = dktX3_layBehind_1 := dk_seg dksX3_layBehind_0 24 rfl rfl
theorem dksX3_layBehind_2 : cX3_layBehind.data.toList.drop 48 = dktX3_layBehind_2 := dk_seg dksX3_layBehind_1 24 rfl rfl
theorem dksX3_layBehind_3 : cX3_layBehind.data.toList.drop 72 = dktX3_layBehind_3 := dk_seg dksX3_layBehind_2 24 rfl rfl
theorem dksX3_layBehind_4 : cX3_layBehind.data.toList.drop 96 = dktX3_layBehind_4 := dk_seg dksX3_layBehind_3 24 rfl rfl
theorem dksX3_layBehind_5 : cX3_layBehind.data.toList.drop 119 = dktX3_layBehind_5 := dk_seg dksX3_layBehind_4 23 rfl rfl
theorem dksX3_layBehind_6 : cX3_layBehind.data.toList.drop 143 = dktX3_layBehind_6 := dk_seg dksX3_layBehind_5 24 rfl rfl
theorem dX3_layBehind_0 : decode cX3_layBehind 0 = .ok (.iconst 0, 1) := dk_3 (dk_at dksX3_layBehind_0 0 rfl rfl)
theorem dX3_layBehind_1 : decode cX3_layBehind 1 = .ok (.istore_n 2, 1) := dk_61 (dk_at dksX3_layBehind_0 1 rfl rfl)
theorem dX3_layBehind_2 : decode cX3_layBehind 2 = .ok (.iload_n 2, 1) := dk_28 (dk_at dksX3_layBehind_0 2 rfl rfl)
theorem dX3_layBehind_3 : decode cX3_layBehind 3 = .ok (.aload_n 0, 1) := dk_42 (dk_at dksX3_layBehind_0 3 rfl rfl)
theorem dX3_layBehind_4 : decode cX3_layBehind 4 = .ok (.getfield 7, 3) := dk_180 0 7 (dk_at dksX3_layBehind_0 4 rfl rfl)
theorem dX3_layBehind_7 : decode cX3_layBehind 7 = .ok (.iconst 3, 1) := dk_6 (dk_at dksX3_layBehind_0 7 rfl rfl)
theorem dX3_layBehind_8 : decode cX3_layBehind 8 = .ok (.iaload, 1) := dk_46 (dk_at dksX3_layBehind_0 8 rfl rfl)
theorem dX3_layBehind_9 : decode cX3_layBehind 9 = .ok (.if_icmp .ge 146, 3) := dk_162 0 146 (dk_at dksX3_layBehind_0 9 rfl rfl)
theorem dX3_layBehind_12 : decode cX3_layBehind 12 = .ok (.iconst 0, 1) := dk_3 (dk_at dksX3_layBehind_0 12 rfl rfl)
theorem dX3_layBehind_13 : decode cX3_layBehind 13 = .ok (.istore_n 3, 1) := dk_62 (dk_at dksX3_layBehind_0 13 rfl rfl)
theorem dX3_layBehind_14 : decode cX3_layBehind 14 = .ok (.iload_n 3, 1) := dk_29 (dk_at dksX3_layBehind_0 14 rfl rfl)
theorem dX3_layBehind_15 : decode cX3_layBehind 15 = .ok (.aload_n 0, 1) := dk_42 (dk_at dksX3_layBehind_0 15 rfl rfl)
theorem dX3_layBehind_16 : decode cX3_layBehind 16 = .ok (.getfield 7, 3) := dk_180 0 7 (dk_at dksX3_layBehind_0 16 rfl rfl)
theorem dX3_layBehind_19 : decode cX3_layBehind 19 = .ok (.iconst 0, 1) := dk_3 (dk_at dksX3_layBehind_0 19 rfl rfl)
theorem dX3_layBehind_20 : decode cX3_layBehind 20 = .ok (.iaload, 1) := dk_46 (dk_at dksX3_layBehind_0 20 rfl rfl)
theorem dX3_layBehind_21 : decode cX3_layBehind 21 = .ok (.if_icmp .gt 128, 3) := dk_163 0 128 (dk_at dksX3_layBehind_0 21 rfl rfl)
theorem dX3_layBehind_24 : decode cX3_layBehind 24 = .ok (.bipush 7, 2) := dk_16 7 (dk_at dksX3_layBehind_1 0 rfl rfl)
theorem dX3_layBehind_26 : decode cX3_layBehind 26 = .ok (.iload_n 2, 1) := dk_28 (dk_at dksX3_layBehind_1 2 rfl rfl)
theorem dX3_layBehind_27 : decode cX3_layBehind 27 = .ok (.imul, 1) := dk_104 (dk_at dksX3_layBehind_1 3 rfl rfl)
theorem dX3_layBehind_28 : decode cX3_layBehind 28 = .ok (.iload_n 3, 1) := dk_29 (dk_at dksX3_layBehind_1 4 rfl rfl)
theorem dX3_layBehind_29 : decode cX3_layBehind 29 = .ok (.iadd, 1) := dk_96 (dk_at dksX3_layBehind_1 5 rfl rfl)
theorem dX3_layBehind_30 : decode cX3_layBehind 30 = .ok (.istore 4, 2) := dk_54 4 (dk_at dksX3_layBehind_1 6 rfl rfl)
theorem dX3_layBehind_32 : decode cX3_layBehind 32 = .ok (.aload_n 0, 1) := dk_42 (dk_at dksX3_layBehind_1 8 rfl rfl)
theorem dX3_layBehind_33 : decode cX3_layBehind 33 = .ok (.getfield 41, 3) := dk_180 0 41 (dk_at dksX3_layBehind_1 9 rfl rfl)
theorem dX3_layBehind_36 : decode cX3_layBehind 36 = .ok (.iload 4, 2) := dk_21 4 (dk_at dksX3_layBehind_1 12 rfl rfl)
theorem dX3_layBehind_38 : decode cX3_layBehind 38 = .ok (.aload_n 0, 1) := dk_42 (dk_at dksX3_layBehind_1 14 rfl rfl)
theorem dX3_layBehind_39 : decode cX3_layBehind 39 = .ok (.iload_n 2, 1) := dk_28 (dk_at dksX3_layBehind_1 15 rfl rfl)
theorem dX3_layBehind_40 : decode cX3_layBehind 40 = .ok (.invokevirtual 123, 3) := dk_182 0 123 (dk_at dksX3_layBehind_1 16 rfl rfl)
theorem dX3_layBehind_43 : decode cX3_layBehind 43 = .ok (.ifCond .eq 13, 3) := dk_153 0 13 (dk_at dksX3_layBehind_1 19 rfl rfl)
theorem dX3_layBehind_46 : decode cX3_layBehind 46 = .ok (.aload_n 0, 1) := dk_42 (dk_at dksX3_layBehind_1 22 rfl rfl)
theorem dX3_layBehind_47 : decode cX3_layBehind 47 = .ok (.iload_n 2, 1) := dk_28 (dk_at dksX3_layBehind_1 23 rfl rfl)
theorem dX3_layBehind_48 : decode cX3_layBehind 48 = .ok (.iload_n 3, 1) := dk_29 (dk_at dksX3_layBehind_2 0 rfl rfl)
theorem dX3_layBehind_49 : decode cX3_layBehind 49 = .ok (.iload_n 1, 1) := dk_27 (dk_at dksX3_layBehind_2 1 rfl rfl)
theorem dX3_layBehind_50 : decode cX3_layBehind 50 = .ok (.invokevirtual 254, 3) := dk_182 0 254 (dk_at dksX3_layBehind_2 2 rfl rfl)
theorem dX3_layBehind_53 : decode cX3_layBehind 53 = .ok (.goto 36, 3) := dk_167 0 36 (dk_at dksX3_layBehind_2 5 rfl rfl)
theorem dX3_layBehind_56 : decode cX3_layBehind 56 = .ok (.aload_n 0, 1) := dk_42 (dk_at dksX3_layBehind_2 8 rfl rfl)
theorem dX3_layBehind_57 : decode cX3_layBehind 57 = .ok (.getfield 41, 3) := dk_180 0 41 (dk_at dksX3_layBehind_2 9 rfl rfl)
theorem dX3_layBehind_60 : decode cX3_layBehind 60 = .ok (.bipush 7, 2) := dk_16 7 (dk_at dksX3_layBehind_2 12 rfl rfl)
theorem dX3_layBehind_62 : decode cX3_layBehind 62 = .ok (.aload_n 0, 1) := dk_42 (dk_at dksX3_layBehind_2 14 rfl rfl)
theorem dX3_layBehind_63 : decode cX3_layBehind 63 = .ok (.iload_n 2, 1) := dk_28 (dk_at dksX3_layBehind_2 15 rfl rfl)
theorem dX3_layBehind_64 : decode cX3_layBehind 64 = .ok (.iconst 2, 1) := dk_5 (dk_at dksX3_layBehind_2 16 rfl rfl)
theorem dX3_layBehind_65 : decode cX3_layBehind 65 = .ok (.invokevirtual 116, 3) := dk_182 0 116 (dk_at dksX3_layBehind_2 17 rfl rfl)
theorem dX3_layBehind_68 : decode cX3_layBehind 68 = .ok (.imul, 1) := dk_104 (dk_at dksX3_layBehind_2 20 rfl rfl)
theorem dX3_layBehind_69 : decode cX3_layBehind 69 = .ok (.iload_n 3, 1) := dk_29 (dk_at dksX3_layBehind_2 21 rfl rfl)
theorem dX3_layBehind_70 : decode cX3_layBehind 70 = .ok (.iadd, 1) := dk_96 (dk_at dksX3_layBehind_2 22 rfl rfl)
theorem dX3_layBehind_71 : decode cX3_layBehind 71 = .ok (.laload, 1) := dk_47 (dk_at dksX3_layBehind_2 23 rfl rfl)
theorem dX3_layBehind_72 : decode cX3_layBehind 72 = .ok (.aload_n 0, 1) := dk_42 (dk_at dksX3_layBehind_3 0 rfl rfl)
theorem dX3_layBehind_73 : decode cX3_layBehind 73 = .ok (.getfield 41, 3) := dk_180 0 41 (dk_at dksX3_layBehind_3 1 rfl rfl)
theorem dX3_layBehind_76 : decode cX3_layBehind 76 = .ok (.bipush 7, 2) := dk_16 7 (dk_at dksX3_layBehind_3 4 rfl rfl)
theorem dX3_layBehind_78 : decode cX3_layBehind 78 = .ok (.aload_n 0, 1) := dk_42 (dk_at dksX3_layBehind_3 6 rfl rfl)
theorem dX3_layBehind_79 : decode cX3_layBehind 79 = .ok (.iload_n 2, 1) := dk_28 (dk_at dksX3_layBehind_3 7 rfl rfl)
theorem dX3_layBehind_80 : decode cX3_layBehind 80 = .ok (.iconst 3, 1) := dk_6 (dk_at dksX3_layBehind_3 8 rfl rfl)
theorem dX3_layBehind_81 : decode cX3_layBehind 81 = .ok (.invokevirtual 116, 3) := dk_182 0 116 (dk_at dksX3_layBehind_3 9 rfl rfl)
theorem dX3_layBehind_84 : decode cX3_layBehind 84 = .ok (.imul, 1) := dk_104 (dk_at dksX3_layBehind_3 12 rfl rfl)
theorem dX3_layBehind_85 : decode cX3_layBehind 85 = .ok (.iload_n 3, 1) := dk_29 (dk_at dksX3_layBehind_3 13 rfl rfl)
theorem dX3_layBehind_86 : decode cX3_layBehind 86 = .ok (.iadd, 1) := dk_96 (dk_at dksX3_layBehind_3 14 rfl rfl)
theorem dX3_layBehind_87 : decode cX3_layBehind 87 = .ok (.laload, 1) := dk_47 (dk_at dksX3_layBehind_3 15 rfl rfl)
theorem dX3_layBehind_88 : decode cX3_layBehind 88 = .ok (.lor, 1) := dk_129 (dk_at dksX3_layBehind_3 16 rfl rfl)
theorem dX3_layBehind_89 : decode cX3_layBehind 89 = .ok (.lastore, 1) := dk_80 (dk_at dksX3_layBehind_3 17 rfl rfl)
theorem dX3_layBehind_90 : decode cX3_layBehind 90 = .ok (.iconst 0, 1) := dk_3 (dk_at dksX3_layBehind_3 18 rfl rfl)
theorem dX3_layBehind_91 : decode cX3_layBehind 91 = .ok (.istore 5, 2) := dk_54 5 (dk_at dksX3_layBehind_3 19 rfl rfl)
theorem dX3_layBehind_93 : decode cX3_layBehind 93 = .ok (.iload 5, 2) := dk_21 5 (dk_at dksX3_layBehind_3 21 rfl rfl)
theorem dX3_layBehind_95 : decode cX3_layBehind 95 = .ok (.iload_n 3, 1) := dk_29 (dk_at dksX3_layBehind_3 23 rfl rfl)
theorem dX3_layBehind_96 : decode cX3_layBehind 96 = .ok (.if_icmp .ge 47, 3) := dk_162 0 47 (dk_at dksX3_layBehind_4 0 rfl rfl)
theorem dX3_layBehind_99 : decode cX3_layBehind 99 = .ok (.aload_n 0, 1) := dk_42 (dk_at dksX3_layBehind_4 3 rfl rfl)
theorem dX3_layBehind_100 : decode cX3_layBehind 100 = .ok (.iload_n 2, 1) := dk_28 (dk_at dksX3_layBehind_4 4 rfl rfl)
theorem dX3_layBehind_101 : decode cX3_layBehind 101 = .ok (.iconst 0, 1) := dk_3 (dk_at dksX3_layBehind_4 5 rfl rfl)
theorem dX3_layBehind_102 : decode cX3_layBehind 102 = .ok (.invokevirtual 116, 3) := dk_182 0 116 (dk_at dksX3_layBehind_4 6 rfl rfl)
theorem dX3_layBehind_105 : decode cX3_layBehind 105 = .ok (.bipush 114, 2) := dk_16 114 (dk_at dksX3_layBehind_4 9 rfl rfl)
theorem dX3_layBehind_107 : decode cX3_layBehind 107 = .ok (.if_icmp .ne 36, 3) := dk_160 0 36 (dk_at dksX3_layBehind_4 11 rfl rfl)
theorem dX3_layBehind_110 : decode cX3_layBehind 110 = .ok (.aload_n 0, 1) := dk_42 (dk_at dksX3_layBehind_4 14 rfl rfl)
theorem dX3_layBehind_111 : decode cX3_layBehind 111 = .ok (.getfield 41, 3) := dk_180 0 41 (dk_at dksX3_layBehind_4 15 rfl rfl)
theorem dX3_layBehind_114 : decode cX3_layBehind 114 = .ok (.iload 4, 2) := dk_21 4 (dk_at dksX3_layBehind_4 18 rfl rfl)
theorem dX3_layBehind_116 : decode cX3_layBehind 116 = .ok (.dup2, 1) := dk_92 (dk_at dksX3_layBehind_4 20 rfl rfl)
theorem dX3_layBehind_117 : decode cX3_layBehind 117 = .ok (.laload, 1) := dk_47 (dk_at dksX3_layBehind_4 21 rfl rfl)
theorem dX3_layBehind_118 : decode cX3_layBehind 118 = .ok (.aload_n 0, 1) := dk_42 (dk_at dksX3_layBehind_4 22 rfl rfl)
theorem dX3_layBehind_119 : decode cX3_layBehind 119 = .ok (.getfield 41, 3) := dk_180 0 41 (dk_at dksX3_layBehind_5 0 rfl rfl)
theorem dX3_layBehind_122 : decode cX3_layBehind 122 = .ok (.bipush 7, 2) := dk_16 7 (dk_at dksX3_layBehind_5 3 rfl rfl)
theorem dX3_layBehind_124 : decode cX3_layBehind 124 = .ok (.aload_n 0, 1) := dk_42 (dk_at dksX3_layBehind_5 5 rfl rfl)
theorem dX3_layBehind_125 : decode cX3_layBehind 125 = .ok (.iload_n 2, 1) := dk_28 (dk_at dksX3_layBehind_5 6 rfl rfl)
theorem dX3_layBehind_126 : decode cX3_layBehind 126 = .ok (.iconst 2, 1) := dk_5 (dk_at dksX3_layBehind_5 7 rfl rfl)
theorem dX3_layBehind_127 : decode cX3_layBehind 127 = .ok (.invokevirtual 116, 3) := dk_182 0 116 (dk_at dksX3_layBehind_5 8 rfl rfl)
theorem dX3_layBehind_130 : decode cX3_layBehind 130 = .ok (.imul, 1) := dk_104 (dk_at dksX3_layBehind_5 11 rfl rfl)
theorem dX3_layBehind_131 : decode cX3_layBehind 131 = .ok (.iload 5, 2) := dk_21 5 (dk_at dksX3_layBehind_5 12 rfl rfl)
theorem dX3_layBehind_133 : decode cX3_layBehind 133 = .ok (.iadd, 1) := dk_96 (dk_at dksX3_layBehind_5 14 rfl rfl)
theorem dX3_layBehind_134 : decode cX3_layBehind 134 = .ok (.laload, 1) := dk_47 (dk_at dksX3_layBehind_5 15 rfl rfl)
theorem dX3_layBehind_135 : decode cX3_layBehind 135 = .ok (.lor, 1) := dk_129 (dk_at dksX3_layBehind_5 16 rfl rfl)
theorem dX3_layBehind_136 : decode cX3_layBehind 136 = .ok (.lastore, 1) := dk_80 (dk_at dksX3_layBehind_5 17 rfl rfl)
theorem dX3_layBehind_137 : decode cX3_layBehind 137 = .ok (.iinc 5 1, 3) := dk_132 5 1 (dk_at dksX3_layBehind_5 18 rfl rfl)
theorem dX3_layBehind_140 : decode cX3_layBehind 140 = .ok (.goto (-47), 3) := dk_167 255 209 (dk_at dksX3_layBehind_5 21 rfl rfl)
theorem dX3_layBehind_143 : decode cX3_layBehind 143 = .ok (.iinc 3 1, 3) := dk_132 3 1 (dk_at dksX3_layBehind_6 0 rfl rfl)
theorem dX3_layBehind_146 : decode cX3_layBehind 146 = .ok (.goto (-132), 3) := dk_167 255 124 (dk_at dksX3_layBehind_6 3 rfl rfl)
theorem dX3_layBehind_149 : decode cX3_layBehind 149 = .ok (.iinc 2 1, 3) := dk_132 2 1 (dk_at dksX3_layBehind_6 6 rfl rfl)
theorem dX3_layBehind_152 : decode cX3_layBehind 152 = .ok (.goto (-150), 3) := dk_167 255 106 (dk_at dksX3_layBehind_6 9 rfl rfl)
theorem dX3_layBehind_155 : decode cX3_layBehind 155 = .ok (.return_, 1) := dk_177 (dk_at dksX3_layBehind_6 12 rfl rfl)
abbrev cX3_ownRows : ByteArray := prog_25_method_74_code
def yX3_ownRows : MethodName := ⟨RX3, "ownRows", "(III)J"⟩
def dkwX3_ownRows_2 : List UInt8 := [22, 4, 173]
abbrev dktX3_ownRows_2 : List UInt8 := dkwX3_ownRows_2 ++ []
def dkwX3_ownRows_1 : List UInt8 := [29, 182, 0, 119, 153, 0, 10, 10, 21, 6, 121, 167, 0, 4, 9, 129, 55, 4, 132, 6, 1, 167, 255, 217]
abbrev dktX3_ownRows_1 : List UInt8 := dkwX3_ownRows_1 ++ dktX3_ownRows_2
def dkwX3_ownRows_0 : List UInt8 := [9, 55, 4, 3, 54, 6, 21, 6, 42, 180, 0, 7, 4, 46, 162, 0, 34, 22, 4, 42, 21, 6, 27, 28]
abbrev dktX3_ownRows_0 : List UInt8 := dkwX3_ownRows_0 ++ dktX3_ownRows_1
theorem dksX3_ownRows_0 : cX3_ownRows.data.toList.drop 0 = dktX3_ownRows_0 := by decide +kernel
theorem dksX3_ownRows_1 : cX3_ownRows.data.toList.drop 24 = dktX3_ownRows_1 := dk_seg dksX3_ownRows_0 24 rfl rfl
theorem dksX3_ownRows_2 : cX3_ownRows.data.toList.drop 48 = dktX3_ownRows_2 := dk_seg dksX3_ownRows_1 24 rfl rfl
theorem dX3_ownRows_0 : decode cX3_ownRows 0 = .ok (.lconst 0, 1) := dk_9 (dk_at dksX3_ownRows_0 0 rfl rfl)
theorem dX3_ownRows_1 : decode cX3_ownRows 1 = .ok (.lstore 4, 2) := dk_55 4 (dk_at dksX3_ownRows_0 1 rfl rfl)
theorem dX3_ownRows_3 : decode cX3_ownRows 3 = .ok (.iconst 0, 1) := dk_3 (dk_at dksX3_ownRows_0 3 rfl rfl)
theorem dX3_ownRows_4 : decode cX3_ownRows 4 = .ok (.istore 6, 2) := dk_54 6 (dk_at dksX3_ownRows_0 4 rfl rfl)
theorem dX3_ownRows_6 : decode cX3_ownRows 6 = .ok (.iload 6, 2) := dk_21 6 (dk_at dksX3_ownRows_0 6 rfl rfl)
theorem dX3_ownRows_8 : decode cX3_ownRows 8 = .ok (.aload_n 0, 1) := dk_42 (dk_at dksX3_ownRows_0 8 rfl rfl)
theorem dX3_ownRows_9 : decode cX3_ownRows 9 = .ok (.getfield 7, 3) := dk_180 0 7 (dk_at dksX3_ownRows_0 9 rfl rfl)
theorem dX3_ownRows_12 : decode cX3_ownRows 12 = .ok (.iconst 1, 1) := dk_4 (dk_at dksX3_ownRows_0 12 rfl rfl)
theorem dX3_ownRows_13 : decode cX3_ownRows 13 = .ok (.iaload, 1) := dk_46 (dk_at dksX3_ownRows_0 13 rfl rfl)
theorem dX3_ownRows_14 : decode cX3_ownRows 14 = .ok (.if_icmp .ge 34, 3) := dk_162 0 34 (dk_at dksX3_ownRows_0 14 rfl rfl)
theorem dX3_ownRows_17 : decode cX3_ownRows 17 = .ok (.lload 4, 2) := dk_22 4 (dk_at dksX3_ownRows_0 17 rfl rfl)
theorem dX3_ownRows_19 : decode cX3_ownRows 19 = .ok (.aload_n 0, 1) := dk_42 (dk_at dksX3_ownRows_0 19 rfl rfl)
theorem dX3_ownRows_20 : decode cX3_ownRows 20 = .ok (.iload 6, 2) := dk_21 6 (dk_at dksX3_ownRows_0 20 rfl rfl)
theorem dX3_ownRows_22 : decode cX3_ownRows 22 = .ok (.iload_n 1, 1) := dk_27 (dk_at dksX3_ownRows_0 22 rfl rfl)
theorem dX3_ownRows_23 : decode cX3_ownRows 23 = .ok (.iload_n 2, 1) := dk_28 (dk_at dksX3_ownRows_0 23 rfl rfl)
theorem dX3_ownRows_24 : decode cX3_ownRows 24 = .ok (.iload_n 3, 1) := dk_29 (dk_at dksX3_ownRows_1 0 rfl rfl)
theorem dX3_ownRows_25 : decode cX3_ownRows 25 = .ok (.invokevirtual 119, 3) := dk_182 0 119 (dk_at dksX3_ownRows_1 1 rfl rfl)
theorem dX3_ownRows_28 : decode cX3_ownRows 28 = .ok (.ifCond .eq 10, 3) := dk_153 0 10 (dk_at dksX3_ownRows_1 4 rfl rfl)
theorem dX3_ownRows_31 : decode cX3_ownRows 31 = .ok (.lconst 1, 1) := dk_10 (dk_at dksX3_ownRows_1 7 rfl rfl)
theorem dX3_ownRows_32 : decode cX3_ownRows 32 = .ok (.iload 6, 2) := dk_21 6 (dk_at dksX3_ownRows_1 8 rfl rfl)
theorem dX3_ownRows_34 : decode cX3_ownRows 34 = .ok (.lshl, 1) := dk_121 (dk_at dksX3_ownRows_1 10 rfl rfl)
theorem dX3_ownRows_35 : decode cX3_ownRows 35 = .ok (.goto 4, 3) := dk_167 0 4 (dk_at dksX3_ownRows_1 11 rfl rfl)
theorem dX3_ownRows_38 : decode cX3_ownRows 38 = .ok (.lconst 0, 1) := dk_9 (dk_at dksX3_ownRows_1 14 rfl rfl)
theorem dX3_ownRows_39 : decode cX3_ownRows 39 = .ok (.lor, 1) := dk_129 (dk_at dksX3_ownRows_1 15 rfl rfl)
theorem dX3_ownRows_40 : decode cX3_ownRows 40 = .ok (.lstore 4, 2) := dk_55 4 (dk_at dksX3_ownRows_1 16 rfl rfl)
theorem dX3_ownRows_42 : decode cX3_ownRows 42 = .ok (.iinc 6 1, 3) := dk_132 6 1 (dk_at dksX3_ownRows_1 18 rfl rfl)
theorem dX3_ownRows_45 : decode cX3_ownRows 45 = .ok (.goto (-39), 3) := dk_167 255 217 (dk_at dksX3_ownRows_1 21 rfl rfl)
theorem dX3_ownRows_48 : decode cX3_ownRows 48 = .ok (.lload 4, 2) := dk_22 4 (dk_at dksX3_ownRows_2 0 rfl rfl)
theorem dX3_ownRows_50 : decode cX3_ownRows 50 = .ok (.lreturn, 1) := dk_173 (dk_at dksX3_ownRows_2 2 rfl rfl)
abbrev cX3_rowsBehindByMarking : ByteArray := prog_25_method_78_code
def yX3_rowsBehindByMarking : MethodName := ⟨RX3, "rowsBehindByMarking", "(IIC)I"⟩
def dkwX3_rowsBehindByMarking_0 : List UInt8 := [42, 27, 28, 29, 182, 1, 4, 172]
abbrev dktX3_rowsBehindByMarking_0 : List UInt8 := dkwX3_rowsBehindByMarking_0 ++ []
theorem dksX3_rowsBehindByMarking_0 : cX3_rowsBehindByMarking.data.toList.drop 0 = dktX3_rowsBehindByMarking_0 := by decide +kernel
theorem dX3_rowsBehindByMarking_0 : decode cX3_rowsBehindByMarking 0 = .ok (.aload_n 0, 1) := dk_42 (dk_at dksX3_rowsBehindByMarking_0 0 rfl rfl)
theorem dX3_rowsBehindByMarking_1 : decode cX3_rowsBehindByMarking 1 = .ok (.iload_n 1, 1) := dk_27 (dk_at dksX3_rowsBehindByMarking_0 1 rfl rfl)
theorem dX3_rowsBehindByMarking_2 : decode cX3_rowsBehindByMarking 2 = .ok (.iload_n 2, 1) := dk_28 (dk_at dksX3_rowsBehindByMarking_0 2 rfl rfl)
theorem dX3_rowsBehindByMarking_3 : decode cX3_rowsBehindByMarking 3 = .ok (.iload_n 3, 1) := dk_29 (dk_at dksX3_rowsBehindByMarking_0 3 rfl rfl)
theorem dX3_rowsBehindByMarking_4 : decode cX3_rowsBehindByMarking 4 = .ok (.invokevirtual 260, 3) := dk_182 1 4 (dk_at dksX3_rowsBehindByMarking_0 4 rfl rfl)
theorem dX3_rowsBehindByMarking_7 : decode cX3_rowsBehindByMarking 7 = .ok (.ireturn, 1) := dk_172 (dk_at dksX3_rowsBehindByMarking_0 7 rfl rfl)
abbrev cX3_reach : ByteArray := prog_25_method_79_code
def yX3_reach : MethodName := ⟨RX3, "reach", "(I)I"⟩
def dkwX3_reach_4 : List UInt8 := [132, 5, 1, 167, 255, 212, 132, 4, 1, 167, 255, 192, 29, 172]
abbrev dktX3_reach_4 : List UInt8 := dkwX3_reach_4 ++ []
def dkwX3_reach_3 : List UInt8 := [21, 4, 104, 21, 5, 96, 47, 28, 123, 10, 127, 10, 148, 154, 0, 7, 4, 167, 0, 4, 3, 96, 62]
abbrev dktX3_reach_3 : List UInt8 := dkwX3_reach_3 ++ dktX3_reach_4
def dkwX3_reach_2 : List UInt8 := [162, 0, 59, 3, 54, 5, 21, 5, 42, 180, 0, 7, 3, 46, 163, 0, 39, 29, 42, 180, 0, 41, 16, 7]
abbrev dktX3_reach_2 : List UInt8 := dkwX3_reach_2 ++ dktX3_reach_3
def dkwX3_reach_1 : List UInt8 := [42, 42, 28, 5, 182, 0, 108, 182, 1, 1, 3, 62, 3, 54, 4, 21, 4, 42, 180, 0, 7, 6, 46]
abbrev dktX3_reach_1 : List UInt8 := dkwX3_reach_1 ++ dktX3_reach_2
def dkwX3_reach_0 : List UInt8 := [42, 27, 182, 0, 179, 61, 42, 28, 155, 0, 7, 4, 167, 0, 4, 3, 182, 0, 238, 158, 0, 5, 3, 172]
abbrev dktX3_reach_0 : List UInt8 := dkwX3_reach_0 ++ dktX3_reach_1
theorem dksX3_reach_0 : cX3_reach.data.toList.drop 0 = dktX3_reach_0 := by decide +kernel
theorem dksX3_reach_1 : cX3_reach.data.toList.drop 24 = dktX3_reach_1 := dk_seg dksX3_reach_0 24 rfl rfl
theorem dksX3_reach_2 : cX3_reach.data.toList.drop 47 = dktX3_reach_2 := dk_seg dksX3_reach_1 23 rfl rfl
theorem dksX3_reach_3 : cX3_reach.data.toList.drop 71 = dktX3_reach_3 := dk_seg dksX3_reach_2 24 rfl rfl
theorem dksX3_reach_4 : cX3_reach.data.toList.drop 94 = dktX3_reach_4 := dk_seg dksX3_reach_3 23 rfl rfl
theorem dX3_reach_0 : decode cX3_reach 0 = .ok (.aload_n 0, 1) := dk_42 (dk_at dksX3_reach_0 0 rfl rfl)
theorem dX3_reach_1 : decode cX3_reach 1 = .ok (.iload_n 1, 1) := dk_27 (dk_at dksX3_reach_0 1 rfl rfl)
theorem dX3_reach_2 : decode cX3_reach 2 = .ok (.invokevirtual 179, 3) := dk_182 0 179 (dk_at dksX3_reach_0 2 rfl rfl)
theorem dX3_reach_5 : decode cX3_reach 5 = .ok (.istore_n 2, 1) := dk_61 (dk_at dksX3_reach_0 5 rfl rfl)
theorem dX3_reach_6 : decode cX3_reach 6 = .ok (.aload_n 0, 1) := dk_42 (dk_at dksX3_reach_0 6 rfl rfl)
theorem dX3_reach_7 : decode cX3_reach 7 = .ok (.iload_n 2, 1) := dk_28 (dk_at dksX3_reach_0 7 rfl rfl)
theorem dX3_reach_8 : decode cX3_reach 8 = .ok (.ifCond .lt 7, 3) := dk_155 0 7 (dk_at dksX3_reach_0 8 rfl rfl)
theorem dX3_reach_11 : decode cX3_reach 11 = .ok (.iconst 1, 1) := dk_4 (dk_at dksX3_reach_0 11 rfl rfl)
theorem dX3_reach_12 : decode cX3_reach 12 = .ok (.goto 4, 3) := dk_167 0 4 (dk_at dksX3_reach_0 12 rfl rfl)
theorem dX3_reach_15 : decode cX3_reach 15 = .ok (.iconst 0, 1) := dk_3 (dk_at dksX3_reach_0 15 rfl rfl)
theorem dX3_reach_16 : decode cX3_reach 16 = .ok (.invokevirtual 238, 3) := dk_182 0 238 (dk_at dksX3_reach_0 16 rfl rfl)
theorem dX3_reach_19 : decode cX3_reach 19 = .ok (.ifCond .le 5, 3) := dk_158 0 5 (dk_at dksX3_reach_0 19 rfl rfl)
theorem dX3_reach_22 : decode cX3_reach 22 = .ok (.iconst 0, 1) := dk_3 (dk_at dksX3_reach_0 22 rfl rfl)
theorem dX3_reach_23 : decode cX3_reach 23 = .ok (.ireturn, 1) := dk_172 (dk_at dksX3_reach_0 23 rfl rfl)
theorem dX3_reach_24 : decode cX3_reach 24 = .ok (.aload_n 0, 1) := dk_42 (dk_at dksX3_reach_1 0 rfl rfl)
theorem dX3_reach_25 : decode cX3_reach 25 = .ok (.aload_n 0, 1) := dk_42 (dk_at dksX3_reach_1 1 rfl rfl)
theorem dX3_reach_26 : decode cX3_reach 26 = .ok (.iload_n 2, 1) := dk_28 (dk_at dksX3_reach_1 2 rfl rfl)
theorem dX3_reach_27 : decode cX3_reach 27 = .ok (.iconst 2, 1) := dk_5 (dk_at dksX3_reach_1 3 rfl rfl)
theorem dX3_reach_28 : decode cX3_reach 28 = .ok (.invokevirtual 108, 3) := dk_182 0 108 (dk_at dksX3_reach_1 4 rfl rfl)
theorem dX3_reach_31 : decode cX3_reach 31 = .ok (.invokevirtual 257, 3) := dk_182 1 1 (dk_at dksX3_reach_1 7 rfl rfl)
theorem dX3_reach_34 : decode cX3_reach 34 = .ok (.iconst 0, 1) := dk_3 (dk_at dksX3_reach_1 10 rfl rfl)
theorem dX3_reach_35 : decode cX3_reach 35 = .ok (.istore_n 3, 1) := dk_62 (dk_at dksX3_reach_1 11 rfl rfl)
theorem dX3_reach_36 : decode cX3_reach 36 = .ok (.iconst 0, 1) := dk_3 (dk_at dksX3_reach_1 12 rfl rfl)
theorem dX3_reach_37 : decode cX3_reach 37 = .ok (.istore 4, 2) := dk_54 4 (dk_at dksX3_reach_1 13 rfl rfl)
theorem dX3_reach_39 : decode cX3_reach 39 = .ok (.iload 4, 2) := dk_21 4 (dk_at dksX3_reach_1 15 rfl rfl)
theorem dX3_reach_41 : decode cX3_reach 41 = .ok (.aload_n 0, 1) := dk_42 (dk_at dksX3_reach_1 17 rfl rfl)
theorem dX3_reach_42 : decode cX3_reach 42 = .ok (.getfield 7, 3) := dk_180 0 7 (dk_at dksX3_reach_1 18 rfl rfl)
theorem dX3_reach_45 : decode cX3_reach 45 = .ok (.iconst 3, 1) := dk_6 (dk_at dksX3_reach_1 21 rfl rfl)
theorem dX3_reach_46 : decode cX3_reach 46 = .ok (.iaload, 1) := dk_46 (dk_at dksX3_reach_1 22 rfl rfl)
theorem dX3_reach_47 : decode cX3_reach 47 = .ok (.if_icmp .ge 59, 3) := dk_162 0 59 (dk_at dksX3_reach_2 0 rfl rfl)
theorem dX3_reach_50 : decode cX3_reach 50 = .ok (.iconst 0, 1) := dk_3 (dk_at dksX3_reach_2 3 rfl rfl)
theorem dX3_reach_51 : decode cX3_reach 51 = .ok (.istore 5, 2) := dk_54 5 (dk_at dksX3_reach_2 4 rfl rfl)
theorem dX3_reach_53 : decode cX3_reach 53 = .ok (.iload 5, 2) := dk_21 5 (dk_at dksX3_reach_2 6 rfl rfl)
theorem dX3_reach_55 : decode cX3_reach 55 = .ok (.aload_n 0, 1) := dk_42 (dk_at dksX3_reach_2 8 rfl rfl)
theorem dX3_reach_56 : decode cX3_reach 56 = .ok (.getfield 7, 3) := dk_180 0 7 (dk_at dksX3_reach_2 9 rfl rfl)
theorem dX3_reach_59 : decode cX3_reach 59 = .ok (.iconst 0, 1) := dk_3 (dk_at dksX3_reach_2 12 rfl rfl)
theorem dX3_reach_60 : decode cX3_reach 60 = .ok (.iaload, 1) := dk_46 (dk_at dksX3_reach_2 13 rfl rfl)
theorem dX3_reach_61 : decode cX3_reach 61 = .ok (.if_icmp .gt 39, 3) := dk_163 0 39 (dk_at dksX3_reach_2 14 rfl rfl)
theorem dX3_reach_64 : decode cX3_reach 64 = .ok (.iload_n 3, 1) := dk_29 (dk_at dksX3_reach_2 17 rfl rfl)
theorem dX3_reach_65 : decode cX3_reach 65 = .ok (.aload_n 0, 1) := dk_42 (dk_at dksX3_reach_2 18 rfl rfl)
theorem dX3_reach_66 : decode cX3_reach 66 = .ok (.getfield 41, 3) := dk_180 0 41 (dk_at dksX3_reach_2 19 rfl rfl)
theorem dX3_reach_69 : decode cX3_reach 69 = .ok (.bipush 7, 2) := dk_16 7 (dk_at dksX3_reach_2 22 rfl rfl)
theorem dX3_reach_71 : decode cX3_reach 71 = .ok (.iload 4, 2) := dk_21 4 (dk_at dksX3_reach_3 0 rfl rfl)
theorem dX3_reach_73 : decode cX3_reach 73 = .ok (.imul, 1) := dk_104 (dk_at dksX3_reach_3 2 rfl rfl)
theorem dX3_reach_74 : decode cX3_reach 74 = .ok (.iload 5, 2) := dk_21 5 (dk_at dksX3_reach_3 3 rfl rfl)
theorem dX3_reach_76 : decode cX3_reach 76 = .ok (.iadd, 1) := dk_96 (dk_at dksX3_reach_3 5 rfl rfl)
theorem dX3_reach_77 : decode cX3_reach 77 = .ok (.laload, 1) := dk_47 (dk_at dksX3_reach_3 6 rfl rfl)
theorem dX3_reach_78 : decode cX3_reach 78 = .ok (.iload_n 2, 1) := dk_28 (dk_at dksX3_reach_3 7 rfl rfl)
theorem dX3_reach_79 : decode cX3_reach 79 = .ok (.lshr, 1) := dk_123 (dk_at dksX3_reach_3 8 rfl rfl)
theorem dX3_reach_80 : decode cX3_reach 80 = .ok (.lconst 1, 1) := dk_10 (dk_at dksX3_reach_3 9 rfl rfl)
theorem dX3_reach_81 : decode cX3_reach 81 = .ok (.land, 1) := dk_127 (dk_at dksX3_reach_3 10 rfl rfl)
theorem dX3_reach_82 : decode cX3_reach 82 = .ok (.lconst 1, 1) := dk_10 (dk_at dksX3_reach_3 11 rfl rfl)
theorem dX3_reach_83 : decode cX3_reach 83 = .ok (.lcmp, 1) := dk_148 (dk_at dksX3_reach_3 12 rfl rfl)
theorem dX3_reach_84 : decode cX3_reach 84 = .ok (.ifCond .ne 7, 3) := dk_154 0 7 (dk_at dksX3_reach_3 13 rfl rfl)
theorem dX3_reach_87 : decode cX3_reach 87 = .ok (.iconst 1, 1) := dk_4 (dk_at dksX3_reach_3 16 rfl rfl)
theorem dX3_reach_88 : decode cX3_reach 88 = .ok (.goto 4, 3) := dk_167 0 4 (dk_at dksX3_reach_3 17 rfl rfl)
theorem dX3_reach_91 : decode cX3_reach 91 = .ok (.iconst 0, 1) := dk_3 (dk_at dksX3_reach_3 20 rfl rfl)
theorem dX3_reach_92 : decode cX3_reach 92 = .ok (.iadd, 1) := dk_96 (dk_at dksX3_reach_3 21 rfl rfl)
theorem dX3_reach_93 : decode cX3_reach 93 = .ok (.istore_n 3, 1) := dk_62 (dk_at dksX3_reach_3 22 rfl rfl)
theorem dX3_reach_94 : decode cX3_reach 94 = .ok (.iinc 5 1, 3) := dk_132 5 1 (dk_at dksX3_reach_4 0 rfl rfl)
theorem dX3_reach_97 : decode cX3_reach 97 = .ok (.goto (-44), 3) := dk_167 255 212 (dk_at dksX3_reach_4 3 rfl rfl)
theorem dX3_reach_100 : decode cX3_reach 100 = .ok (.iinc 4 1, 3) := dk_132 4 1 (dk_at dksX3_reach_4 6 rfl rfl)
theorem dX3_reach_103 : decode cX3_reach 103 = .ok (.goto (-64), 3) := dk_167 255 192 (dk_at dksX3_reach_4 9 rfl rfl)
theorem dX3_reach_106 : decode cX3_reach 106 = .ok (.iload_n 3, 1) := dk_29 (dk_at dksX3_reach_4 12 rfl rfl)
theorem dX3_reach_107 : decode cX3_reach 107 = .ok (.ireturn, 1) := dk_172 (dk_at dksX3_reach_4 13 rfl rfl)
abbrev cX3_cost : ByteArray := prog_25_method_82_code
def yX3_cost : MethodName := ⟨RX3, "cost", "(II)J"⟩
def dkwX3_cost_2 : List UInt8 := [42, 28, 182, 1, 9, 42, 180, 0, 44, 27, 47, 173]
abbrev dktX3_cost_2 : List UInt8 := dkwX3_cost_2 ++ []
def dkwX3_cost_1 : List UInt8 := [100, 184, 0, 112, 153, 0, 7, 3, 167, 0, 4, 5, 181, 0, 47, 42, 180, 0, 47, 158, 0, 5, 9, 173]
abbrev dktX3_cost_1 : List UInt8 := dkwX3_cost_1 ++ dktX3_cost_2
def dkwX3_cost_0 : List UInt8 := [42, 42, 27, 182, 0, 205, 154, 0, 7, 4, 167, 0, 26, 28, 3, 4, 42, 180, 0, 7, 6, 46, 120, 4]
abbrev dktX3_cost_0 : List UInt8 := dkwX3_cost_0 ++ dktX3_cost_1
theorem dksX3_cost_0 : cX3_cost.data.toList.drop 0 = dktX3_cost_0 := by decide +kernel
theorem dksX3_cost_1 : cX3_cost.data.toList.drop 24 = dktX3_cost_1 := dk_seg dksX3_cost_0 24 rfl rfl
theorem dksX3_cost_2 : cX3_cost.data.toList.drop 48 = dktX3_cost_2 := dk_seg dksX3_cost_1 24 rfl rfl
theorem dX3_cost_0 : decode cX3_cost 0 = .ok (.aload_n 0, 1) := dk_42 (dk_at dksX3_cost_0 0 rfl rfl)
theorem dX3_cost_1 : decode cX3_cost 1 = .ok (.aload_n 0, 1) := dk_42 (dk_at dksX3_cost_0 1 rfl rfl)
theorem dX3_cost_2 : decode cX3_cost 2 = .ok (.iload_n 1, 1) := dk_27 (dk_at dksX3_cost_0 2 rfl rfl)
theorem dX3_cost_3 : decode cX3_cost 3 = .ok (.invokevirtual 205, 3) := dk_182 0 205 (dk_at dksX3_cost_0 3 rfl rfl)
theorem dX3_cost_6 : decode cX3_cost 6 = .ok (.ifCond .ne 7, 3) := dk_154 0 7 (dk_at dksX3_cost_0 6 rfl rfl)
theorem dX3_cost_9 : decode cX3_cost 9 = .ok (.iconst 1, 1) := dk_4 (dk_at dksX3_cost_0 9 rfl rfl)
theorem dX3_cost_10 : decode cX3_cost 10 = .ok (.goto 26, 3) := dk_167 0 26 (dk_at dksX3_cost_0 10 rfl rfl)
theorem dX3_cost_13 : decode cX3_cost 13 = .ok (.iload_n 2, 1) := dk_28 (dk_at dksX3_cost_0 13 rfl rfl)
theorem dX3_cost_14 : decode cX3_cost 14 = .ok (.iconst 0, 1) := dk_3 (dk_at dksX3_cost_0 14 rfl rfl)
theorem dX3_cost_15 : decode cX3_cost 15 = .ok (.iconst 1, 1) := dk_4 (dk_at dksX3_cost_0 15 rfl rfl)
theorem dX3_cost_16 : decode cX3_cost 16 = .ok (.aload_n 0, 1) := dk_42 (dk_at dksX3_cost_0 16 rfl rfl)
theorem dX3_cost_17 : decode cX3_cost 17 = .ok (.getfield 7, 3) := dk_180 0 7 (dk_at dksX3_cost_0 17 rfl rfl)
theorem dX3_cost_20 : decode cX3_cost 20 = .ok (.iconst 3, 1) := dk_6 (dk_at dksX3_cost_0 20 rfl rfl)
theorem dX3_cost_21 : decode cX3_cost 21 = .ok (.iaload, 1) := dk_46 (dk_at dksX3_cost_0 21 rfl rfl)
theorem dX3_cost_22 : decode cX3_cost 22 = .ok (.ishl, 1) := dk_120 (dk_at dksX3_cost_0 22 rfl rfl)
theorem dX3_cost_23 : decode cX3_cost 23 = .ok (.iconst 1, 1) := dk_4 (dk_at dksX3_cost_0 23 rfl rfl)
theorem dX3_cost_24 : decode cX3_cost 24 = .ok (.isub, 1) := dk_100 (dk_at dksX3_cost_1 0 rfl rfl)
theorem dX3_cost_25 : decode cX3_cost 25 = .ok (.invokestatic 112, 3) := dk_184 0 112 (dk_at dksX3_cost_1 1 rfl rfl)
theorem dX3_cost_28 : decode cX3_cost 28 = .ok (.ifCond .eq 7, 3) := dk_153 0 7 (dk_at dksX3_cost_1 4 rfl rfl)
theorem dX3_cost_31 : decode cX3_cost 31 = .ok (.iconst 0, 1) := dk_3 (dk_at dksX3_cost_1 7 rfl rfl)
theorem dX3_cost_32 : decode cX3_cost 32 = .ok (.goto 4, 3) := dk_167 0 4 (dk_at dksX3_cost_1 8 rfl rfl)
theorem dX3_cost_35 : decode cX3_cost 35 = .ok (.iconst 2, 1) := dk_5 (dk_at dksX3_cost_1 11 rfl rfl)
theorem dX3_cost_36 : decode cX3_cost 36 = .ok (.putfield 47, 3) := dk_181 0 47 (dk_at dksX3_cost_1 12 rfl rfl)
theorem dX3_cost_39 : decode cX3_cost 39 = .ok (.aload_n 0, 1) := dk_42 (dk_at dksX3_cost_1 15 rfl rfl)
theorem dX3_cost_40 : decode cX3_cost 40 = .ok (.getfield 47, 3) := dk_180 0 47 (dk_at dksX3_cost_1 16 rfl rfl)
theorem dX3_cost_43 : decode cX3_cost 43 = .ok (.ifCond .le 5, 3) := dk_158 0 5 (dk_at dksX3_cost_1 19 rfl rfl)
theorem dX3_cost_46 : decode cX3_cost 46 = .ok (.lconst 0, 1) := dk_9 (dk_at dksX3_cost_1 22 rfl rfl)
theorem dX3_cost_47 : decode cX3_cost 47 = .ok (.lreturn, 1) := dk_173 (dk_at dksX3_cost_1 23 rfl rfl)
theorem dX3_cost_48 : decode cX3_cost 48 = .ok (.aload_n 0, 1) := dk_42 (dk_at dksX3_cost_2 0 rfl rfl)
theorem dX3_cost_49 : decode cX3_cost 49 = .ok (.iload_n 2, 1) := dk_28 (dk_at dksX3_cost_2 1 rfl rfl)
theorem dX3_cost_50 : decode cX3_cost 50 = .ok (.invokevirtual 265, 3) := dk_182 1 9 (dk_at dksX3_cost_2 2 rfl rfl)
theorem dX3_cost_53 : decode cX3_cost 53 = .ok (.aload_n 0, 1) := dk_42 (dk_at dksX3_cost_2 5 rfl rfl)
theorem dX3_cost_54 : decode cX3_cost 54 = .ok (.getfield 44, 3) := dk_180 0 44 (dk_at dksX3_cost_2 6 rfl rfl)
theorem dX3_cost_57 : decode cX3_cost 57 = .ok (.iload_n 1, 1) := dk_27 (dk_at dksX3_cost_2 9 rfl rfl)
theorem dX3_cost_58 : decode cX3_cost 58 = .ok (.laload, 1) := dk_47 (dk_at dksX3_cost_2 10 rfl rfl)
theorem dX3_cost_59 : decode cX3_cost 59 = .ok (.lreturn, 1) := dk_173 (dk_at dksX3_cost_2 11 rfl rfl)
abbrev cX3_layCosts : ByteArray := prog_25_method_80_code
def yX3_layCosts : MethodName := ⟨RX3, "layCosts", "(I)V"⟩
def dkwX3_layCosts_5 : List UInt8 := [167, 255, 141, 177]
abbrev dktX3_layCosts_5 : List UInt8 := dkwX3_layCosts_5 ++ []
def dkwX3_layCosts_4 : List UInt8 := [182, 0, 123, 153, 0, 13, 42, 180, 0, 7, 4, 46, 133, 167, 0, 5, 22, 5, 97, 80, 132, 2, 1]
abbrev dktX3_layCosts_4 : List UInt8 := dkwX3_layCosts_4 ++ dktX3_layCosts_5
def dkwX3_layCosts_3 : List UInt8 := [55, 5, 42, 180, 0, 44, 28, 27, 28, 122, 4, 126, 4, 160, 0, 7, 10, 167, 0, 25, 10, 42, 28]
abbrev dktX3_layCosts_3 : List UInt8 := dkwX3_layCosts_3 ++ dktX3_layCosts_4
def dkwX3_layCosts_2 : List UInt8 := [160, 0, 11, 20, 1, 7, 33, 105, 167, 0, 16, 33, 42, 180, 0, 44, 42, 28, 6, 182, 0, 116, 47, 97]
abbrev dktX3_layCosts_2 : List UInt8 := dkwX3_layCosts_2 ++ dktX3_layCosts_3
def dkwX3_layCosts_1 : List UInt8 := [42, 28, 3, 182, 0, 116, 16, 107, 160, 0, 7, 33, 167, 0, 35, 42, 28, 3, 182, 0, 116, 16, 114]
abbrev dktX3_layCosts_1 : List UInt8 := dkwX3_layCosts_1 ++ dktX3_layCosts_2
def dkwX3_layCosts_0 : List UInt8 := [3, 61, 28, 42, 180, 0, 7, 6, 46, 162, 0, 111, 42, 180, 0, 44, 42, 28, 5, 182, 0, 116, 47, 66]
abbrev dktX3_layCosts_0 : List UInt8 := dkwX3_layCosts_0 ++ dktX3_layCosts_1
theorem dksX3_layCosts_0 : cX3_layCosts.data.toList.drop 0 = dktX3_layCosts_0 := by decide +kernel
theorem dksX3_layCosts_1 : cX3_layCosts.data.toList.drop 24 = dktX3_layCosts_1 := dk_seg dksX3_layCosts_0 24 rfl rfl
theorem dksX3_layCosts_2 : cX3_layCosts.data.toList.drop 47 = dktX3_layCosts_2 := dk_seg dksX3_layCosts_1 23 rfl rfl
theorem dksX3_layCosts_3 : cX3_layCosts.data.toList.drop 71 = dktX3_layCosts_3 := dk_seg dksX3_layCosts_2 24 rfl rfl
theorem dksX3_layCosts_4 : cX3_layCosts.data.toList.drop 94 = dktX3_layCosts_4 := dk_seg dksX3_layCosts_3 23 rfl rfl
theorem dksX3_layCosts_5 : cX3_layCosts.data.toList.drop 117 = dktX3_layCosts_5 := dk_seg dksX3_layCosts_4 23 rfl rfl
theorem dX3_layCosts_0 : decode cX3_layCosts 0 = .ok (.iconst 0, 1) := dk_3 (dk_at dksX3_layCosts_0 0 rfl rfl)
theorem dX3_layCosts_1 : decode cX3_layCosts 1 = .ok (.istore_n 2, 1) := dk_61 (dk_at dksX3_layCosts_0 1 rfl rfl)
theorem dX3_layCosts_2 : decode cX3_layCosts 2 = .ok (.iload_n 2, 1) := dk_28 (dk_at dksX3_layCosts_0 2 rfl rfl)
theorem dX3_layCosts_3 : decode cX3_layCosts 3 = .ok (.aload_n 0, 1) := dk_42 (dk_at dksX3_layCosts_0 3 rfl rfl)
theorem dX3_layCosts_4 : decode cX3_layCosts 4 = .ok (.getfield 7, 3) := dk_180 0 7 (dk_at dksX3_layCosts_0 4 rfl rfl)
theorem dX3_layCosts_7 : decode cX3_layCosts 7 = .ok (.iconst 3, 1) := dk_6 (dk_at dksX3_layCosts_0 7 rfl rfl)
theorem dX3_layCosts_8 : decode cX3_layCosts 8 = .ok (.iaload, 1) := dk_46 (dk_at dksX3_layCosts_0 8 rfl rfl)
theorem dX3_layCosts_9 : decode cX3_layCosts 9 = .ok (.if_icmp .ge 111, 3) := dk_162 0 111 (dk_at dksX3_layCosts_0 9 rfl rfl)
theorem dX3_layCosts_12 : decode cX3_layCosts 12 = .ok (.aload_n 0, 1) := dk_42 (dk_at dksX3_layCosts_0 12 rfl rfl)
theorem dX3_layCosts_13 : decode cX3_layCosts 13 = .ok (.getfield 44, 3) := dk_180 0 44 (dk_at dksX3_layCosts_0 13 rfl rfl)
theorem dX3_layCosts_16 : decode cX3_layCosts 16 = .ok (.aload_n 0, 1) := dk_42 (dk_at dksX3_layCosts_0 16 rfl rfl)
theorem dX3_layCosts_17 : decode cX3_layCosts 17 = .ok (.iload_n 2, 1) := dk_28 (dk_at dksX3_layCosts_0 17 rfl rfl)
theorem dX3_layCosts_18 : decode cX3_layCosts 18 = .ok (.iconst 2, 1) := dk_5 (dk_at dksX3_layCosts_0 18 rfl rfl)
theorem dX3_layCosts_19 : decode cX3_layCosts 19 = .ok (.invokevirtual 116, 3) := dk_182 0 116 (dk_at dksX3_layCosts_0 19 rfl rfl)
theorem dX3_layCosts_22 : decode cX3_layCosts 22 = .ok (.laload, 1) := dk_47 (dk_at dksX3_layCosts_0 22 rfl rfl)
theorem dX3_layCosts_23 : decode cX3_layCosts 23 = .ok (.lstore_n 3, 1) := dk_66 (dk_at dksX3_layCosts_0 23 rfl rfl)
theorem dX3_layCosts_24 : decode cX3_layCosts 24 = .ok (.aload_n 0, 1) := dk_42 (dk_at dksX3_layCosts_1 0 rfl rfl)
theorem dX3_layCosts_25 : decode cX3_layCosts 25 = .ok (.iload_n 2, 1) := dk_28 (dk_at dksX3_layCosts_1 1 rfl rfl)
theorem dX3_layCosts_26 : decode cX3_layCosts 26 = .ok (.iconst 0, 1) := dk_3 (dk_at dksX3_layCosts_1 2 rfl rfl)
theorem dX3_layCosts_27 : decode cX3_layCosts 27 = .ok (.invokevirtual 116, 3) := dk_182 0 116 (dk_at dksX3_layCosts_1 3 rfl rfl)
theorem dX3_layCosts_30 : decode cX3_layCosts 30 = .ok (.bipush 107, 2) := dk_16 107 (dk_at dksX3_layCosts_1 6 rfl rfl)
theorem dX3_layCosts_32 : decode cX3_layCosts 32 = .ok (.if_icmp .ne 7, 3) := dk_160 0 7 (dk_at dksX3_layCosts_1 8 rfl rfl)
theorem dX3_layCosts_35 : decode cX3_layCosts 35 = .ok (.lload_n 3, 1) := dk_33 (dk_at dksX3_layCosts_1 11 rfl rfl)
theorem dX3_layCosts_36 : decode cX3_layCosts 36 = .ok (.goto 35, 3) := dk_167 0 35 (dk_at dksX3_layCosts_1 12 rfl rfl)
theorem dX3_layCosts_39 : decode cX3_layCosts 39 = .ok (.aload_n 0, 1) := dk_42 (dk_at dksX3_layCosts_1 15 rfl rfl)
theorem dX3_layCosts_40 : decode cX3_layCosts 40 = .ok (.iload_n 2, 1) := dk_28 (dk_at dksX3_layCosts_1 16 rfl rfl)
theorem dX3_layCosts_41 : decode cX3_layCosts 41 = .ok (.iconst 0, 1) := dk_3 (dk_at dksX3_layCosts_1 17 rfl rfl)
theorem dX3_layCosts_42 : decode cX3_layCosts 42 = .ok (.invokevirtual 116, 3) := dk_182 0 116 (dk_at dksX3_layCosts_1 18 rfl rfl)
theorem dX3_layCosts_45 : decode cX3_layCosts 45 = .ok (.bipush 114, 2) := dk_16 114 (dk_at dksX3_layCosts_1 21 rfl rfl)
theorem dX3_layCosts_47 : decode cX3_layCosts 47 = .ok (.if_icmp .ne 11, 3) := dk_160 0 11 (dk_at dksX3_layCosts_2 0 rfl rfl)
theorem dX3_layCosts_50 : decode cX3_layCosts 50 = .ok (.ldc2_w 263, 3) := dk_20 1 7 (dk_at dksX3_layCosts_2 3 rfl rfl)
theorem dX3_layCosts_53 : decode cX3_layCosts 53 = .ok (.lload_n 3, 1) := dk_33 (dk_at dksX3_layCosts_2 6 rfl rfl)
theorem dX3_layCosts_54 : decode cX3_layCosts 54 = .ok (.lmul, 1) := dk_105 (dk_at dksX3_layCosts_2 7 rfl rfl)
theorem dX3_layCosts_55 : decode cX3_layCosts 55 = .ok (.goto 16, 3) := dk_167 0 16 (dk_at dksX3_layCosts_2 8 rfl rfl)
theorem dX3_layCosts_58 : decode cX3_layCosts 58 = .ok (.lload_n 3, 1) := dk_33 (dk_at dksX3_layCosts_2 11 rfl rfl)
theorem dX3_layCosts_59 : decode cX3_layCosts 59 = .ok (.aload_n 0, 1) := dk_42 (dk_at dksX3_layCosts_2 12 rfl rfl)
theorem dX3_layCosts_60 : decode cX3_layCosts 60 = .ok (.getfield 44, 3) := dk_180 0 44 (dk_at dksX3_layCosts_2 13 rfl rfl)
theorem dX3_layCosts_63 : decode cX3_layCosts 63 = .ok (.aload_n 0, 1) := dk_42 (dk_at dksX3_layCosts_2 16 rfl rfl)
theorem dX3_layCosts_64 : decode cX3_layCosts 64 = .ok (.iload_n 2, 1) := dk_28 (dk_at dksX3_layCosts_2 17 rfl rfl)
theorem dX3_layCosts_65 : decode cX3_layCosts 65 = .ok (.iconst 3, 1) := dk_6 (dk_at dksX3_layCosts_2 18 rfl rfl)
theorem dX3_layCosts_66 : decode cX3_layCosts 66 = .ok (.invokevirtual 116, 3) := dk_182 0 116 (dk_at dksX3_layCosts_2 19 rfl rfl)
theorem dX3_layCosts_69 : decode cX3_layCosts 69 = .ok (.laload, 1) := dk_47 (dk_at dksX3_layCosts_2 22 rfl rfl)
theorem dX3_layCosts_70 : decode cX3_layCosts 70 = .ok (.ladd, 1) := dk_97 (dk_at dksX3_layCosts_2 23 rfl rfl)
theorem dX3_layCosts_71 : decode cX3_layCosts 71 = .ok (.lstore 5, 2) := dk_55 5 (dk_at dksX3_layCosts_3 0 rfl rfl)
theorem dX3_layCosts_73 : decode cX3_layCosts 73 = .ok (.aload_n 0, 1) := dk_42 (dk_at dksX3_layCosts_3 2 rfl rfl)
theorem dX3_layCosts_74 : decode cX3_layCosts 74 = .ok (.getfield 44, 3) := dk_180 0 44 (dk_at dksX3_layCosts_3 3 rfl rfl)
theorem dX3_layCosts_77 : decode cX3_layCosts 77 = .ok (.iload_n 2, 1) := dk_28 (dk_at dksX3_layCosts_3 6 rfl rfl)
theorem dX3_layCosts_78 : decode cX3_layCosts 78 = .ok (.iload_n 1, 1) := dk_27 (dk_at dksX3_layCosts_3 7 rfl rfl)
theorem dX3_layCosts_79 : decode cX3_layCosts 79 = .ok (.iload_n 2, 1) := dk_28 (dk_at dksX3_layCosts_3 8 rfl rfl)
theorem dX3_layCosts_80 : decode cX3_layCosts 80 = .ok (.ishr, 1) := dk_122 (dk_at dksX3_layCosts_3 9 rfl rfl)
theorem dX3_layCosts_81 : decode cX3_layCosts 81 = .ok (.iconst 1, 1) := dk_4 (dk_at dksX3_layCosts_3 10 rfl rfl)
theorem dX3_layCosts_82 : decode cX3_layCosts 82 = .ok (.iand, 1) := dk_126 (dk_at dksX3_layCosts_3 11 rfl rfl)
theorem dX3_layCosts_83 : decode cX3_layCosts 83 = .ok (.iconst 1, 1) := dk_4 (dk_at dksX3_layCosts_3 12 rfl rfl)
theorem dX3_layCosts_84 : decode cX3_layCosts 84 = .ok (.if_icmp .ne 7, 3) := dk_160 0 7 (dk_at dksX3_layCosts_3 13 rfl rfl)
theorem dX3_layCosts_87 : decode cX3_layCosts 87 = .ok (.lconst 1, 1) := dk_10 (dk_at dksX3_layCosts_3 16 rfl rfl)
theorem dX3_layCosts_88 : decode cX3_layCosts 88 = .ok (.goto 25, 3) := dk_167 0 25 (dk_at dksX3_layCosts_3 17 rfl rfl)
theorem dX3_layCosts_91 : decode cX3_layCosts 91 = .ok (.lconst 1, 1) := dk_10 (dk_at dksX3_layCosts_3 20 rfl rfl)
theorem dX3_layCosts_92 : decode cX3_layCosts 92 = .ok (.aload_n 0, 1) := dk_42 (dk_at dksX3_layCosts_3 21 rfl rfl)
theorem dX3_layCosts_93 : decode cX3_layCosts 93 = .ok (.iload_n 2, 1) := dk_28 (dk_at dksX3_layCosts_3 22 rfl rfl)
theorem dX3_layCosts_94 : decode cX3_layCosts 94 = .ok (.invokevirtual 123, 3) := dk_182 0 123 (dk_at dksX3_layCosts_4 0 rfl rfl)
theorem dX3_layCosts_97 : decode cX3_layCosts 97 = .ok (.ifCond .eq 13, 3) := dk_153 0 13 (dk_at dksX3_layCosts_4 3 rfl rfl)
theorem dX3_layCosts_100 : decode cX3_layCosts 100 = .ok (.aload_n 0, 1) := dk_42 (dk_at dksX3_layCosts_4 6 rfl rfl)
theorem dX3_layCosts_101 : decode cX3_layCosts 101 = .ok (.getfield 7, 3) := dk_180 0 7 (dk_at dksX3_layCosts_4 7 rfl rfl)
theorem dX3_layCosts_104 : decode cX3_layCosts 104 = .ok (.iconst 1, 1) := dk_4 (dk_at dksX3_layCosts_4 10 rfl rfl)
theorem dX3_layCosts_105 : decode cX3_layCosts 105 = .ok (.iaload, 1) := dk_46 (dk_at dksX3_layCosts_4 11 rfl rfl)
theorem dX3_layCosts_106 : decode cX3_layCosts 106 = .ok (.i2l, 1) := dk_133 (dk_at dksX3_layCosts_4 12 rfl rfl)
theorem dX3_layCosts_107 : decode cX3_layCosts 107 = .ok (.goto 5, 3) := dk_167 0 5 (dk_at dksX3_layCosts_4 13 rfl rfl)
theorem dX3_layCosts_110 : decode cX3_layCosts 110 = .ok (.lload 5, 2) := dk_22 5 (dk_at dksX3_layCosts_4 16 rfl rfl)
theorem dX3_layCosts_112 : decode cX3_layCosts 112 = .ok (.ladd, 1) := dk_97 (dk_at dksX3_layCosts_4 18 rfl rfl)
theorem dX3_layCosts_113 : decode cX3_layCosts 113 = .ok (.lastore, 1) := dk_80 (dk_at dksX3_layCosts_4 19 rfl rfl)
theorem dX3_layCosts_114 : decode cX3_layCosts 114 = .ok (.iinc 2 1, 3) := dk_132 2 1 (dk_at dksX3_layCosts_4 20 rfl rfl)
theorem dX3_layCosts_117 : decode cX3_layCosts 117 = .ok (.goto (-115), 3) := dk_167 255 141 (dk_at dksX3_layCosts_5 0 rfl rfl)
theorem dX3_layCosts_120 : decode cX3_layCosts 120 = .ok (.return_, 1) := dk_177 (dk_at dksX3_layCosts_5 3 rfl rfl)
abbrev cX3_bestPlan : ByteArray := prog_25_method_86_code
def yX3_bestPlan : MethodName := ⟨RX3, "bestPlan", "(I)I"⟩
def dkwX3_bestPlan_0 : List UInt8 := [42, 27, 182, 1, 22, 172]
abbrev dktX3_bestPlan_0 : List UInt8 := dkwX3_bestPlan_0 ++ []
theorem dksX3_bestPlan_0 : cX3_bestPlan.data.toList.drop 0 = dktX3_bestPlan_0 := by decide +kernel
theorem dX3_bestPlan_0 : decode cX3_bestPlan 0 = .ok (.aload_n 0, 1) := dk_42 (dk_at dksX3_bestPlan_0 0 rfl rfl)
theorem dX3_bestPlan_1 : decode cX3_bestPlan 1 = .ok (.iload_n 1, 1) := dk_27 (dk_at dksX3_bestPlan_0 1 rfl rfl)
theorem dX3_bestPlan_2 : decode cX3_bestPlan 2 = .ok (.invokevirtual 278, 3) := dk_182 1 22 (dk_at dksX3_bestPlan_0 2 rfl rfl)
theorem dX3_bestPlan_5 : decode cX3_bestPlan 5 = .ok (.ireturn, 1) := dk_172 (dk_at dksX3_bestPlan_0 5 rfl rfl)
abbrev cX3_bestOf : ByteArray := prog_25_method_85_code
def yX3_bestOf : MethodName := ⟨RX3, "bestOf", "(I)I"⟩
def dkwX3_bestOf_0 : List UInt8 := [42, 27, 3, 16, 8, 184, 0, 112, 182, 0, 238, 158, 0, 7, 3, 167, 0, 8, 42, 27, 182, 1, 19, 172]
abbrev dktX3_bestOf_0 : List UInt8 := dkwX3_bestOf_0 ++ []
theorem dksX3_bestOf_0 : cX3_bestOf.data.toList.drop 0 = dktX3_bestOf_0 := by decide +kernel
theorem dX3_bestOf_0 : decode cX3_bestOf 0 = .ok (.aload_n 0, 1) := dk_42 (dk_at dksX3_bestOf_0 0 rfl rfl)
theorem dX3_bestOf_1 : decode cX3_bestOf 1 = .ok (.iload_n 1, 1) := dk_27 (dk_at dksX3_bestOf_0 1 rfl rfl)
theorem dX3_bestOf_2 : decode cX3_bestOf 2 = .ok (.iconst 0, 1) := dk_3 (dk_at dksX3_bestOf_0 2 rfl rfl)
theorem dX3_bestOf_3 : decode cX3_bestOf 3 = .ok (.bipush 8, 2) := dk_16 8 (dk_at dksX3_bestOf_0 3 rfl rfl)
theorem dX3_bestOf_5 : decode cX3_bestOf 5 = .ok (.invokestatic 112, 3) := dk_184 0 112 (dk_at dksX3_bestOf_0 5 rfl rfl)
theorem dX3_bestOf_8 : decode cX3_bestOf 8 = .ok (.invokevirtual 238, 3) := dk_182 0 238 (dk_at dksX3_bestOf_0 8 rfl rfl)
theorem dX3_bestOf_11 : decode cX3_bestOf 11 = .ok (.ifCond .le 7, 3) := dk_158 0 7 (dk_at dksX3_bestOf_0 11 rfl rfl)
theorem dX3_bestOf_14 : decode cX3_bestOf 14 = .ok (.iconst 0, 1) := dk_3 (dk_at dksX3_bestOf_0 14 rfl rfl)
theorem dX3_bestOf_15 : decode cX3_bestOf 15 = .ok (.goto 8, 3) := dk_167 0 8 (dk_at dksX3_bestOf_0 15 rfl rfl)
theorem dX3_bestOf_18 : decode cX3_bestOf 18 = .ok (.aload_n 0, 1) := dk_42 (dk_at dksX3_bestOf_0 18 rfl rfl)
theorem dX3_bestOf_19 : decode cX3_bestOf 19 = .ok (.iload_n 1, 1) := dk_27 (dk_at dksX3_bestOf_0 19 rfl rfl)
theorem dX3_bestOf_20 : decode cX3_bestOf 20 = .ok (.invokevirtual 275, 3) := dk_182 1 19 (dk_at dksX3_bestOf_0 20 rfl rfl)
theorem dX3_bestOf_23 : decode cX3_bestOf 23 = .ok (.ireturn, 1) := dk_172 (dk_at dksX3_bestOf_0 23 rfl rfl)
abbrev cX3_best : ByteArray := prog_25_method_84_code
def yX3_best : MethodName := ⟨RX3, "best", "(I)I"⟩
def dkwX3_best_2 : List UInt8 := [167, 255, 213, 28, 172]
abbrev dktX3_best_2 : List UInt8 := dkwX3_best_2 ++ []
def dkwX3_best_1 : List UInt8 := [42, 29, 182, 1, 15, 42, 28, 182, 1, 15, 148, 156, 0, 7, 29, 167, 0, 4, 28, 61, 132, 3, 1]
abbrev dktX3_best_1 : List UInt8 := dkwX3_best_1 ++ dktX3_best_2
def dkwX3_best_0 : List UInt8 := [3, 61, 4, 62, 29, 4, 42, 180, 0, 7, 6, 46, 120, 162, 0, 37, 29, 184, 1, 12, 27, 163, 0, 21]
abbrev dktX3_best_0 : List UInt8 := dkwX3_best_0 ++ dktX3_best_1
theorem dksX3_best_0 : cX3_best.data.toList.drop 0 = dktX3_best_0 := by decide +kernel
theorem dksX3_best_1 : cX3_best.data.toList.drop 24 = dktX3_best_1 := dk_seg dksX3_best_0 24 rfl rfl
theorem dksX3_best_2 : cX3_best.data.toList.drop 47 = dktX3_best_2 := dk_seg dksX3_best_1 23 rfl rfl
theorem dX3_best_0 : decode cX3_best 0 = .ok (.iconst 0, 1) := dk_3 (dk_at dksX3_best_0 0 rfl rfl)
theorem dX3_best_1 : decode cX3_best 1 = .ok (.istore_n 2, 1) := dk_61 (dk_at dksX3_best_0 1 rfl rfl)
theorem dX3_best_2 : decode cX3_best 2 = .ok (.iconst 1, 1) := dk_4 (dk_at dksX3_best_0 2 rfl rfl)
theorem dX3_best_3 : decode cX3_best 3 = .ok (.istore_n 3, 1) := dk_62 (dk_at dksX3_best_0 3 rfl rfl)
theorem dX3_best_4 : decode cX3_best 4 = .ok (.iload_n 3, 1) := dk_29 (dk_at dksX3_best_0 4 rfl rfl)
theorem dX3_best_5 : decode cX3_best 5 = .ok (.iconst 1, 1) := dk_4 (dk_at dksX3_best_0 5 rfl rfl)
theorem dX3_best_6 : decode cX3_best 6 = .ok (.aload_n 0, 1) := dk_42 (dk_at dksX3_best_0 6 rfl rfl)
theorem dX3_best_7 : decode cX3_best 7 = .ok (.getfield 7, 3) := dk_180 0 7 (dk_at dksX3_best_0 7 rfl rfl)
theorem dX3_best_10 : decode cX3_best 10 = .ok (.iconst 3, 1) := dk_6 (dk_at dksX3_best_0 10 rfl rfl)
theorem dX3_best_11 : decode cX3_best 11 = .ok (.iaload, 1) := dk_46 (dk_at dksX3_best_0 11 rfl rfl)
theorem dX3_best_12 : decode cX3_best 12 = .ok (.ishl, 1) := dk_120 (dk_at dksX3_best_0 12 rfl rfl)
theorem dX3_best_13 : decode cX3_best 13 = .ok (.if_icmp .ge 37, 3) := dk_162 0 37 (dk_at dksX3_best_0 13 rfl rfl)
theorem dX3_best_16 : decode cX3_best 16 = .ok (.iload_n 3, 1) := dk_29 (dk_at dksX3_best_0 16 rfl rfl)
theorem dX3_best_17 : decode cX3_best 17 = .ok (.invokestatic 268, 3) := dk_184 1 12 (dk_at dksX3_best_0 17 rfl rfl)
theorem dX3_best_20 : decode cX3_best 20 = .ok (.iload_n 1, 1) := dk_27 (dk_at dksX3_best_0 20 rfl rfl)
theorem dX3_best_21 : decode cX3_best 21 = .ok (.if_icmp .gt 21, 3) := dk_163 0 21 (dk_at dksX3_best_0 21 rfl rfl)
theorem dX3_best_24 : decode cX3_best 24 = .ok (.aload_n 0, 1) := dk_42 (dk_at dksX3_best_1 0 rfl rfl)
theorem dX3_best_25 : decode cX3_best 25 = .ok (.iload_n 3, 1) := dk_29 (dk_at dksX3_best_1 1 rfl rfl)
theorem dX3_best_26 : decode cX3_best 26 = .ok (.invokevirtual 271, 3) := dk_182 1 15 (dk_at dksX3_best_1 2 rfl rfl)
theorem dX3_best_29 : decode cX3_best 29 = .ok (.aload_n 0, 1) := dk_42 (dk_at dksX3_best_1 5 rfl rfl)
theorem dX3_best_30 : decode cX3_best 30 = .ok (.iload_n 2, 1) := dk_28 (dk_at dksX3_best_1 6 rfl rfl)
theorem dX3_best_31 : decode cX3_best 31 = .ok (.invokevirtual 271, 3) := dk_182 1 15 (dk_at dksX3_best_1 7 rfl rfl)
theorem dX3_best_34 : decode cX3_best 34 = .ok (.lcmp, 1) := dk_148 (dk_at dksX3_best_1 10 rfl rfl)
theorem dX3_best_35 : decode cX3_best 35 = .ok (.ifCond .ge 7, 3) := dk_156 0 7 (dk_at dksX3_best_1 11 rfl rfl)
theorem dX3_best_38 : decode cX3_best 38 = .ok (.iload_n 3, 1) := dk_29 (dk_at dksX3_best_1 14 rfl rfl)
theorem dX3_best_39 : decode cX3_best 39 = .ok (.goto 4, 3) := dk_167 0 4 (dk_at dksX3_best_1 15 rfl rfl)
theorem dX3_best_42 : decode cX3_best 42 = .ok (.iload_n 2, 1) := dk_28 (dk_at dksX3_best_1 18 rfl rfl)
theorem dX3_best_43 : decode cX3_best 43 = .ok (.istore_n 2, 1) := dk_61 (dk_at dksX3_best_1 19 rfl rfl)
theorem dX3_best_44 : decode cX3_best 44 = .ok (.iinc 3 1, 3) := dk_132 3 1 (dk_at dksX3_best_1 20 rfl rfl)
theorem dX3_best_47 : decode cX3_best 47 = .ok (.goto (-43), 3) := dk_167 255 213 (dk_at dksX3_best_2 0 rfl rfl)
theorem dX3_best_50 : decode cX3_best 50 = .ok (.iload_n 2, 1) := dk_28 (dk_at dksX3_best_2 3 rfl rfl)
theorem dX3_best_51 : decode cX3_best 51 = .ok (.ireturn, 1) := dk_172 (dk_at dksX3_best_2 4 rfl rfl)
abbrev cX3_many : ByteArray := prog_25_method_83_code
def yX3_many : MethodName := ⟨RX3, "many", "(I)I"⟩
def dkwX3_many_1 : List UInt8 := [27, 172]
abbrev dktX3_many_1 : List UInt8 := dkwX3_many_1 ++ []
def dkwX3_many_0 : List UInt8 := [3, 60, 3, 61, 28, 16, 8, 162, 0, 17, 27, 26, 28, 122, 4, 126, 96, 60, 132, 2, 1, 167, 255, 239]
abbrev dktX3_many_0 : List UInt8 := dkwX3_many_0 ++ dktX3_many_1
theorem dksX3_many_0 : cX3_many.data.toList.drop 0 = dktX3_many_0 := by decide +kernel
theorem dksX3_many_1 : cX3_many.data.toList.drop 24 = dktX3_many_1 := dk_seg dksX3_many_0 24 rfl rfl
theorem dX3_many_0 : decode cX3_many 0 = .ok (.iconst 0, 1) := dk_3 (dk_at dksX3_many_0 0 rfl rfl)
theorem dX3_many_1 : decode cX3_many 1 = .ok (.istore_n 1, 1) := dk_60 (dk_at dksX3_many_0 1 rfl rfl)
theorem dX3_many_2 : decode cX3_many 2 = .ok (.iconst 0, 1) := dk_3 (dk_at dksX3_many_0 2 rfl rfl)
theorem dX3_many_3 : decode cX3_many 3 = .ok (.istore_n 2, 1) := dk_61 (dk_at dksX3_many_0 3 rfl rfl)
theorem dX3_many_4 : decode cX3_many 4 = .ok (.iload_n 2, 1) := dk_28 (dk_at dksX3_many_0 4 rfl rfl)
theorem dX3_many_5 : decode cX3_many 5 = .ok (.bipush 8, 2) := dk_16 8 (dk_at dksX3_many_0 5 rfl rfl)
theorem dX3_many_7 : decode cX3_many 7 = .ok (.if_icmp .ge 17, 3) := dk_162 0 17 (dk_at dksX3_many_0 7 rfl rfl)
theorem dX3_many_10 : decode cX3_many 10 = .ok (.iload_n 1, 1) := dk_27 (dk_at dksX3_many_0 10 rfl rfl)
theorem dX3_many_11 : decode cX3_many 11 = .ok (.iload_n 0, 1) := dk_26 (dk_at dksX3_many_0 11 rfl rfl)
theorem dX3_many_12 : decode cX3_many 12 = .ok (.iload_n 2, 1) := dk_28 (dk_at dksX3_many_0 12 rfl rfl)
theorem dX3_many_13 : decode cX3_many 13 = .ok (.ishr, 1) := dk_122 (dk_at dksX3_many_0 13 rfl rfl)
theorem dX3_many_14 : decode cX3_many 14 = .ok (.iconst 1, 1) := dk_4 (dk_at dksX3_many_0 14 rfl rfl)
theorem dX3_many_15 : decode cX3_many 15 = .ok (.iand, 1) := dk_126 (dk_at dksX3_many_0 15 rfl rfl)
theorem dX3_many_16 : decode cX3_many 16 = .ok (.iadd, 1) := dk_96 (dk_at dksX3_many_0 16 rfl rfl)
theorem dX3_many_17 : decode cX3_many 17 = .ok (.istore_n 1, 1) := dk_60 (dk_at dksX3_many_0 17 rfl rfl)
theorem dX3_many_18 : decode cX3_many 18 = .ok (.iinc 2 1, 3) := dk_132 2 1 (dk_at dksX3_many_0 18 rfl rfl)
theorem dX3_many_21 : decode cX3_many 21 = .ok (.goto (-17), 3) := dk_167 255 239 (dk_at dksX3_many_0 21 rfl rfl)
theorem dX3_many_24 : decode cX3_many 24 = .ok (.iload_n 1, 1) := dk_27 (dk_at dksX3_many_1 0 rfl rfl)
theorem dX3_many_25 : decode cX3_many 25 = .ok (.ireturn, 1) := dk_172 (dk_at dksX3_many_1 1 rfl rfl)
abbrev cX3_whole : ByteArray := prog_25_method_81_code
def yX3_whole : MethodName := ⟨RX3, "whole", "(I)J"⟩
def dkwX3_whole_1 : List UInt8 := [180, 0, 44, 21, 4, 47, 97, 65, 132, 4, 1, 167, 255, 232, 32, 173]
abbrev dktX3_whole_1 : List UInt8 := dkwX3_whole_1 ++ []
def dkwX3_whole_0 : List UInt8 := [42, 27, 182, 1, 9, 9, 65, 3, 54, 4, 21, 4, 42, 180, 0, 7, 6, 46, 162, 0, 19, 32, 42]
abbrev dktX3_whole_0 : List UInt8 := dkwX3_whole_0 ++ dktX3_whole_1
theorem dksX3_whole_0 : cX3_whole.data.toList.drop 0 = dktX3_whole_0 := by decide +kernel
theorem dksX3_whole_1 : cX3_whole.data.toList.drop 23 = dktX3_whole_1 := dk_seg dksX3_whole_0 23 rfl rfl
theorem dX3_whole_0 : decode cX3_whole 0 = .ok (.aload_n 0, 1) := dk_42 (dk_at dksX3_whole_0 0 rfl rfl)
theorem dX3_whole_1 : decode cX3_whole 1 = .ok (.iload_n 1, 1) := dk_27 (dk_at dksX3_whole_0 1 rfl rfl)
theorem dX3_whole_2 : decode cX3_whole 2 = .ok (.invokevirtual 265, 3) := dk_182 1 9 (dk_at dksX3_whole_0 2 rfl rfl)
theorem dX3_whole_5 : decode cX3_whole 5 = .ok (.lconst 0, 1) := dk_9 (dk_at dksX3_whole_0 5 rfl rfl)
theorem dX3_whole_6 : decode cX3_whole 6 = .ok (.lstore_n 2, 1) := dk_65 (dk_at dksX3_whole_0 6 rfl rfl)
theorem dX3_whole_7 : decode cX3_whole 7 = .ok (.iconst 0, 1) := dk_3 (dk_at dksX3_whole_0 7 rfl rfl)
theorem dX3_whole_8 : decode cX3_whole 8 = .ok (.istore 4, 2) := dk_54 4 (dk_at dksX3_whole_0 8 rfl rfl)
theorem dX3_whole_10 : decode cX3_whole 10 = .ok (.iload 4, 2) := dk_21 4 (dk_at dksX3_whole_0 10 rfl rfl)
theorem dX3_whole_12 : decode cX3_whole 12 = .ok (.aload_n 0, 1) := dk_42 (dk_at dksX3_whole_0 12 rfl rfl)
theorem dX3_whole_13 : decode cX3_whole 13 = .ok (.getfield 7, 3) := dk_180 0 7 (dk_at dksX3_whole_0 13 rfl rfl)
theorem dX3_whole_16 : decode cX3_whole 16 = .ok (.iconst 3, 1) := dk_6 (dk_at dksX3_whole_0 16 rfl rfl)
theorem dX3_whole_17 : decode cX3_whole 17 = .ok (.iaload, 1) := dk_46 (dk_at dksX3_whole_0 17 rfl rfl)
theorem dX3_whole_18 : decode cX3_whole 18 = .ok (.if_icmp .ge 19, 3) := dk_162 0 19 (dk_at dksX3_whole_0 18 rfl rfl)
theorem dX3_whole_21 : decode cX3_whole 21 = .ok (.lload_n 2, 1) := dk_32 (dk_at dksX3_whole_0 21 rfl rfl)
theorem dX3_whole_22 : decode cX3_whole 22 = .ok (.aload_n 0, 1) := dk_42 (dk_at dksX3_whole_0 22 rfl rfl)
theorem dX3_whole_23 : decode cX3_whole 23 = .ok (.getfield 44, 3) := dk_180 0 44 (dk_at dksX3_whole_1 0 rfl rfl)
theorem dX3_whole_26 : decode cX3_whole 26 = .ok (.iload 4, 2) := dk_21 4 (dk_at dksX3_whole_1 3 rfl rfl)
theorem dX3_whole_28 : decode cX3_whole 28 = .ok (.laload, 1) := dk_47 (dk_at dksX3_whole_1 5 rfl rfl)
theorem dX3_whole_29 : decode cX3_whole 29 = .ok (.ladd, 1) := dk_97 (dk_at dksX3_whole_1 6 rfl rfl)
theorem dX3_whole_30 : decode cX3_whole 30 = .ok (.lstore_n 2, 1) := dk_65 (dk_at dksX3_whole_1 7 rfl rfl)
theorem dX3_whole_31 : decode cX3_whole 31 = .ok (.iinc 4 1, 3) := dk_132 4 1 (dk_at dksX3_whole_1 8 rfl rfl)
theorem dX3_whole_34 : decode cX3_whole 34 = .ok (.goto (-24), 3) := dk_167 255 232 (dk_at dksX3_whole_1 11 rfl rfl)
theorem dX3_whole_37 : decode cX3_whole 37 = .ok (.lload_n 2, 1) := dk_32 (dk_at dksX3_whole_1 14 rfl rfl)
theorem dX3_whole_38 : decode cX3_whole 38 = .ok (.lreturn, 1) := dk_173 (dk_at dksX3_whole_1 15 rfl rfl)
abbrev cX3_bestPlanByDeciding : ByteArray := prog_25_method_87_code
def yX3_bestPlanByDeciding : MethodName := ⟨RX3, "bestPlanByDeciding", "(I)I"⟩
def dkwX3_bestPlanByDeciding_0 : List UInt8 := [42, 27, 182, 1, 22, 172]
abbrev dktX3_bestPlanByDeciding_0 : List UInt8 := dkwX3_bestPlanByDeciding_0 ++ []
theorem dksX3_bestPlanByDeciding_0 : cX3_bestPlanByDeciding.data.toList.drop 0 = dktX3_bestPlanByDeciding_0 := by decide +kernel
theorem dX3_bestPlanByDeciding_0 : decode cX3_bestPlanByDeciding 0 = .ok (.aload_n 0, 1) := dk_42 (dk_at dksX3_bestPlanByDeciding_0 0 rfl rfl)
theorem dX3_bestPlanByDeciding_1 : decode cX3_bestPlanByDeciding 1 = .ok (.iload_n 1, 1) := dk_27 (dk_at dksX3_bestPlanByDeciding_0 1 rfl rfl)
theorem dX3_bestPlanByDeciding_2 : decode cX3_bestPlanByDeciding 2 = .ok (.invokevirtual 278, 3) := dk_182 1 22 (dk_at dksX3_bestPlanByDeciding_0 2 rfl rfl)
theorem dX3_bestPlanByDeciding_5 : decode cX3_bestPlanByDeciding 5 = .ok (.ireturn, 1) := dk_172 (dk_at dksX3_bestPlanByDeciding_0 5 rfl rfl)
abbrev cX3_bestCost : ByteArray := prog_25_method_88_code
def yX3_bestCost : MethodName := ⟨RX3, "bestCost", "(I)J"⟩
def dkwX3_bestCost_1 : List UInt8 := [182, 1, 15, 173]
abbrev dktX3_bestCost_1 : List UInt8 := dkwX3_bestCost_1 ++ []
def dkwX3_bestCost_0 : List UInt8 := [42, 27, 3, 16, 8, 184, 0, 112, 182, 0, 238, 158, 0, 7, 9, 167, 0, 12, 42, 42, 27, 182, 1, 19]
abbrev dktX3_bestCost_0 : List UInt8 := dkwX3_bestCost_0 ++ dktX3_bestCost_1
theorem dksX3_bestCost_0 : cX3_bestCost.data.toList.drop 0 = dktX3_bestCost_0 := by decide +kernel
theorem dksX3_bestCost_1 : cX3_bestCost.data.toList.drop 24 = dktX3_bestCost_1 := dk_seg dksX3_bestCost_0 24 rfl rfl
theorem dX3_bestCost_0 : decode cX3_bestCost 0 = .ok (.aload_n 0, 1) := dk_42 (dk_at dksX3_bestCost_0 0 rfl rfl)
theorem dX3_bestCost_1 : decode cX3_bestCost 1 = .ok (.iload_n 1, 1) := dk_27 (dk_at dksX3_bestCost_0 1 rfl rfl)
theorem dX3_bestCost_2 : decode cX3_bestCost 2 = .ok (.iconst 0, 1) := dk_3 (dk_at dksX3_bestCost_0 2 rfl rfl)
theorem dX3_bestCost_3 : decode cX3_bestCost 3 = .ok (.bipush 8, 2) := dk_16 8 (dk_at dksX3_bestCost_0 3 rfl rfl)
theorem dX3_bestCost_5 : decode cX3_bestCost 5 = .ok (.invokestatic 112, 3) := dk_184 0 112 (dk_at dksX3_bestCost_0 5 rfl rfl)
theorem dX3_bestCost_8 : decode cX3_bestCost 8 = .ok (.invokevirtual 238, 3) := dk_182 0 238 (dk_at dksX3_bestCost_0 8 rfl rfl)
theorem dX3_bestCost_11 : decode cX3_bestCost 11 = .ok (.ifCond .le 7, 3) := dk_158 0 7 (dk_at dksX3_bestCost_0 11 rfl rfl)
theorem dX3_bestCost_14 : decode cX3_bestCost 14 = .ok (.lconst 0, 1) := dk_9 (dk_at dksX3_bestCost_0 14 rfl rfl)
theorem dX3_bestCost_15 : decode cX3_bestCost 15 = .ok (.goto 12, 3) := dk_167 0 12 (dk_at dksX3_bestCost_0 15 rfl rfl)
theorem dX3_bestCost_18 : decode cX3_bestCost 18 = .ok (.aload_n 0, 1) := dk_42 (dk_at dksX3_bestCost_0 18 rfl rfl)
theorem dX3_bestCost_19 : decode cX3_bestCost 19 = .ok (.aload_n 0, 1) := dk_42 (dk_at dksX3_bestCost_0 19 rfl rfl)
theorem dX3_bestCost_20 : decode cX3_bestCost 20 = .ok (.iload_n 1, 1) := dk_27 (dk_at dksX3_bestCost_0 20 rfl rfl)
theorem dX3_bestCost_21 : decode cX3_bestCost 21 = .ok (.invokevirtual 275, 3) := dk_182 1 19 (dk_at dksX3_bestCost_0 21 rfl rfl)
theorem dX3_bestCost_24 : decode cX3_bestCost 24 = .ok (.invokevirtual 271, 3) := dk_182 1 15 (dk_at dksX3_bestCost_1 0 rfl rfl)
theorem dX3_bestCost_27 : decode cX3_bestCost 27 = .ok (.lreturn, 1) := dk_173 (dk_at dksX3_bestCost_1 3 rfl rfl)
abbrev cX3_added : ByteArray := prog_25_method_89_code
def yX3_added : MethodName := ⟨RX3, "added", "()I"⟩
def dkwX3_added_0 : List UInt8 := [42, 42, 180, 0, 7, 5, 46, 182, 0, 235, 172]
abbrev dktX3_added_0 : List UInt8 := dkwX3_added_0 ++ []
theorem dksX3_added_0 : cX3_added.data.toList.drop 0 = dktX3_added_0 := by decide +kernel
theorem dX3_added_0 : decode cX3_added 0 = .ok (.aload_n 0, 1) := dk_42 (dk_at dksX3_added_0 0 rfl rfl)
theorem dX3_added_1 : decode cX3_added 1 = .ok (.aload_n 0, 1) := dk_42 (dk_at dksX3_added_0 1 rfl rfl)
theorem dX3_added_2 : decode cX3_added 2 = .ok (.getfield 7, 3) := dk_180 0 7 (dk_at dksX3_added_0 2 rfl rfl)
theorem dX3_added_5 : decode cX3_added 5 = .ok (.iconst 2, 1) := dk_5 (dk_at dksX3_added_0 5 rfl rfl)
theorem dX3_added_6 : decode cX3_added 6 = .ok (.iaload, 1) := dk_46 (dk_at dksX3_added_0 6 rfl rfl)
theorem dX3_added_7 : decode cX3_added 7 = .ok (.invokevirtual 235, 3) := dk_182 0 235 (dk_at dksX3_added_0 7 rfl rfl)
theorem dX3_added_10 : decode cX3_added 10 = .ok (.ireturn, 1) := dk_172 (dk_at dksX3_added_0 10 rfl rfl)
abbrev cX3_removed : ByteArray := prog_25_method_90_code
def yX3_removed : MethodName := ⟨RX3, "removed", "()I"⟩
def dkwX3_removed_0 : List UInt8 := [42, 42, 180, 0, 7, 7, 46, 182, 0, 235, 172]
abbrev dktX3_removed_0 : List UInt8 := dkwX3_removed_0 ++ []
theorem dksX3_removed_0 : cX3_removed.data.toList.drop 0 = dktX3_removed_0 := by decide +kernel
theorem dX3_removed_0 : decode cX3_removed 0 = .ok (.aload_n 0, 1) := dk_42 (dk_at dksX3_removed_0 0 rfl rfl)
theorem dX3_removed_1 : decode cX3_removed 1 = .ok (.aload_n 0, 1) := dk_42 (dk_at dksX3_removed_0 1 rfl rfl)
theorem dX3_removed_2 : decode cX3_removed 2 = .ok (.getfield 7, 3) := dk_180 0 7 (dk_at dksX3_removed_0 2 rfl rfl)
theorem dX3_removed_5 : decode cX3_removed 5 = .ok (.iconst 4, 1) := dk_7 (dk_at dksX3_removed_0 5 rfl rfl)
theorem dX3_removed_6 : decode cX3_removed 6 = .ok (.iaload, 1) := dk_46 (dk_at dksX3_removed_0 6 rfl rfl)
theorem dX3_removed_7 : decode cX3_removed 7 = .ok (.invokevirtual 235, 3) := dk_182 0 235 (dk_at dksX3_removed_0 7 rfl rfl)
theorem dX3_removed_10 : decode cX3_removed 10 = .ok (.ireturn, 1) := dk_172 (dk_at dksX3_removed_0 10 rfl rfl)
abbrev cX3_late : ByteArray := prog_25_method_91_code
def yX3_late : MethodName := ⟨RX3, "late", "()I"⟩
def dkwX3_late_0 : List UInt8 := [42, 42, 180, 0, 7, 8, 46, 182, 0, 235, 172]
abbrev dktX3_late_0 : List UInt8 := dkwX3_late_0 ++ []
theorem dksX3_late_0 : cX3_late.data.toList.drop 0 = dktX3_late_0 := by decide +kernel
theorem dX3_late_0 : decode cX3_late 0 = .ok (.aload_n 0, 1) := dk_42 (dk_at dksX3_late_0 0 rfl rfl)
theorem dX3_late_1 : decode cX3_late 1 = .ok (.aload_n 0, 1) := dk_42 (dk_at dksX3_late_0 1 rfl rfl)
theorem dX3_late_2 : decode cX3_late 2 = .ok (.getfield 7, 3) := dk_180 0 7 (dk_at dksX3_late_0 2 rfl rfl)
theorem dX3_late_5 : decode cX3_late 5 = .ok (.iconst 5, 1) := dk_8 (dk_at dksX3_late_0 5 rfl rfl)
theorem dX3_late_6 : decode cX3_late 6 = .ok (.iaload, 1) := dk_46 (dk_at dksX3_late_0 6 rfl rfl)
theorem dX3_late_7 : decode cX3_late 7 = .ok (.invokevirtual 235, 3) := dk_182 0 235 (dk_at dksX3_late_0 7 rfl rfl)
theorem dX3_late_10 : decode cX3_late 10 = .ok (.ireturn, 1) := dk_172 (dk_at dksX3_late_0 10 rfl rfl)
abbrev cX3_repaired : ByteArray := prog_25_method_92_code
def yX3_repaired : MethodName := ⟨RX3, "repaired", "()I"⟩
def dkwX3_repaired_0 : List UInt8 := [42, 42, 180, 0, 7, 16, 6, 46, 182, 0, 235, 172]
abbrev dktX3_repaired_0 : List UInt8 := dkwX3_repaired_0 ++ []
theorem dksX3_repaired_0 : cX3_repaired.data.toList.drop 0 = dktX3_repaired_0 := by decide +kernel
theorem dX3_repaired_0 : decode cX3_repaired 0 = .ok (.aload_n 0, 1) := dk_42 (dk_at dksX3_repaired_0 0 rfl rfl)
theorem dX3_repaired_1 : decode cX3_repaired 1 = .ok (.aload_n 0, 1) := dk_42 (dk_at dksX3_repaired_0 1 rfl rfl)
theorem dX3_repaired_2 : decode cX3_repaired 2 = .ok (.getfield 7, 3) := dk_180 0 7 (dk_at dksX3_repaired_0 2 rfl rfl)
theorem dX3_repaired_5 : decode cX3_repaired 5 = .ok (.bipush 6, 2) := dk_16 6 (dk_at dksX3_repaired_0 5 rfl rfl)
theorem dX3_repaired_7 : decode cX3_repaired 7 = .ok (.iaload, 1) := dk_46 (dk_at dksX3_repaired_0 7 rfl rfl)
theorem dX3_repaired_8 : decode cX3_repaired 8 = .ok (.invokevirtual 235, 3) := dk_182 0 235 (dk_at dksX3_repaired_0 8 rfl rfl)
theorem dX3_repaired_11 : decode cX3_repaired 11 = .ok (.ireturn, 1) := dk_172 (dk_at dksX3_repaired_0 11 rfl rfl)
abbrev cX3_meanAmount : ByteArray := prog_25_method_93_code
def yX3_meanAmount : MethodName := ⟨RX3, "meanAmount", "()D"⟩
def dkwX3_meanAmount_2 : List UInt8 := [132, 2, 1, 167, 255, 234, 27, 135, 42, 180, 0, 7, 4, 46, 135, 111, 175]
abbrev dktX3_meanAmount_2 : List UInt8 := dkwX3_meanAmount_2 ++ []
def dkwX3_meanAmount_1 : List UInt8 := [60, 3, 61, 28, 42, 180, 0, 7, 4, 46, 162, 0, 18, 27, 42, 28, 6, 182, 0, 108, 96, 60]
abbrev dktX3_meanAmount_1 : List UInt8 := dkwX3_meanAmount_1 ++ dktX3_meanAmount_2
def dkwX3_meanAmount_0 : List UInt8 := [42, 42, 180, 0, 7, 4, 46, 158, 0, 7, 4, 167, 0, 4, 3, 182, 0, 238, 158, 0, 5, 14, 175, 3]
abbrev dktX3_meanAmount_0 : List UInt8 := dkwX3_meanAmount_0 ++ dktX3_meanAmount_1
theorem dksX3_meanAmount_0 : cX3_meanAmount.data.toList.drop 0 = dktX3_meanAmount_0 := by decide +kernel
theorem dksX3_meanAmount_1 : cX3_meanAmount.data.toList.drop 24 = dktX3_meanAmount_1 := dk_seg dksX3_meanAmount_0 24 rfl rfl
theorem dksX3_meanAmount_2 : cX3_meanAmount.data.toList.drop 46 = dktX3_meanAmount_2 := dk_seg dksX3_meanAmount_1 22 rfl rfl
theorem dX3_meanAmount_0 : decode cX3_meanAmount 0 = .ok (.aload_n 0, 1) := dk_42 (dk_at dksX3_meanAmount_0 0 rfl rfl)
theorem dX3_meanAmount_1 : decode cX3_meanAmount 1 = .ok (.aload_n 0, 1) := dk_42 (dk_at dksX3_meanAmount_0 1 rfl rfl)
theorem dX3_meanAmount_2 : decode cX3_meanAmount 2 = .ok (.getfield 7, 3) := dk_180 0 7 (dk_at dksX3_meanAmount_0 2 rfl rfl)
theorem dX3_meanAmount_5 : decode cX3_meanAmount 5 = .ok (.iconst 1, 1) := dk_4 (dk_at dksX3_meanAmount_0 5 rfl rfl)
theorem dX3_meanAmount_6 : decode cX3_meanAmount 6 = .ok (.iaload, 1) := dk_46 (dk_at dksX3_meanAmount_0 6 rfl rfl)
theorem dX3_meanAmount_7 : decode cX3_meanAmount 7 = .ok (.ifCond .le 7, 3) := dk_158 0 7 (dk_at dksX3_meanAmount_0 7 rfl rfl)
theorem dX3_meanAmount_10 : decode cX3_meanAmount 10 = .ok (.iconst 1, 1) := dk_4 (dk_at dksX3_meanAmount_0 10 rfl rfl)
theorem dX3_meanAmount_11 : decode cX3_meanAmount 11 = .ok (.goto 4, 3) := dk_167 0 4 (dk_at dksX3_meanAmount_0 11 rfl rfl)
theorem dX3_meanAmount_14 : decode cX3_meanAmount 14 = .ok (.iconst 0, 1) := dk_3 (dk_at dksX3_meanAmount_0 14 rfl rfl)
theorem dX3_meanAmount_15 : decode cX3_meanAmount 15 = .ok (.invokevirtual 238, 3) := dk_182 0 238 (dk_at dksX3_meanAmount_0 15 rfl rfl)
theorem dX3_meanAmount_18 : decode cX3_meanAmount 18 = .ok (.ifCond .le 5, 3) := dk_158 0 5 (dk_at dksX3_meanAmount_0 18 rfl rfl)
theorem dX3_meanAmount_21 : decode cX3_meanAmount 21 = .ok (.dconst 0, 1) := dk_14 (dk_at dksX3_meanAmount_0 21 rfl rfl)
theorem dX3_meanAmount_22 : decode cX3_meanAmount 22 = .ok (.dreturn, 1) := dk_175 (dk_at dksX3_meanAmount_0 22 rfl rfl)
theorem dX3_meanAmount_23 : decode cX3_meanAmount 23 = .ok (.iconst 0, 1) := dk_3 (dk_at dksX3_meanAmount_0 23 rfl rfl)
theorem dX3_meanAmount_24 : decode cX3_meanAmount 24 = .ok (.istore_n 1, 1) := dk_60 (dk_at dksX3_meanAmount_1 0 rfl rfl)
theorem dX3_meanAmount_25 : decode cX3_meanAmount 25 = .ok (.iconst 0, 1) := dk_3 (dk_at dksX3_meanAmount_1 1 rfl rfl)
theorem dX3_meanAmount_26 : decode cX3_meanAmount 26 = .ok (.istore_n 2, 1) := dk_61 (dk_at dksX3_meanAmount_1 2 rfl rfl)
theorem dX3_meanAmount_27 : decode cX3_meanAmount 27 = .ok (.iload_n 2, 1) := dk_28 (dk_at dksX3_meanAmount_1 3 rfl rfl)
theorem dX3_meanAmount_28 : decode cX3_meanAmount 28 = .ok (.aload_n 0, 1) := dk_42 (dk_at dksX3_meanAmount_1 4 rfl rfl)
theorem dX3_meanAmount_29 : decode cX3_meanAmount 29 = .ok (.getfield 7, 3) := dk_180 0 7 (dk_at dksX3_meanAmount_1 5 rfl rfl)
theorem dX3_meanAmount_32 : decode cX3_meanAmount 32 = .ok (.iconst 1, 1) := dk_4 (dk_at dksX3_meanAmount_1 8 rfl rfl)
theorem dX3_meanAmount_33 : decode cX3_meanAmount 33 = .ok (.iaload, 1) := dk_46 (dk_at dksX3_meanAmount_1 9 rfl rfl)
theorem dX3_meanAmount_34 : decode cX3_meanAmount 34 = .ok (.if_icmp .ge 18, 3) := dk_162 0 18 (dk_at dksX3_meanAmount_1 10 rfl rfl)
theorem dX3_meanAmount_37 : decode cX3_meanAmount 37 = .ok (.iload_n 1, 1) := dk_27 (dk_at dksX3_meanAmount_1 13 rfl rfl)
theorem dX3_meanAmount_38 : decode cX3_meanAmount 38 = .ok (.aload_n 0, 1) := dk_42 (dk_at dksX3_meanAmount_1 14 rfl rfl)
theorem dX3_meanAmount_39 : decode cX3_meanAmount 39 = .ok (.iload_n 2, 1) := dk_28 (dk_at dksX3_meanAmount_1 15 rfl rfl)
theorem dX3_meanAmount_40 : decode cX3_meanAmount 40 = .ok (.iconst 3, 1) := dk_6 (dk_at dksX3_meanAmount_1 16 rfl rfl)
theorem dX3_meanAmount_41 : decode cX3_meanAmount 41 = .ok (.invokevirtual 108, 3) := dk_182 0 108 (dk_at dksX3_meanAmount_1 17 rfl rfl)
theorem dX3_meanAmount_44 : decode cX3_meanAmount 44 = .ok (.iadd, 1) := dk_96 (dk_at dksX3_meanAmount_1 20 rfl rfl)
theorem dX3_meanAmount_45 : decode cX3_meanAmount 45 = .ok (.istore_n 1, 1) := dk_60 (dk_at dksX3_meanAmount_1 21 rfl rfl)
theorem dX3_meanAmount_46 : decode cX3_meanAmount 46 = .ok (.iinc 2 1, 3) := dk_132 2 1 (dk_at dksX3_meanAmount_2 0 rfl rfl)
theorem dX3_meanAmount_49 : decode cX3_meanAmount 49 = .ok (.goto (-22), 3) := dk_167 255 234 (dk_at dksX3_meanAmount_2 3 rfl rfl)
theorem dX3_meanAmount_52 : decode cX3_meanAmount 52 = .ok (.iload_n 1, 1) := dk_27 (dk_at dksX3_meanAmount_2 6 rfl rfl)
theorem dX3_meanAmount_53 : decode cX3_meanAmount 53 = .ok (.i2d, 1) := dk_135 (dk_at dksX3_meanAmount_2 7 rfl rfl)
theorem dX3_meanAmount_54 : decode cX3_meanAmount 54 = .ok (.aload_n 0, 1) := dk_42 (dk_at dksX3_meanAmount_2 8 rfl rfl)
theorem dX3_meanAmount_55 : decode cX3_meanAmount 55 = .ok (.getfield 7, 3) := dk_180 0 7 (dk_at dksX3_meanAmount_2 9 rfl rfl)
theorem dX3_meanAmount_58 : decode cX3_meanAmount 58 = .ok (.iconst 1, 1) := dk_4 (dk_at dksX3_meanAmount_2 12 rfl rfl)
theorem dX3_meanAmount_59 : decode cX3_meanAmount 59 = .ok (.iaload, 1) := dk_46 (dk_at dksX3_meanAmount_2 13 rfl rfl)
theorem dX3_meanAmount_60 : decode cX3_meanAmount 60 = .ok (.i2d, 1) := dk_135 (dk_at dksX3_meanAmount_2 14 rfl rfl)
theorem dX3_meanAmount_61 : decode cX3_meanAmount 61 = .ok (.ddiv, 1) := dk_111 (dk_at dksX3_meanAmount_2 15 rfl rfl)
theorem dX3_meanAmount_62 : decode cX3_meanAmount 62 = .ok (.dreturn, 1) := dk_175 (dk_at dksX3_meanAmount_2 16 rfl rfl)
abbrev cX3_staleShare : ByteArray := prog_25_method_94_code
def yX3_staleShare : MethodName := ⟨RX3, "staleShare", "()F"⟩
def dkwX3_staleShare_2 : List UInt8 := [110, 174]
abbrev dktX3_staleShare_2 : List UInt8 := dkwX3_staleShare_2 ++ []
def dkwX3_staleShare_1 : List UInt8 := [167, 0, 25, 42, 182, 0, 251, 134, 42, 180, 0, 7, 6, 46, 42, 180, 0, 7, 3, 46, 4, 96, 104, 134]
abbrev dktX3_staleShare_1 : List UInt8 := dkwX3_staleShare_1 ++ dktX3_staleShare_2
def dkwX3_staleShare_0 : List UInt8 := [42, 42, 180, 0, 7, 6, 46, 158, 0, 7, 4, 167, 0, 4, 3, 182, 0, 238, 158, 0, 7, 11]
abbrev dktX3_staleShare_0 : List UInt8 := dkwX3_staleShare_0 ++ dktX3_staleShare_1
theorem dksX3_staleShare_0 : cX3_staleShare.data.toList.drop 0 = dktX3_staleShare_0 := by decide +kernel
theorem dksX3_staleShare_1 : cX3_staleShare.data.toList.drop 22 = dktX3_staleShare_1 := dk_seg dksX3_staleShare_0 22 rfl rfl
theorem dksX3_staleShare_2 : cX3_staleShare.data.toList.drop 46 = dktX3_staleShare_2 := dk_seg dksX3_staleShare_1 24 rfl rfl
theorem dX3_staleShare_0 : decode cX3_staleShare 0 = .ok (.aload_n 0, 1) := dk_42 (dk_at dksX3_staleShare_0 0 rfl rfl)
theorem dX3_staleShare_1 : decode cX3_staleShare 1 = .ok (.aload_n 0, 1) := dk_42 (dk_at dksX3_staleShare_0 1 rfl rfl)
theorem dX3_staleShare_2 : decode cX3_staleShare 2 = .ok (.getfield 7, 3) := dk_180 0 7 (dk_at dksX3_staleShare_0 2 rfl rfl)
theorem dX3_staleShare_5 : decode cX3_staleShare 5 = .ok (.iconst 3, 1) := dk_6 (dk_at dksX3_staleShare_0 5 rfl rfl)
theorem dX3_staleShare_6 : decode cX3_staleShare 6 = .ok (.iaload, 1) := dk_46 (dk_at dksX3_staleShare_0 6 rfl rfl)
theorem dX3_staleShare_7 : decode cX3_staleShare 7 = .ok (.ifCond .le 7, 3) := dk_158 0 7 (dk_at dksX3_staleShare_0 7 rfl rfl)
theorem dX3_staleShare_10 : decode cX3_staleShare 10 = .ok (.iconst 1, 1) := dk_4 (dk_at dksX3_staleShare_0 10 rfl rfl)
theorem dX3_staleShare_11 : decode cX3_staleShare 11 = .ok (.goto 4, 3) := dk_167 0 4 (dk_at dksX3_staleShare_0 11 rfl rfl)
theorem dX3_staleShare_14 : decode cX3_staleShare 14 = .ok (.iconst 0, 1) := dk_3 (dk_at dksX3_staleShare_0 14 rfl rfl)
theorem dX3_staleShare_15 : decode cX3_staleShare 15 = .ok (.invokevirtual 238, 3) := dk_182 0 238 (dk_at dksX3_staleShare_0 15 rfl rfl)
theorem dX3_staleShare_18 : decode cX3_staleShare 18 = .ok (.ifCond .le 7, 3) := dk_158 0 7 (dk_at dksX3_staleShare_0 18 rfl rfl)
theorem dX3_staleShare_21 : decode cX3_staleShare 21 = .ok (.fconst 0, 1) := dk_11 (dk_at dksX3_staleShare_0 21 rfl rfl)
theorem dX3_staleShare_22 : decode cX3_staleShare 22 = .ok (.goto 25, 3) := dk_167 0 25 (dk_at dksX3_staleShare_1 0 rfl rfl)
theorem dX3_staleShare_25 : decode cX3_staleShare 25 = .ok (.aload_n 0, 1) := dk_42 (dk_at dksX3_staleShare_1 3 rfl rfl)
theorem dX3_staleShare_26 : decode cX3_staleShare 26 = .ok (.invokevirtual 251, 3) := dk_182 0 251 (dk_at dksX3_staleShare_1 4 rfl rfl)
theorem dX3_staleShare_29 : decode cX3_staleShare 29 = .ok (.i2f, 1) := dk_134 (dk_at dksX3_staleShare_1 7 rfl rfl)
theorem dX3_staleShare_30 : decode cX3_staleShare 30 = .ok (.aload_n 0, 1) := dk_42 (dk_at dksX3_staleShare_1 8 rfl rfl)
theorem dX3_staleShare_31 : decode cX3_staleShare 31 = .ok (.getfield 7, 3) := dk_180 0 7 (dk_at dksX3_staleShare_1 9 rfl rfl)
theorem dX3_staleShare_34 : decode cX3_staleShare 34 = .ok (.iconst 3, 1) := dk_6 (dk_at dksX3_staleShare_1 12 rfl rfl)
theorem dX3_staleShare_35 : decode cX3_staleShare 35 = .ok (.iaload, 1) := dk_46 (dk_at dksX3_staleShare_1 13 rfl rfl)
theorem dX3_staleShare_36 : decode cX3_staleShare 36 = .ok (.aload_n 0, 1) := dk_42 (dk_at dksX3_staleShare_1 14 rfl rfl)
theorem dX3_staleShare_37 : decode cX3_staleShare 37 = .ok (.getfield 7, 3) := dk_180 0 7 (dk_at dksX3_staleShare_1 15 rfl rfl)
theorem dX3_staleShare_40 : decode cX3_staleShare 40 = .ok (.iconst 0, 1) := dk_3 (dk_at dksX3_staleShare_1 18 rfl rfl)
theorem dX3_staleShare_41 : decode cX3_staleShare 41 = .ok (.iaload, 1) := dk_46 (dk_at dksX3_staleShare_1 19 rfl rfl)
theorem dX3_staleShare_42 : decode cX3_staleShare 42 = .ok (.iconst 1, 1) := dk_4 (dk_at dksX3_staleShare_1 20 rfl rfl)
theorem dX3_staleShare_43 : decode cX3_staleShare 43 = .ok (.iadd, 1) := dk_96 (dk_at dksX3_staleShare_1 21 rfl rfl)
theorem dX3_staleShare_44 : decode cX3_staleShare 44 = .ok (.imul, 1) := dk_104 (dk_at dksX3_staleShare_1 22 rfl rfl)
theorem dX3_staleShare_45 : decode cX3_staleShare 45 = .ok (.i2f, 1) := dk_134 (dk_at dksX3_staleShare_1 23 rfl rfl)
theorem dX3_staleShare_46 : decode cX3_staleShare 46 = .ok (.fdiv, 1) := dk_110 (dk_at dksX3_staleShare_2 0 rfl rfl)
theorem dX3_staleShare_47 : decode cX3_staleShare 47 = .ok (.freturn, 1) := dk_174 (dk_at dksX3_staleShare_2 1 rfl rfl)
abbrev cX3_denial : ByteArray := prog_25_method_95_code
def yX3_denial : MethodName := ⟨RX3, "denial", "()I"⟩
def dkwX3_denial_1 : List UInt8 := [180, 0, 57, 172]
abbrev dktX3_denial_1 : List UInt8 := dkwX3_denial_1 ++ []
def dkwX3_denial_0 : List UInt8 := [42, 42, 180, 0, 57, 158, 0, 7, 4, 167, 0, 4, 3, 182, 0, 238, 158, 0, 7, 3, 167, 0, 7, 42]
abbrev dktX3_denial_0 : List UInt8 := dkwX3_denial_0 ++ dktX3_denial_1
theorem dksX3_denial_0 : cX3_denial.data.toList.drop 0 = dktX3_denial_0 := by decide +kernel
theorem dksX3_denial_1 : cX3_denial.data.toList.drop 24 = dktX3_denial_1 := dk_seg dksX3_denial_0 24 rfl rfl
theorem dX3_denial_0 : decode cX3_denial 0 = .ok (.aload_n 0, 1) := dk_42 (dk_at dksX3_denial_0 0 rfl rfl)
theorem dX3_denial_1 : decode cX3_denial 1 = .ok (.aload_n 0, 1) := dk_42 (dk_at dksX3_denial_0 1 rfl rfl)
theorem dX3_denial_2 : decode cX3_denial 2 = .ok (.getfield 57, 3) := dk_180 0 57 (dk_at dksX3_denial_0 2 rfl rfl)
theorem dX3_denial_5 : decode cX3_denial 5 = .ok (.ifCond .le 7, 3) := dk_158 0 7 (dk_at dksX3_denial_0 5 rfl rfl)
theorem dX3_denial_8 : decode cX3_denial 8 = .ok (.iconst 1, 1) := dk_4 (dk_at dksX3_denial_0 8 rfl rfl)
theorem dX3_denial_9 : decode cX3_denial 9 = .ok (.goto 4, 3) := dk_167 0 4 (dk_at dksX3_denial_0 9 rfl rfl)
theorem dX3_denial_12 : decode cX3_denial 12 = .ok (.iconst 0, 1) := dk_3 (dk_at dksX3_denial_0 12 rfl rfl)
theorem dX3_denial_13 : decode cX3_denial 13 = .ok (.invokevirtual 238, 3) := dk_182 0 238 (dk_at dksX3_denial_0 13 rfl rfl)
theorem dX3_denial_16 : decode cX3_denial 16 = .ok (.ifCond .le 7, 3) := dk_158 0 7 (dk_at dksX3_denial_0 16 rfl rfl)
theorem dX3_denial_19 : decode cX3_denial 19 = .ok (.iconst 0, 1) := dk_3 (dk_at dksX3_denial_0 19 rfl rfl)
theorem dX3_denial_20 : decode cX3_denial 20 = .ok (.goto 7, 3) := dk_167 0 7 (dk_at dksX3_denial_0 20 rfl rfl)
theorem dX3_denial_23 : decode cX3_denial 23 = .ok (.aload_n 0, 1) := dk_42 (dk_at dksX3_denial_0 23 rfl rfl)
theorem dX3_denial_24 : decode cX3_denial 24 = .ok (.getfield 57, 3) := dk_180 0 57 (dk_at dksX3_denial_1 0 rfl rfl)
theorem dX3_denial_27 : decode cX3_denial 27 = .ok (.ireturn, 1) := dk_172 (dk_at dksX3_denial_1 3 rfl rfl)
abbrev cX3_denialDetail : ByteArray := prog_25_method_96_code
def yX3_denialDetail : MethodName := ⟨RX3, "denialDetail", "()I"⟩
def dkwX3_denialDetail_1 : List UInt8 := [180, 0, 60, 172]
abbrev dktX3_denialDetail_1 : List UInt8 := dkwX3_denialDetail_1 ++ []
def dkwX3_denialDetail_0 : List UInt8 := [42, 42, 180, 0, 57, 158, 0, 7, 4, 167, 0, 4, 3, 182, 0, 238, 158, 0, 7, 3, 167, 0, 7, 42]
abbrev dktX3_denialDetail_0 : List UInt8 := dkwX3_denialDetail_0 ++ dktX3_denialDetail_1
theorem dksX3_denialDetail_0 : cX3_denialDetail.data.toList.drop 0 = dktX3_denialDetail_0 := by decide +kernel
theorem dksX3_denialDetail_1 : cX3_denialDetail.data.toList.drop 24 = dktX3_denialDetail_1 := dk_seg dksX3_denialDetail_0 24 rfl rfl
theorem dX3_denialDetail_0 : decode cX3_denialDetail 0 = .ok (.aload_n 0, 1) := dk_42 (dk_at dksX3_denialDetail_0 0 rfl rfl)
theorem dX3_denialDetail_1 : decode cX3_denialDetail 1 = .ok (.aload_n 0, 1) := dk_42 (dk_at dksX3_denialDetail_0 1 rfl rfl)
theorem dX3_denialDetail_2 : decode cX3_denialDetail 2 = .ok (.getfield 57, 3) := dk_180 0 57 (dk_at dksX3_denialDetail_0 2 rfl rfl)
theorem dX3_denialDetail_5 : decode cX3_denialDetail 5 = .ok (.ifCond .le 7, 3) := dk_158 0 7 (dk_at dksX3_denialDetail_0 5 rfl rfl)
theorem dX3_denialDetail_8 : decode cX3_denialDetail 8 = .ok (.iconst 1, 1) := dk_4 (dk_at dksX3_denialDetail_0 8 rfl rfl)
theorem dX3_denialDetail_9 : decode cX3_denialDetail 9 = .ok (.goto 4, 3) := dk_167 0 4 (dk_at dksX3_denialDetail_0 9 rfl rfl)
theorem dX3_denialDetail_12 : decode cX3_denialDetail 12 = .ok (.iconst 0, 1) := dk_3 (dk_at dksX3_denialDetail_0 12 rfl rfl)
theorem dX3_denialDetail_13 : decode cX3_denialDetail 13 = .ok (.invokevirtual 238, 3) := dk_182 0 238 (dk_at dksX3_denialDetail_0 13 rfl rfl)
theorem dX3_denialDetail_16 : decode cX3_denialDetail 16 = .ok (.ifCond .le 7, 3) := dk_158 0 7 (dk_at dksX3_denialDetail_0 16 rfl rfl)
theorem dX3_denialDetail_19 : decode cX3_denialDetail 19 = .ok (.iconst 0, 1) := dk_3 (dk_at dksX3_denialDetail_0 19 rfl rfl)
theorem dX3_denialDetail_20 : decode cX3_denialDetail 20 = .ok (.goto 7, 3) := dk_167 0 7 (dk_at dksX3_denialDetail_0 20 rfl rfl)
theorem dX3_denialDetail_23 : decode cX3_denialDetail 23 = .ok (.aload_n 0, 1) := dk_42 (dk_at dksX3_denialDetail_0 23 rfl rfl)
theorem dX3_denialDetail_24 : decode cX3_denialDetail 24 = .ok (.getfield 60, 3) := dk_180 0 60 (dk_at dksX3_denialDetail_1 0 rfl rfl)
theorem dX3_denialDetail_27 : decode cX3_denialDetail 27 = .ok (.ireturn, 1) := dk_172 (dk_at dksX3_denialDetail_1 3 rfl rfl)
abbrev cX3_denialCause : ByteArray := prog_25_method_97_code
def yX3_denialCause : MethodName := ⟨RX3, "denialCause", "()I"⟩
def dkwX3_denialCause_1 : List UInt8 := [180, 0, 63, 172]
abbrev dktX3_denialCause_1 : List UInt8 := dkwX3_denialCause_1 ++ []
def dkwX3_denialCause_0 : List UInt8 := [42, 42, 180, 0, 63, 158, 0, 7, 4, 167, 0, 4, 3, 182, 0, 238, 158, 0, 7, 3, 167, 0, 7, 42]
abbrev dktX3_denialCause_0 : List UInt8 := dkwX3_denialCause_0 ++ dktX3_denialCause_1
theorem dksX3_denialCause_0 : cX3_denialCause.data.toList.drop 0 = dktX3_denialCause_0 := by decide +kernel
theorem dksX3_denialCause_1 : cX3_denialCause.data.toList.drop 24 = dktX3_denialCause_1 := dk_seg dksX3_denialCause_0 24 rfl rfl
theorem dX3_denialCause_0 : decode cX3_denialCause 0 = .ok (.aload_n 0, 1) := dk_42 (dk_at dksX3_denialCause_0 0 rfl rfl)
theorem dX3_denialCause_1 : decode cX3_denialCause 1 = .ok (.aload_n 0, 1) := dk_42 (dk_at dksX3_denialCause_0 1 rfl rfl)
theorem dX3_denialCause_2 : decode cX3_denialCause 2 = .ok (.getfield 63, 3) := dk_180 0 63 (dk_at dksX3_denialCause_0 2 rfl rfl)
theorem dX3_denialCause_5 : decode cX3_denialCause 5 = .ok (.ifCond .le 7, 3) := dk_158 0 7 (dk_at dksX3_denialCause_0 5 rfl rfl)
theorem dX3_denialCause_8 : decode cX3_denialCause 8 = .ok (.iconst 1, 1) := dk_4 (dk_at dksX3_denialCause_0 8 rfl rfl)
theorem dX3_denialCause_9 : decode cX3_denialCause 9 = .ok (.goto 4, 3) := dk_167 0 4 (dk_at dksX3_denialCause_0 9 rfl rfl)
theorem dX3_denialCause_12 : decode cX3_denialCause 12 = .ok (.iconst 0, 1) := dk_3 (dk_at dksX3_denialCause_0 12 rfl rfl)
theorem dX3_denialCause_13 : decode cX3_denialCause 13 = .ok (.invokevirtual 238, 3) := dk_182 0 238 (dk_at dksX3_denialCause_0 13 rfl rfl)
theorem dX3_denialCause_16 : decode cX3_denialCause 16 = .ok (.ifCond .le 7, 3) := dk_158 0 7 (dk_at dksX3_denialCause_0 16 rfl rfl)
theorem dX3_denialCause_19 : decode cX3_denialCause 19 = .ok (.iconst 0, 1) := dk_3 (dk_at dksX3_denialCause_0 19 rfl rfl)
theorem dX3_denialCause_20 : decode cX3_denialCause 20 = .ok (.goto 7, 3) := dk_167 0 7 (dk_at dksX3_denialCause_0 20 rfl rfl)
theorem dX3_denialCause_23 : decode cX3_denialCause 23 = .ok (.aload_n 0, 1) := dk_42 (dk_at dksX3_denialCause_0 23 rfl rfl)
theorem dX3_denialCause_24 : decode cX3_denialCause 24 = .ok (.getfield 63, 3) := dk_180 0 63 (dk_at dksX3_denialCause_1 0 rfl rfl)
theorem dX3_denialCause_27 : decode cX3_denialCause 27 = .ok (.ireturn, 1) := dk_172 (dk_at dksX3_denialCause_1 3 rfl rfl)
abbrev cX3_writeStep : ByteArray := prog_25_method_100_code
def yX3_writeStep : MethodName := ⟨RX3, "writeStep", "(I)I"⟩
def dkwX3_writeStep_6 : List UInt8 := [42, 27, 4, 182, 0, 116, 133, 182, 1, 32, 42, 180, 0, 73, 172]
abbrev dktX3_writeStep_6 : List UInt8 := dkwX3_writeStep_6 ++ []
def dkwX3_writeStep_5 : List UInt8 := [160, 0, 9, 42, 16, 62, 182, 1, 25, 28, 16, 107, 159, 0, 11, 42, 27, 182, 0, 123, 153, 0, 14, 42]
abbrev dktX3_writeStep_5 : List UInt8 := dkwX3_writeStep_5 ++ dktX3_writeStep_6
def dkwX3_writeStep_4 : List UInt8 := [159, 0, 9, 28, 16, 107, 160, 0, 14, 42, 42, 27, 5, 182, 0, 116, 133, 182, 1, 32, 28, 16, 107]
abbrev dktX3_writeStep_4 : List UInt8 := dkwX3_writeStep_4 ++ dktX3_writeStep_5
def dkwX3_writeStep_3 : List UInt8 := [159, 0, 9, 28, 16, 45, 160, 0, 14, 42, 42, 27, 6, 182, 0, 116, 133, 182, 1, 32, 28, 16, 114]
abbrev dktX3_writeStep_3 : List UInt8 := dkwX3_writeStep_3 ++ dktX3_writeStep_4
def dkwX3_writeStep_2 : List UInt8 := [160, 0, 14, 42, 42, 27, 5, 182, 0, 116, 133, 182, 1, 32, 42, 28, 182, 1, 25, 28, 16, 43]
abbrev dktX3_writeStep_2 : List UInt8 := dkwX3_writeStep_2 ++ dktX3_writeStep_3
def dkwX3_writeStep_1 : List UInt8 := [181, 0, 73, 42, 27, 133, 182, 1, 32, 42, 16, 58, 182, 1, 25, 28, 16, 43, 159, 0, 9, 28, 16, 45]
abbrev dktX3_writeStep_1 : List UInt8 := dkwX3_writeStep_1 ++ dktX3_writeStep_2
def dkwX3_writeStep_0 : List UInt8 := [42, 42, 27, 182, 0, 205, 182, 0, 238, 158, 0, 5, 3, 172, 42, 27, 3, 182, 0, 116, 61, 42, 3]
abbrev dktX3_writeStep_0 : List UInt8 := dkwX3_writeStep_0 ++ dktX3_writeStep_1
theorem dksX3_writeStep_0 : cX3_writeStep.data.toList.drop 0 = dktX3_writeStep_0 := by decide +kernel
theorem dksX3_writeStep_1 : cX3_writeStep.data.toList.drop 23 = dktX3_writeStep_1 := dk_seg dksX3_writeStep_0 23 rfl rfl
theorem dksX3_writeStep_2 : cX3_writeStep.data.toList.drop 47 = dktX3_writeStep_2 := dk_seg dksX3_writeStep_1 24 rfl rfl
theorem dksX3_writeStep_3 : cX3_writeStep.data.toList.drop 69 = dktX3_writeStep_3 := dk_seg dksX3_writeStep_2 22 rfl rfl
theorem dksX3_writeStep_4 : cX3_writeStep.data.toList.drop 92 = dktX3_writeStep_4 := dk_seg dksX3_writeStep_3 23 rfl rfl
theorem dksX3_writeStep_5 : cX3_writeStep.data.toList.drop 115 = dktX3_writeStep_5 := dk_seg dksX3_writeStep_4 23 rfl rfl
theorem dksX3_writeStep_6 : cX3_writeStep.data.toList.drop 139 = dktX3_writeStep_6 := dk_seg dksX3_writeStep_5 24 rfl rfl
theorem dX3_writeStep_0 : decode cX3_writeStep 0 = .ok (.aload_n 0, 1) := dk_42 (dk_at dksX3_writeStep_0 0 rfl rfl)
theorem dX3_writeStep_1 : decode cX3_writeStep 1 = .ok (.aload_n 0, 1) := dk_42 (dk_at dksX3_writeStep_0 1 rfl rfl)
theorem dX3_writeStep_2 : decode cX3_writeStep 2 = .ok (.iload_n 1, 1) := dk_27 (dk_at dksX3_writeStep_0 2 rfl rfl)
theorem dX3_writeStep_3 : decode cX3_writeStep 3 = .ok (.invokevirtual 205, 3) := dk_182 0 205 (dk_at dksX3_writeStep_0 3 rfl rfl)
theorem dX3_writeStep_6 : decode cX3_writeStep 6 = .ok (.invokevirtual 238, 3) := dk_182 0 238 (dk_at dksX3_writeStep_0 6 rfl rfl)
theorem dX3_writeStep_9 : decode cX3_writeStep 9 = .ok (.ifCond .le 5, 3) := dk_158 0 5 (dk_at dksX3_writeStep_0 9 rfl rfl)
theorem dX3_writeStep_12 : decode cX3_writeStep 12 = .ok (.iconst 0, 1) := dk_3 (dk_at dksX3_writeStep_0 12 rfl rfl)
theorem dX3_writeStep_13 : decode cX3_writeStep 13 = .ok (.ireturn, 1) := dk_172 (dk_at dksX3_writeStep_0 13 rfl rfl)
theorem dX3_writeStep_14 : decode cX3_writeStep 14 = .ok (.aload_n 0, 1) := dk_42 (dk_at dksX3_writeStep_0 14 rfl rfl)
theorem dX3_writeStep_15 : decode cX3_writeStep 15 = .ok (.iload_n 1, 1) := dk_27 (dk_at dksX3_writeStep_0 15 rfl rfl)
theorem dX3_writeStep_16 : decode cX3_writeStep 16 = .ok (.iconst 0, 1) := dk_3 (dk_at dksX3_writeStep_0 16 rfl rfl)
theorem dX3_writeStep_17 : decode cX3_writeStep 17 = .ok (.invokevirtual 116, 3) := dk_182 0 116 (dk_at dksX3_writeStep_0 17 rfl rfl)
theorem dX3_writeStep_20 : decode cX3_writeStep 20 = .ok (.istore_n 2, 1) := dk_61 (dk_at dksX3_writeStep_0 20 rfl rfl)
theorem dX3_writeStep_21 : decode cX3_writeStep 21 = .ok (.aload_n 0, 1) := dk_42 (dk_at dksX3_writeStep_0 21 rfl rfl)
theorem dX3_writeStep_22 : decode cX3_writeStep 22 = .ok (.iconst 0, 1) := dk_3 (dk_at dksX3_writeStep_0 22 rfl rfl)
theorem dX3_writeStep_23 : decode cX3_writeStep 23 = .ok (.putfield 73, 3) := dk_181 0 73 (dk_at dksX3_writeStep_1 0 rfl rfl)
theorem dX3_writeStep_26 : decode cX3_writeStep 26 = .ok (.aload_n 0, 1) := dk_42 (dk_at dksX3_writeStep_1 3 rfl rfl)
theorem dX3_writeStep_27 : decode cX3_writeStep 27 = .ok (.iload_n 1, 1) := dk_27 (dk_at dksX3_writeStep_1 4 rfl rfl)
theorem dX3_writeStep_28 : decode cX3_writeStep 28 = .ok (.i2l, 1) := dk_133 (dk_at dksX3_writeStep_1 5 rfl rfl)
theorem dX3_writeStep_29 : decode cX3_writeStep 29 = .ok (.invokevirtual 288, 3) := dk_182 1 32 (dk_at dksX3_writeStep_1 6 rfl rfl)
theorem dX3_writeStep_32 : decode cX3_writeStep 32 = .ok (.aload_n 0, 1) := dk_42 (dk_at dksX3_writeStep_1 9 rfl rfl)
theorem dX3_writeStep_33 : decode cX3_writeStep 33 = .ok (.bipush 58, 2) := dk_16 58 (dk_at dksX3_writeStep_1 10 rfl rfl)
theorem dX3_writeStep_35 : decode cX3_writeStep 35 = .ok (.invokevirtual 281, 3) := dk_182 1 25 (dk_at dksX3_writeStep_1 12 rfl rfl)
theorem dX3_writeStep_38 : decode cX3_writeStep 38 = .ok (.iload_n 2, 1) := dk_28 (dk_at dksX3_writeStep_1 15 rfl rfl)
theorem dX3_writeStep_39 : decode cX3_writeStep 39 = .ok (.bipush 43, 2) := dk_16 43 (dk_at dksX3_writeStep_1 16 rfl rfl)
theorem dX3_writeStep_41 : decode cX3_writeStep 41 = .ok (.if_icmp .eq 9, 3) := dk_159 0 9 (dk_at dksX3_writeStep_1 18 rfl rfl)
theorem dX3_writeStep_44 : decode cX3_writeStep 44 = .ok (.iload_n 2, 1) := dk_28 (dk_at dksX3_writeStep_1 21 rfl rfl)
theorem dX3_writeStep_45 : decode cX3_writeStep 45 = .ok (.bipush 45, 2) := dk_16 45 (dk_at dksX3_writeStep_1 22 rfl rfl)
theorem dX3_writeStep_47 : decode cX3_writeStep 47 = .ok (.if_icmp .ne 14, 3) := dk_160 0 14 (dk_at dksX3_writeStep_2 0 rfl rfl)
theorem dX3_writeStep_50 : decode cX3_writeStep 50 = .ok (.aload_n 0, 1) := dk_42 (dk_at dksX3_writeStep_2 3 rfl rfl)
theorem dX3_writeStep_51 : decode cX3_writeStep 51 = .ok (.aload_n 0, 1) := dk_42 (dk_at dksX3_writeStep_2 4 rfl rfl)
theorem dX3_writeStep_52 : decode cX3_writeStep 52 = .ok (.iload_n 1, 1) := dk_27 (dk_at dksX3_writeStep_2 5 rfl rfl)
theorem dX3_writeStep_53 : decode cX3_writeStep 53 = .ok (.iconst 2, 1) := dk_5 (dk_at dksX3_writeStep_2 6 rfl rfl)
theorem dX3_writeStep_54 : decode cX3_writeStep 54 = .ok (.invokevirtual 116, 3) := dk_182 0 116 (dk_at dksX3_writeStep_2 7 rfl rfl)
theorem dX3_writeStep_57 : decode cX3_writeStep 57 = .ok (.i2l, 1) := dk_133 (dk_at dksX3_writeStep_2 10 rfl rfl)
theorem dX3_writeStep_58 : decode cX3_writeStep 58 = .ok (.invokevirtual 288, 3) := dk_182 1 32 (dk_at dksX3_writeStep_2 11 rfl rfl)
theorem dX3_writeStep_61 : decode cX3_writeStep 61 = .ok (.aload_n 0, 1) := dk_42 (dk_at dksX3_writeStep_2 14 rfl rfl)
theorem dX3_writeStep_62 : decode cX3_writeStep 62 = .ok (.iload_n 2, 1) := dk_28 (dk_at dksX3_writeStep_2 15 rfl rfl)
theorem dX3_writeStep_63 : decode cX3_writeStep 63 = .ok (.invokevirtual 281, 3) := dk_182 1 25 (dk_at dksX3_writeStep_2 16 rfl rfl)
theorem dX3_writeStep_66 : decode cX3_writeStep 66 = .ok (.iload_n 2, 1) := dk_28 (dk_at dksX3_writeStep_2 19 rfl rfl)
theorem dX3_writeStep_67 : decode cX3_writeStep 67 = .ok (.bipush 43, 2) := dk_16 43 (dk_at dksX3_writeStep_2 20 rfl rfl)
theorem dX3_writeStep_69 : decode cX3_writeStep 69 = .ok (.if_icmp .eq 9, 3) := dk_159 0 9 (dk_at dksX3_writeStep_3 0 rfl rfl)
theorem dX3_writeStep_72 : decode cX3_writeStep 72 = .ok (.iload_n 2, 1) := dk_28 (dk_at dksX3_writeStep_3 3 rfl rfl)
theorem dX3_writeStep_73 : decode cX3_writeStep 73 = .ok (.bipush 45, 2) := dk_16 45 (dk_at dksX3_writeStep_3 4 rfl rfl)
theorem dX3_writeStep_75 : decode cX3_writeStep 75 = .ok (.if_icmp .ne 14, 3) := dk_160 0 14 (dk_at dksX3_writeStep_3 6 rfl rfl)
theorem dX3_writeStep_78 : decode cX3_writeStep 78 = .ok (.aload_n 0, 1) := dk_42 (dk_at dksX3_writeStep_3 9 rfl rfl)
theorem dX3_writeStep_79 : decode cX3_writeStep 79 = .ok (.aload_n 0, 1) := dk_42 (dk_at dksX3_writeStep_3 10 rfl rfl)
theorem dX3_writeStep_80 : decode cX3_writeStep 80 = .ok (.iload_n 1, 1) := dk_27 (dk_at dksX3_writeStep_3 11 rfl rfl)
theorem dX3_writeStep_81 : decode cX3_writeStep 81 = .ok (.iconst 3, 1) := dk_6 (dk_at dksX3_writeStep_3 12 rfl rfl)
theorem dX3_writeStep_82 : decode cX3_writeStep 82 = .ok (.invokevirtual 116, 3) := dk_182 0 116 (dk_at dksX3_writeStep_3 13 rfl rfl)
theorem dX3_writeStep_85 : decode cX3_writeStep 85 = .ok (.i2l, 1) := dk_133 (dk_at dksX3_writeStep_3 16 rfl rfl)
theorem dX3_writeStep_86 : decode cX3_writeStep 86 = .ok (.invokevirtual 288, 3) := dk_182 1 32 (dk_at dksX3_writeStep_3 17 rfl rfl)
theorem dX3_writeStep_89 : decode cX3_writeStep 89 = .ok (.iload_n 2, 1) := dk_28 (dk_at dksX3_writeStep_3 20 rfl rfl)
theorem dX3_writeStep_90 : decode cX3_writeStep 90 = .ok (.bipush 114, 2) := dk_16 114 (dk_at dksX3_writeStep_3 21 rfl rfl)
theorem dX3_writeStep_92 : decode cX3_writeStep 92 = .ok (.if_icmp .eq 9, 3) := dk_159 0 9 (dk_at dksX3_writeStep_4 0 rfl rfl)
theorem dX3_writeStep_95 : decode cX3_writeStep 95 = .ok (.iload_n 2, 1) := dk_28 (dk_at dksX3_writeStep_4 3 rfl rfl)
theorem dX3_writeStep_96 : decode cX3_writeStep 96 = .ok (.bipush 107, 2) := dk_16 107 (dk_at dksX3_writeStep_4 4 rfl rfl)
theorem dX3_writeStep_98 : decode cX3_writeStep 98 = .ok (.if_icmp .ne 14, 3) := dk_160 0 14 (dk_at dksX3_writeStep_4 6 rfl rfl)
theorem dX3_writeStep_101 : decode cX3_writeStep 101 = .ok (.aload_n 0, 1) := dk_42 (dk_at dksX3_writeStep_4 9 rfl rfl)
theorem dX3_writeStep_102 : decode cX3_writeStep 102 = .ok (.aload_n 0, 1) := dk_42 (dk_at dksX3_writeStep_4 10 rfl rfl)
theorem dX3_writeStep_103 : decode cX3_writeStep 103 = .ok (.iload_n 1, 1) := dk_27 (dk_at dksX3_writeStep_4 11 rfl rfl)
theorem dX3_writeStep_104 : decode cX3_writeStep 104 = .ok (.iconst 2, 1) := dk_5 (dk_at dksX3_writeStep_4 12 rfl rfl)
theorem dX3_writeStep_105 : decode cX3_writeStep 105 = .ok (.invokevirtual 116, 3) := dk_182 0 116 (dk_at dksX3_writeStep_4 13 rfl rfl)
theorem dX3_writeStep_108 : decode cX3_writeStep 108 = .ok (.i2l, 1) := dk_133 (dk_at dksX3_writeStep_4 16 rfl rfl)
theorem dX3_writeStep_109 : decode cX3_writeStep 109 = .ok (.invokevirtual 288, 3) := dk_182 1 32 (dk_at dksX3_writeStep_4 17 rfl rfl)
theorem dX3_writeStep_112 : decode cX3_writeStep 112 = .ok (.iload_n 2, 1) := dk_28 (dk_at dksX3_writeStep_4 20 rfl rfl)
theorem dX3_writeStep_113 : decode cX3_writeStep 113 = .ok (.bipush 107, 2) := dk_16 107 (dk_at dksX3_writeStep_4 21 rfl rfl)
theorem dX3_writeStep_115 : decode cX3_writeStep 115 = .ok (.if_icmp .ne 9, 3) := dk_160 0 9 (dk_at dksX3_writeStep_5 0 rfl rfl)
theorem dX3_writeStep_118 : decode cX3_writeStep 118 = .ok (.aload_n 0, 1) := dk_42 (dk_at dksX3_writeStep_5 3 rfl rfl)
theorem dX3_writeStep_119 : decode cX3_writeStep 119 = .ok (.bipush 62, 2) := dk_16 62 (dk_at dksX3_writeStep_5 4 rfl rfl)
theorem dX3_writeStep_121 : decode cX3_writeStep 121 = .ok (.invokevirtual 281, 3) := dk_182 1 25 (dk_at dksX3_writeStep_5 6 rfl rfl)
theorem dX3_writeStep_124 : decode cX3_writeStep 124 = .ok (.iload_n 2, 1) := dk_28 (dk_at dksX3_writeStep_5 9 rfl rfl)
theorem dX3_writeStep_125 : decode cX3_writeStep 125 = .ok (.bipush 107, 2) := dk_16 107 (dk_at dksX3_writeStep_5 10 rfl rfl)
theorem dX3_writeStep_127 : decode cX3_writeStep 127 = .ok (.if_icmp .eq 11, 3) := dk_159 0 11 (dk_at dksX3_writeStep_5 12 rfl rfl)
theorem dX3_writeStep_130 : decode cX3_writeStep 130 = .ok (.aload_n 0, 1) := dk_42 (dk_at dksX3_writeStep_5 15 rfl rfl)
theorem dX3_writeStep_131 : decode cX3_writeStep 131 = .ok (.iload_n 1, 1) := dk_27 (dk_at dksX3_writeStep_5 16 rfl rfl)
theorem dX3_writeStep_132 : decode cX3_writeStep 132 = .ok (.invokevirtual 123, 3) := dk_182 0 123 (dk_at dksX3_writeStep_5 17 rfl rfl)
theorem dX3_writeStep_135 : decode cX3_writeStep 135 = .ok (.ifCond .eq 14, 3) := dk_153 0 14 (dk_at dksX3_writeStep_5 20 rfl rfl)
theorem dX3_writeStep_138 : decode cX3_writeStep 138 = .ok (.aload_n 0, 1) := dk_42 (dk_at dksX3_writeStep_5 23 rfl rfl)
theorem dX3_writeStep_139 : decode cX3_writeStep 139 = .ok (.aload_n 0, 1) := dk_42 (dk_at dksX3_writeStep_6 0 rfl rfl)
theorem dX3_writeStep_140 : decode cX3_writeStep 140 = .ok (.iload_n 1, 1) := dk_27 (dk_at dksX3_writeStep_6 1 rfl rfl)
theorem dX3_writeStep_141 : decode cX3_writeStep 141 = .ok (.iconst 1, 1) := dk_4 (dk_at dksX3_writeStep_6 2 rfl rfl)
theorem dX3_writeStep_142 : decode cX3_writeStep 142 = .ok (.invokevirtual 116, 3) := dk_182 0 116 (dk_at dksX3_writeStep_6 3 rfl rfl)
theorem dX3_writeStep_145 : decode cX3_writeStep 145 = .ok (.i2l, 1) := dk_133 (dk_at dksX3_writeStep_6 6 rfl rfl)
theorem dX3_writeStep_146 : decode cX3_writeStep 146 = .ok (.invokevirtual 288, 3) := dk_182 1 32 (dk_at dksX3_writeStep_6 7 rfl rfl)
theorem dX3_writeStep_149 : decode cX3_writeStep 149 = .ok (.aload_n 0, 1) := dk_42 (dk_at dksX3_writeStep_6 10 rfl rfl)
theorem dX3_writeStep_150 : decode cX3_writeStep 150 = .ok (.getfield 73, 3) := dk_180 0 73 (dk_at dksX3_writeStep_6 11 rfl rfl)
theorem dX3_writeStep_153 : decode cX3_writeStep 153 = .ok (.ireturn, 1) := dk_172 (dk_at dksX3_writeStep_6 14 rfl rfl)
abbrev cX3_writeNumber : ByteArray := prog_25_method_99_code
def yX3_writeNumber : MethodName := ⟨RX3, "writeNumber", "(J)V"⟩
def dkwX3_writeNumber_3 : List UInt8 := [182, 1, 25, 22, 5, 20, 1, 30, 109, 55, 5, 167, 255, 225, 177]
abbrev dktX3_writeNumber_3 : List UInt8 := dkwX3_writeNumber_3 ++ []
def dkwX3_writeNumber_2 : List UInt8 := [167, 255, 237, 22, 5, 9, 148, 158, 0, 30, 42, 16, 48, 33, 22, 5, 109, 20, 1, 30, 113, 136, 96]
abbrev dktX3_writeNumber_2 : List UInt8 := dkwX3_writeNumber_2 ++ dktX3_writeNumber_3
def dkwX3_writeNumber_1 : List UInt8 := [16, 45, 182, 1, 25, 33, 22, 5, 109, 20, 1, 28, 148, 158, 0, 14, 22, 5, 20, 1, 30, 105, 55, 5]
abbrev dktX3_writeNumber_1 : List UInt8 := dkwX3_writeNumber_1 ++ dktX3_writeNumber_2
def dkwX3_writeNumber_0 : List UInt8 := [31, 9, 148, 156, 0, 8, 31, 117, 167, 0, 4, 31, 66, 10, 55, 5, 31, 9, 148, 156, 0, 9, 42]
abbrev dktX3_writeNumber_0 : List UInt8 := dkwX3_writeNumber_0 ++ dktX3_writeNumber_1
theorem dksX3_writeNumber_0 : cX3_writeNumber.data.toList.drop 0 = dktX3_writeNumber_0 := by decide +kernel
theorem dksX3_writeNumber_1 : cX3_writeNumber.data.toList.drop 23 = dktX3_writeNumber_1 := dk_seg dksX3_writeNumber_0 23 rfl rfl
theorem dksX3_writeNumber_2 : cX3_writeNumber.data.toList.drop 47 = dktX3_writeNumber_2 := dk_seg dksX3_writeNumber_1 24 rfl rfl
theorem dksX3_writeNumber_3 : cX3_writeNumber.data.toList.drop 70 = dktX3_writeNumber_3 := dk_seg dksX3_writeNumber_2 23 rfl rfl
theorem dX3_writeNumber_0 : decode cX3_writeNumber 0 = .ok (.lload_n 1, 1) := dk_31 (dk_at dksX3_writeNumber_0 0 rfl rfl)
theorem dX3_writeNumber_1 : decode cX3_writeNumber 1 = .ok (.lconst 0, 1) := dk_9 (dk_at dksX3_writeNumber_0 1 rfl rfl)
theorem dX3_writeNumber_2 : decode cX3_writeNumber 2 = .ok (.lcmp, 1) := dk_148 (dk_at dksX3_writeNumber_0 2 rfl rfl)
theorem dX3_writeNumber_3 : decode cX3_writeNumber 3 = .ok (.ifCond .ge 8, 3) := dk_156 0 8 (dk_at dksX3_writeNumber_0 3 rfl rfl)
theorem dX3_writeNumber_6 : decode cX3_writeNumber 6 = .ok (.lload_n 1, 1) := dk_31 (dk_at dksX3_writeNumber_0 6 rfl rfl)
theorem dX3_writeNumber_7 : decode cX3_writeNumber 7 = .ok (.lneg, 1) := dk_117 (dk_at dksX3_writeNumber_0 7 rfl rfl)
theorem dX3_writeNumber_8 : decode cX3_writeNumber 8 = .ok (.goto 4, 3) := dk_167 0 4 (dk_at dksX3_writeNumber_0 8 rfl rfl)
theorem dX3_writeNumber_11 : decode cX3_writeNumber 11 = .ok (.lload_n 1, 1) := dk_31 (dk_at dksX3_writeNumber_0 11 rfl rfl)
theorem dX3_writeNumber_12 : decode cX3_writeNumber 12 = .ok (.lstore_n 3, 1) := dk_66 (dk_at dksX3_writeNumber_0 12 rfl rfl)
theorem dX3_writeNumber_13 : decode cX3_writeNumber 13 = .ok (.lconst 1, 1) := dk_10 (dk_at dksX3_writeNumber_0 13 rfl rfl)
theorem dX3_writeNumber_14 : decode cX3_writeNumber 14 = .ok (.lstore 5, 2) := dk_55 5 (dk_at dksX3_writeNumber_0 14 rfl rfl)
theorem dX3_writeNumber_16 : decode cX3_writeNumber 16 = .ok (.lload_n 1, 1) := dk_31 (dk_at dksX3_writeNumber_0 16 rfl rfl)
theorem dX3_writeNumber_17 : decode cX3_writeNumber 17 = .ok (.lconst 0, 1) := dk_9 (dk_at dksX3_writeNumber_0 17 rfl rfl)
theorem dX3_writeNumber_18 : decode cX3_writeNumber 18 = .ok (.lcmp, 1) := dk_148 (dk_at dksX3_writeNumber_0 18 rfl rfl)
theorem dX3_writeNumber_19 : decode cX3_writeNumber 19 = .ok (.ifCond .ge 9, 3) := dk_156 0 9 (dk_at dksX3_writeNumber_0 19 rfl rfl)
theorem dX3_writeNumber_22 : decode cX3_writeNumber 22 = .ok (.aload_n 0, 1) := dk_42 (dk_at dksX3_writeNumber_0 22 rfl rfl)
theorem dX3_writeNumber_23 : decode cX3_writeNumber 23 = .ok (.bipush 45, 2) := dk_16 45 (dk_at dksX3_writeNumber_1 0 rfl rfl)
theorem dX3_writeNumber_25 : decode cX3_writeNumber 25 = .ok (.invokevirtual 281, 3) := dk_182 1 25 (dk_at dksX3_writeNumber_1 2 rfl rfl)
theorem dX3_writeNumber_28 : decode cX3_writeNumber 28 = .ok (.lload_n 3, 1) := dk_33 (dk_at dksX3_writeNumber_1 5 rfl rfl)
theorem dX3_writeNumber_29 : decode cX3_writeNumber 29 = .ok (.lload 5, 2) := dk_22 5 (dk_at dksX3_writeNumber_1 6 rfl rfl)
theorem dX3_writeNumber_31 : decode cX3_writeNumber 31 = .ok (.ldiv, 1) := dk_109 (dk_at dksX3_writeNumber_1 8 rfl rfl)
theorem dX3_writeNumber_32 : decode cX3_writeNumber 32 = .ok (.ldc2_w 284, 3) := dk_20 1 28 (dk_at dksX3_writeNumber_1 9 rfl rfl)
theorem dX3_writeNumber_35 : decode cX3_writeNumber 35 = .ok (.lcmp, 1) := dk_148 (dk_at dksX3_writeNumber_1 12 rfl rfl)
theorem dX3_writeNumber_36 : decode cX3_writeNumber 36 = .ok (.ifCond .le 14, 3) := dk_158 0 14 (dk_at dksX3_writeNumber_1 13 rfl rfl)
theorem dX3_writeNumber_39 : decode cX3_writeNumber 39 = .ok (.lload 5, 2) := dk_22 5 (dk_at dksX3_writeNumber_1 16 rfl rfl)
theorem dX3_writeNumber_41 : decode cX3_writeNumber 41 = .ok (.ldc2_w 286, 3) := dk_20 1 30 (dk_at dksX3_writeNumber_1 18 rfl rfl)
theorem dX3_writeNumber_44 : decode cX3_writeNumber 44 = .ok (.lmul, 1) := dk_105 (dk_at dksX3_writeNumber_1 21 rfl rfl)
theorem dX3_writeNumber_45 : decode cX3_writeNumber 45 = .ok (.lstore 5, 2) := dk_55 5 (dk_at dksX3_writeNumber_1 22 rfl rfl)
theorem dX3_writeNumber_47 : decode cX3_writeNumber 47 = .ok (.goto (-19), 3) := dk_167 255 237 (dk_at dksX3_writeNumber_2 0 rfl rfl)
theorem dX3_writeNumber_50 : decode cX3_writeNumber 50 = .ok (.lload 5, 2) := dk_22 5 (dk_at dksX3_writeNumber_2 3 rfl rfl)
theorem dX3_writeNumber_52 : decode cX3_writeNumber 52 = .ok (.lconst 0, 1) := dk_9 (dk_at dksX3_writeNumber_2 5 rfl rfl)
theorem dX3_writeNumber_53 : decode cX3_writeNumber 53 = .ok (.lcmp, 1) := dk_148 (dk_at dksX3_writeNumber_2 6 rfl rfl)
theorem dX3_writeNumber_54 : decode cX3_writeNumber 54 = .ok (.ifCond .le 30, 3) := dk_158 0 30 (dk_at dksX3_writeNumber_2 7 rfl rfl)
theorem dX3_writeNumber_57 : decode cX3_writeNumber 57 = .ok (.aload_n 0, 1) := dk_42 (dk_at dksX3_writeNumber_2 10 rfl rfl)
theorem dX3_writeNumber_58 : decode cX3_writeNumber 58 = .ok (.bipush 48, 2) := dk_16 48 (dk_at dksX3_writeNumber_2 11 rfl rfl)
theorem dX3_writeNumber_60 : decode cX3_writeNumber 60 = .ok (.lload_n 3, 1) := dk_33 (dk_at dksX3_writeNumber_2 13 rfl rfl)
theorem dX3_writeNumber_61 : decode cX3_writeNumber 61 = .ok (.lload 5, 2) := dk_22 5 (dk_at dksX3_writeNumber_2 14 rfl rfl)
theorem dX3_writeNumber_63 : decode cX3_writeNumber 63 = .ok (.ldiv, 1) := dk_109 (dk_at dksX3_writeNumber_2 16 rfl rfl)
theorem dX3_writeNumber_64 : decode cX3_writeNumber 64 = .ok (.ldc2_w 286, 3) := dk_20 1 30 (dk_at dksX3_writeNumber_2 17 rfl rfl)
theorem dX3_writeNumber_67 : decode cX3_writeNumber 67 = .ok (.lrem, 1) := dk_113 (dk_at dksX3_writeNumber_2 20 rfl rfl)
theorem dX3_writeNumber_68 : decode cX3_writeNumber 68 = .ok (.l2i, 1) := dk_136 (dk_at dksX3_writeNumber_2 21 rfl rfl)
theorem dX3_writeNumber_69 : decode cX3_writeNumber 69 = .ok (.iadd, 1) := dk_96 (dk_at dksX3_writeNumber_2 22 rfl rfl)
theorem dX3_writeNumber_70 : decode cX3_writeNumber 70 = .ok (.invokevirtual 281, 3) := dk_182 1 25 (dk_at dksX3_writeNumber_3 0 rfl rfl)
theorem dX3_writeNumber_73 : decode cX3_writeNumber 73 = .ok (.lload 5, 2) := dk_22 5 (dk_at dksX3_writeNumber_3 3 rfl rfl)
theorem dX3_writeNumber_75 : decode cX3_writeNumber 75 = .ok (.ldc2_w 286, 3) := dk_20 1 30 (dk_at dksX3_writeNumber_3 5 rfl rfl)
theorem dX3_writeNumber_78 : decode cX3_writeNumber 78 = .ok (.ldiv, 1) := dk_109 (dk_at dksX3_writeNumber_3 8 rfl rfl)
theorem dX3_writeNumber_79 : decode cX3_writeNumber 79 = .ok (.lstore 5, 2) := dk_55 5 (dk_at dksX3_writeNumber_3 9 rfl rfl)
theorem dX3_writeNumber_81 : decode cX3_writeNumber 81 = .ok (.goto (-31), 3) := dk_167 255 225 (dk_at dksX3_writeNumber_3 11 rfl rfl)
theorem dX3_writeNumber_84 : decode cX3_writeNumber 84 = .ok (.return_, 1) := dk_177 (dk_at dksX3_writeNumber_3 14 rfl rfl)
abbrev cX3_write : ByteArray := prog_25_method_98_code
def yX3_write : MethodName := ⟨RX3, "write", "(I)V"⟩
def dkwX3_write_0 : List UInt8 := [42, 180, 0, 70, 42, 180, 0, 73, 27, 79, 42, 89, 180, 0, 73, 4, 96, 181, 0, 73, 177]
abbrev dktX3_write_0 : List UInt8 := dkwX3_write_0 ++ []
theorem dksX3_write_0 : cX3_write.data.toList.drop 0 = dktX3_write_0 := by decide +kernel
theorem dX3_write_0 : decode cX3_write 0 = .ok (.aload_n 0, 1) := dk_42 (dk_at dksX3_write_0 0 rfl rfl)
theorem dX3_write_1 : decode cX3_write 1 = .ok (.getfield 70, 3) := dk_180 0 70 (dk_at dksX3_write_0 1 rfl rfl)
theorem dX3_write_4 : decode cX3_write 4 = .ok (.aload_n 0, 1) := dk_42 (dk_at dksX3_write_0 4 rfl rfl)
theorem dX3_write_5 : decode cX3_write 5 = .ok (.getfield 73, 3) := dk_180 0 73 (dk_at dksX3_write_0 5 rfl rfl)
theorem dX3_write_8 : decode cX3_write 8 = .ok (.iload_n 1, 1) := dk_27 (dk_at dksX3_write_0 8 rfl rfl)
theorem dX3_write_9 : decode cX3_write 9 = .ok (.iastore, 1) := dk_79 (dk_at dksX3_write_0 9 rfl rfl)
theorem dX3_write_10 : decode cX3_write 10 = .ok (.aload_n 0, 1) := dk_42 (dk_at dksX3_write_0 10 rfl rfl)
theorem dX3_write_11 : decode cX3_write 11 = .ok (.dup, 1) := dk_89 (dk_at dksX3_write_0 11 rfl rfl)
theorem dX3_write_12 : decode cX3_write 12 = .ok (.getfield 73, 3) := dk_180 0 73 (dk_at dksX3_write_0 12 rfl rfl)
theorem dX3_write_15 : decode cX3_write 15 = .ok (.iconst 1, 1) := dk_4 (dk_at dksX3_write_0 15 rfl rfl)
theorem dX3_write_16 : decode cX3_write 16 = .ok (.iadd, 1) := dk_96 (dk_at dksX3_write_0 16 rfl rfl)
theorem dX3_write_17 : decode cX3_write 17 = .ok (.putfield 73, 3) := dk_181 0 73 (dk_at dksX3_write_0 17 rfl rfl)
theorem dX3_write_20 : decode cX3_write 20 = .ok (.return_, 1) := dk_177 (dk_at dksX3_write_0 20 rfl rfl)
abbrev cX3_writePartition : ByteArray := prog_25_method_101_code
def yX3_writePartition : MethodName := ⟨RX3, "writePartition", "(II)I"⟩
def dkwX3_writePartition_3 : List UInt8 := [182, 0, 138, 153, 0, 9, 42, 16, 33, 182, 1, 25, 42, 180, 0, 73, 172]
abbrev dktX3_writePartition_3 : List UInt8 := dkwX3_writePartition_3 ++ []
def dkwX3_writePartition_2 : List UInt8 := [180, 0, 25, 27, 28, 29, 184, 0, 131, 47, 182, 1, 32, 132, 3, 1, 167, 255, 223, 42, 27, 28]
abbrev dktX3_writePartition_2 : List UInt8 := dkwX3_writePartition_2 ++ dktX3_writePartition_3
def dkwX3_writePartition_1 : List UInt8 := [181, 0, 73, 3, 62, 29, 8, 162, 0, 34, 29, 158, 0, 9, 42, 16, 44, 182, 1, 25, 42, 42]
abbrev dktX3_writePartition_1 : List UInt8 := dkwX3_writePartition_1 ++ dktX3_writePartition_2
def dkwX3_writePartition_0 : List UInt8 := [42, 42, 27, 28, 16, 97, 182, 0, 245, 181, 0, 47, 42, 180, 0, 47, 158, 0, 5, 3, 172, 42, 3]
abbrev dktX3_writePartition_0 : List UInt8 := dkwX3_writePartition_0 ++ dktX3_writePartition_1
theorem dksX3_writePartition_0 : cX3_writePartition.data.toList.drop 0 = dktX3_writePartition_0 := by decide +kernel
theorem dksX3_writePartition_1 : cX3_writePartition.data.toList.drop 23 = dktX3_writePartition_1 := dk_seg dksX3_writePartition_0 23 rfl rfl
theorem dksX3_writePartition_2 : cX3_writePartition.data.toList.drop 45 = dktX3_writePartition_2 := dk_seg dksX3_writePartition_1 22 rfl rfl
theorem dksX3_writePartition_3 : cX3_writePartition.data.toList.drop 67 = dktX3_writePartition_3 := dk_seg dksX3_writePartition_2 22 rfl rfl
theorem dX3_writePartition_0 : decode cX3_writePartition 0 = .ok (.aload_n 0, 1) := dk_42 (dk_at dksX3_writePartition_0 0 rfl rfl)
theorem dX3_writePartition_1 : decode cX3_writePartition 1 = .ok (.aload_n 0, 1) := dk_42 (dk_at dksX3_writePartition_0 1 rfl rfl)
theorem dX3_writePartition_2 : decode cX3_writePartition 2 = .ok (.iload_n 1, 1) := dk_27 (dk_at dksX3_writePartition_0 2 rfl rfl)
theorem dX3_writePartition_3 : decode cX3_writePartition 3 = .ok (.iload_n 2, 1) := dk_28 (dk_at dksX3_writePartition_0 3 rfl rfl)
theorem dX3_writePartition_4 : decode cX3_writePartition 4 = .ok (.bipush 97, 2) := dk_16 97 (dk_at dksX3_writePartition_0 4 rfl rfl)
theorem dX3_writePartition_6 : decode cX3_writePartition 6 = .ok (.invokevirtual 245, 3) := dk_182 0 245 (dk_at dksX3_writePartition_0 6 rfl rfl)
theorem dX3_writePartition_9 : decode cX3_writePartition 9 = .ok (.putfield 47, 3) := dk_181 0 47 (dk_at dksX3_writePartition_0 9 rfl rfl)
theorem dX3_writePartition_12 : decode cX3_writePartition 12 = .ok (.aload_n 0, 1) := dk_42 (dk_at dksX3_writePartition_0 12 rfl rfl)
theorem dX3_writePartition_13 : decode cX3_writePartition 13 = .ok (.getfield 47, 3) := dk_180 0 47 (dk_at dksX3_writePartition_0 13 rfl rfl)
theorem dX3_writePartition_16 : decode cX3_writePartition 16 = .ok (.ifCond .le 5, 3) := dk_158 0 5 (dk_at dksX3_writePartition_0 16 rfl rfl)
theorem dX3_writePartition_19 : decode cX3_writePartition 19 = .ok (.iconst 0, 1) := dk_3 (dk_at dksX3_writePartition_0 19 rfl rfl)
theorem dX3_writePartition_20 : decode cX3_writePartition 20 = .ok (.ireturn, 1) := dk_172 (dk_at dksX3_writePartition_0 20 rfl rfl)
theorem dX3_writePartition_21 : decode cX3_writePartition 21 = .ok (.aload_n 0, 1) := dk_42 (dk_at dksX3_writePartition_0 21 rfl rfl)
theorem dX3_writePartition_22 : decode cX3_writePartition 22 = .ok (.iconst 0, 1) := dk_3 (dk_at dksX3_writePartition_0 22 rfl rfl)
theorem dX3_writePartition_23 : decode cX3_writePartition 23 = .ok (.putfield 73, 3) := dk_181 0 73 (dk_at dksX3_writePartition_1 0 rfl rfl)
theorem dX3_writePartition_26 : decode cX3_writePartition 26 = .ok (.iconst 0, 1) := dk_3 (dk_at dksX3_writePartition_1 3 rfl rfl)
theorem dX3_writePartition_27 : decode cX3_writePartition 27 = .ok (.istore_n 3, 1) := dk_62 (dk_at dksX3_writePartition_1 4 rfl rfl)
theorem dX3_writePartition_28 : decode cX3_writePartition 28 = .ok (.iload_n 3, 1) := dk_29 (dk_at dksX3_writePartition_1 5 rfl rfl)
theorem dX3_writePartition_29 : decode cX3_writePartition 29 = .ok (.iconst 5, 1) := dk_8 (dk_at dksX3_writePartition_1 6 rfl rfl)
theorem dX3_writePartition_30 : decode cX3_writePartition 30 = .ok (.if_icmp .ge 34, 3) := dk_162 0 34 (dk_at dksX3_writePartition_1 7 rfl rfl)
theorem dX3_writePartition_33 : decode cX3_writePartition 33 = .ok (.iload_n 3, 1) := dk_29 (dk_at dksX3_writePartition_1 10 rfl rfl)
theorem dX3_writePartition_34 : decode cX3_writePartition 34 = .ok (.ifCond .le 9, 3) := dk_158 0 9 (dk_at dksX3_writePartition_1 11 rfl rfl)
theorem dX3_writePartition_37 : decode cX3_writePartition 37 = .ok (.aload_n 0, 1) := dk_42 (dk_at dksX3_writePartition_1 14 rfl rfl)
theorem dX3_writePartition_38 : decode cX3_writePartition 38 = .ok (.bipush 44, 2) := dk_16 44 (dk_at dksX3_writePartition_1 15 rfl rfl)
theorem dX3_writePartition_40 : decode cX3_writePartition 40 = .ok (.invokevirtual 281, 3) := dk_182 1 25 (dk_at dksX3_writePartition_1 17 rfl rfl)
theorem dX3_writePartition_43 : decode cX3_writePartition 43 = .ok (.aload_n 0, 1) := dk_42 (dk_at dksX3_writePartition_1 20 rfl rfl)
theorem dX3_writePartition_44 : decode cX3_writePartition 44 = .ok (.aload_n 0, 1) := dk_42 (dk_at dksX3_writePartition_1 21 rfl rfl)
theorem dX3_writePartition_45 : decode cX3_writePartition 45 = .ok (.getfield 25, 3) := dk_180 0 25 (dk_at dksX3_writePartition_2 0 rfl rfl)
theorem dX3_writePartition_48 : decode cX3_writePartition 48 = .ok (.iload_n 1, 1) := dk_27 (dk_at dksX3_writePartition_2 3 rfl rfl)
theorem dX3_writePartition_49 : decode cX3_writePartition 49 = .ok (.iload_n 2, 1) := dk_28 (dk_at dksX3_writePartition_2 4 rfl rfl)
theorem dX3_writePartition_50 : decode cX3_writePartition 50 = .ok (.iload_n 3, 1) := dk_29 (dk_at dksX3_writePartition_2 5 rfl rfl)
theorem dX3_writePartition_51 : decode cX3_writePartition 51 = .ok (.invokestatic 131, 3) := dk_184 0 131 (dk_at dksX3_writePartition_2 6 rfl rfl)
theorem dX3_writePartition_54 : decode cX3_writePartition 54 = .ok (.laload, 1) := dk_47 (dk_at dksX3_writePartition_2 9 rfl rfl)
theorem dX3_writePartition_55 : decode cX3_writePartition 55 = .ok (.invokevirtual 288, 3) := dk_182 1 32 (dk_at dksX3_writePartition_2 10 rfl rfl)
theorem dX3_writePartition_58 : decode cX3_writePartition 58 = .ok (.iinc 3 1, 3) := dk_132 3 1 (dk_at dksX3_writePartition_2 13 rfl rfl)
theorem dX3_writePartition_61 : decode cX3_writePartition 61 = .ok (.goto (-33), 3) := dk_167 255 223 (dk_at dksX3_writePartition_2 16 rfl rfl)
theorem dX3_writePartition_64 : decode cX3_writePartition 64 = .ok (.aload_n 0, 1) := dk_42 (dk_at dksX3_writePartition_2 19 rfl rfl)
theorem dX3_writePartition_65 : decode cX3_writePartition 65 = .ok (.iload_n 1, 1) := dk_27 (dk_at dksX3_writePartition_2 20 rfl rfl)
theorem dX3_writePartition_66 : decode cX3_writePartition 66 = .ok (.iload_n 2, 1) := dk_28 (dk_at dksX3_writePartition_2 21 rfl rfl)
theorem dX3_writePartition_67 : decode cX3_writePartition 67 = .ok (.invokevirtual 138, 3) := dk_182 0 138 (dk_at dksX3_writePartition_3 0 rfl rfl)
theorem dX3_writePartition_70 : decode cX3_writePartition 70 = .ok (.ifCond .eq 9, 3) := dk_153 0 9 (dk_at dksX3_writePartition_3 3 rfl rfl)
theorem dX3_writePartition_73 : decode cX3_writePartition 73 = .ok (.aload_n 0, 1) := dk_42 (dk_at dksX3_writePartition_3 6 rfl rfl)
theorem dX3_writePartition_74 : decode cX3_writePartition 74 = .ok (.bipush 33, 2) := dk_16 33 (dk_at dksX3_writePartition_3 7 rfl rfl)
theorem dX3_writePartition_76 : decode cX3_writePartition 76 = .ok (.invokevirtual 281, 3) := dk_182 1 25 (dk_at dksX3_writePartition_3 9 rfl rfl)
theorem dX3_writePartition_79 : decode cX3_writePartition 79 = .ok (.aload_n 0, 1) := dk_42 (dk_at dksX3_writePartition_3 12 rfl rfl)
theorem dX3_writePartition_80 : decode cX3_writePartition 80 = .ok (.getfield 73, 3) := dk_180 0 73 (dk_at dksX3_writePartition_3 13 rfl rfl)
theorem dX3_writePartition_83 : decode cX3_writePartition 83 = .ok (.ireturn, 1) := dk_172 (dk_at dksX3_writePartition_3 16 rfl rfl)
abbrev cX3_lineCharacter : ByteArray := prog_25_method_102_code
def yX3_lineCharacter : MethodName := ⟨RX3, "lineCharacter", "(I)C"⟩
def dkwX3_lineCharacter_1 : List UInt8 := [180, 0, 70, 27, 46, 146, 172]
abbrev dktX3_lineCharacter_1 : List UInt8 := dkwX3_lineCharacter_1 ++ []
def dkwX3_lineCharacter_0 : List UInt8 := [42, 27, 3, 42, 180, 0, 73, 4, 100, 184, 0, 112, 182, 0, 238, 158, 0, 8, 16, 32, 167, 0, 10, 42]
abbrev dktX3_lineCharacter_0 : List UInt8 := dkwX3_lineCharacter_0 ++ dktX3_lineCharacter_1
theorem dksX3_lineCharacter_0 : cX3_lineCharacter.data.toList.drop 0 = dktX3_lineCharacter_0 := by decide +kernel
theorem dksX3_lineCharacter_1 : cX3_lineCharacter.data.toList.drop 24 = dktX3_lineCharacter_1 := dk_seg dksX3_lineCharacter_0 24 rfl rfl
theorem dX3_lineCharacter_0 : decode cX3_lineCharacter 0 = .ok (.aload_n 0, 1) := dk_42 (dk_at dksX3_lineCharacter_0 0 rfl rfl)
theorem dX3_lineCharacter_1 : decode cX3_lineCharacter 1 = .ok (.iload_n 1, 1) := dk_27 (dk_at dksX3_lineCharacter_0 1 rfl rfl)
theorem dX3_lineCharacter_2 : decode cX3_lineCharacter 2 = .ok (.iconst 0, 1) := dk_3 (dk_at dksX3_lineCharacter_0 2 rfl rfl)
theorem dX3_lineCharacter_3 : decode cX3_lineCharacter 3 = .ok (.aload_n 0, 1) := dk_42 (dk_at dksX3_lineCharacter_0 3 rfl rfl)
theorem dX3_lineCharacter_4 : decode cX3_lineCharacter 4 = .ok (.getfield 73, 3) := dk_180 0 73 (dk_at dksX3_lineCharacter_0 4 rfl rfl)
theorem dX3_lineCharacter_7 : decode cX3_lineCharacter 7 = .ok (.iconst 1, 1) := dk_4 (dk_at dksX3_lineCharacter_0 7 rfl rfl)
theorem dX3_lineCharacter_8 : decode cX3_lineCharacter 8 = .ok (.isub, 1) := dk_100 (dk_at dksX3_lineCharacter_0 8 rfl rfl)
theorem dX3_lineCharacter_9 : decode cX3_lineCharacter 9 = .ok (.invokestatic 112, 3) := dk_184 0 112 (dk_at dksX3_lineCharacter_0 9 rfl rfl)
theorem dX3_lineCharacter_12 : decode cX3_lineCharacter 12 = .ok (.invokevirtual 238, 3) := dk_182 0 238 (dk_at dksX3_lineCharacter_0 12 rfl rfl)
theorem dX3_lineCharacter_15 : decode cX3_lineCharacter 15 = .ok (.ifCond .le 8, 3) := dk_158 0 8 (dk_at dksX3_lineCharacter_0 15 rfl rfl)
theorem dX3_lineCharacter_18 : decode cX3_lineCharacter 18 = .ok (.bipush 32, 2) := dk_16 32 (dk_at dksX3_lineCharacter_0 18 rfl rfl)
theorem dX3_lineCharacter_20 : decode cX3_lineCharacter 20 = .ok (.goto 10, 3) := dk_167 0 10 (dk_at dksX3_lineCharacter_0 20 rfl rfl)
theorem dX3_lineCharacter_23 : decode cX3_lineCharacter 23 = .ok (.aload_n 0, 1) := dk_42 (dk_at dksX3_lineCharacter_0 23 rfl rfl)
theorem dX3_lineCharacter_24 : decode cX3_lineCharacter 24 = .ok (.getfield 70, 3) := dk_180 0 70 (dk_at dksX3_lineCharacter_1 0 rfl rfl)
theorem dX3_lineCharacter_27 : decode cX3_lineCharacter 27 = .ok (.iload_n 1, 1) := dk_27 (dk_at dksX3_lineCharacter_1 3 rfl rfl)
theorem dX3_lineCharacter_28 : decode cX3_lineCharacter 28 = .ok (.iaload, 1) := dk_46 (dk_at dksX3_lineCharacter_1 4 rfl rfl)
theorem dX3_lineCharacter_29 : decode cX3_lineCharacter 29 = .ok (.i2c, 1) := dk_146 (dk_at dksX3_lineCharacter_1 5 rfl rfl)
theorem dX3_lineCharacter_30 : decode cX3_lineCharacter 30 = .ok (.ireturn, 1) := dk_172 (dk_at dksX3_lineCharacter_1 6 rfl rfl)
abbrev cX3_feed : ByteArray := prog_25_method_103_code
def yX3_feed : MethodName := ⟨RX3, "feed", "(C)I"⟩
def dkwX3_feed_1 : List UInt8 := [180, 0, 76, 42, 180, 0, 85, 27, 79, 42, 89, 180, 0, 85, 4, 96, 181, 0, 85, 42, 180, 0, 85, 172]
abbrev dktX3_feed_1 : List UInt8 := dkwX3_feed_1 ++ []
def dkwX3_feed_0 : List UInt8 := [42, 42, 180, 0, 85, 16, 60, 162, 0, 7, 4, 167, 0, 4, 3, 182, 0, 238, 158, 0, 5, 3, 172, 42]
abbrev dktX3_feed_0 : List UInt8 := dkwX3_feed_0 ++ dktX3_feed_1
theorem dksX3_feed_0 : cX3_feed.data.toList.drop 0 = dktX3_feed_0 := by decide +kernel
theorem dksX3_feed_1 : cX3_feed.data.toList.drop 24 = dktX3_feed_1 := dk_seg dksX3_feed_0 24 rfl rfl
theorem dX3_feed_0 : decode cX3_feed 0 = .ok (.aload_n 0, 1) := dk_42 (dk_at dksX3_feed_0 0 rfl rfl)
theorem dX3_feed_1 : decode cX3_feed 1 = .ok (.aload_n 0, 1) := dk_42 (dk_at dksX3_feed_0 1 rfl rfl)
theorem dX3_feed_2 : decode cX3_feed 2 = .ok (.getfield 85, 3) := dk_180 0 85 (dk_at dksX3_feed_0 2 rfl rfl)
theorem dX3_feed_5 : decode cX3_feed 5 = .ok (.bipush 60, 2) := dk_16 60 (dk_at dksX3_feed_0 5 rfl rfl)
theorem dX3_feed_7 : decode cX3_feed 7 = .ok (.if_icmp .ge 7, 3) := dk_162 0 7 (dk_at dksX3_feed_0 7 rfl rfl)
theorem dX3_feed_10 : decode cX3_feed 10 = .ok (.iconst 1, 1) := dk_4 (dk_at dksX3_feed_0 10 rfl rfl)
theorem dX3_feed_11 : decode cX3_feed 11 = .ok (.goto 4, 3) := dk_167 0 4 (dk_at dksX3_feed_0 11 rfl rfl)
theorem dX3_feed_14 : decode cX3_feed 14 = .ok (.iconst 0, 1) := dk_3 (dk_at dksX3_feed_0 14 rfl rfl)
theorem dX3_feed_15 : decode cX3_feed 15 = .ok (.invokevirtual 238, 3) := dk_182 0 238 (dk_at dksX3_feed_0 15 rfl rfl)
theorem dX3_feed_18 : decode cX3_feed 18 = .ok (.ifCond .le 5, 3) := dk_158 0 5 (dk_at dksX3_feed_0 18 rfl rfl)
theorem dX3_feed_21 : decode cX3_feed 21 = .ok (.iconst 0, 1) := dk_3 (dk_at dksX3_feed_0 21 rfl rfl)
theorem dX3_feed_22 : decode cX3_feed 22 = .ok (.ireturn, 1) := dk_172 (dk_at dksX3_feed_0 22 rfl rfl)
theorem dX3_feed_23 : decode cX3_feed 23 = .ok (.aload_n 0, 1) := dk_42 (dk_at dksX3_feed_0 23 rfl rfl)
theorem dX3_feed_24 : decode cX3_feed 24 = .ok (.getfield 76, 3) := dk_180 0 76 (dk_at dksX3_feed_1 0 rfl rfl)
theorem dX3_feed_27 : decode cX3_feed 27 = .ok (.aload_n 0, 1) := dk_42 (dk_at dksX3_feed_1 3 rfl rfl)
theorem dX3_feed_28 : decode cX3_feed 28 = .ok (.getfield 85, 3) := dk_180 0 85 (dk_at dksX3_feed_1 4 rfl rfl)
theorem dX3_feed_31 : decode cX3_feed 31 = .ok (.iload_n 1, 1) := dk_27 (dk_at dksX3_feed_1 7 rfl rfl)
theorem dX3_feed_32 : decode cX3_feed 32 = .ok (.iastore, 1) := dk_79 (dk_at dksX3_feed_1 8 rfl rfl)
theorem dX3_feed_33 : decode cX3_feed 33 = .ok (.aload_n 0, 1) := dk_42 (dk_at dksX3_feed_1 9 rfl rfl)
theorem dX3_feed_34 : decode cX3_feed 34 = .ok (.dup, 1) := dk_89 (dk_at dksX3_feed_1 10 rfl rfl)
theorem dX3_feed_35 : decode cX3_feed 35 = .ok (.getfield 85, 3) := dk_180 0 85 (dk_at dksX3_feed_1 11 rfl rfl)
theorem dX3_feed_38 : decode cX3_feed 38 = .ok (.iconst 1, 1) := dk_4 (dk_at dksX3_feed_1 14 rfl rfl)
theorem dX3_feed_39 : decode cX3_feed 39 = .ok (.iadd, 1) := dk_96 (dk_at dksX3_feed_1 15 rfl rfl)
theorem dX3_feed_40 : decode cX3_feed 40 = .ok (.putfield 85, 3) := dk_181 0 85 (dk_at dksX3_feed_1 16 rfl rfl)
theorem dX3_feed_43 : decode cX3_feed 43 = .ok (.aload_n 0, 1) := dk_42 (dk_at dksX3_feed_1 19 rfl rfl)
theorem dX3_feed_44 : decode cX3_feed 44 = .ok (.getfield 85, 3) := dk_180 0 85 (dk_at dksX3_feed_1 20 rfl rfl)
theorem dX3_feed_47 : decode cX3_feed 47 = .ok (.ireturn, 1) := dk_172 (dk_at dksX3_feed_1 23 rfl rfl)
abbrev cX3_execute : ByteArray := prog_25_method_120_code
def yX3_execute : MethodName := ⟨RX3, "execute", "()I"⟩
def dkwX3_execute_8 : List UInt8 := [182, 0, 169, 172, 132, 2, 1, 167, 255, 97, 42, 42, 180, 0, 94, 182, 0, 176, 172]
abbrev dktX3_execute_8 : List UInt8 := dkwX3_execute_8 ++ []
def dkwX3_execute_7 : List UInt8 := [180, 0, 57, 167, 0, 5, 16, 6, 181, 0, 63, 42, 8, 181, 0, 57, 42, 28, 181, 0, 60, 42, 5]
abbrev dktX3_execute_7 : List UInt8 := dkwX3_execute_7 ++ dktX3_execute_8
def dkwX3_execute_6 : List UInt8 := [180, 0, 25, 3, 184, 0, 104, 42, 21, 4, 42, 180, 0, 79, 28, 46, 184, 1, 81, 160, 0, 10, 42]
abbrev dktX3_execute_6 : List UInt8 := dkwX3_execute_6 ++ dktX3_execute_7
def dkwX3_execute_5 : List UInt8 := [167, 0, 72, 42, 180, 0, 13, 3, 42, 180, 0, 7, 3, 184, 0, 100, 42, 180, 0, 29, 3, 42]
abbrev dktX3_execute_5 : List UInt8 := dkwX3_execute_5 ++ dktX3_execute_6
def dkwX3_execute_4 : List UInt8 := [29, 46, 42, 180, 0, 82, 29, 4, 96, 46, 42, 180, 0, 82, 29, 5, 96, 46, 182, 1, 78, 60]
abbrev dktX3_execute_4 : List UInt8 := dkwX3_execute_4 ++ dktX3_execute_5
def dkwX3_execute_3 : List UInt8 := [5, 96, 46, 182, 1, 75, 54, 4, 21, 4, 154, 0, 39, 42, 42, 180, 0, 79, 28, 46, 42, 180, 0, 82]
abbrev dktX3_execute_3 : List UInt8 := dkwX3_execute_3 ++ dktX3_execute_4
def dkwX3_execute_2 : List UInt8 := [180, 0, 79, 28, 46, 42, 180, 0, 82, 29, 46, 42, 180, 0, 82, 29, 4, 96, 46, 42, 180, 0, 82, 29]
abbrev dktX3_execute_2 : List UInt8 := dkwX3_execute_2 ++ dktX3_execute_3
def dkwX3_execute_1 : List UInt8 := [4, 182, 0, 169, 172, 3, 60, 3, 61, 28, 42, 180, 0, 94, 162, 0, 157, 7, 28, 104, 62, 42, 42]
abbrev dktX3_execute_1 : List UInt8 := dkwX3_execute_1 ++ dktX3_execute_2
def dkwX3_execute_0 : List UInt8 := [42, 182, 0, 163, 42, 182, 1, 72, 42, 180, 0, 97, 153, 0, 17, 42, 42, 180, 0, 91, 181, 0, 54, 42]
abbrev dktX3_execute_0 : List UInt8 := dkwX3_execute_0 ++ dktX3_execute_1
theorem dksX3_execute_0 : cX3_execute.data.toList.drop 0 = dktX3_execute_0 := by decide +kernel
theorem dksX3_execute_1 : cX3_execute.data.toList.drop 24 = dktX3_execute_1 := dk_seg dksX3_execute_0 24 rfl rfl
theorem dksX3_execute_2 : cX3_execute.data.toList.drop 47 = dktX3_execute_2 := dk_seg dksX3_execute_1 23 rfl rfl
theorem dksX3_execute_3 : cX3_execute.data.toList.drop 71 = dktX3_execute_3 := dk_seg dksX3_execute_2 24 rfl rfl
theorem dksX3_execute_4 : cX3_execute.data.toList.drop 95 = dktX3_execute_4 := dk_seg dksX3_execute_3 24 rfl rfl
theorem dksX3_execute_5 : cX3_execute.data.toList.drop 117 = dktX3_execute_5 := dk_seg dksX3_execute_4 22 rfl rfl
theorem dksX3_execute_6 : cX3_execute.data.toList.drop 139 = dktX3_execute_6 := dk_seg dksX3_execute_5 22 rfl rfl
theorem dksX3_execute_7 : cX3_execute.data.toList.drop 162 = dktX3_execute_7 := dk_seg dksX3_execute_6 23 rfl rfl
theorem dksX3_execute_8 : cX3_execute.data.toList.drop 185 = dktX3_execute_8 := dk_seg dksX3_execute_7 23 rfl rfl
theorem dX3_execute_0 : decode cX3_execute 0 = .ok (.aload_n 0, 1) := dk_42 (dk_at dksX3_execute_0 0 rfl rfl)
theorem dX3_execute_1 : decode cX3_execute 1 = .ok (.invokevirtual 163, 3) := dk_182 0 163 (dk_at dksX3_execute_0 1 rfl rfl)
theorem dX3_execute_4 : decode cX3_execute 4 = .ok (.aload_n 0, 1) := dk_42 (dk_at dksX3_execute_0 4 rfl rfl)
theorem dX3_execute_5 : decode cX3_execute 5 = .ok (.invokevirtual 328, 3) := dk_182 1 72 (dk_at dksX3_execute_0 5 rfl rfl)
theorem dX3_execute_8 : decode cX3_execute 8 = .ok (.aload_n 0, 1) := dk_42 (dk_at dksX3_execute_0 8 rfl rfl)
theorem dX3_execute_9 : decode cX3_execute 9 = .ok (.getfield 97, 3) := dk_180 0 97 (dk_at dksX3_execute_0 9 rfl rfl)
theorem dX3_execute_12 : decode cX3_execute 12 = .ok (.ifCond .eq 17, 3) := dk_153 0 17 (dk_at dksX3_execute_0 12 rfl rfl)
theorem dX3_execute_15 : decode cX3_execute 15 = .ok (.aload_n 0, 1) := dk_42 (dk_at dksX3_execute_0 15 rfl rfl)
theorem dX3_execute_16 : decode cX3_execute 16 = .ok (.aload_n 0, 1) := dk_42 (dk_at dksX3_execute_0 16 rfl rfl)
theorem dX3_execute_17 : decode cX3_execute 17 = .ok (.getfield 91, 3) := dk_180 0 91 (dk_at dksX3_execute_0 17 rfl rfl)
theorem dX3_execute_20 : decode cX3_execute 20 = .ok (.putfield 54, 3) := dk_181 0 54 (dk_at dksX3_execute_0 20 rfl rfl)
theorem dX3_execute_23 : decode cX3_execute 23 = .ok (.aload_n 0, 1) := dk_42 (dk_at dksX3_execute_0 23 rfl rfl)
theorem dX3_execute_24 : decode cX3_execute 24 = .ok (.iconst 1, 1) := dk_4 (dk_at dksX3_execute_1 0 rfl rfl)
theorem dX3_execute_25 : decode cX3_execute 25 = .ok (.invokevirtual 169, 3) := dk_182 0 169 (dk_at dksX3_execute_1 1 rfl rfl)
theorem dX3_execute_28 : decode cX3_execute 28 = .ok (.ireturn, 1) := dk_172 (dk_at dksX3_execute_1 4 rfl rfl)
theorem dX3_execute_29 : decode cX3_execute 29 = .ok (.iconst 0, 1) := dk_3 (dk_at dksX3_execute_1 5 rfl rfl)
theorem dX3_execute_30 : decode cX3_execute 30 = .ok (.istore_n 1, 1) := dk_60 (dk_at dksX3_execute_1 6 rfl rfl)
theorem dX3_execute_31 : decode cX3_execute 31 = .ok (.iconst 0, 1) := dk_3 (dk_at dksX3_execute_1 7 rfl rfl)
theorem dX3_execute_32 : decode cX3_execute 32 = .ok (.istore_n 2, 1) := dk_61 (dk_at dksX3_execute_1 8 rfl rfl)
theorem dX3_execute_33 : decode cX3_execute 33 = .ok (.iload_n 2, 1) := dk_28 (dk_at dksX3_execute_1 9 rfl rfl)
theorem dX3_execute_34 : decode cX3_execute 34 = .ok (.aload_n 0, 1) := dk_42 (dk_at dksX3_execute_1 10 rfl rfl)
theorem dX3_execute_35 : decode cX3_execute 35 = .ok (.getfield 94, 3) := dk_180 0 94 (dk_at dksX3_execute_1 11 rfl rfl)
theorem dX3_execute_38 : decode cX3_execute 38 = .ok (.if_icmp .ge 157, 3) := dk_162 0 157 (dk_at dksX3_execute_1 14 rfl rfl)
theorem dX3_execute_41 : decode cX3_execute 41 = .ok (.iconst 4, 1) := dk_7 (dk_at dksX3_execute_1 17 rfl rfl)
theorem dX3_execute_42 : decode cX3_execute 42 = .ok (.iload_n 2, 1) := dk_28 (dk_at dksX3_execute_1 18 rfl rfl)
theorem dX3_execute_43 : decode cX3_execute 43 = .ok (.imul, 1) := dk_104 (dk_at dksX3_execute_1 19 rfl rfl)
theorem dX3_execute_44 : decode cX3_execute 44 = .ok (.istore_n 3, 1) := dk_62 (dk_at dksX3_execute_1 20 rfl rfl)
theorem dX3_execute_45 : decode cX3_execute 45 = .ok (.aload_n 0, 1) := dk_42 (dk_at dksX3_execute_1 21 rfl rfl)
theorem dX3_execute_46 : decode cX3_execute 46 = .ok (.aload_n 0, 1) := dk_42 (dk_at dksX3_execute_1 22 rfl rfl)
theorem dX3_execute_47 : decode cX3_execute 47 = .ok (.getfield 79, 3) := dk_180 0 79 (dk_at dksX3_execute_2 0 rfl rfl)
theorem dX3_execute_50 : decode cX3_execute 50 = .ok (.iload_n 2, 1) := dk_28 (dk_at dksX3_execute_2 3 rfl rfl)
theorem dX3_execute_51 : decode cX3_execute 51 = .ok (.iaload, 1) := dk_46 (dk_at dksX3_execute_2 4 rfl rfl)
theorem dX3_execute_52 : decode cX3_execute 52 = .ok (.aload_n 0, 1) := dk_42 (dk_at dksX3_execute_2 5 rfl rfl)
theorem dX3_execute_53 : decode cX3_execute 53 = .ok (.getfield 82, 3) := dk_180 0 82 (dk_at dksX3_execute_2 6 rfl rfl)
theorem dX3_execute_56 : decode cX3_execute 56 = .ok (.iload_n 3, 1) := dk_29 (dk_at dksX3_execute_2 9 rfl rfl)
theorem dX3_execute_57 : decode cX3_execute 57 = .ok (.iaload, 1) := dk_46 (dk_at dksX3_execute_2 10 rfl rfl)
theorem dX3_execute_58 : decode cX3_execute 58 = .ok (.aload_n 0, 1) := dk_42 (dk_at dksX3_execute_2 11 rfl rfl)
theorem dX3_execute_59 : decode cX3_execute 59 = .ok (.getfield 82, 3) := dk_180 0 82 (dk_at dksX3_execute_2 12 rfl rfl)
theorem dX3_execute_62 : decode cX3_execute 62 = .ok (.iload_n 3, 1) := dk_29 (dk_at dksX3_execute_2 15 rfl rfl)
theorem dX3_execute_63 : decode cX3_execute 63 = .ok (.iconst 1, 1) := dk_4 (dk_at dksX3_execute_2 16 rfl rfl)
theorem dX3_execute_64 : decode cX3_execute 64 = .ok (.iadd, 1) := dk_96 (dk_at dksX3_execute_2 17 rfl rfl)
theorem dX3_execute_65 : decode cX3_execute 65 = .ok (.iaload, 1) := dk_46 (dk_at dksX3_execute_2 18 rfl rfl)
theorem dX3_execute_66 : decode cX3_execute 66 = .ok (.aload_n 0, 1) := dk_42 (dk_at dksX3_execute_2 19 rfl rfl)
theorem dX3_execute_67 : decode cX3_execute 67 = .ok (.getfield 82, 3) := dk_180 0 82 (dk_at dksX3_execute_2 20 rfl rfl)
theorem dX3_execute_70 : decode cX3_execute 70 = .ok (.iload_n 3, 1) := dk_29 (dk_at dksX3_execute_2 23 rfl rfl)
theorem dX3_execute_71 : decode cX3_execute 71 = .ok (.iconst 2, 1) := dk_5 (dk_at dksX3_execute_3 0 rfl rfl)
theorem dX3_execute_72 : decode cX3_execute 72 = .ok (.iadd, 1) := dk_96 (dk_at dksX3_execute_3 1 rfl rfl)
theorem dX3_execute_73 : decode cX3_execute 73 = .ok (.iaload, 1) := dk_46 (dk_at dksX3_execute_3 2 rfl rfl)
theorem dX3_execute_74 : decode cX3_execute 74 = .ok (.invokevirtual 331, 3) := dk_182 1 75 (dk_at dksX3_execute_3 3 rfl rfl)
theorem dX3_execute_77 : decode cX3_execute 77 = .ok (.istore 4, 2) := dk_54 4 (dk_at dksX3_execute_3 6 rfl rfl)
theorem dX3_execute_79 : decode cX3_execute 79 = .ok (.iload 4, 2) := dk_21 4 (dk_at dksX3_execute_3 8 rfl rfl)
theorem dX3_execute_81 : decode cX3_execute 81 = .ok (.ifCond .ne 39, 3) := dk_154 0 39 (dk_at dksX3_execute_3 10 rfl rfl)
theorem dX3_execute_84 : decode cX3_execute 84 = .ok (.aload_n 0, 1) := dk_42 (dk_at dksX3_execute_3 13 rfl rfl)
theorem dX3_execute_85 : decode cX3_execute 85 = .ok (.aload_n 0, 1) := dk_42 (dk_at dksX3_execute_3 14 rfl rfl)
theorem dX3_execute_86 : decode cX3_execute 86 = .ok (.getfield 79, 3) := dk_180 0 79 (dk_at dksX3_execute_3 15 rfl rfl)
theorem dX3_execute_89 : decode cX3_execute 89 = .ok (.iload_n 2, 1) := dk_28 (dk_at dksX3_execute_3 18 rfl rfl)
theorem dX3_execute_90 : decode cX3_execute 90 = .ok (.iaload, 1) := dk_46 (dk_at dksX3_execute_3 19 rfl rfl)
theorem dX3_execute_91 : decode cX3_execute 91 = .ok (.aload_n 0, 1) := dk_42 (dk_at dksX3_execute_3 20 rfl rfl)
theorem dX3_execute_92 : decode cX3_execute 92 = .ok (.getfield 82, 3) := dk_180 0 82 (dk_at dksX3_execute_3 21 rfl rfl)
theorem dX3_execute_95 : decode cX3_execute 95 = .ok (.iload_n 3, 1) := dk_29 (dk_at dksX3_execute_4 0 rfl rfl)
theorem dX3_execute_96 : decode cX3_execute 96 = .ok (.iaload, 1) := dk_46 (dk_at dksX3_execute_4 1 rfl rfl)
theorem dX3_execute_97 : decode cX3_execute 97 = .ok (.aload_n 0, 1) := dk_42 (dk_at dksX3_execute_4 2 rfl rfl)
theorem dX3_execute_98 : decode cX3_execute 98 = .ok (.getfield 82, 3) := dk_180 0 82 (dk_at dksX3_execute_4 3 rfl rfl)
theorem dX3_execute_101 : decode cX3_execute 101 = .ok (.iload_n 3, 1) := dk_29 (dk_at dksX3_execute_4 6 rfl rfl)
theorem dX3_execute_102 : decode cX3_execute 102 = .ok (.iconst 1, 1) := dk_4 (dk_at dksX3_execute_4 7 rfl rfl)
theorem dX3_execute_103 : decode cX3_execute 103 = .ok (.iadd, 1) := dk_96 (dk_at dksX3_execute_4 8 rfl rfl)
theorem dX3_execute_104 : decode cX3_execute 104 = .ok (.iaload, 1) := dk_46 (dk_at dksX3_execute_4 9 rfl rfl)
theorem dX3_execute_105 : decode cX3_execute 105 = .ok (.aload_n 0, 1) := dk_42 (dk_at dksX3_execute_4 10 rfl rfl)
theorem dX3_execute_106 : decode cX3_execute 106 = .ok (.getfield 82, 3) := dk_180 0 82 (dk_at dksX3_execute_4 11 rfl rfl)
theorem dX3_execute_109 : decode cX3_execute 109 = .ok (.iload_n 3, 1) := dk_29 (dk_at dksX3_execute_4 14 rfl rfl)
theorem dX3_execute_110 : decode cX3_execute 110 = .ok (.iconst 2, 1) := dk_5 (dk_at dksX3_execute_4 15 rfl rfl)
theorem dX3_execute_111 : decode cX3_execute 111 = .ok (.iadd, 1) := dk_96 (dk_at dksX3_execute_4 16 rfl rfl)
theorem dX3_execute_112 : decode cX3_execute 112 = .ok (.iaload, 1) := dk_46 (dk_at dksX3_execute_4 17 rfl rfl)
theorem dX3_execute_113 : decode cX3_execute 113 = .ok (.invokevirtual 334, 3) := dk_182 1 78 (dk_at dksX3_execute_4 18 rfl rfl)
theorem dX3_execute_116 : decode cX3_execute 116 = .ok (.istore_n 1, 1) := dk_60 (dk_at dksX3_execute_4 21 rfl rfl)
theorem dX3_execute_117 : decode cX3_execute 117 = .ok (.goto 72, 3) := dk_167 0 72 (dk_at dksX3_execute_5 0 rfl rfl)
theorem dX3_execute_120 : decode cX3_execute 120 = .ok (.aload_n 0, 1) := dk_42 (dk_at dksX3_execute_5 3 rfl rfl)
theorem dX3_execute_121 : decode cX3_execute 121 = .ok (.getfield 13, 3) := dk_180 0 13 (dk_at dksX3_execute_5 4 rfl rfl)
theorem dX3_execute_124 : decode cX3_execute 124 = .ok (.iconst 0, 1) := dk_3 (dk_at dksX3_execute_5 7 rfl rfl)
theorem dX3_execute_125 : decode cX3_execute 125 = .ok (.aload_n 0, 1) := dk_42 (dk_at dksX3_execute_5 8 rfl rfl)
theorem dX3_execute_126 : decode cX3_execute 126 = .ok (.getfield 7, 3) := dk_180 0 7 (dk_at dksX3_execute_5 9 rfl rfl)
theorem dX3_execute_129 : decode cX3_execute 129 = .ok (.iconst 0, 1) := dk_3 (dk_at dksX3_execute_5 12 rfl rfl)
theorem dX3_execute_130 : decode cX3_execute 130 = .ok (.invokestatic 100, 3) := dk_184 0 100 (dk_at dksX3_execute_5 13 rfl rfl)
theorem dX3_execute_133 : decode cX3_execute 133 = .ok (.aload_n 0, 1) := dk_42 (dk_at dksX3_execute_5 16 rfl rfl)
theorem dX3_execute_134 : decode cX3_execute 134 = .ok (.getfield 29, 3) := dk_180 0 29 (dk_at dksX3_execute_5 17 rfl rfl)
theorem dX3_execute_137 : decode cX3_execute 137 = .ok (.iconst 0, 1) := dk_3 (dk_at dksX3_execute_5 20 rfl rfl)
theorem dX3_execute_138 : decode cX3_execute 138 = .ok (.aload_n 0, 1) := dk_42 (dk_at dksX3_execute_5 21 rfl rfl)
theorem dX3_execute_139 : decode cX3_execute 139 = .ok (.getfield 25, 3) := dk_180 0 25 (dk_at dksX3_execute_6 0 rfl rfl)
theorem dX3_execute_142 : decode cX3_execute 142 = .ok (.iconst 0, 1) := dk_3 (dk_at dksX3_execute_6 3 rfl rfl)
theorem dX3_execute_143 : decode cX3_execute 143 = .ok (.invokestatic 104, 3) := dk_184 0 104 (dk_at dksX3_execute_6 4 rfl rfl)
theorem dX3_execute_146 : decode cX3_execute 146 = .ok (.aload_n 0, 1) := dk_42 (dk_at dksX3_execute_6 7 rfl rfl)
theorem dX3_execute_147 : decode cX3_execute 147 = .ok (.iload 4, 2) := dk_21 4 (dk_at dksX3_execute_6 8 rfl rfl)
theorem dX3_execute_149 : decode cX3_execute 149 = .ok (.aload_n 0, 1) := dk_42 (dk_at dksX3_execute_6 10 rfl rfl)
theorem dX3_execute_150 : decode cX3_execute 150 = .ok (.getfield 79, 3) := dk_180 0 79 (dk_at dksX3_execute_6 11 rfl rfl)
theorem dX3_execute_153 : decode cX3_execute 153 = .ok (.iload_n 2, 1) := dk_28 (dk_at dksX3_execute_6 14 rfl rfl)
theorem dX3_execute_154 : decode cX3_execute 154 = .ok (.iaload, 1) := dk_46 (dk_at dksX3_execute_6 15 rfl rfl)
theorem dX3_execute_155 : decode cX3_execute 155 = .ok (.invokestatic 337, 3) := dk_184 1 81 (dk_at dksX3_execute_6 16 rfl rfl)
theorem dX3_execute_158 : decode cX3_execute 158 = .ok (.if_icmp .ne 10, 3) := dk_160 0 10 (dk_at dksX3_execute_6 19 rfl rfl)
theorem dX3_execute_161 : decode cX3_execute 161 = .ok (.aload_n 0, 1) := dk_42 (dk_at dksX3_execute_6 22 rfl rfl)
theorem dX3_execute_162 : decode cX3_execute 162 = .ok (.getfield 57, 3) := dk_180 0 57 (dk_at dksX3_execute_7 0 rfl rfl)
theorem dX3_execute_165 : decode cX3_execute 165 = .ok (.goto 5, 3) := dk_167 0 5 (dk_at dksX3_execute_7 3 rfl rfl)
theorem dX3_execute_168 : decode cX3_execute 168 = .ok (.bipush 6, 2) := dk_16 6 (dk_at dksX3_execute_7 6 rfl rfl)
theorem dX3_execute_170 : decode cX3_execute 170 = .ok (.putfield 63, 3) := dk_181 0 63 (dk_at dksX3_execute_7 8 rfl rfl)
theorem dX3_execute_173 : decode cX3_execute 173 = .ok (.aload_n 0, 1) := dk_42 (dk_at dksX3_execute_7 11 rfl rfl)
theorem dX3_execute_174 : decode cX3_execute 174 = .ok (.iconst 5, 1) := dk_8 (dk_at dksX3_execute_7 12 rfl rfl)
theorem dX3_execute_175 : decode cX3_execute 175 = .ok (.putfield 57, 3) := dk_181 0 57 (dk_at dksX3_execute_7 13 rfl rfl)
theorem dX3_execute_178 : decode cX3_execute 178 = .ok (.aload_n 0, 1) := dk_42 (dk_at dksX3_execute_7 16 rfl rfl)
theorem dX3_execute_179 : decode cX3_execute 179 = .ok (.iload_n 2, 1) := dk_28 (dk_at dksX3_execute_7 17 rfl rfl)
theorem dX3_execute_180 : decode cX3_execute 180 = .ok (.putfield 60, 3) := dk_181 0 60 (dk_at dksX3_execute_7 18 rfl rfl)
theorem dX3_execute_183 : decode cX3_execute 183 = .ok (.aload_n 0, 1) := dk_42 (dk_at dksX3_execute_7 21 rfl rfl)
theorem dX3_execute_184 : decode cX3_execute 184 = .ok (.iconst 2, 1) := dk_5 (dk_at dksX3_execute_7 22 rfl rfl)
theorem dX3_execute_185 : decode cX3_execute 185 = .ok (.invokevirtual 169, 3) := dk_182 0 169 (dk_at dksX3_execute_8 0 rfl rfl)
theorem dX3_execute_188 : decode cX3_execute 188 = .ok (.ireturn, 1) := dk_172 (dk_at dksX3_execute_8 3 rfl rfl)
theorem dX3_execute_189 : decode cX3_execute 189 = .ok (.iinc 2 1, 3) := dk_132 2 1 (dk_at dksX3_execute_8 4 rfl rfl)
theorem dX3_execute_192 : decode cX3_execute 192 = .ok (.goto (-159), 3) := dk_167 255 97 (dk_at dksX3_execute_8 7 rfl rfl)
theorem dX3_execute_195 : decode cX3_execute 195 = .ok (.aload_n 0, 1) := dk_42 (dk_at dksX3_execute_8 10 rfl rfl)
theorem dX3_execute_196 : decode cX3_execute 196 = .ok (.aload_n 0, 1) := dk_42 (dk_at dksX3_execute_8 11 rfl rfl)
theorem dX3_execute_197 : decode cX3_execute 197 = .ok (.getfield 94, 3) := dk_180 0 94 (dk_at dksX3_execute_8 12 rfl rfl)
theorem dX3_execute_200 : decode cX3_execute 200 = .ok (.invokevirtual 176, 3) := dk_182 0 176 (dk_at dksX3_execute_8 15 rfl rfl)
theorem dX3_execute_203 : decode cX3_execute 203 = .ok (.ireturn, 1) := dk_172 (dk_at dksX3_execute_8 18 rfl rfl)
abbrev cX3_parse : ByteArray := prog_25_method_116_code
def yX3_parse : MethodName := ⟨RX3, "parse", "()V"⟩
def dkwX3_parse_3 : List UInt8 := [162, 0, 7, 4, 167, 0, 4, 3, 128, 181, 0, 97, 177]
abbrev dktX3_parse_3 : List UInt8 := dkwX3_parse_3 ++ []
def dkwX3_parse_2 : List UInt8 := [181, 0, 91, 42, 182, 1, 69, 167, 255, 233, 42, 89, 180, 0, 97, 42, 180, 0, 91, 42, 180, 0, 88]
abbrev dktX3_parse_2 : List UInt8 := dkwX3_parse_2 ++ dktX3_parse_3
def dkwX3_parse_1 : List UInt8 := [3, 181, 0, 97, 42, 182, 1, 69, 42, 182, 1, 36, 16, 59, 160, 0, 20, 42, 89, 180, 0, 91, 4, 96]
abbrev dktX3_parse_1 : List UInt8 := dkwX3_parse_1 ++ dktX3_parse_2
def dkwX3_parse_0 : List UInt8 := [42, 42, 180, 0, 85, 181, 0, 88, 42, 3, 181, 0, 85, 42, 3, 181, 0, 91, 42, 3, 181, 0, 94, 42]
abbrev dktX3_parse_0 : List UInt8 := dkwX3_parse_0 ++ dktX3_parse_1
theorem dksX3_parse_0 : cX3_parse.data.toList.drop 0 = dktX3_parse_0 := by decide +kernel
theorem dksX3_parse_1 : cX3_parse.data.toList.drop 24 = dktX3_parse_1 := dk_seg dksX3_parse_0 24 rfl rfl
theorem dksX3_parse_2 : cX3_parse.data.toList.drop 48 = dktX3_parse_2 := dk_seg dksX3_parse_1 24 rfl rfl
theorem dksX3_parse_3 : cX3_parse.data.toList.drop 71 = dktX3_parse_3 := dk_seg dksX3_parse_2 23 rfl rfl
theorem dX3_parse_0 : decode cX3_parse 0 = .ok (.aload_n 0, 1) := dk_42 (dk_at dksX3_parse_0 0 rfl rfl)
theorem dX3_parse_1 : decode cX3_parse 1 = .ok (.aload_n 0, 1) := dk_42 (dk_at dksX3_parse_0 1 rfl rfl)
theorem dX3_parse_2 : decode cX3_parse 2 = .ok (.getfield 85, 3) := dk_180 0 85 (dk_at dksX3_parse_0 2 rfl rfl)
theorem dX3_parse_5 : decode cX3_parse 5 = .ok (.putfield 88, 3) := dk_181 0 88 (dk_at dksX3_parse_0 5 rfl rfl)
theorem dX3_parse_8 : decode cX3_parse 8 = .ok (.aload_n 0, 1) := dk_42 (dk_at dksX3_parse_0 8 rfl rfl)
theorem dX3_parse_9 : decode cX3_parse 9 = .ok (.iconst 0, 1) := dk_3 (dk_at dksX3_parse_0 9 rfl rfl)
theorem dX3_parse_10 : decode cX3_parse 10 = .ok (.putfield 85, 3) := dk_181 0 85 (dk_at dksX3_parse_0 10 rfl rfl)
theorem dX3_parse_13 : decode cX3_parse 13 = .ok (.aload_n 0, 1) := dk_42 (dk_at dksX3_parse_0 13 rfl rfl)
theorem dX3_parse_14 : decode cX3_parse 14 = .ok (.iconst 0, 1) := dk_3 (dk_at dksX3_parse_0 14 rfl rfl)
theorem dX3_parse_15 : decode cX3_parse 15 = .ok (.putfield 91, 3) := dk_181 0 91 (dk_at dksX3_parse_0 15 rfl rfl)
theorem dX3_parse_18 : decode cX3_parse 18 = .ok (.aload_n 0, 1) := dk_42 (dk_at dksX3_parse_0 18 rfl rfl)
theorem dX3_parse_19 : decode cX3_parse 19 = .ok (.iconst 0, 1) := dk_3 (dk_at dksX3_parse_0 19 rfl rfl)
theorem dX3_parse_20 : decode cX3_parse 20 = .ok (.putfield 94, 3) := dk_181 0 94 (dk_at dksX3_parse_0 20 rfl rfl)
theorem dX3_parse_23 : decode cX3_parse 23 = .ok (.aload_n 0, 1) := dk_42 (dk_at dksX3_parse_0 23 rfl rfl)
theorem dX3_parse_24 : decode cX3_parse 24 = .ok (.iconst 0, 1) := dk_3 (dk_at dksX3_parse_1 0 rfl rfl)
theorem dX3_parse_25 : decode cX3_parse 25 = .ok (.putfield 97, 3) := dk_181 0 97 (dk_at dksX3_parse_1 1 rfl rfl)
theorem dX3_parse_28 : decode cX3_parse 28 = .ok (.aload_n 0, 1) := dk_42 (dk_at dksX3_parse_1 4 rfl rfl)
theorem dX3_parse_29 : decode cX3_parse 29 = .ok (.invokevirtual 325, 3) := dk_182 1 69 (dk_at dksX3_parse_1 5 rfl rfl)
theorem dX3_parse_32 : decode cX3_parse 32 = .ok (.aload_n 0, 1) := dk_42 (dk_at dksX3_parse_1 8 rfl rfl)
theorem dX3_parse_33 : decode cX3_parse 33 = .ok (.invokevirtual 292, 3) := dk_182 1 36 (dk_at dksX3_parse_1 9 rfl rfl)
theorem dX3_parse_36 : decode cX3_parse 36 = .ok (.bipush 59, 2) := dk_16 59 (dk_at dksX3_parse_1 12 rfl rfl)
theorem dX3_parse_38 : decode cX3_parse 38 = .ok (.if_icmp .ne 20, 3) := dk_160 0 20 (dk_at dksX3_parse_1 14 rfl rfl)
theorem dX3_parse_41 : decode cX3_parse 41 = .ok (.aload_n 0, 1) := dk_42 (dk_at dksX3_parse_1 17 rfl rfl)
theorem dX3_parse_42 : decode cX3_parse 42 = .ok (.dup, 1) := dk_89 (dk_at dksX3_parse_1 18 rfl rfl)
theorem dX3_parse_43 : decode cX3_parse 43 = .ok (.getfield 91, 3) := dk_180 0 91 (dk_at dksX3_parse_1 19 rfl rfl)
theorem dX3_parse_46 : decode cX3_parse 46 = .ok (.iconst 1, 1) := dk_4 (dk_at dksX3_parse_1 22 rfl rfl)
theorem dX3_parse_47 : decode cX3_parse 47 = .ok (.iadd, 1) := dk_96 (dk_at dksX3_parse_1 23 rfl rfl)
theorem dX3_parse_48 : decode cX3_parse 48 = .ok (.putfield 91, 3) := dk_181 0 91 (dk_at dksX3_parse_2 0 rfl rfl)
theorem dX3_parse_51 : decode cX3_parse 51 = .ok (.aload_n 0, 1) := dk_42 (dk_at dksX3_parse_2 3 rfl rfl)
theorem dX3_parse_52 : decode cX3_parse 52 = .ok (.invokevirtual 325, 3) := dk_182 1 69 (dk_at dksX3_parse_2 4 rfl rfl)
theorem dX3_parse_55 : decode cX3_parse 55 = .ok (.goto (-23), 3) := dk_167 255 233 (dk_at dksX3_parse_2 7 rfl rfl)
theorem dX3_parse_58 : decode cX3_parse 58 = .ok (.aload_n 0, 1) := dk_42 (dk_at dksX3_parse_2 10 rfl rfl)
theorem dX3_parse_59 : decode cX3_parse 59 = .ok (.dup, 1) := dk_89 (dk_at dksX3_parse_2 11 rfl rfl)
theorem dX3_parse_60 : decode cX3_parse 60 = .ok (.getfield 97, 3) := dk_180 0 97 (dk_at dksX3_parse_2 12 rfl rfl)
theorem dX3_parse_63 : decode cX3_parse 63 = .ok (.aload_n 0, 1) := dk_42 (dk_at dksX3_parse_2 15 rfl rfl)
theorem dX3_parse_64 : decode cX3_parse 64 = .ok (.getfield 91, 3) := dk_180 0 91 (dk_at dksX3_parse_2 16 rfl rfl)
theorem dX3_parse_67 : decode cX3_parse 67 = .ok (.aload_n 0, 1) := dk_42 (dk_at dksX3_parse_2 19 rfl rfl)
theorem dX3_parse_68 : decode cX3_parse 68 = .ok (.getfield 88, 3) := dk_180 0 88 (dk_at dksX3_parse_2 20 rfl rfl)
theorem dX3_parse_71 : decode cX3_parse 71 = .ok (.if_icmp .ge 7, 3) := dk_162 0 7 (dk_at dksX3_parse_3 0 rfl rfl)
theorem dX3_parse_74 : decode cX3_parse 74 = .ok (.iconst 1, 1) := dk_4 (dk_at dksX3_parse_3 3 rfl rfl)
theorem dX3_parse_75 : decode cX3_parse 75 = .ok (.goto 4, 3) := dk_167 0 4 (dk_at dksX3_parse_3 4 rfl rfl)
theorem dX3_parse_78 : decode cX3_parse 78 = .ok (.iconst 0, 1) := dk_3 (dk_at dksX3_parse_3 7 rfl rfl)
theorem dX3_parse_79 : decode cX3_parse 79 = .ok (.ior, 1) := dk_128 (dk_at dksX3_parse_3 8 rfl rfl)
theorem dX3_parse_80 : decode cX3_parse 80 = .ok (.putfield 97, 3) := dk_181 0 97 (dk_at dksX3_parse_3 9 rfl rfl)
theorem dX3_parse_83 : decode cX3_parse 83 = .ok (.return_, 1) := dk_177 (dk_at dksX3_parse_3 12 rfl rfl)
abbrev cX3_command : ByteArray := prog_25_method_115_code
def yX3_command : MethodName := ⟨RX3, "command", "()V"⟩
def dkwX3_command_2 : List UInt8 := [177]
abbrev dktX3_command_2 : List UInt8 := dkwX3_command_2 ++ []
def dkwX3_command_1 : List UInt8 := [153, 0, 4, 177, 42, 180, 0, 79, 42, 180, 0, 94, 27, 79, 42, 89, 180, 0, 94, 4, 96, 181, 0, 94]
abbrev dktX3_command_1 : List UInt8 := dkwX3_command_1 ++ dktX3_command_2
def dkwX3_command_0 : List UInt8 := [42, 182, 1, 63, 60, 42, 180, 0, 97, 153, 0, 4, 177, 42, 27, 182, 1, 66, 42, 180, 0, 97]
abbrev dktX3_command_0 : List UInt8 := dkwX3_command_0 ++ dktX3_command_1
theorem dksX3_command_0 : cX3_command.data.toList.drop 0 = dktX3_command_0 := by decide +kernel
theorem dksX3_command_1 : cX3_command.data.toList.drop 22 = dktX3_command_1 := dk_seg dksX3_command_0 22 rfl rfl
theorem dksX3_command_2 : cX3_command.data.toList.drop 46 = dktX3_command_2 := dk_seg dksX3_command_1 24 rfl rfl
theorem dX3_command_0 : decode cX3_command 0 = .ok (.aload_n 0, 1) := dk_42 (dk_at dksX3_command_0 0 rfl rfl)
theorem dX3_command_1 : decode cX3_command 1 = .ok (.invokevirtual 319, 3) := dk_182 1 63 (dk_at dksX3_command_0 1 rfl rfl)
theorem dX3_command_4 : decode cX3_command 4 = .ok (.istore_n 1, 1) := dk_60 (dk_at dksX3_command_0 4 rfl rfl)
theorem dX3_command_5 : decode cX3_command 5 = .ok (.aload_n 0, 1) := dk_42 (dk_at dksX3_command_0 5 rfl rfl)
theorem dX3_command_6 : decode cX3_command 6 = .ok (.getfield 97, 3) := dk_180 0 97 (dk_at dksX3_command_0 6 rfl rfl)
theorem dX3_command_9 : decode cX3_command 9 = .ok (.ifCond .eq 4, 3) := dk_153 0 4 (dk_at dksX3_command_0 9 rfl rfl)
theorem dX3_command_12 : decode cX3_command 12 = .ok (.return_, 1) := dk_177 (dk_at dksX3_command_0 12 rfl rfl)
theorem dX3_command_13 : decode cX3_command 13 = .ok (.aload_n 0, 1) := dk_42 (dk_at dksX3_command_0 13 rfl rfl)
theorem dX3_command_14 : decode cX3_command 14 = .ok (.iload_n 1, 1) := dk_27 (dk_at dksX3_command_0 14 rfl rfl)
theorem dX3_command_15 : decode cX3_command 15 = .ok (.invokevirtual 322, 3) := dk_182 1 66 (dk_at dksX3_command_0 15 rfl rfl)
theorem dX3_command_18 : decode cX3_command 18 = .ok (.aload_n 0, 1) := dk_42 (dk_at dksX3_command_0 18 rfl rfl)
theorem dX3_command_19 : decode cX3_command 19 = .ok (.getfield 97, 3) := dk_180 0 97 (dk_at dksX3_command_0 19 rfl rfl)
theorem dX3_command_22 : decode cX3_command 22 = .ok (.ifCond .eq 4, 3) := dk_153 0 4 (dk_at dksX3_command_1 0 rfl rfl)
theorem dX3_command_25 : decode cX3_command 25 = .ok (.return_, 1) := dk_177 (dk_at dksX3_command_1 3 rfl rfl)
theorem dX3_command_26 : decode cX3_command 26 = .ok (.aload_n 0, 1) := dk_42 (dk_at dksX3_command_1 4 rfl rfl)
theorem dX3_command_27 : decode cX3_command 27 = .ok (.getfield 79, 3) := dk_180 0 79 (dk_at dksX3_command_1 5 rfl rfl)
theorem dX3_command_30 : decode cX3_command 30 = .ok (.aload_n 0, 1) := dk_42 (dk_at dksX3_command_1 8 rfl rfl)
theorem dX3_command_31 : decode cX3_command 31 = .ok (.getfield 94, 3) := dk_180 0 94 (dk_at dksX3_command_1 9 rfl rfl)
theorem dX3_command_34 : decode cX3_command 34 = .ok (.iload_n 1, 1) := dk_27 (dk_at dksX3_command_1 12 rfl rfl)
theorem dX3_command_35 : decode cX3_command 35 = .ok (.iastore, 1) := dk_79 (dk_at dksX3_command_1 13 rfl rfl)
theorem dX3_command_36 : decode cX3_command 36 = .ok (.aload_n 0, 1) := dk_42 (dk_at dksX3_command_1 14 rfl rfl)
theorem dX3_command_37 : decode cX3_command 37 = .ok (.dup, 1) := dk_89 (dk_at dksX3_command_1 15 rfl rfl)
theorem dX3_command_38 : decode cX3_command 38 = .ok (.getfield 94, 3) := dk_180 0 94 (dk_at dksX3_command_1 16 rfl rfl)
theorem dX3_command_41 : decode cX3_command 41 = .ok (.iconst 1, 1) := dk_4 (dk_at dksX3_command_1 19 rfl rfl)
theorem dX3_command_42 : decode cX3_command 42 = .ok (.iadd, 1) := dk_96 (dk_at dksX3_command_1 20 rfl rfl)
theorem dX3_command_43 : decode cX3_command 43 = .ok (.putfield 94, 3) := dk_181 0 94 (dk_at dksX3_command_1 21 rfl rfl)
theorem dX3_command_46 : decode cX3_command 46 = .ok (.return_, 1) := dk_177 (dk_at dksX3_command_2 0 rfl rfl)
abbrev cX3_word : ByteArray := prog_25_method_113_code
def yX3_word : MethodName := ⟨RX3, "word", "()I"⟩
def dkwX3_word_4 : List UInt8 := [167, 255, 168, 42, 89, 180, 0, 91, 27, 96, 181, 0, 91, 42, 4, 181, 0, 97, 3, 172]
abbrev dktX3_word_4 : List UInt8 := dkwX3_word_4 ++ []
def dkwX3_word_3 : List UInt8 := [180, 0, 91, 29, 96, 181, 0, 91, 28, 172, 29, 27, 164, 0, 7, 29, 167, 0, 4, 27, 60, 132, 2, 1]
abbrev dktX3_word_3 : List UInt8 := dkwX3_word_3 ++ dktX3_word_4
def dkwX3_word_2 : List UInt8 := [184, 1, 48, 160, 0, 9, 132, 3, 1, 167, 255, 213, 28, 29, 184, 1, 48, 154, 0, 15, 42, 89]
abbrev dktX3_word_2 : List UInt8 := dkwX3_word_2 ++ dktX3_word_3
def dkwX3_word_1 : List UInt8 := [29, 96, 42, 180, 0, 88, 162, 0, 28, 42, 180, 0, 76, 42, 180, 0, 91, 29, 96, 46, 28, 29]
abbrev dktX3_word_1 : List UInt8 := dkwX3_word_1 ++ dktX3_word_2
def dkwX3_word_0 : List UInt8 := [3, 60, 3, 61, 28, 16, 9, 162, 0, 88, 3, 62, 28, 29, 184, 1, 48, 158, 0, 41, 42, 180, 0, 91]
abbrev dktX3_word_0 : List UInt8 := dkwX3_word_0 ++ dktX3_word_1
theorem dksX3_word_0 : cX3_word.data.toList.drop 0 = dktX3_word_0 := by decide +kernel
theorem dksX3_word_1 : cX3_word.data.toList.drop 24 = dktX3_word_1 := dk_seg dksX3_word_0 24 rfl rfl
theorem dksX3_word_2 : cX3_word.data.toList.drop 46 = dktX3_word_2 := dk_seg dksX3_word_1 22 rfl rfl
theorem dksX3_word_3 : cX3_word.data.toList.drop 68 = dktX3_word_3 := dk_seg dksX3_word_2 22 rfl rfl
theorem dksX3_word_4 : cX3_word.data.toList.drop 92 = dktX3_word_4 := dk_seg dksX3_word_3 24 rfl rfl
theorem dX3_word_0 : decode cX3_word 0 = .ok (.iconst 0, 1) := dk_3 (dk_at dksX3_word_0 0 rfl rfl)
theorem dX3_word_1 : decode cX3_word 1 = .ok (.istore_n 1, 1) := dk_60 (dk_at dksX3_word_0 1 rfl rfl)
theorem dX3_word_2 : decode cX3_word 2 = .ok (.iconst 0, 1) := dk_3 (dk_at dksX3_word_0 2 rfl rfl)
theorem dX3_word_3 : decode cX3_word 3 = .ok (.istore_n 2, 1) := dk_61 (dk_at dksX3_word_0 3 rfl rfl)
theorem dX3_word_4 : decode cX3_word 4 = .ok (.iload_n 2, 1) := dk_28 (dk_at dksX3_word_0 4 rfl rfl)
theorem dX3_word_5 : decode cX3_word 5 = .ok (.bipush 9, 2) := dk_16 9 (dk_at dksX3_word_0 5 rfl rfl)
theorem dX3_word_7 : decode cX3_word 7 = .ok (.if_icmp .ge 88, 3) := dk_162 0 88 (dk_at dksX3_word_0 7 rfl rfl)
theorem dX3_word_10 : decode cX3_word 10 = .ok (.iconst 0, 1) := dk_3 (dk_at dksX3_word_0 10 rfl rfl)
theorem dX3_word_11 : decode cX3_word 11 = .ok (.istore_n 3, 1) := dk_62 (dk_at dksX3_word_0 11 rfl rfl)
theorem dX3_word_12 : decode cX3_word 12 = .ok (.iload_n 2, 1) := dk_28 (dk_at dksX3_word_0 12 rfl rfl)
theorem dX3_word_13 : decode cX3_word 13 = .ok (.iload_n 3, 1) := dk_29 (dk_at dksX3_word_0 13 rfl rfl)
theorem dX3_word_14 : decode cX3_word 14 = .ok (.invokestatic 304, 3) := dk_184 1 48 (dk_at dksX3_word_0 14 rfl rfl)
theorem dX3_word_17 : decode cX3_word 17 = .ok (.ifCond .le 41, 3) := dk_158 0 41 (dk_at dksX3_word_0 17 rfl rfl)
theorem dX3_word_20 : decode cX3_word 20 = .ok (.aload_n 0, 1) := dk_42 (dk_at dksX3_word_0 20 rfl rfl)
theorem dX3_word_21 : decode cX3_word 21 = .ok (.getfield 91, 3) := dk_180 0 91 (dk_at dksX3_word_0 21 rfl rfl)
theorem dX3_word_24 : decode cX3_word 24 = .ok (.iload_n 3, 1) := dk_29 (dk_at dksX3_word_1 0 rfl rfl)
theorem dX3_word_25 : decode cX3_word 25 = .ok (.iadd, 1) := dk_96 (dk_at dksX3_word_1 1 rfl rfl)
theorem dX3_word_26 : decode cX3_word 26 = .ok (.aload_n 0, 1) := dk_42 (dk_at dksX3_word_1 2 rfl rfl)
theorem dX3_word_27 : decode cX3_word 27 = .ok (.getfield 88, 3) := dk_180 0 88 (dk_at dksX3_word_1 3 rfl rfl)
theorem dX3_word_30 : decode cX3_word 30 = .ok (.if_icmp .ge 28, 3) := dk_162 0 28 (dk_at dksX3_word_1 6 rfl rfl)
theorem dX3_word_33 : decode cX3_word 33 = .ok (.aload_n 0, 1) := dk_42 (dk_at dksX3_word_1 9 rfl rfl)
theorem dX3_word_34 : decode cX3_word 34 = .ok (.getfield 76, 3) := dk_180 0 76 (dk_at dksX3_word_1 10 rfl rfl)
theorem dX3_word_37 : decode cX3_word 37 = .ok (.aload_n 0, 1) := dk_42 (dk_at dksX3_word_1 13 rfl rfl)
theorem dX3_word_38 : decode cX3_word 38 = .ok (.getfield 91, 3) := dk_180 0 91 (dk_at dksX3_word_1 14 rfl rfl)
theorem dX3_word_41 : decode cX3_word 41 = .ok (.iload_n 3, 1) := dk_29 (dk_at dksX3_word_1 17 rfl rfl)
theorem dX3_word_42 : decode cX3_word 42 = .ok (.iadd, 1) := dk_96 (dk_at dksX3_word_1 18 rfl rfl)
theorem dX3_word_43 : decode cX3_word 43 = .ok (.iaload, 1) := dk_46 (dk_at dksX3_word_1 19 rfl rfl)
theorem dX3_word_44 : decode cX3_word 44 = .ok (.iload_n 2, 1) := dk_28 (dk_at dksX3_word_1 20 rfl rfl)
theorem dX3_word_45 : decode cX3_word 45 = .ok (.iload_n 3, 1) := dk_29 (dk_at dksX3_word_1 21 rfl rfl)
theorem dX3_word_46 : decode cX3_word 46 = .ok (.invokestatic 304, 3) := dk_184 1 48 (dk_at dksX3_word_2 0 rfl rfl)
theorem dX3_word_49 : decode cX3_word 49 = .ok (.if_icmp .ne 9, 3) := dk_160 0 9 (dk_at dksX3_word_2 3 rfl rfl)
theorem dX3_word_52 : decode cX3_word 52 = .ok (.iinc 3 1, 3) := dk_132 3 1 (dk_at dksX3_word_2 6 rfl rfl)
theorem dX3_word_55 : decode cX3_word 55 = .ok (.goto (-43), 3) := dk_167 255 213 (dk_at dksX3_word_2 9 rfl rfl)
theorem dX3_word_58 : decode cX3_word 58 = .ok (.iload_n 2, 1) := dk_28 (dk_at dksX3_word_2 12 rfl rfl)
theorem dX3_word_59 : decode cX3_word 59 = .ok (.iload_n 3, 1) := dk_29 (dk_at dksX3_word_2 13 rfl rfl)
theorem dX3_word_60 : decode cX3_word 60 = .ok (.invokestatic 304, 3) := dk_184 1 48 (dk_at dksX3_word_2 14 rfl rfl)
theorem dX3_word_63 : decode cX3_word 63 = .ok (.ifCond .ne 15, 3) := dk_154 0 15 (dk_at dksX3_word_2 17 rfl rfl)
theorem dX3_word_66 : decode cX3_word 66 = .ok (.aload_n 0, 1) := dk_42 (dk_at dksX3_word_2 20 rfl rfl)
theorem dX3_word_67 : decode cX3_word 67 = .ok (.dup, 1) := dk_89 (dk_at dksX3_word_2 21 rfl rfl)
theorem dX3_word_68 : decode cX3_word 68 = .ok (.getfield 91, 3) := dk_180 0 91 (dk_at dksX3_word_3 0 rfl rfl)
theorem dX3_word_71 : decode cX3_word 71 = .ok (.iload_n 3, 1) := dk_29 (dk_at dksX3_word_3 3 rfl rfl)
theorem dX3_word_72 : decode cX3_word 72 = .ok (.iadd, 1) := dk_96 (dk_at dksX3_word_3 4 rfl rfl)
theorem dX3_word_73 : decode cX3_word 73 = .ok (.putfield 91, 3) := dk_181 0 91 (dk_at dksX3_word_3 5 rfl rfl)
theorem dX3_word_76 : decode cX3_word 76 = .ok (.iload_n 2, 1) := dk_28 (dk_at dksX3_word_3 8 rfl rfl)
theorem dX3_word_77 : decode cX3_word 77 = .ok (.ireturn, 1) := dk_172 (dk_at dksX3_word_3 9 rfl rfl)
theorem dX3_word_78 : decode cX3_word 78 = .ok (.iload_n 3, 1) := dk_29 (dk_at dksX3_word_3 10 rfl rfl)
theorem dX3_word_79 : decode cX3_word 79 = .ok (.iload_n 1, 1) := dk_27 (dk_at dksX3_word_3 11 rfl rfl)
theorem dX3_word_80 : decode cX3_word 80 = .ok (.if_icmp .le 7, 3) := dk_164 0 7 (dk_at dksX3_word_3 12 rfl rfl)
theorem dX3_word_83 : decode cX3_word 83 = .ok (.iload_n 3, 1) := dk_29 (dk_at dksX3_word_3 15 rfl rfl)
theorem dX3_word_84 : decode cX3_word 84 = .ok (.goto 4, 3) := dk_167 0 4 (dk_at dksX3_word_3 16 rfl rfl)
theorem dX3_word_87 : decode cX3_word 87 = .ok (.iload_n 1, 1) := dk_27 (dk_at dksX3_word_3 19 rfl rfl)
theorem dX3_word_88 : decode cX3_word 88 = .ok (.istore_n 1, 1) := dk_60 (dk_at dksX3_word_3 20 rfl rfl)
theorem dX3_word_89 : decode cX3_word 89 = .ok (.iinc 2 1, 3) := dk_132 2 1 (dk_at dksX3_word_3 21 rfl rfl)
theorem dX3_word_92 : decode cX3_word 92 = .ok (.goto (-88), 3) := dk_167 255 168 (dk_at dksX3_word_4 0 rfl rfl)
theorem dX3_word_95 : decode cX3_word 95 = .ok (.aload_n 0, 1) := dk_42 (dk_at dksX3_word_4 3 rfl rfl)
theorem dX3_word_96 : decode cX3_word 96 = .ok (.dup, 1) := dk_89 (dk_at dksX3_word_4 4 rfl rfl)
theorem dX3_word_97 : decode cX3_word 97 = .ok (.getfield 91, 3) := dk_180 0 91 (dk_at dksX3_word_4 5 rfl rfl)
theorem dX3_word_100 : decode cX3_word 100 = .ok (.iload_n 1, 1) := dk_27 (dk_at dksX3_word_4 8 rfl rfl)
theorem dX3_word_101 : decode cX3_word 101 = .ok (.iadd, 1) := dk_96 (dk_at dksX3_word_4 9 rfl rfl)
theorem dX3_word_102 : decode cX3_word 102 = .ok (.putfield 91, 3) := dk_181 0 91 (dk_at dksX3_word_4 10 rfl rfl)
theorem dX3_word_105 : decode cX3_word 105 = .ok (.aload_n 0, 1) := dk_42 (dk_at dksX3_word_4 13 rfl rfl)
theorem dX3_word_106 : decode cX3_word 106 = .ok (.iconst 1, 1) := dk_4 (dk_at dksX3_word_4 14 rfl rfl)
theorem dX3_word_107 : decode cX3_word 107 = .ok (.putfield 97, 3) := dk_181 0 97 (dk_at dksX3_word_4 15 rfl rfl)
theorem dX3_word_110 : decode cX3_word 110 = .ok (.iconst 0, 1) := dk_3 (dk_at dksX3_word_4 18 rfl rfl)
theorem dX3_word_111 : decode cX3_word 111 = .ok (.ireturn, 1) := dk_172 (dk_at dksX3_word_4 19 rfl rfl)
abbrev cX3_spelled : ByteArray := prog_25_method_112_code
def yX3_spelled : MethodName := ⟨RX3, "spelled", "(II)I"⟩
def dkwX3_spelled_7 : List UInt8 := [27, 16, 114, 16, 101, 16, 112, 16, 97, 16, 105, 16, 114, 184, 1, 44, 172]
abbrev dktX3_spelled_7 : List UInt8 := dkwX3_spelled_7 ++ []
def dkwX3_spelled_6 : List UInt8 := [16, 101, 16, 112, 3, 3, 184, 1, 44, 172, 27, 16, 99, 16, 117, 16, 116, 3, 3, 3, 184, 1, 44, 172]
abbrev dktX3_spelled_6 : List UInt8 := dkwX3_spelled_6 ++ dktX3_spelled_7
def dkwX3_spelled_5 : List UInt8 := [184, 1, 44, 172, 27, 16, 114, 16, 117, 16, 110, 3, 3, 3, 184, 1, 44, 172, 27, 16, 107, 16, 101]
abbrev dktX3_spelled_5 : List UInt8 := dkwX3_spelled_5 ++ dktX3_spelled_6
def dkwX3_spelled_4 : List UInt8 := [16, 97, 16, 115, 16, 101, 3, 3, 184, 1, 44, 172, 27, 16, 112, 16, 97, 16, 105, 16, 114, 3, 3]
abbrev dktX3_spelled_4 : List UInt8 := dkwX3_spelled_4 ++ dktX3_spelled_5
def dkwX3_spelled_3 : List UInt8 := [3, 184, 1, 44, 172, 27, 16, 110, 16, 101, 16, 120, 16, 116, 3, 3, 184, 1, 44, 172, 27, 16, 98]
abbrev dktX3_spelled_3 : List UInt8 := dkwX3_spelled_3 ++ dktX3_spelled_4
def dkwX3_spelled_2 : List UInt8 := [27, 16, 114, 16, 111, 16, 119, 3, 3, 3, 184, 1, 44, 172, 27, 16, 103, 16, 111, 16, 110, 16, 101, 3]
abbrev dktX3_spelled_2 : List UInt8 := dkwX3_spelled_2 ++ dktX3_spelled_3
def dkwX3_spelled_1 : List UInt8 := [170, 0, 0, 0, 0, 0, 164, 0, 0, 0, 0, 0, 0, 0, 7, 0, 0, 0, 47, 0, 0, 0, 61, 0, 0, 0, 76, 0, 0, 0, 91, 0, 0, 0, 106, 0, 0, 0, 121, 0, 0, 0, 135, 0, 0, 0, 150]
abbrev dktX3_spelled_1 : List UInt8 := dkwX3_spelled_1 ++ dktX3_spelled_2
def dkwX3_spelled_0 : List UInt8 := [26]
abbrev dktX3_spelled_0 : List UInt8 := dkwX3_spelled_0 ++ dktX3_spelled_1
theorem dksX3_spelled_0 : cX3_spelled.data.toList.drop 0 = dktX3_spelled_0 := by decide +kernel
theorem dksX3_spelled_1 : cX3_spelled.data.toList.drop 1 = dktX3_spelled_1 := dk_seg dksX3_spelled_0 1 rfl rfl
theorem dksX3_spelled_2 : cX3_spelled.data.toList.drop 48 = dktX3_spelled_2 := dk_seg dksX3_spelled_1 47 rfl rfl
theorem dksX3_spelled_3 : cX3_spelled.data.toList.drop 72 = dktX3_spelled_3 := dk_seg dksX3_spelled_2 24 rfl rfl
theorem dksX3_spelled_4 : cX3_spelled.data.toList.drop 95 = dktX3_spelled_4 := dk_seg dksX3_spelled_3 23 rfl rfl
theorem dksX3_spelled_5 : cX3_spelled.data.toList.drop 118 = dktX3_spelled_5 := dk_seg dksX3_spelled_4 23 rfl rfl
theorem dksX3_spelled_6 : cX3_spelled.data.toList.drop 141 = dktX3_spelled_6 := dk_seg dksX3_spelled_5 23 rfl rfl
theorem dksX3_spelled_7 : cX3_spelled.data.toList.drop 165 = dktX3_spelled_7 := dk_seg dksX3_spelled_6 24 rfl rfl
theorem dX3_spelled_0 : decode cX3_spelled 0 = .ok (.iload_n 0, 1) := dk_26 (dk_at dksX3_spelled_0 0 rfl rfl)
theorem dX3_spelled_1 : decode cX3_spelled 1 = .ok (.tableswitch 164 0 7 #[47, 61, 76, 91, 106, 121, 135, 150], 47) := by decide +kernel
theorem dX3_spelled_48 : decode cX3_spelled 48 = .ok (.iload_n 1, 1) := dk_27 (dk_at dksX3_spelled_2 0 rfl rfl)
theorem dX3_spelled_49 : decode cX3_spelled 49 = .ok (.bipush 114, 2) := dk_16 114 (dk_at dksX3_spelled_2 1 rfl rfl)
theorem dX3_spelled_51 : decode cX3_spelled 51 = .ok (.bipush 111, 2) := dk_16 111 (dk_at dksX3_spelled_2 3 rfl rfl)
theorem dX3_spelled_53 : decode cX3_spelled 53 = .ok (.bipush 119, 2) := dk_16 119 (dk_at dksX3_spelled_2 5 rfl rfl)
theorem dX3_spelled_55 : decode cX3_spelled 55 = .ok (.iconst 0, 1) := dk_3 (dk_at dksX3_spelled_2 7 rfl rfl)
theorem dX3_spelled_56 : decode cX3_spelled 56 = .ok (.iconst 0, 1) := dk_3 (dk_at dksX3_spelled_2 8 rfl rfl)
theorem dX3_spelled_57 : decode cX3_spelled 57 = .ok (.iconst 0, 1) := dk_3 (dk_at dksX3_spelled_2 9 rfl rfl)
theorem dX3_spelled_58 : decode cX3_spelled 58 = .ok (.invokestatic 300, 3) := dk_184 1 44 (dk_at dksX3_spelled_2 10 rfl rfl)
theorem dX3_spelled_61 : decode cX3_spelled 61 = .ok (.ireturn, 1) := dk_172 (dk_at dksX3_spelled_2 13 rfl rfl)
theorem dX3_spelled_62 : decode cX3_spelled 62 = .ok (.iload_n 1, 1) := dk_27 (dk_at dksX3_spelled_2 14 rfl rfl)
theorem dX3_spelled_63 : decode cX3_spelled 63 = .ok (.bipush 103, 2) := dk_16 103 (dk_at dksX3_spelled_2 15 rfl rfl)
theorem dX3_spelled_65 : decode cX3_spelled 65 = .ok (.bipush 111, 2) := dk_16 111 (dk_at dksX3_spelled_2 17 rfl rfl)
theorem dX3_spelled_67 : decode cX3_spelled 67 = .ok (.bipush 110, 2) := dk_16 110 (dk_at dksX3_spelled_2 19 rfl rfl)
theorem dX3_spelled_69 : decode cX3_spelled 69 = .ok (.bipush 101, 2) := dk_16 101 (dk_at dksX3_spelled_2 21 rfl rfl)
theorem dX3_spelled_71 : decode cX3_spelled 71 = .ok (.iconst 0, 1) := dk_3 (dk_at dksX3_spelled_2 23 rfl rfl)
theorem dX3_spelled_72 : decode cX3_spelled 72 = .ok (.iconst 0, 1) := dk_3 (dk_at dksX3_spelled_3 0 rfl rfl)
theorem dX3_spelled_73 : decode cX3_spelled 73 = .ok (.invokestatic 300, 3) := dk_184 1 44 (dk_at dksX3_spelled_3 1 rfl rfl)
theorem dX3_spelled_76 : decode cX3_spelled 76 = .ok (.ireturn, 1) := dk_172 (dk_at dksX3_spelled_3 4 rfl rfl)
theorem dX3_spelled_77 : decode cX3_spelled 77 = .ok (.iload_n 1, 1) := dk_27 (dk_at dksX3_spelled_3 5 rfl rfl)
theorem dX3_spelled_78 : decode cX3_spelled 78 = .ok (.bipush 110, 2) := dk_16 110 (dk_at dksX3_spelled_3 6 rfl rfl)
theorem dX3_spelled_80 : decode cX3_spelled 80 = .ok (.bipush 101, 2) := dk_16 101 (dk_at dksX3_spelled_3 8 rfl rfl)
theorem dX3_spelled_82 : decode cX3_spelled 82 = .ok (.bipush 120, 2) := dk_16 120 (dk_at dksX3_spelled_3 10 rfl rfl)
theorem dX3_spelled_84 : decode cX3_spelled 84 = .ok (.bipush 116, 2) := dk_16 116 (dk_at dksX3_spelled_3 12 rfl rfl)
theorem dX3_spelled_86 : decode cX3_spelled 86 = .ok (.iconst 0, 1) := dk_3 (dk_at dksX3_spelled_3 14 rfl rfl)
theorem dX3_spelled_87 : decode cX3_spelled 87 = .ok (.iconst 0, 1) := dk_3 (dk_at dksX3_spelled_3 15 rfl rfl)
theorem dX3_spelled_88 : decode cX3_spelled 88 = .ok (.invokestatic 300, 3) := dk_184 1 44 (dk_at dksX3_spelled_3 16 rfl rfl)
theorem dX3_spelled_91 : decode cX3_spelled 91 = .ok (.ireturn, 1) := dk_172 (dk_at dksX3_spelled_3 19 rfl rfl)
theorem dX3_spelled_92 : decode cX3_spelled 92 = .ok (.iload_n 1, 1) := dk_27 (dk_at dksX3_spelled_3 20 rfl rfl)
theorem dX3_spelled_93 : decode cX3_spelled 93 = .ok (.bipush 98, 2) := dk_16 98 (dk_at dksX3_spelled_3 21 rfl rfl)
theorem dX3_spelled_95 : decode cX3_spelled 95 = .ok (.bipush 97, 2) := dk_16 97 (dk_at dksX3_spelled_4 0 rfl rfl)
theorem dX3_spelled_97 : decode cX3_spelled 97 = .ok (.bipush 115, 2) := dk_16 115 (dk_at dksX3_spelled_4 2 rfl rfl)
theorem dX3_spelled_99 : decode cX3_spelled 99 = .ok (.bipush 101, 2) := dk_16 101 (dk_at dksX3_spelled_4 4 rfl rfl)
theorem dX3_spelled_101 : decode cX3_spelled 101 = .ok (.iconst 0, 1) := dk_3 (dk_at dksX3_spelled_4 6 rfl rfl)
theorem dX3_spelled_102 : decode cX3_spelled 102 = .ok (.iconst 0, 1) := dk_3 (dk_at dksX3_spelled_4 7 rfl rfl)
theorem dX3_spelled_103 : decode cX3_spelled 103 = .ok (.invokestatic 300, 3) := dk_184 1 44 (dk_at dksX3_spelled_4 8 rfl rfl)
theorem dX3_spelled_106 : decode cX3_spelled 106 = .ok (.ireturn, 1) := dk_172 (dk_at dksX3_spelled_4 11 rfl rfl)
theorem dX3_spelled_107 : decode cX3_spelled 107 = .ok (.iload_n 1, 1) := dk_27 (dk_at dksX3_spelled_4 12 rfl rfl)
theorem dX3_spelled_108 : decode cX3_spelled 108 = .ok (.bipush 112, 2) := dk_16 112 (dk_at dksX3_spelled_4 13 rfl rfl)
theorem dX3_spelled_110 : decode cX3_spelled 110 = .ok (.bipush 97, 2) := dk_16 97 (dk_at dksX3_spelled_4 15 rfl rfl)
theorem dX3_spelled_112 : decode cX3_spelled 112 = .ok (.bipush 105, 2) := dk_16 105 (dk_at dksX3_spelled_4 17 rfl rfl)
theorem dX3_spelled_114 : decode cX3_spelled 114 = .ok (.bipush 114, 2) := dk_16 114 (dk_at dksX3_spelled_4 19 rfl rfl)
theorem dX3_spelled_116 : decode cX3_spelled 116 = .ok (.iconst 0, 1) := dk_3 (dk_at dksX3_spelled_4 21 rfl rfl)
theorem dX3_spelled_117 : decode cX3_spelled 117 = .ok (.iconst 0, 1) := dk_3 (dk_at dksX3_spelled_4 22 rfl rfl)
theorem dX3_spelled_118 : decode cX3_spelled 118 = .ok (.invokestatic 300, 3) := dk_184 1 44 (dk_at dksX3_spelled_5 0 rfl rfl)
theorem dX3_spelled_121 : decode cX3_spelled 121 = .ok (.ireturn, 1) := dk_172 (dk_at dksX3_spelled_5 3 rfl rfl)
theorem dX3_spelled_122 : decode cX3_spelled 122 = .ok (.iload_n 1, 1) := dk_27 (dk_at dksX3_spelled_5 4 rfl rfl)
theorem dX3_spelled_123 : decode cX3_spelled 123 = .ok (.bipush 114, 2) := dk_16 114 (dk_at dksX3_spelled_5 5 rfl rfl)
theorem dX3_spelled_125 : decode cX3_spelled 125 = .ok (.bipush 117, 2) := dk_16 117 (dk_at dksX3_spelled_5 7 rfl rfl)
theorem dX3_spelled_127 : decode cX3_spelled 127 = .ok (.bipush 110, 2) := dk_16 110 (dk_at dksX3_spelled_5 9 rfl rfl)
theorem dX3_spelled_129 : decode cX3_spelled 129 = .ok (.iconst 0, 1) := dk_3 (dk_at dksX3_spelled_5 11 rfl rfl)
theorem dX3_spelled_130 : decode cX3_spelled 130 = .ok (.iconst 0, 1) := dk_3 (dk_at dksX3_spelled_5 12 rfl rfl)
theorem dX3_spelled_131 : decode cX3_spelled 131 = .ok (.iconst 0, 1) := dk_3 (dk_at dksX3_spelled_5 13 rfl rfl)
theorem dX3_spelled_132 : decode cX3_spelled 132 = .ok (.invokestatic 300, 3) := dk_184 1 44 (dk_at dksX3_spelled_5 14 rfl rfl)
theorem dX3_spelled_135 : decode cX3_spelled 135 = .ok (.ireturn, 1) := dk_172 (dk_at dksX3_spelled_5 17 rfl rfl)
theorem dX3_spelled_136 : decode cX3_spelled 136 = .ok (.iload_n 1, 1) := dk_27 (dk_at dksX3_spelled_5 18 rfl rfl)
theorem dX3_spelled_137 : decode cX3_spelled 137 = .ok (.bipush 107, 2) := dk_16 107 (dk_at dksX3_spelled_5 19 rfl rfl)
theorem dX3_spelled_139 : decode cX3_spelled 139 = .ok (.bipush 101, 2) := dk_16 101 (dk_at dksX3_spelled_5 21 rfl rfl)
theorem dX3_spelled_141 : decode cX3_spelled 141 = .ok (.bipush 101, 2) := dk_16 101 (dk_at dksX3_spelled_6 0 rfl rfl)
theorem dX3_spelled_143 : decode cX3_spelled 143 = .ok (.bipush 112, 2) := dk_16 112 (dk_at dksX3_spelled_6 2 rfl rfl)
theorem dX3_spelled_145 : decode cX3_spelled 145 = .ok (.iconst 0, 1) := dk_3 (dk_at dksX3_spelled_6 4 rfl rfl)
theorem dX3_spelled_146 : decode cX3_spelled 146 = .ok (.iconst 0, 1) := dk_3 (dk_at dksX3_spelled_6 5 rfl rfl)
theorem dX3_spelled_147 : decode cX3_spelled 147 = .ok (.invokestatic 300, 3) := dk_184 1 44 (dk_at dksX3_spelled_6 6 rfl rfl)
theorem dX3_spelled_150 : decode cX3_spelled 150 = .ok (.ireturn, 1) := dk_172 (dk_at dksX3_spelled_6 9 rfl rfl)
theorem dX3_spelled_151 : decode cX3_spelled 151 = .ok (.iload_n 1, 1) := dk_27 (dk_at dksX3_spelled_6 10 rfl rfl)
theorem dX3_spelled_152 : decode cX3_spelled 152 = .ok (.bipush 99, 2) := dk_16 99 (dk_at dksX3_spelled_6 11 rfl rfl)
theorem dX3_spelled_154 : decode cX3_spelled 154 = .ok (.bipush 117, 2) := dk_16 117 (dk_at dksX3_spelled_6 13 rfl rfl)
theorem dX3_spelled_156 : decode cX3_spelled 156 = .ok (.bipush 116, 2) := dk_16 116 (dk_at dksX3_spelled_6 15 rfl rfl)
theorem dX3_spelled_158 : decode cX3_spelled 158 = .ok (.iconst 0, 1) := dk_3 (dk_at dksX3_spelled_6 17 rfl rfl)
theorem dX3_spelled_159 : decode cX3_spelled 159 = .ok (.iconst 0, 1) := dk_3 (dk_at dksX3_spelled_6 18 rfl rfl)
theorem dX3_spelled_160 : decode cX3_spelled 160 = .ok (.iconst 0, 1) := dk_3 (dk_at dksX3_spelled_6 19 rfl rfl)
theorem dX3_spelled_161 : decode cX3_spelled 161 = .ok (.invokestatic 300, 3) := dk_184 1 44 (dk_at dksX3_spelled_6 20 rfl rfl)
theorem dX3_spelled_164 : decode cX3_spelled 164 = .ok (.ireturn, 1) := dk_172 (dk_at dksX3_spelled_6 23 rfl rfl)
theorem dX3_spelled_165 : decode cX3_spelled 165 = .ok (.iload_n 1, 1) := dk_27 (dk_at dksX3_spelled_7 0 rfl rfl)
theorem dX3_spelled_166 : decode cX3_spelled 166 = .ok (.bipush 114, 2) := dk_16 114 (dk_at dksX3_spelled_7 1 rfl rfl)
theorem dX3_spelled_168 : decode cX3_spelled 168 = .ok (.bipush 101, 2) := dk_16 101 (dk_at dksX3_spelled_7 3 rfl rfl)
theorem dX3_spelled_170 : decode cX3_spelled 170 = .ok (.bipush 112, 2) := dk_16 112 (dk_at dksX3_spelled_7 5 rfl rfl)
theorem dX3_spelled_172 : decode cX3_spelled 172 = .ok (.bipush 97, 2) := dk_16 97 (dk_at dksX3_spelled_7 7 rfl rfl)
theorem dX3_spelled_174 : decode cX3_spelled 174 = .ok (.bipush 105, 2) := dk_16 105 (dk_at dksX3_spelled_7 9 rfl rfl)
theorem dX3_spelled_176 : decode cX3_spelled 176 = .ok (.bipush 114, 2) := dk_16 114 (dk_at dksX3_spelled_7 11 rfl rfl)
theorem dX3_spelled_178 : decode cX3_spelled 178 = .ok (.invokestatic 300, 3) := dk_184 1 44 (dk_at dksX3_spelled_7 13 rfl rfl)
theorem dX3_spelled_181 : decode cX3_spelled 181 = .ok (.ireturn, 1) := dk_172 (dk_at dksX3_spelled_7 16 rfl rfl)
abbrev cX3_pick : ByteArray := prog_25_method_111_code
def yX3_pick : MethodName := ⟨RX3, "pick", "(IIIIIII)I"⟩
def dkwX3_pick_2 : List UInt8 := [27, 172, 28, 172, 29, 172, 21, 4, 172, 21, 5, 172, 21, 6, 172, 3, 172]
abbrev dktX3_pick_2 : List UInt8 := dkwX3_pick_2 ++ []
def dkwX3_pick_1 : List UInt8 := [170, 0, 0, 0, 0, 0, 54, 0, 0, 0, 0, 0, 0, 0, 5, 0, 0, 0, 39, 0, 0, 0, 41, 0, 0, 0, 43, 0, 0, 0, 45, 0, 0, 0, 48, 0, 0, 0, 51]
abbrev dktX3_pick_1 : List UInt8 := dkwX3_pick_1 ++ dktX3_pick_2
def dkwX3_pick_0 : List UInt8 := [26]
abbrev dktX3_pick_0 : List UInt8 := dkwX3_pick_0 ++ dktX3_pick_1
theorem dksX3_pick_0 : cX3_pick.data.toList.drop 0 = dktX3_pick_0 := by decide +kernel
theorem dksX3_pick_1 : cX3_pick.data.toList.drop 1 = dktX3_pick_1 := dk_seg dksX3_pick_0 1 rfl rfl
theorem dksX3_pick_2 : cX3_pick.data.toList.drop 40 = dktX3_pick_2 := dk_seg dksX3_pick_1 39 rfl rfl
theorem dX3_pick_0 : decode cX3_pick 0 = .ok (.iload_n 0, 1) := dk_26 (dk_at dksX3_pick_0 0 rfl rfl)
theorem dX3_pick_1 : decode cX3_pick 1 = .ok (.tableswitch 54 0 5 #[39, 41, 43, 45, 48, 51], 39) := by decide +kernel
theorem dX3_pick_40 : decode cX3_pick 40 = .ok (.iload_n 1, 1) := dk_27 (dk_at dksX3_pick_2 0 rfl rfl)
theorem dX3_pick_41 : decode cX3_pick 41 = .ok (.ireturn, 1) := dk_172 (dk_at dksX3_pick_2 1 rfl rfl)
theorem dX3_pick_42 : decode cX3_pick 42 = .ok (.iload_n 2, 1) := dk_28 (dk_at dksX3_pick_2 2 rfl rfl)
theorem dX3_pick_43 : decode cX3_pick 43 = .ok (.ireturn, 1) := dk_172 (dk_at dksX3_pick_2 3 rfl rfl)
theorem dX3_pick_44 : decode cX3_pick 44 = .ok (.iload_n 3, 1) := dk_29 (dk_at dksX3_pick_2 4 rfl rfl)
theorem dX3_pick_45 : decode cX3_pick 45 = .ok (.ireturn, 1) := dk_172 (dk_at dksX3_pick_2 5 rfl rfl)
theorem dX3_pick_46 : decode cX3_pick 46 = .ok (.iload 4, 2) := dk_21 4 (dk_at dksX3_pick_2 6 rfl rfl)
theorem dX3_pick_48 : decode cX3_pick 48 = .ok (.ireturn, 1) := dk_172 (dk_at dksX3_pick_2 8 rfl rfl)
theorem dX3_pick_49 : decode cX3_pick 49 = .ok (.iload 5, 2) := dk_21 5 (dk_at dksX3_pick_2 9 rfl rfl)
theorem dX3_pick_51 : decode cX3_pick 51 = .ok (.ireturn, 1) := dk_172 (dk_at dksX3_pick_2 11 rfl rfl)
theorem dX3_pick_52 : decode cX3_pick 52 = .ok (.iload 6, 2) := dk_21 6 (dk_at dksX3_pick_2 12 rfl rfl)
theorem dX3_pick_54 : decode cX3_pick 54 = .ok (.ireturn, 1) := dk_172 (dk_at dksX3_pick_2 14 rfl rfl)
theorem dX3_pick_55 : decode cX3_pick 55 = .ok (.iconst 0, 1) := dk_3 (dk_at dksX3_pick_2 15 rfl rfl)
theorem dX3_pick_56 : decode cX3_pick 56 = .ok (.ireturn, 1) := dk_172 (dk_at dksX3_pick_2 16 rfl rfl)
abbrev cX3_readsRest : ByteArray := prog_25_method_114_code
def yX3_readsRest : MethodName := ⟨RX3, "readsRest", "(I)V"⟩
def dkwX3_readsRest_8 : List UInt8 := [182, 1, 57, 182, 1, 54, 167, 0, 13, 42, 3, 42, 4, 182, 1, 57, 182, 1, 54, 177]
abbrev dktX3_readsRest_8 : List UInt8 := dkwX3_readsRest_8 ++ []
def dkwX3_readsRest_7 : List UInt8 := [4, 182, 1, 41, 182, 1, 54, 167, 0, 36, 42, 3, 42, 4, 182, 1, 57, 182, 1, 54, 42, 4, 42, 5]
abbrev dktX3_readsRest_7 : List UInt8 := dkwX3_readsRest_7 ++ dktX3_readsRest_8
def dkwX3_readsRest_6 : List UInt8 := [182, 1, 57, 182, 1, 54, 42, 3, 42, 16, 43, 16, 45, 16, 43, 182, 1, 60, 182, 1, 54, 42, 5, 42]
abbrev dktX3_readsRest_6 : List UInt8 := dkwX3_readsRest_6 ++ dktX3_readsRest_7
def dkwX3_readsRest_5 : List UInt8 := [182, 1, 60, 182, 1, 54, 42, 4, 42, 5, 182, 1, 41, 182, 1, 54, 167, 0, 74, 42, 4, 42, 4]
abbrev dktX3_readsRest_5 : List UInt8 := dkwX3_readsRest_5 ++ dktX3_readsRest_6
def dkwX3_readsRest_4 : List UInt8 := [182, 1, 54, 167, 0, 111, 167, 0, 108, 42, 16, 32, 182, 1, 38, 42, 3, 42, 16, 115, 16, 110, 16, 120]
abbrev dktX3_readsRest_4 : List UInt8 := dkwX3_readsRest_4 ++ dktX3_readsRest_5
def dkwX3_readsRest_3 : List UInt8 := [182, 1, 54, 42, 5, 42, 5, 182, 1, 57, 182, 1, 54, 167, 0, 124, 42, 3, 42, 5, 182, 1, 57]
abbrev dktX3_readsRest_3 : List UInt8 := dkwX3_readsRest_3 ++ dktX3_readsRest_4
def dkwX3_readsRest_2 : List UInt8 := [42, 16, 32, 182, 1, 38, 42, 3, 42, 182, 1, 51, 182, 1, 54, 42, 4, 42, 4, 182, 1, 41]
abbrev dktX3_readsRest_2 : List UInt8 := dkwX3_readsRest_2 ++ dktX3_readsRest_3
def dkwX3_readsRest_1 : List UInt8 := [170, 0, 0, 0, 0, 0, 192, 0, 0, 0, 0, 0, 0, 0, 6, 0, 0, 0, 43, 0, 0, 0, 81, 0, 0, 0, 94, 0, 0, 0, 97, 0, 0, 0, 131, 0, 0, 0, 192, 0, 0, 0, 169]
abbrev dktX3_readsRest_1 : List UInt8 := dkwX3_readsRest_1 ++ dktX3_readsRest_2
def dkwX3_readsRest_0 : List UInt8 := [27]
abbrev dktX3_readsRest_0 : List UInt8 := dkwX3_readsRest_0 ++ dktX3_readsRest_1
theorem dksX3_readsRest_0 : cX3_readsRest.data.toList.drop 0 = dktX3_readsRest_0 := by decide +kernel
theorem dksX3_readsRest_1 : cX3_readsRest.data.toList.drop 1 = dktX3_readsRest_1 := dk_seg dksX3_readsRest_0 1 rfl rfl
theorem dksX3_readsRest_2 : cX3_readsRest.data.toList.drop 44 = dktX3_readsRest_2 := dk_seg dksX3_readsRest_1 43 rfl rfl
theorem dksX3_readsRest_3 : cX3_readsRest.data.toList.drop 66 = dktX3_readsRest_3 := dk_seg dksX3_readsRest_2 22 rfl rfl
theorem dksX3_readsRest_4 : cX3_readsRest.data.toList.drop 89 = dktX3_readsRest_4 := dk_seg dksX3_readsRest_3 23 rfl rfl
theorem dksX3_readsRest_5 : cX3_readsRest.data.toList.drop 113 = dktX3_readsRest_5 := dk_seg dksX3_readsRest_4 24 rfl rfl
theorem dksX3_readsRest_6 : cX3_readsRest.data.toList.drop 136 = dktX3_readsRest_6 := dk_seg dksX3_readsRest_5 23 rfl rfl
theorem dksX3_readsRest_7 : cX3_readsRest.data.toList.drop 160 = dktX3_readsRest_7 := dk_seg dksX3_readsRest_6 24 rfl rfl
theorem dksX3_readsRest_8 : cX3_readsRest.data.toList.drop 184 = dktX3_readsRest_8 := dk_seg dksX3_readsRest_7 24 rfl rfl
theorem dX3_readsRest_0 : decode cX3_readsRest 0 = .ok (.iload_n 1, 1) := dk_27 (dk_at dksX3_readsRest_0 0 rfl rfl)
theorem dX3_readsRest_1 : decode cX3_readsRest 1 = .ok (.tableswitch 192 0 6 #[43, 81, 94, 97, 131, 192, 169], 43) := by decide +kernel
theorem dX3_readsRest_44 : decode cX3_readsRest 44 = .ok (.aload_n 0, 1) := dk_42 (dk_at dksX3_readsRest_2 0 rfl rfl)
theorem dX3_readsRest_45 : decode cX3_readsRest 45 = .ok (.bipush 32, 2) := dk_16 32 (dk_at dksX3_readsRest_2 1 rfl rfl)
theorem dX3_readsRest_47 : decode cX3_readsRest 47 = .ok (.invokevirtual 294, 3) := dk_182 1 38 (dk_at dksX3_readsRest_2 3 rfl rfl)
theorem dX3_readsRest_50 : decode cX3_readsRest 50 = .ok (.aload_n 0, 1) := dk_42 (dk_at dksX3_readsRest_2 6 rfl rfl)
theorem dX3_readsRest_51 : decode cX3_readsRest 51 = .ok (.iconst 0, 1) := dk_3 (dk_at dksX3_readsRest_2 7 rfl rfl)
theorem dX3_readsRest_52 : decode cX3_readsRest 52 = .ok (.aload_n 0, 1) := dk_42 (dk_at dksX3_readsRest_2 8 rfl rfl)
theorem dX3_readsRest_53 : decode cX3_readsRest 53 = .ok (.invokevirtual 307, 3) := dk_182 1 51 (dk_at dksX3_readsRest_2 9 rfl rfl)
theorem dX3_readsRest_56 : decode cX3_readsRest 56 = .ok (.invokevirtual 310, 3) := dk_182 1 54 (dk_at dksX3_readsRest_2 12 rfl rfl)
theorem dX3_readsRest_59 : decode cX3_readsRest 59 = .ok (.aload_n 0, 1) := dk_42 (dk_at dksX3_readsRest_2 15 rfl rfl)
theorem dX3_readsRest_60 : decode cX3_readsRest 60 = .ok (.iconst 1, 1) := dk_4 (dk_at dksX3_readsRest_2 16 rfl rfl)
theorem dX3_readsRest_61 : decode cX3_readsRest 61 = .ok (.aload_n 0, 1) := dk_42 (dk_at dksX3_readsRest_2 17 rfl rfl)
theorem dX3_readsRest_62 : decode cX3_readsRest 62 = .ok (.iconst 1, 1) := dk_4 (dk_at dksX3_readsRest_2 18 rfl rfl)
theorem dX3_readsRest_63 : decode cX3_readsRest 63 = .ok (.invokevirtual 297, 3) := dk_182 1 41 (dk_at dksX3_readsRest_2 19 rfl rfl)
theorem dX3_readsRest_66 : decode cX3_readsRest 66 = .ok (.invokevirtual 310, 3) := dk_182 1 54 (dk_at dksX3_readsRest_3 0 rfl rfl)
theorem dX3_readsRest_69 : decode cX3_readsRest 69 = .ok (.aload_n 0, 1) := dk_42 (dk_at dksX3_readsRest_3 3 rfl rfl)
theorem dX3_readsRest_70 : decode cX3_readsRest 70 = .ok (.iconst 2, 1) := dk_5 (dk_at dksX3_readsRest_3 4 rfl rfl)
theorem dX3_readsRest_71 : decode cX3_readsRest 71 = .ok (.aload_n 0, 1) := dk_42 (dk_at dksX3_readsRest_3 5 rfl rfl)
theorem dX3_readsRest_72 : decode cX3_readsRest 72 = .ok (.iconst 2, 1) := dk_5 (dk_at dksX3_readsRest_3 6 rfl rfl)
theorem dX3_readsRest_73 : decode cX3_readsRest 73 = .ok (.invokevirtual 313, 3) := dk_182 1 57 (dk_at dksX3_readsRest_3 7 rfl rfl)
theorem dX3_readsRest_76 : decode cX3_readsRest 76 = .ok (.invokevirtual 310, 3) := dk_182 1 54 (dk_at dksX3_readsRest_3 10 rfl rfl)
theorem dX3_readsRest_79 : decode cX3_readsRest 79 = .ok (.goto 124, 3) := dk_167 0 124 (dk_at dksX3_readsRest_3 13 rfl rfl)
theorem dX3_readsRest_82 : decode cX3_readsRest 82 = .ok (.aload_n 0, 1) := dk_42 (dk_at dksX3_readsRest_3 16 rfl rfl)
theorem dX3_readsRest_83 : decode cX3_readsRest 83 = .ok (.iconst 0, 1) := dk_3 (dk_at dksX3_readsRest_3 17 rfl rfl)
theorem dX3_readsRest_84 : decode cX3_readsRest 84 = .ok (.aload_n 0, 1) := dk_42 (dk_at dksX3_readsRest_3 18 rfl rfl)
theorem dX3_readsRest_85 : decode cX3_readsRest 85 = .ok (.iconst 2, 1) := dk_5 (dk_at dksX3_readsRest_3 19 rfl rfl)
theorem dX3_readsRest_86 : decode cX3_readsRest 86 = .ok (.invokevirtual 313, 3) := dk_182 1 57 (dk_at dksX3_readsRest_3 20 rfl rfl)
theorem dX3_readsRest_89 : decode cX3_readsRest 89 = .ok (.invokevirtual 310, 3) := dk_182 1 54 (dk_at dksX3_readsRest_4 0 rfl rfl)
theorem dX3_readsRest_92 : decode cX3_readsRest 92 = .ok (.goto 111, 3) := dk_167 0 111 (dk_at dksX3_readsRest_4 3 rfl rfl)
theorem dX3_readsRest_95 : decode cX3_readsRest 95 = .ok (.goto 108, 3) := dk_167 0 108 (dk_at dksX3_readsRest_4 6 rfl rfl)
theorem dX3_readsRest_98 : decode cX3_readsRest 98 = .ok (.aload_n 0, 1) := dk_42 (dk_at dksX3_readsRest_4 9 rfl rfl)
theorem dX3_readsRest_99 : decode cX3_readsRest 99 = .ok (.bipush 32, 2) := dk_16 32 (dk_at dksX3_readsRest_4 10 rfl rfl)
theorem dX3_readsRest_101 : decode cX3_readsRest 101 = .ok (.invokevirtual 294, 3) := dk_182 1 38 (dk_at dksX3_readsRest_4 12 rfl rfl)
theorem dX3_readsRest_104 : decode cX3_readsRest 104 = .ok (.aload_n 0, 1) := dk_42 (dk_at dksX3_readsRest_4 15 rfl rfl)
theorem dX3_readsRest_105 : decode cX3_readsRest 105 = .ok (.iconst 0, 1) := dk_3 (dk_at dksX3_readsRest_4 16 rfl rfl)
theorem dX3_readsRest_106 : decode cX3_readsRest 106 = .ok (.aload_n 0, 1) := dk_42 (dk_at dksX3_readsRest_4 17 rfl rfl)
theorem dX3_readsRest_107 : decode cX3_readsRest 107 = .ok (.bipush 115, 2) := dk_16 115 (dk_at dksX3_readsRest_4 18 rfl rfl)
theorem dX3_readsRest_109 : decode cX3_readsRest 109 = .ok (.bipush 110, 2) := dk_16 110 (dk_at dksX3_readsRest_4 20 rfl rfl)
theorem dX3_readsRest_111 : decode cX3_readsRest 111 = .ok (.bipush 120, 2) := dk_16 120 (dk_at dksX3_readsRest_4 22 rfl rfl)
theorem dX3_readsRest_113 : decode cX3_readsRest 113 = .ok (.invokevirtual 316, 3) := dk_182 1 60 (dk_at dksX3_readsRest_5 0 rfl rfl)
theorem dX3_readsRest_116 : decode cX3_readsRest 116 = .ok (.invokevirtual 310, 3) := dk_182 1 54 (dk_at dksX3_readsRest_5 3 rfl rfl)
theorem dX3_readsRest_119 : decode cX3_readsRest 119 = .ok (.aload_n 0, 1) := dk_42 (dk_at dksX3_readsRest_5 6 rfl rfl)
theorem dX3_readsRest_120 : decode cX3_readsRest 120 = .ok (.iconst 1, 1) := dk_4 (dk_at dksX3_readsRest_5 7 rfl rfl)
theorem dX3_readsRest_121 : decode cX3_readsRest 121 = .ok (.aload_n 0, 1) := dk_42 (dk_at dksX3_readsRest_5 8 rfl rfl)
theorem dX3_readsRest_122 : decode cX3_readsRest 122 = .ok (.iconst 2, 1) := dk_5 (dk_at dksX3_readsRest_5 9 rfl rfl)
theorem dX3_readsRest_123 : decode cX3_readsRest 123 = .ok (.invokevirtual 297, 3) := dk_182 1 41 (dk_at dksX3_readsRest_5 10 rfl rfl)
theorem dX3_readsRest_126 : decode cX3_readsRest 126 = .ok (.invokevirtual 310, 3) := dk_182 1 54 (dk_at dksX3_readsRest_5 13 rfl rfl)
theorem dX3_readsRest_129 : decode cX3_readsRest 129 = .ok (.goto 74, 3) := dk_167 0 74 (dk_at dksX3_readsRest_5 16 rfl rfl)
theorem dX3_readsRest_132 : decode cX3_readsRest 132 = .ok (.aload_n 0, 1) := dk_42 (dk_at dksX3_readsRest_5 19 rfl rfl)
theorem dX3_readsRest_133 : decode cX3_readsRest 133 = .ok (.iconst 1, 1) := dk_4 (dk_at dksX3_readsRest_5 20 rfl rfl)
theorem dX3_readsRest_134 : decode cX3_readsRest 134 = .ok (.aload_n 0, 1) := dk_42 (dk_at dksX3_readsRest_5 21 rfl rfl)
theorem dX3_readsRest_135 : decode cX3_readsRest 135 = .ok (.iconst 1, 1) := dk_4 (dk_at dksX3_readsRest_5 22 rfl rfl)
theorem dX3_readsRest_136 : decode cX3_readsRest 136 = .ok (.invokevirtual 313, 3) := dk_182 1 57 (dk_at dksX3_readsRest_6 0 rfl rfl)
theorem dX3_readsRest_139 : decode cX3_readsRest 139 = .ok (.invokevirtual 310, 3) := dk_182 1 54 (dk_at dksX3_readsRest_6 3 rfl rfl)
theorem dX3_readsRest_142 : decode cX3_readsRest 142 = .ok (.aload_n 0, 1) := dk_42 (dk_at dksX3_readsRest_6 6 rfl rfl)
theorem dX3_readsRest_143 : decode cX3_readsRest 143 = .ok (.iconst 0, 1) := dk_3 (dk_at dksX3_readsRest_6 7 rfl rfl)
theorem dX3_readsRest_144 : decode cX3_readsRest 144 = .ok (.aload_n 0, 1) := dk_42 (dk_at dksX3_readsRest_6 8 rfl rfl)
theorem dX3_readsRest_145 : decode cX3_readsRest 145 = .ok (.bipush 43, 2) := dk_16 43 (dk_at dksX3_readsRest_6 9 rfl rfl)
theorem dX3_readsRest_147 : decode cX3_readsRest 147 = .ok (.bipush 45, 2) := dk_16 45 (dk_at dksX3_readsRest_6 11 rfl rfl)
theorem dX3_readsRest_149 : decode cX3_readsRest 149 = .ok (.bipush 43, 2) := dk_16 43 (dk_at dksX3_readsRest_6 13 rfl rfl)
theorem dX3_readsRest_151 : decode cX3_readsRest 151 = .ok (.invokevirtual 316, 3) := dk_182 1 60 (dk_at dksX3_readsRest_6 15 rfl rfl)
theorem dX3_readsRest_154 : decode cX3_readsRest 154 = .ok (.invokevirtual 310, 3) := dk_182 1 54 (dk_at dksX3_readsRest_6 18 rfl rfl)
theorem dX3_readsRest_157 : decode cX3_readsRest 157 = .ok (.aload_n 0, 1) := dk_42 (dk_at dksX3_readsRest_6 21 rfl rfl)
theorem dX3_readsRest_158 : decode cX3_readsRest 158 = .ok (.iconst 2, 1) := dk_5 (dk_at dksX3_readsRest_6 22 rfl rfl)
theorem dX3_readsRest_159 : decode cX3_readsRest 159 = .ok (.aload_n 0, 1) := dk_42 (dk_at dksX3_readsRest_6 23 rfl rfl)
theorem dX3_readsRest_160 : decode cX3_readsRest 160 = .ok (.iconst 1, 1) := dk_4 (dk_at dksX3_readsRest_7 0 rfl rfl)
theorem dX3_readsRest_161 : decode cX3_readsRest 161 = .ok (.invokevirtual 297, 3) := dk_182 1 41 (dk_at dksX3_readsRest_7 1 rfl rfl)
theorem dX3_readsRest_164 : decode cX3_readsRest 164 = .ok (.invokevirtual 310, 3) := dk_182 1 54 (dk_at dksX3_readsRest_7 4 rfl rfl)
theorem dX3_readsRest_167 : decode cX3_readsRest 167 = .ok (.goto 36, 3) := dk_167 0 36 (dk_at dksX3_readsRest_7 7 rfl rfl)
theorem dX3_readsRest_170 : decode cX3_readsRest 170 = .ok (.aload_n 0, 1) := dk_42 (dk_at dksX3_readsRest_7 10 rfl rfl)
theorem dX3_readsRest_171 : decode cX3_readsRest 171 = .ok (.iconst 0, 1) := dk_3 (dk_at dksX3_readsRest_7 11 rfl rfl)
theorem dX3_readsRest_172 : decode cX3_readsRest 172 = .ok (.aload_n 0, 1) := dk_42 (dk_at dksX3_readsRest_7 12 rfl rfl)
theorem dX3_readsRest_173 : decode cX3_readsRest 173 = .ok (.iconst 1, 1) := dk_4 (dk_at dksX3_readsRest_7 13 rfl rfl)
theorem dX3_readsRest_174 : decode cX3_readsRest 174 = .ok (.invokevirtual 313, 3) := dk_182 1 57 (dk_at dksX3_readsRest_7 14 rfl rfl)
theorem dX3_readsRest_177 : decode cX3_readsRest 177 = .ok (.invokevirtual 310, 3) := dk_182 1 54 (dk_at dksX3_readsRest_7 17 rfl rfl)
theorem dX3_readsRest_180 : decode cX3_readsRest 180 = .ok (.aload_n 0, 1) := dk_42 (dk_at dksX3_readsRest_7 20 rfl rfl)
theorem dX3_readsRest_181 : decode cX3_readsRest 181 = .ok (.iconst 1, 1) := dk_4 (dk_at dksX3_readsRest_7 21 rfl rfl)
theorem dX3_readsRest_182 : decode cX3_readsRest 182 = .ok (.aload_n 0, 1) := dk_42 (dk_at dksX3_readsRest_7 22 rfl rfl)
theorem dX3_readsRest_183 : decode cX3_readsRest 183 = .ok (.iconst 2, 1) := dk_5 (dk_at dksX3_readsRest_7 23 rfl rfl)
theorem dX3_readsRest_184 : decode cX3_readsRest 184 = .ok (.invokevirtual 313, 3) := dk_182 1 57 (dk_at dksX3_readsRest_8 0 rfl rfl)
theorem dX3_readsRest_187 : decode cX3_readsRest 187 = .ok (.invokevirtual 310, 3) := dk_182 1 54 (dk_at dksX3_readsRest_8 3 rfl rfl)
theorem dX3_readsRest_190 : decode cX3_readsRest 190 = .ok (.goto 13, 3) := dk_167 0 13 (dk_at dksX3_readsRest_8 6 rfl rfl)
theorem dX3_readsRest_193 : decode cX3_readsRest 193 = .ok (.aload_n 0, 1) := dk_42 (dk_at dksX3_readsRest_8 9 rfl rfl)
theorem dX3_readsRest_194 : decode cX3_readsRest 194 = .ok (.iconst 0, 1) := dk_3 (dk_at dksX3_readsRest_8 10 rfl rfl)
theorem dX3_readsRest_195 : decode cX3_readsRest 195 = .ok (.aload_n 0, 1) := dk_42 (dk_at dksX3_readsRest_8 11 rfl rfl)
theorem dX3_readsRest_196 : decode cX3_readsRest 196 = .ok (.iconst 1, 1) := dk_4 (dk_at dksX3_readsRest_8 12 rfl rfl)
theorem dX3_readsRest_197 : decode cX3_readsRest 197 = .ok (.invokevirtual 313, 3) := dk_182 1 57 (dk_at dksX3_readsRest_8 13 rfl rfl)
theorem dX3_readsRest_200 : decode cX3_readsRest 200 = .ok (.invokevirtual 310, 3) := dk_182 1 54 (dk_at dksX3_readsRest_8 16 rfl rfl)
theorem dX3_readsRest_203 : decode cX3_readsRest 203 = .ok (.return_, 1) := dk_177 (dk_at dksX3_readsRest_8 19 rfl rfl)
abbrev cX3_sign : ByteArray := prog_25_method_105_code
def yX3_sign : MethodName := ⟨RX3, "sign", "(I)V"⟩
def dkwX3_sign_1 : List UInt8 := [180, 0, 91, 42, 180, 0, 97, 153, 0, 7, 3, 167, 0, 4, 4, 96, 181, 0, 91, 177]
abbrev dktX3_sign_1 : List UInt8 := dkwX3_sign_1 ++ []
def dkwX3_sign_0 : List UInt8 := [42, 89, 180, 0, 97, 42, 182, 1, 36, 27, 159, 0, 7, 4, 167, 0, 4, 3, 128, 181, 0, 97, 42, 89]
abbrev dktX3_sign_0 : List UInt8 := dkwX3_sign_0 ++ dktX3_sign_1
theorem dksX3_sign_0 : cX3_sign.data.toList.drop 0 = dktX3_sign_0 := by decide +kernel
theorem dksX3_sign_1 : cX3_sign.data.toList.drop 24 = dktX3_sign_1 := dk_seg dksX3_sign_0 24 rfl rfl
theorem dX3_sign_0 : decode cX3_sign 0 = .ok (.aload_n 0, 1) := dk_42 (dk_at dksX3_sign_0 0 rfl rfl)
theorem dX3_sign_1 : decode cX3_sign 1 = .ok (.dup, 1) := dk_89 (dk_at dksX3_sign_0 1 rfl rfl)
theorem dX3_sign_2 : decode cX3_sign 2 = .ok (.getfield 97, 3) := dk_180 0 97 (dk_at dksX3_sign_0 2 rfl rfl)
theorem dX3_sign_5 : decode cX3_sign 5 = .ok (.aload_n 0, 1) := dk_42 (dk_at dksX3_sign_0 5 rfl rfl)
theorem dX3_sign_6 : decode cX3_sign 6 = .ok (.invokevirtual 292, 3) := dk_182 1 36 (dk_at dksX3_sign_0 6 rfl rfl)
theorem dX3_sign_9 : decode cX3_sign 9 = .ok (.iload_n 1, 1) := dk_27 (dk_at dksX3_sign_0 9 rfl rfl)
theorem dX3_sign_10 : decode cX3_sign 10 = .ok (.if_icmp .eq 7, 3) := dk_159 0 7 (dk_at dksX3_sign_0 10 rfl rfl)
theorem dX3_sign_13 : decode cX3_sign 13 = .ok (.iconst 1, 1) := dk_4 (dk_at dksX3_sign_0 13 rfl rfl)
theorem dX3_sign_14 : decode cX3_sign 14 = .ok (.goto 4, 3) := dk_167 0 4 (dk_at dksX3_sign_0 14 rfl rfl)
theorem dX3_sign_17 : decode cX3_sign 17 = .ok (.iconst 0, 1) := dk_3 (dk_at dksX3_sign_0 17 rfl rfl)
theorem dX3_sign_18 : decode cX3_sign 18 = .ok (.ior, 1) := dk_128 (dk_at dksX3_sign_0 18 rfl rfl)
theorem dX3_sign_19 : decode cX3_sign 19 = .ok (.putfield 97, 3) := dk_181 0 97 (dk_at dksX3_sign_0 19 rfl rfl)
theorem dX3_sign_22 : decode cX3_sign 22 = .ok (.aload_n 0, 1) := dk_42 (dk_at dksX3_sign_0 22 rfl rfl)
theorem dX3_sign_23 : decode cX3_sign 23 = .ok (.dup, 1) := dk_89 (dk_at dksX3_sign_0 23 rfl rfl)
theorem dX3_sign_24 : decode cX3_sign 24 = .ok (.getfield 91, 3) := dk_180 0 91 (dk_at dksX3_sign_1 0 rfl rfl)
theorem dX3_sign_27 : decode cX3_sign 27 = .ok (.aload_n 0, 1) := dk_42 (dk_at dksX3_sign_1 3 rfl rfl)
theorem dX3_sign_28 : decode cX3_sign 28 = .ok (.getfield 97, 3) := dk_180 0 97 (dk_at dksX3_sign_1 4 rfl rfl)
theorem dX3_sign_31 : decode cX3_sign 31 = .ok (.ifCond .eq 7, 3) := dk_153 0 7 (dk_at dksX3_sign_1 7 rfl rfl)
theorem dX3_sign_34 : decode cX3_sign 34 = .ok (.iconst 0, 1) := dk_3 (dk_at dksX3_sign_1 10 rfl rfl)
theorem dX3_sign_35 : decode cX3_sign 35 = .ok (.goto 4, 3) := dk_167 0 4 (dk_at dksX3_sign_1 11 rfl rfl)
theorem dX3_sign_38 : decode cX3_sign 38 = .ok (.iconst 1, 1) := dk_4 (dk_at dksX3_sign_1 14 rfl rfl)
theorem dX3_sign_39 : decode cX3_sign 39 = .ok (.iadd, 1) := dk_96 (dk_at dksX3_sign_1 15 rfl rfl)
theorem dX3_sign_40 : decode cX3_sign 40 = .ok (.putfield 91, 3) := dk_181 0 91 (dk_at dksX3_sign_1 16 rfl rfl)
theorem dX3_sign_43 : decode cX3_sign 43 = .ok (.return_, 1) := dk_177 (dk_at dksX3_sign_1 19 rfl rfl)
abbrev cX3_mark_2 : ByteArray := prog_25_method_104_code
def yX3_mark_2 : MethodName := ⟨RX3, "mark", "()I"⟩
def dkwX3_mark_2_1 : List UInt8 := [180, 0, 91, 46, 167, 0, 4, 2, 172]
abbrev dktX3_mark_2_1 : List UInt8 := dkwX3_mark_2_1 ++ []
def dkwX3_mark_2_0 : List UInt8 := [42, 180, 0, 97, 154, 0, 26, 42, 180, 0, 91, 42, 180, 0, 88, 162, 0, 15, 42, 180, 0, 76, 42]
abbrev dktX3_mark_2_0 : List UInt8 := dkwX3_mark_2_0 ++ dktX3_mark_2_1
theorem dksX3_mark_2_0 : cX3_mark_2.data.toList.drop 0 = dktX3_mark_2_0 := by decide +kernel
theorem dksX3_mark_2_1 : cX3_mark_2.data.toList.drop 23 = dktX3_mark_2_1 := dk_seg dksX3_mark_2_0 23 rfl rfl
theorem dX3_mark_2_0 : decode cX3_mark_2 0 = .ok (.aload_n 0, 1) := dk_42 (dk_at dksX3_mark_2_0 0 rfl rfl)
theorem dX3_mark_2_1 : decode cX3_mark_2 1 = .ok (.getfield 97, 3) := dk_180 0 97 (dk_at dksX3_mark_2_0 1 rfl rfl)
theorem dX3_mark_2_4 : decode cX3_mark_2 4 = .ok (.ifCond .ne 26, 3) := dk_154 0 26 (dk_at dksX3_mark_2_0 4 rfl rfl)
theorem dX3_mark_2_7 : decode cX3_mark_2 7 = .ok (.aload_n 0, 1) := dk_42 (dk_at dksX3_mark_2_0 7 rfl rfl)
theorem dX3_mark_2_8 : decode cX3_mark_2 8 = .ok (.getfield 91, 3) := dk_180 0 91 (dk_at dksX3_mark_2_0 8 rfl rfl)
theorem dX3_mark_2_11 : decode cX3_mark_2 11 = .ok (.aload_n 0, 1) := dk_42 (dk_at dksX3_mark_2_0 11 rfl rfl)
theorem dX3_mark_2_12 : decode cX3_mark_2 12 = .ok (.getfield 88, 3) := dk_180 0 88 (dk_at dksX3_mark_2_0 12 rfl rfl)
theorem dX3_mark_2_15 : decode cX3_mark_2 15 = .ok (.if_icmp .ge 15, 3) := dk_162 0 15 (dk_at dksX3_mark_2_0 15 rfl rfl)
theorem dX3_mark_2_18 : decode cX3_mark_2 18 = .ok (.aload_n 0, 1) := dk_42 (dk_at dksX3_mark_2_0 18 rfl rfl)
theorem dX3_mark_2_19 : decode cX3_mark_2 19 = .ok (.getfield 76, 3) := dk_180 0 76 (dk_at dksX3_mark_2_0 19 rfl rfl)
theorem dX3_mark_2_22 : decode cX3_mark_2 22 = .ok (.aload_n 0, 1) := dk_42 (dk_at dksX3_mark_2_0 22 rfl rfl)
theorem dX3_mark_2_23 : decode cX3_mark_2 23 = .ok (.getfield 91, 3) := dk_180 0 91 (dk_at dksX3_mark_2_1 0 rfl rfl)
theorem dX3_mark_2_26 : decode cX3_mark_2 26 = .ok (.iaload, 1) := dk_46 (dk_at dksX3_mark_2_1 3 rfl rfl)
theorem dX3_mark_2_27 : decode cX3_mark_2 27 = .ok (.goto 4, 3) := dk_167 0 4 (dk_at dksX3_mark_2_1 4 rfl rfl)
theorem dX3_mark_2_30 : decode cX3_mark_2 30 = .ok (.iconst (-1), 1) := dk_2 (dk_at dksX3_mark_2_1 7 rfl rfl)
theorem dX3_mark_2_31 : decode cX3_mark_2 31 = .ok (.ireturn, 1) := dk_172 (dk_at dksX3_mark_2_1 8 rfl rfl)
abbrev cX3_group : ByteArray := prog_25_method_110_code
def yX3_group : MethodName := ⟨RX3, "group", "()I"⟩
def dkwX3_group_2 : List UInt8 := [27, 172]
abbrev dktX3_group_2 : List UInt8 := dkwX3_group_2 ++ []
def dkwX3_group_1 : List UInt8 := [181, 0, 97, 42, 89, 180, 0, 91, 42, 180, 0, 97, 153, 0, 7, 3, 167, 0, 4, 4, 96, 181, 0, 91]
abbrev dktX3_group_1 : List UInt8 := dkwX3_group_1 ++ dktX3_group_2
def dkwX3_group_0 : List UInt8 := [42, 182, 1, 36, 60, 42, 89, 180, 0, 97, 27, 184, 0, 153, 154, 0, 7, 4, 167, 0, 4, 3, 128]
abbrev dktX3_group_0 : List UInt8 := dkwX3_group_0 ++ dktX3_group_1
theorem dksX3_group_0 : cX3_group.data.toList.drop 0 = dktX3_group_0 := by decide +kernel
theorem dksX3_group_1 : cX3_group.data.toList.drop 23 = dktX3_group_1 := dk_seg dksX3_group_0 23 rfl rfl
theorem dksX3_group_2 : cX3_group.data.toList.drop 47 = dktX3_group_2 := dk_seg dksX3_group_1 24 rfl rfl
theorem dX3_group_0 : decode cX3_group 0 = .ok (.aload_n 0, 1) := dk_42 (dk_at dksX3_group_0 0 rfl rfl)
theorem dX3_group_1 : decode cX3_group 1 = .ok (.invokevirtual 292, 3) := dk_182 1 36 (dk_at dksX3_group_0 1 rfl rfl)
theorem dX3_group_4 : decode cX3_group 4 = .ok (.istore_n 1, 1) := dk_60 (dk_at dksX3_group_0 4 rfl rfl)
theorem dX3_group_5 : decode cX3_group 5 = .ok (.aload_n 0, 1) := dk_42 (dk_at dksX3_group_0 5 rfl rfl)
theorem dX3_group_6 : decode cX3_group 6 = .ok (.dup, 1) := dk_89 (dk_at dksX3_group_0 6 rfl rfl)
theorem dX3_group_7 : decode cX3_group 7 = .ok (.getfield 97, 3) := dk_180 0 97 (dk_at dksX3_group_0 7 rfl rfl)
theorem dX3_group_10 : decode cX3_group 10 = .ok (.iload_n 1, 1) := dk_27 (dk_at dksX3_group_0 10 rfl rfl)
theorem dX3_group_11 : decode cX3_group 11 = .ok (.invokestatic 153, 3) := dk_184 0 153 (dk_at dksX3_group_0 11 rfl rfl)
theorem dX3_group_14 : decode cX3_group 14 = .ok (.ifCond .ne 7, 3) := dk_154 0 7 (dk_at dksX3_group_0 14 rfl rfl)
theorem dX3_group_17 : decode cX3_group 17 = .ok (.iconst 1, 1) := dk_4 (dk_at dksX3_group_0 17 rfl rfl)
theorem dX3_group_18 : decode cX3_group 18 = .ok (.goto 4, 3) := dk_167 0 4 (dk_at dksX3_group_0 18 rfl rfl)
theorem dX3_group_21 : decode cX3_group 21 = .ok (.iconst 0, 1) := dk_3 (dk_at dksX3_group_0 21 rfl rfl)
theorem dX3_group_22 : decode cX3_group 22 = .ok (.ior, 1) := dk_128 (dk_at dksX3_group_0 22 rfl rfl)
theorem dX3_group_23 : decode cX3_group 23 = .ok (.putfield 97, 3) := dk_181 0 97 (dk_at dksX3_group_1 0 rfl rfl)
theorem dX3_group_26 : decode cX3_group 26 = .ok (.aload_n 0, 1) := dk_42 (dk_at dksX3_group_1 3 rfl rfl)
theorem dX3_group_27 : decode cX3_group 27 = .ok (.dup, 1) := dk_89 (dk_at dksX3_group_1 4 rfl rfl)
theorem dX3_group_28 : decode cX3_group 28 = .ok (.getfield 91, 3) := dk_180 0 91 (dk_at dksX3_group_1 5 rfl rfl)
theorem dX3_group_31 : decode cX3_group 31 = .ok (.aload_n 0, 1) := dk_42 (dk_at dksX3_group_1 8 rfl rfl)
theorem dX3_group_32 : decode cX3_group 32 = .ok (.getfield 97, 3) := dk_180 0 97 (dk_at dksX3_group_1 9 rfl rfl)
theorem dX3_group_35 : decode cX3_group 35 = .ok (.ifCond .eq 7, 3) := dk_153 0 7 (dk_at dksX3_group_1 12 rfl rfl)
theorem dX3_group_38 : decode cX3_group 38 = .ok (.iconst 0, 1) := dk_3 (dk_at dksX3_group_1 15 rfl rfl)
theorem dX3_group_39 : decode cX3_group 39 = .ok (.goto 4, 3) := dk_167 0 4 (dk_at dksX3_group_1 16 rfl rfl)
theorem dX3_group_42 : decode cX3_group 42 = .ok (.iconst 1, 1) := dk_4 (dk_at dksX3_group_1 19 rfl rfl)
theorem dX3_group_43 : decode cX3_group 43 = .ok (.iadd, 1) := dk_96 (dk_at dksX3_group_1 20 rfl rfl)
theorem dX3_group_44 : decode cX3_group 44 = .ok (.putfield 91, 3) := dk_181 0 91 (dk_at dksX3_group_1 21 rfl rfl)
theorem dX3_group_47 : decode cX3_group 47 = .ok (.iload_n 1, 1) := dk_27 (dk_at dksX3_group_2 0 rfl rfl)
theorem dX3_group_48 : decode cX3_group 48 = .ok (.ireturn, 1) := dk_172 (dk_at dksX3_group_2 1 rfl rfl)
abbrev cX3_put : ByteArray := prog_25_method_108_code
def yX3_put : MethodName := ⟨RX3, "put", "(II)V"⟩
def dkwX3_put_0 : List UInt8 := [42, 180, 0, 82, 7, 42, 180, 0, 94, 104, 27, 96, 28, 79, 177]
abbrev dktX3_put_0 : List UInt8 := dkwX3_put_0 ++ []
theorem dksX3_put_0 : cX3_put.data.toList.drop 0 = dktX3_put_0 := by decide +kernel
theorem dX3_put_0 : decode cX3_put 0 = .ok (.aload_n 0, 1) := dk_42 (dk_at dksX3_put_0 0 rfl rfl)
theorem dX3_put_1 : decode cX3_put 1 = .ok (.getfield 82, 3) := dk_180 0 82 (dk_at dksX3_put_0 1 rfl rfl)
theorem dX3_put_4 : decode cX3_put 4 = .ok (.iconst 4, 1) := dk_7 (dk_at dksX3_put_0 4 rfl rfl)
theorem dX3_put_5 : decode cX3_put 5 = .ok (.aload_n 0, 1) := dk_42 (dk_at dksX3_put_0 5 rfl rfl)
theorem dX3_put_6 : decode cX3_put 6 = .ok (.getfield 94, 3) := dk_180 0 94 (dk_at dksX3_put_0 6 rfl rfl)
theorem dX3_put_9 : decode cX3_put 9 = .ok (.imul, 1) := dk_104 (dk_at dksX3_put_0 9 rfl rfl)
theorem dX3_put_10 : decode cX3_put 10 = .ok (.iload_n 1, 1) := dk_27 (dk_at dksX3_put_0 10 rfl rfl)
theorem dX3_put_11 : decode cX3_put 11 = .ok (.iadd, 1) := dk_96 (dk_at dksX3_put_0 11 rfl rfl)
theorem dX3_put_12 : decode cX3_put 12 = .ok (.iload_n 2, 1) := dk_28 (dk_at dksX3_put_0 12 rfl rfl)
theorem dX3_put_13 : decode cX3_put 13 = .ok (.iastore, 1) := dk_79 (dk_at dksX3_put_0 13 rfl rfl)
theorem dX3_put_14 : decode cX3_put 14 = .ok (.return_, 1) := dk_177 (dk_at dksX3_put_0 14 rfl rfl)
abbrev cX3_digits : ByteArray := prog_25_method_106_code
def yX3_digits : MethodName := ⟨RX3, "digits", "(I)I"⟩
def dkwX3_digits_3 : List UInt8 := [180, 0, 91, 4, 96, 181, 0, 91, 132, 3, 1, 167, 255, 206, 28, 172]
abbrev dktX3_digits_3 : List UInt8 := dkwX3_digits_3 ++ []
def dkwX3_digits_2 : List UInt8 := [153, 0, 37, 16, 10, 28, 104, 42, 180, 0, 76, 42, 180, 0, 91, 46, 96, 16, 48, 100, 61, 42, 89]
abbrev dktX3_digits_2 : List UInt8 := dkwX3_digits_2 ++ dktX3_digits_3
def dkwX3_digits_1 : List UInt8 := [128, 181, 0, 97, 3, 61, 3, 62, 29, 27, 162, 0, 51, 42, 182, 1, 36, 16, 48, 16, 57, 184, 0, 112]
abbrev dktX3_digits_1 : List UInt8 := dkwX3_digits_1 ++ dktX3_digits_2
def dkwX3_digits_0 : List UInt8 := [42, 89, 180, 0, 97, 42, 182, 1, 36, 16, 48, 16, 57, 184, 0, 112, 154, 0, 7, 4, 167, 0, 4, 3]
abbrev dktX3_digits_0 : List UInt8 := dkwX3_digits_0 ++ dktX3_digits_1
theorem dksX3_digits_0 : cX3_digits.data.toList.drop 0 = dktX3_digits_0 := by decide +kernel
theorem dksX3_digits_1 : cX3_digits.data.toList.drop 24 = dktX3_digits_1 := dk_seg dksX3_digits_0 24 rfl rfl
theorem dksX3_digits_2 : cX3_digits.data.toList.drop 48 = dktX3_digits_2 := dk_seg dksX3_digits_1 24 rfl rfl
theorem dksX3_digits_3 : cX3_digits.data.toList.drop 71 = dktX3_digits_3 := dk_seg dksX3_digits_2 23 rfl rfl
theorem dX3_digits_0 : decode cX3_digits 0 = .ok (.aload_n 0, 1) := dk_42 (dk_at dksX3_digits_0 0 rfl rfl)
theorem dX3_digits_1 : decode cX3_digits 1 = .ok (.dup, 1) := dk_89 (dk_at dksX3_digits_0 1 rfl rfl)
theorem dX3_digits_2 : decode cX3_digits 2 = .ok (.getfield 97, 3) := dk_180 0 97 (dk_at dksX3_digits_0 2 rfl rfl)
theorem dX3_digits_5 : decode cX3_digits 5 = .ok (.aload_n 0, 1) := dk_42 (dk_at dksX3_digits_0 5 rfl rfl)
theorem dX3_digits_6 : decode cX3_digits 6 = .ok (.invokevirtual 292, 3) := dk_182 1 36 (dk_at dksX3_digits_0 6 rfl rfl)
theorem dX3_digits_9 : decode cX3_digits 9 = .ok (.bipush 48, 2) := dk_16 48 (dk_at dksX3_digits_0 9 rfl rfl)
theorem dX3_digits_11 : decode cX3_digits 11 = .ok (.bipush 57, 2) := dk_16 57 (dk_at dksX3_digits_0 11 rfl rfl)
theorem dX3_digits_13 : decode cX3_digits 13 = .ok (.invokestatic 112, 3) := dk_184 0 112 (dk_at dksX3_digits_0 13 rfl rfl)
theorem dX3_digits_16 : decode cX3_digits 16 = .ok (.ifCond .ne 7, 3) := dk_154 0 7 (dk_at dksX3_digits_0 16 rfl rfl)
theorem dX3_digits_19 : decode cX3_digits 19 = .ok (.iconst 1, 1) := dk_4 (dk_at dksX3_digits_0 19 rfl rfl)
theorem dX3_digits_20 : decode cX3_digits 20 = .ok (.goto 4, 3) := dk_167 0 4 (dk_at dksX3_digits_0 20 rfl rfl)
theorem dX3_digits_23 : decode cX3_digits 23 = .ok (.iconst 0, 1) := dk_3 (dk_at dksX3_digits_0 23 rfl rfl)
theorem dX3_digits_24 : decode cX3_digits 24 = .ok (.ior, 1) := dk_128 (dk_at dksX3_digits_1 0 rfl rfl)
theorem dX3_digits_25 : decode cX3_digits 25 = .ok (.putfield 97, 3) := dk_181 0 97 (dk_at dksX3_digits_1 1 rfl rfl)
theorem dX3_digits_28 : decode cX3_digits 28 = .ok (.iconst 0, 1) := dk_3 (dk_at dksX3_digits_1 4 rfl rfl)
theorem dX3_digits_29 : decode cX3_digits 29 = .ok (.istore_n 2, 1) := dk_61 (dk_at dksX3_digits_1 5 rfl rfl)
theorem dX3_digits_30 : decode cX3_digits 30 = .ok (.iconst 0, 1) := dk_3 (dk_at dksX3_digits_1 6 rfl rfl)
theorem dX3_digits_31 : decode cX3_digits 31 = .ok (.istore_n 3, 1) := dk_62 (dk_at dksX3_digits_1 7 rfl rfl)
theorem dX3_digits_32 : decode cX3_digits 32 = .ok (.iload_n 3, 1) := dk_29 (dk_at dksX3_digits_1 8 rfl rfl)
theorem dX3_digits_33 : decode cX3_digits 33 = .ok (.iload_n 1, 1) := dk_27 (dk_at dksX3_digits_1 9 rfl rfl)
theorem dX3_digits_34 : decode cX3_digits 34 = .ok (.if_icmp .ge 51, 3) := dk_162 0 51 (dk_at dksX3_digits_1 10 rfl rfl)
theorem dX3_digits_37 : decode cX3_digits 37 = .ok (.aload_n 0, 1) := dk_42 (dk_at dksX3_digits_1 13 rfl rfl)
theorem dX3_digits_38 : decode cX3_digits 38 = .ok (.invokevirtual 292, 3) := dk_182 1 36 (dk_at dksX3_digits_1 14 rfl rfl)
theorem dX3_digits_41 : decode cX3_digits 41 = .ok (.bipush 48, 2) := dk_16 48 (dk_at dksX3_digits_1 17 rfl rfl)
theorem dX3_digits_43 : decode cX3_digits 43 = .ok (.bipush 57, 2) := dk_16 57 (dk_at dksX3_digits_1 19 rfl rfl)
theorem dX3_digits_45 : decode cX3_digits 45 = .ok (.invokestatic 112, 3) := dk_184 0 112 (dk_at dksX3_digits_1 21 rfl rfl)
theorem dX3_digits_48 : decode cX3_digits 48 = .ok (.ifCond .eq 37, 3) := dk_153 0 37 (dk_at dksX3_digits_2 0 rfl rfl)
theorem dX3_digits_51 : decode cX3_digits 51 = .ok (.bipush 10, 2) := dk_16 10 (dk_at dksX3_digits_2 3 rfl rfl)
theorem dX3_digits_53 : decode cX3_digits 53 = .ok (.iload_n 2, 1) := dk_28 (dk_at dksX3_digits_2 5 rfl rfl)
theorem dX3_digits_54 : decode cX3_digits 54 = .ok (.imul, 1) := dk_104 (dk_at dksX3_digits_2 6 rfl rfl)
theorem dX3_digits_55 : decode cX3_digits 55 = .ok (.aload_n 0, 1) := dk_42 (dk_at dksX3_digits_2 7 rfl rfl)
theorem dX3_digits_56 : decode cX3_digits 56 = .ok (.getfield 76, 3) := dk_180 0 76 (dk_at dksX3_digits_2 8 rfl rfl)
theorem dX3_digits_59 : decode cX3_digits 59 = .ok (.aload_n 0, 1) := dk_42 (dk_at dksX3_digits_2 11 rfl rfl)
theorem dX3_digits_60 : decode cX3_digits 60 = .ok (.getfield 91, 3) := dk_180 0 91 (dk_at dksX3_digits_2 12 rfl rfl)
theorem dX3_digits_63 : decode cX3_digits 63 = .ok (.iaload, 1) := dk_46 (dk_at dksX3_digits_2 15 rfl rfl)
theorem dX3_digits_64 : decode cX3_digits 64 = .ok (.iadd, 1) := dk_96 (dk_at dksX3_digits_2 16 rfl rfl)
theorem dX3_digits_65 : decode cX3_digits 65 = .ok (.bipush 48, 2) := dk_16 48 (dk_at dksX3_digits_2 17 rfl rfl)
theorem dX3_digits_67 : decode cX3_digits 67 = .ok (.isub, 1) := dk_100 (dk_at dksX3_digits_2 19 rfl rfl)
theorem dX3_digits_68 : decode cX3_digits 68 = .ok (.istore_n 2, 1) := dk_61 (dk_at dksX3_digits_2 20 rfl rfl)
theorem dX3_digits_69 : decode cX3_digits 69 = .ok (.aload_n 0, 1) := dk_42 (dk_at dksX3_digits_2 21 rfl rfl)
theorem dX3_digits_70 : decode cX3_digits 70 = .ok (.dup, 1) := dk_89 (dk_at dksX3_digits_2 22 rfl rfl)
theorem dX3_digits_71 : decode cX3_digits 71 = .ok (.getfield 91, 3) := dk_180 0 91 (dk_at dksX3_digits_3 0 rfl rfl)
theorem dX3_digits_74 : decode cX3_digits 74 = .ok (.iconst 1, 1) := dk_4 (dk_at dksX3_digits_3 3 rfl rfl)
theorem dX3_digits_75 : decode cX3_digits 75 = .ok (.iadd, 1) := dk_96 (dk_at dksX3_digits_3 4 rfl rfl)
theorem dX3_digits_76 : decode cX3_digits 76 = .ok (.putfield 91, 3) := dk_181 0 91 (dk_at dksX3_digits_3 5 rfl rfl)
theorem dX3_digits_79 : decode cX3_digits 79 = .ok (.iinc 3 1, 3) := dk_132 3 1 (dk_at dksX3_digits_3 8 rfl rfl)
theorem dX3_digits_82 : decode cX3_digits 82 = .ok (.goto (-50), 3) := dk_167 255 206 (dk_at dksX3_digits_3 11 rfl rfl)
theorem dX3_digits_85 : decode cX3_digits 85 = .ok (.iload_n 2, 1) := dk_28 (dk_at dksX3_digits_3 14 rfl rfl)
theorem dX3_digits_86 : decode cX3_digits 86 = .ok (.ireturn, 1) := dk_172 (dk_at dksX3_digits_3 15 rfl rfl)
abbrev cX3_behindBlank : ByteArray := prog_25_method_107_code
def yX3_behindBlank : MethodName := ⟨RX3, "behindBlank", "(I)I"⟩
def dkwX3_behindBlank_0 : List UInt8 := [42, 16, 32, 182, 1, 38, 42, 27, 182, 1, 41, 172]
abbrev dktX3_behindBlank_0 : List UInt8 := dkwX3_behindBlank_0 ++ []
theorem dksX3_behindBlank_0 : cX3_behindBlank.data.toList.drop 0 = dktX3_behindBlank_0 := by decide +kernel
theorem dX3_behindBlank_0 : decode cX3_behindBlank 0 = .ok (.aload_n 0, 1) := dk_42 (dk_at dksX3_behindBlank_0 0 rfl rfl)
theorem dX3_behindBlank_1 : decode cX3_behindBlank 1 = .ok (.bipush 32, 2) := dk_16 32 (dk_at dksX3_behindBlank_0 1 rfl rfl)
theorem dX3_behindBlank_3 : decode cX3_behindBlank 3 = .ok (.invokevirtual 294, 3) := dk_182 1 38 (dk_at dksX3_behindBlank_0 3 rfl rfl)
theorem dX3_behindBlank_6 : decode cX3_behindBlank 6 = .ok (.aload_n 0, 1) := dk_42 (dk_at dksX3_behindBlank_0 6 rfl rfl)
theorem dX3_behindBlank_7 : decode cX3_behindBlank 7 = .ok (.iload_n 1, 1) := dk_27 (dk_at dksX3_behindBlank_0 7 rfl rfl)
theorem dX3_behindBlank_8 : decode cX3_behindBlank 8 = .ok (.invokevirtual 297, 3) := dk_182 1 41 (dk_at dksX3_behindBlank_0 8 rfl rfl)
theorem dX3_behindBlank_11 : decode cX3_behindBlank 11 = .ok (.ireturn, 1) := dk_172 (dk_at dksX3_behindBlank_0 11 rfl rfl)
abbrev cX3_oneOf : ByteArray := prog_25_method_109_code
def yX3_oneOf : MethodName := ⟨RX3, "oneOf", "(III)I"⟩
def dkwX3_oneOf_2 : List UInt8 := [153, 0, 7, 3, 167, 0, 4, 4, 96, 181, 0, 91, 21, 4, 172]
abbrev dktX3_oneOf_2 : List UInt8 := dkwX3_oneOf_2 ++ []
def dkwX3_oneOf_1 : List UInt8 := [21, 4, 29, 159, 0, 7, 4, 167, 0, 4, 3, 128, 181, 0, 97, 42, 89, 180, 0, 91, 42, 180, 0, 97]
abbrev dktX3_oneOf_1 : List UInt8 := dkwX3_oneOf_1 ++ dktX3_oneOf_2
def dkwX3_oneOf_0 : List UInt8 := [42, 182, 1, 36, 54, 4, 42, 89, 180, 0, 97, 21, 4, 27, 159, 0, 19, 21, 4, 28, 159, 0, 13]
abbrev dktX3_oneOf_0 : List UInt8 := dkwX3_oneOf_0 ++ dktX3_oneOf_1
theorem dksX3_oneOf_0 : cX3_oneOf.data.toList.drop 0 = dktX3_oneOf_0 := by decide +kernel
theorem dksX3_oneOf_1 : cX3_oneOf.data.toList.drop 23 = dktX3_oneOf_1 := dk_seg dksX3_oneOf_0 23 rfl rfl
theorem dksX3_oneOf_2 : cX3_oneOf.data.toList.drop 47 = dktX3_oneOf_2 := dk_seg dksX3_oneOf_1 24 rfl rfl
theorem dX3_oneOf_0 : decode cX3_oneOf 0 = .ok (.aload_n 0, 1) := dk_42 (dk_at dksX3_oneOf_0 0 rfl rfl)
theorem dX3_oneOf_1 : decode cX3_oneOf 1 = .ok (.invokevirtual 292, 3) := dk_182 1 36 (dk_at dksX3_oneOf_0 1 rfl rfl)
theorem dX3_oneOf_4 : decode cX3_oneOf 4 = .ok (.istore 4, 2) := dk_54 4 (dk_at dksX3_oneOf_0 4 rfl rfl)
theorem dX3_oneOf_6 : decode cX3_oneOf 6 = .ok (.aload_n 0, 1) := dk_42 (dk_at dksX3_oneOf_0 6 rfl rfl)
theorem dX3_oneOf_7 : decode cX3_oneOf 7 = .ok (.dup, 1) := dk_89 (dk_at dksX3_oneOf_0 7 rfl rfl)
theorem dX3_oneOf_8 : decode cX3_oneOf 8 = .ok (.getfield 97, 3) := dk_180 0 97 (dk_at dksX3_oneOf_0 8 rfl rfl)
theorem dX3_oneOf_11 : decode cX3_oneOf 11 = .ok (.iload 4, 2) := dk_21 4 (dk_at dksX3_oneOf_0 11 rfl rfl)
theorem dX3_oneOf_13 : decode cX3_oneOf 13 = .ok (.iload_n 1, 1) := dk_27 (dk_at dksX3_oneOf_0 13 rfl rfl)
theorem dX3_oneOf_14 : decode cX3_oneOf 14 = .ok (.if_icmp .eq 19, 3) := dk_159 0 19 (dk_at dksX3_oneOf_0 14 rfl rfl)
theorem dX3_oneOf_17 : decode cX3_oneOf 17 = .ok (.iload 4, 2) := dk_21 4 (dk_at dksX3_oneOf_0 17 rfl rfl)
theorem dX3_oneOf_19 : decode cX3_oneOf 19 = .ok (.iload_n 2, 1) := dk_28 (dk_at dksX3_oneOf_0 19 rfl rfl)
theorem dX3_oneOf_20 : decode cX3_oneOf 20 = .ok (.if_icmp .eq 13, 3) := dk_159 0 13 (dk_at dksX3_oneOf_0 20 rfl rfl)
theorem dX3_oneOf_23 : decode cX3_oneOf 23 = .ok (.iload 4, 2) := dk_21 4 (dk_at dksX3_oneOf_1 0 rfl rfl)
theorem dX3_oneOf_25 : decode cX3_oneOf 25 = .ok (.iload_n 3, 1) := dk_29 (dk_at dksX3_oneOf_1 2 rfl rfl)
theorem dX3_oneOf_26 : decode cX3_oneOf 26 = .ok (.if_icmp .eq 7, 3) := dk_159 0 7 (dk_at dksX3_oneOf_1 3 rfl rfl)
theorem dX3_oneOf_29 : decode cX3_oneOf 29 = .ok (.iconst 1, 1) := dk_4 (dk_at dksX3_oneOf_1 6 rfl rfl)
theorem dX3_oneOf_30 : decode cX3_oneOf 30 = .ok (.goto 4, 3) := dk_167 0 4 (dk_at dksX3_oneOf_1 7 rfl rfl)
theorem dX3_oneOf_33 : decode cX3_oneOf 33 = .ok (.iconst 0, 1) := dk_3 (dk_at dksX3_oneOf_1 10 rfl rfl)
theorem dX3_oneOf_34 : decode cX3_oneOf 34 = .ok (.ior, 1) := dk_128 (dk_at dksX3_oneOf_1 11 rfl rfl)
theorem dX3_oneOf_35 : decode cX3_oneOf 35 = .ok (.putfield 97, 3) := dk_181 0 97 (dk_at dksX3_oneOf_1 12 rfl rfl)
theorem dX3_oneOf_38 : decode cX3_oneOf 38 = .ok (.aload_n 0, 1) := dk_42 (dk_at dksX3_oneOf_1 15 rfl rfl)
theorem dX3_oneOf_39 : decode cX3_oneOf 39 = .ok (.dup, 1) := dk_89 (dk_at dksX3_oneOf_1 16 rfl rfl)
theorem dX3_oneOf_40 : decode cX3_oneOf 40 = .ok (.getfield 91, 3) := dk_180 0 91 (dk_at dksX3_oneOf_1 17 rfl rfl)
theorem dX3_oneOf_43 : decode cX3_oneOf 43 = .ok (.aload_n 0, 1) := dk_42 (dk_at dksX3_oneOf_1 20 rfl rfl)
theorem dX3_oneOf_44 : decode cX3_oneOf 44 = .ok (.getfield 97, 3) := dk_180 0 97 (dk_at dksX3_oneOf_1 21 rfl rfl)
theorem dX3_oneOf_47 : decode cX3_oneOf 47 = .ok (.ifCond .eq 7, 3) := dk_153 0 7 (dk_at dksX3_oneOf_2 0 rfl rfl)
theorem dX3_oneOf_50 : decode cX3_oneOf 50 = .ok (.iconst 0, 1) := dk_3 (dk_at dksX3_oneOf_2 3 rfl rfl)
theorem dX3_oneOf_51 : decode cX3_oneOf 51 = .ok (.goto 4, 3) := dk_167 0 4 (dk_at dksX3_oneOf_2 4 rfl rfl)
theorem dX3_oneOf_54 : decode cX3_oneOf 54 = .ok (.iconst 1, 1) := dk_4 (dk_at dksX3_oneOf_2 7 rfl rfl)
theorem dX3_oneOf_55 : decode cX3_oneOf 55 = .ok (.iadd, 1) := dk_96 (dk_at dksX3_oneOf_2 8 rfl rfl)
theorem dX3_oneOf_56 : decode cX3_oneOf 56 = .ok (.putfield 91, 3) := dk_181 0 91 (dk_at dksX3_oneOf_2 9 rfl rfl)
theorem dX3_oneOf_59 : decode cX3_oneOf 59 = .ok (.iload 4, 2) := dk_21 4 (dk_at dksX3_oneOf_2 12 rfl rfl)
theorem dX3_oneOf_61 : decode cX3_oneOf 61 = .ok (.ireturn, 1) := dk_172 (dk_at dksX3_oneOf_2 14 rfl rfl)
abbrev cX3_why : ByteArray := prog_25_method_117_code
def yX3_why : MethodName := ⟨RX3, "why", "(IIII)I"⟩
def dkwX3_why_4 : List UInt8 := [182, 0, 211, 172, 42, 28, 29, 182, 0, 214, 172, 42, 28, 182, 0, 220, 172, 42, 28, 182, 0, 229, 172]
abbrev dktX3_why_4 : List UInt8 := dkwX3_why_4 ++ []
def dkwX3_why_3 : List UInt8 := [182, 0, 188, 172, 42, 28, 29, 182, 0, 198, 172, 42, 28, 29, 21, 4, 182, 0, 208, 172, 42, 28]
abbrev dktX3_why_3 : List UInt8 := dkwX3_why_3 ++ dktX3_why_4
def dkwX3_why_2 : List UInt8 := [42, 28, 29, 21, 4, 182, 0, 166, 172, 42, 28, 182, 0, 179, 155, 0, 7, 3, 167, 0, 4, 4, 172, 42]
abbrev dktX3_why_2 : List UInt8 := dkwX3_why_2 ++ dktX3_why_3
def dkwX3_why_1 : List UInt8 := [170, 0, 0, 0, 0, 0, 110, 0, 0, 0, 0, 0, 0, 0, 7, 0, 0, 0, 47, 0, 0, 0, 56, 0, 0, 0, 70, 0, 0, 0, 75, 0, 0, 0, 82, 0, 0, 0, 91, 0, 0, 0, 97, 0, 0, 0, 104]
abbrev dktX3_why_1 : List UInt8 := dkwX3_why_1 ++ dktX3_why_2
def dkwX3_why_0 : List UInt8 := [27]
abbrev dktX3_why_0 : List UInt8 := dkwX3_why_0 ++ dktX3_why_1
theorem dksX3_why_0 : cX3_why.data.toList.drop 0 = dktX3_why_0 := by decide +kernel
theorem dksX3_why_1 : cX3_why.data.toList.drop 1 = dktX3_why_1 := dk_seg dksX3_why_0 1 rfl rfl
theorem dksX3_why_2 : cX3_why.data.toList.drop 48 = dktX3_why_2 := dk_seg dksX3_why_1 47 rfl rfl
theorem dksX3_why_3 : cX3_why.data.toList.drop 72 = dktX3_why_3 := dk_seg dksX3_why_2 24 rfl rfl
theorem dksX3_why_4 : cX3_why.data.toList.drop 94 = dktX3_why_4 := dk_seg dksX3_why_3 22 rfl rfl
theorem dX3_why_0 : decode cX3_why 0 = .ok (.iload_n 1, 1) := dk_27 (dk_at dksX3_why_0 0 rfl rfl)
theorem dX3_why_1 : decode cX3_why 1 = .ok (.tableswitch 110 0 7 #[47, 56, 70, 75, 82, 91, 97, 104], 47) := by decide +kernel
theorem dX3_why_48 : decode cX3_why 48 = .ok (.aload_n 0, 1) := dk_42 (dk_at dksX3_why_2 0 rfl rfl)
theorem dX3_why_49 : decode cX3_why 49 = .ok (.iload_n 2, 1) := dk_28 (dk_at dksX3_why_2 1 rfl rfl)
theorem dX3_why_50 : decode cX3_why 50 = .ok (.iload_n 3, 1) := dk_29 (dk_at dksX3_why_2 2 rfl rfl)
theorem dX3_why_51 : decode cX3_why 51 = .ok (.iload 4, 2) := dk_21 4 (dk_at dksX3_why_2 3 rfl rfl)
theorem dX3_why_53 : decode cX3_why 53 = .ok (.invokevirtual 166, 3) := dk_182 0 166 (dk_at dksX3_why_2 5 rfl rfl)
theorem dX3_why_56 : decode cX3_why 56 = .ok (.ireturn, 1) := dk_172 (dk_at dksX3_why_2 8 rfl rfl)
theorem dX3_why_57 : decode cX3_why 57 = .ok (.aload_n 0, 1) := dk_42 (dk_at dksX3_why_2 9 rfl rfl)
theorem dX3_why_58 : decode cX3_why 58 = .ok (.iload_n 2, 1) := dk_28 (dk_at dksX3_why_2 10 rfl rfl)
theorem dX3_why_59 : decode cX3_why 59 = .ok (.invokevirtual 179, 3) := dk_182 0 179 (dk_at dksX3_why_2 11 rfl rfl)
theorem dX3_why_62 : decode cX3_why 62 = .ok (.ifCond .lt 7, 3) := dk_155 0 7 (dk_at dksX3_why_2 14 rfl rfl)
theorem dX3_why_65 : decode cX3_why 65 = .ok (.iconst 0, 1) := dk_3 (dk_at dksX3_why_2 17 rfl rfl)
theorem dX3_why_66 : decode cX3_why 66 = .ok (.goto 4, 3) := dk_167 0 4 (dk_at dksX3_why_2 18 rfl rfl)
theorem dX3_why_69 : decode cX3_why 69 = .ok (.iconst 1, 1) := dk_4 (dk_at dksX3_why_2 21 rfl rfl)
theorem dX3_why_70 : decode cX3_why 70 = .ok (.ireturn, 1) := dk_172 (dk_at dksX3_why_2 22 rfl rfl)
theorem dX3_why_71 : decode cX3_why 71 = .ok (.aload_n 0, 1) := dk_42 (dk_at dksX3_why_2 23 rfl rfl)
theorem dX3_why_72 : decode cX3_why 72 = .ok (.invokevirtual 188, 3) := dk_182 0 188 (dk_at dksX3_why_3 0 rfl rfl)
theorem dX3_why_75 : decode cX3_why 75 = .ok (.ireturn, 1) := dk_172 (dk_at dksX3_why_3 3 rfl rfl)
theorem dX3_why_76 : decode cX3_why 76 = .ok (.aload_n 0, 1) := dk_42 (dk_at dksX3_why_3 4 rfl rfl)
theorem dX3_why_77 : decode cX3_why 77 = .ok (.iload_n 2, 1) := dk_28 (dk_at dksX3_why_3 5 rfl rfl)
theorem dX3_why_78 : decode cX3_why 78 = .ok (.iload_n 3, 1) := dk_29 (dk_at dksX3_why_3 6 rfl rfl)
theorem dX3_why_79 : decode cX3_why 79 = .ok (.invokevirtual 198, 3) := dk_182 0 198 (dk_at dksX3_why_3 7 rfl rfl)
theorem dX3_why_82 : decode cX3_why 82 = .ok (.ireturn, 1) := dk_172 (dk_at dksX3_why_3 10 rfl rfl)
theorem dX3_why_83 : decode cX3_why 83 = .ok (.aload_n 0, 1) := dk_42 (dk_at dksX3_why_3 11 rfl rfl)
theorem dX3_why_84 : decode cX3_why 84 = .ok (.iload_n 2, 1) := dk_28 (dk_at dksX3_why_3 12 rfl rfl)
theorem dX3_why_85 : decode cX3_why 85 = .ok (.iload_n 3, 1) := dk_29 (dk_at dksX3_why_3 13 rfl rfl)
theorem dX3_why_86 : decode cX3_why 86 = .ok (.iload 4, 2) := dk_21 4 (dk_at dksX3_why_3 14 rfl rfl)
theorem dX3_why_88 : decode cX3_why 88 = .ok (.invokevirtual 208, 3) := dk_182 0 208 (dk_at dksX3_why_3 16 rfl rfl)
theorem dX3_why_91 : decode cX3_why 91 = .ok (.ireturn, 1) := dk_172 (dk_at dksX3_why_3 19 rfl rfl)
theorem dX3_why_92 : decode cX3_why 92 = .ok (.aload_n 0, 1) := dk_42 (dk_at dksX3_why_3 20 rfl rfl)
theorem dX3_why_93 : decode cX3_why 93 = .ok (.iload_n 2, 1) := dk_28 (dk_at dksX3_why_3 21 rfl rfl)
theorem dX3_why_94 : decode cX3_why 94 = .ok (.invokevirtual 211, 3) := dk_182 0 211 (dk_at dksX3_why_4 0 rfl rfl)
theorem dX3_why_97 : decode cX3_why 97 = .ok (.ireturn, 1) := dk_172 (dk_at dksX3_why_4 3 rfl rfl)
theorem dX3_why_98 : decode cX3_why 98 = .ok (.aload_n 0, 1) := dk_42 (dk_at dksX3_why_4 4 rfl rfl)
theorem dX3_why_99 : decode cX3_why 99 = .ok (.iload_n 2, 1) := dk_28 (dk_at dksX3_why_4 5 rfl rfl)
theorem dX3_why_100 : decode cX3_why 100 = .ok (.iload_n 3, 1) := dk_29 (dk_at dksX3_why_4 6 rfl rfl)
theorem dX3_why_101 : decode cX3_why 101 = .ok (.invokevirtual 214, 3) := dk_182 0 214 (dk_at dksX3_why_4 7 rfl rfl)
theorem dX3_why_104 : decode cX3_why 104 = .ok (.ireturn, 1) := dk_172 (dk_at dksX3_why_4 10 rfl rfl)
theorem dX3_why_105 : decode cX3_why 105 = .ok (.aload_n 0, 1) := dk_42 (dk_at dksX3_why_4 11 rfl rfl)
theorem dX3_why_106 : decode cX3_why 106 = .ok (.iload_n 2, 1) := dk_28 (dk_at dksX3_why_4 12 rfl rfl)
theorem dX3_why_107 : decode cX3_why 107 = .ok (.invokevirtual 220, 3) := dk_182 0 220 (dk_at dksX3_why_4 13 rfl rfl)
theorem dX3_why_110 : decode cX3_why 110 = .ok (.ireturn, 1) := dk_172 (dk_at dksX3_why_4 16 rfl rfl)
theorem dX3_why_111 : decode cX3_why 111 = .ok (.aload_n 0, 1) := dk_42 (dk_at dksX3_why_4 17 rfl rfl)
theorem dX3_why_112 : decode cX3_why 112 = .ok (.iload_n 2, 1) := dk_28 (dk_at dksX3_why_4 18 rfl rfl)
theorem dX3_why_113 : decode cX3_why 113 = .ok (.invokevirtual 229, 3) := dk_182 0 229 (dk_at dksX3_why_4 19 rfl rfl)
theorem dX3_why_116 : decode cX3_why 116 = .ok (.ireturn, 1) := dk_172 (dk_at dksX3_why_4 22 rfl rfl)
abbrev cX3_does : ByteArray := prog_25_method_118_code
def yX3_does : MethodName := ⟨RX3, "does", "(IIII)I"⟩
def dkwX3_does_5 : List UInt8 := [182, 0, 232, 172]
abbrev dktX3_does_5 : List UInt8 := dkwX3_does_5 ++ []
def dkwX3_does_4 : List UInt8 := [182, 0, 201, 172, 42, 16, 107, 29, 28, 28, 182, 0, 201, 172, 42, 28, 182, 0, 223, 172, 42, 28]
abbrev dktX3_does_4 : List UInt8 := dkwX3_does_4 ++ dktX3_does_5
def dkwX3_does_3 : List UInt8 := [28, 29, 3, 3, 182, 0, 201, 172, 42, 28, 3, 29, 21, 4, 182, 0, 201, 172, 42, 16, 114, 3, 28, 28]
abbrev dktX3_does_3 : List UInt8 := dkwX3_does_3 ++ dktX3_does_4
def dkwX3_does_2 : List UInt8 := [42, 28, 16, 97, 100, 29, 21, 4, 182, 0, 173, 172, 42, 28, 182, 0, 182, 172, 42, 182, 0, 192, 172, 42]
abbrev dktX3_does_2 : List UInt8 := dkwX3_does_2 ++ dktX3_does_3
def dkwX3_does_1 : List UInt8 := [170, 0, 0, 0, 0, 0, 115, 0, 0, 0, 0, 0, 0, 0, 7, 0, 0, 0, 47, 0, 0, 0, 59, 0, 0, 0, 65, 0, 0, 0, 70, 0, 0, 0, 79, 0, 0, 0, 89, 0, 0, 0, 99, 0, 0, 0, 109]
abbrev dktX3_does_1 : List UInt8 := dkwX3_does_1 ++ dktX3_does_2
def dkwX3_does_0 : List UInt8 := [27]
abbrev dktX3_does_0 : List UInt8 := dkwX3_does_0 ++ dktX3_does_1
theorem dksX3_does_0 : cX3_does.data.toList.drop 0 = dktX3_does_0 := by decide +kernel
theorem dksX3_does_1 : cX3_does.data.toList.drop 1 = dktX3_does_1 := dk_seg dksX3_does_0 1 rfl rfl
theorem dksX3_does_2 : cX3_does.data.toList.drop 48 = dktX3_does_2 := dk_seg dksX3_does_1 47 rfl rfl
theorem dksX3_does_3 : cX3_does.data.toList.drop 72 = dktX3_does_3 := dk_seg dksX3_does_2 24 rfl rfl
theorem dksX3_does_4 : cX3_does.data.toList.drop 96 = dktX3_does_4 := dk_seg dksX3_does_3 24 rfl rfl
theorem dksX3_does_5 : cX3_does.data.toList.drop 118 = dktX3_does_5 := dk_seg dksX3_does_4 22 rfl rfl
theorem dX3_does_0 : decode cX3_does 0 = .ok (.iload_n 1, 1) := dk_27 (dk_at dksX3_does_0 0 rfl rfl)
theorem dX3_does_1 : decode cX3_does 1 = .ok (.tableswitch 115 0 7 #[47, 59, 65, 70, 79, 89, 99, 109], 47) := by decide +kernel
theorem dX3_does_48 : decode cX3_does 48 = .ok (.aload_n 0, 1) := dk_42 (dk_at dksX3_does_2 0 rfl rfl)
theorem dX3_does_49 : decode cX3_does 49 = .ok (.iload_n 2, 1) := dk_28 (dk_at dksX3_does_2 1 rfl rfl)
theorem dX3_does_50 : decode cX3_does 50 = .ok (.bipush 97, 2) := dk_16 97 (dk_at dksX3_does_2 2 rfl rfl)
theorem dX3_does_52 : decode cX3_does 52 = .ok (.isub, 1) := dk_100 (dk_at dksX3_does_2 4 rfl rfl)
theorem dX3_does_53 : decode cX3_does 53 = .ok (.iload_n 3, 1) := dk_29 (dk_at dksX3_does_2 5 rfl rfl)
theorem dX3_does_54 : decode cX3_does 54 = .ok (.iload 4, 2) := dk_21 4 (dk_at dksX3_does_2 6 rfl rfl)
theorem dX3_does_56 : decode cX3_does 56 = .ok (.invokevirtual 173, 3) := dk_182 0 173 (dk_at dksX3_does_2 8 rfl rfl)
theorem dX3_does_59 : decode cX3_does 59 = .ok (.ireturn, 1) := dk_172 (dk_at dksX3_does_2 11 rfl rfl)
theorem dX3_does_60 : decode cX3_does 60 = .ok (.aload_n 0, 1) := dk_42 (dk_at dksX3_does_2 12 rfl rfl)
theorem dX3_does_61 : decode cX3_does 61 = .ok (.iload_n 2, 1) := dk_28 (dk_at dksX3_does_2 13 rfl rfl)
theorem dX3_does_62 : decode cX3_does 62 = .ok (.invokevirtual 182, 3) := dk_182 0 182 (dk_at dksX3_does_2 14 rfl rfl)
theorem dX3_does_65 : decode cX3_does 65 = .ok (.ireturn, 1) := dk_172 (dk_at dksX3_does_2 17 rfl rfl)
theorem dX3_does_66 : decode cX3_does 66 = .ok (.aload_n 0, 1) := dk_42 (dk_at dksX3_does_2 18 rfl rfl)
theorem dX3_does_67 : decode cX3_does 67 = .ok (.invokevirtual 192, 3) := dk_182 0 192 (dk_at dksX3_does_2 19 rfl rfl)
theorem dX3_does_70 : decode cX3_does 70 = .ok (.ireturn, 1) := dk_172 (dk_at dksX3_does_2 22 rfl rfl)
theorem dX3_does_71 : decode cX3_does 71 = .ok (.aload_n 0, 1) := dk_42 (dk_at dksX3_does_2 23 rfl rfl)
theorem dX3_does_72 : decode cX3_does 72 = .ok (.iload_n 2, 1) := dk_28 (dk_at dksX3_does_3 0 rfl rfl)
theorem dX3_does_73 : decode cX3_does 73 = .ok (.iload_n 3, 1) := dk_29 (dk_at dksX3_does_3 1 rfl rfl)
theorem dX3_does_74 : decode cX3_does 74 = .ok (.iconst 0, 1) := dk_3 (dk_at dksX3_does_3 2 rfl rfl)
theorem dX3_does_75 : decode cX3_does 75 = .ok (.iconst 0, 1) := dk_3 (dk_at dksX3_does_3 3 rfl rfl)
theorem dX3_does_76 : decode cX3_does 76 = .ok (.invokevirtual 201, 3) := dk_182 0 201 (dk_at dksX3_does_3 4 rfl rfl)
theorem dX3_does_79 : decode cX3_does 79 = .ok (.ireturn, 1) := dk_172 (dk_at dksX3_does_3 7 rfl rfl)
theorem dX3_does_80 : decode cX3_does 80 = .ok (.aload_n 0, 1) := dk_42 (dk_at dksX3_does_3 8 rfl rfl)
theorem dX3_does_81 : decode cX3_does 81 = .ok (.iload_n 2, 1) := dk_28 (dk_at dksX3_does_3 9 rfl rfl)
theorem dX3_does_82 : decode cX3_does 82 = .ok (.iconst 0, 1) := dk_3 (dk_at dksX3_does_3 10 rfl rfl)
theorem dX3_does_83 : decode cX3_does 83 = .ok (.iload_n 3, 1) := dk_29 (dk_at dksX3_does_3 11 rfl rfl)
theorem dX3_does_84 : decode cX3_does 84 = .ok (.iload 4, 2) := dk_21 4 (dk_at dksX3_does_3 12 rfl rfl)
theorem dX3_does_86 : decode cX3_does 86 = .ok (.invokevirtual 201, 3) := dk_182 0 201 (dk_at dksX3_does_3 14 rfl rfl)
theorem dX3_does_89 : decode cX3_does 89 = .ok (.ireturn, 1) := dk_172 (dk_at dksX3_does_3 17 rfl rfl)
theorem dX3_does_90 : decode cX3_does 90 = .ok (.aload_n 0, 1) := dk_42 (dk_at dksX3_does_3 18 rfl rfl)
theorem dX3_does_91 : decode cX3_does 91 = .ok (.bipush 114, 2) := dk_16 114 (dk_at dksX3_does_3 19 rfl rfl)
theorem dX3_does_93 : decode cX3_does 93 = .ok (.iconst 0, 1) := dk_3 (dk_at dksX3_does_3 21 rfl rfl)
theorem dX3_does_94 : decode cX3_does 94 = .ok (.iload_n 2, 1) := dk_28 (dk_at dksX3_does_3 22 rfl rfl)
theorem dX3_does_95 : decode cX3_does 95 = .ok (.iload_n 2, 1) := dk_28 (dk_at dksX3_does_3 23 rfl rfl)
theorem dX3_does_96 : decode cX3_does 96 = .ok (.invokevirtual 201, 3) := dk_182 0 201 (dk_at dksX3_does_4 0 rfl rfl)
theorem dX3_does_99 : decode cX3_does 99 = .ok (.ireturn, 1) := dk_172 (dk_at dksX3_does_4 3 rfl rfl)
theorem dX3_does_100 : decode cX3_does 100 = .ok (.aload_n 0, 1) := dk_42 (dk_at dksX3_does_4 4 rfl rfl)
theorem dX3_does_101 : decode cX3_does 101 = .ok (.bipush 107, 2) := dk_16 107 (dk_at dksX3_does_4 5 rfl rfl)
theorem dX3_does_103 : decode cX3_does 103 = .ok (.iload_n 3, 1) := dk_29 (dk_at dksX3_does_4 7 rfl rfl)
theorem dX3_does_104 : decode cX3_does 104 = .ok (.iload_n 2, 1) := dk_28 (dk_at dksX3_does_4 8 rfl rfl)
theorem dX3_does_105 : decode cX3_does 105 = .ok (.iload_n 2, 1) := dk_28 (dk_at dksX3_does_4 9 rfl rfl)
theorem dX3_does_106 : decode cX3_does 106 = .ok (.invokevirtual 201, 3) := dk_182 0 201 (dk_at dksX3_does_4 10 rfl rfl)
theorem dX3_does_109 : decode cX3_does 109 = .ok (.ireturn, 1) := dk_172 (dk_at dksX3_does_4 13 rfl rfl)
theorem dX3_does_110 : decode cX3_does 110 = .ok (.aload_n 0, 1) := dk_42 (dk_at dksX3_does_4 14 rfl rfl)
theorem dX3_does_111 : decode cX3_does 111 = .ok (.iload_n 2, 1) := dk_28 (dk_at dksX3_does_4 15 rfl rfl)
theorem dX3_does_112 : decode cX3_does 112 = .ok (.invokevirtual 223, 3) := dk_182 0 223 (dk_at dksX3_does_4 16 rfl rfl)
theorem dX3_does_115 : decode cX3_does 115 = .ok (.ireturn, 1) := dk_172 (dk_at dksX3_does_4 19 rfl rfl)
theorem dX3_does_116 : decode cX3_does 116 = .ok (.aload_n 0, 1) := dk_42 (dk_at dksX3_does_4 20 rfl rfl)
theorem dX3_does_117 : decode cX3_does 117 = .ok (.iload_n 2, 1) := dk_28 (dk_at dksX3_does_4 21 rfl rfl)
theorem dX3_does_118 : decode cX3_does 118 = .ok (.invokevirtual 232, 3) := dk_182 0 232 (dk_at dksX3_does_5 0 rfl rfl)
theorem dX3_does_121 : decode cX3_does 121 = .ok (.ireturn, 1) := dk_172 (dk_at dksX3_does_5 3 rfl rfl)
abbrev cX3_denied : ByteArray := prog_25_method_119_code
def yX3_denied : MethodName := ⟨RX3, "denied", "(I)I"⟩
def dkwX3_denied_1 : List UInt8 := [16, 6, 160, 0, 7, 6, 167, 0, 4, 5, 172]
abbrev dktX3_denied_1 : List UInt8 := dkwX3_denied_1 ++ []
def dkwX3_denied_0 : List UInt8 := [26, 4, 160, 0, 7, 3, 167, 0, 28, 26, 5, 160, 0, 7, 4, 167, 0, 19, 26, 7, 159, 0, 9, 26]
abbrev dktX3_denied_0 : List UInt8 := dkwX3_denied_0 ++ dktX3_denied_1
theorem dksX3_denied_0 : cX3_denied.data.toList.drop 0 = dktX3_denied_0 := by decide +kernel
theorem dksX3_denied_1 : cX3_denied.data.toList.drop 24 = dktX3_denied_1 := dk_seg dksX3_denied_0 24 rfl rfl
theorem dX3_denied_0 : decode cX3_denied 0 = .ok (.iload_n 0, 1) := dk_26 (dk_at dksX3_denied_0 0 rfl rfl)
theorem dX3_denied_1 : decode cX3_denied 1 = .ok (.iconst 1, 1) := dk_4 (dk_at dksX3_denied_0 1 rfl rfl)
theorem dX3_denied_2 : decode cX3_denied 2 = .ok (.if_icmp .ne 7, 3) := dk_160 0 7 (dk_at dksX3_denied_0 2 rfl rfl)
theorem dX3_denied_5 : decode cX3_denied 5 = .ok (.iconst 0, 1) := dk_3 (dk_at dksX3_denied_0 5 rfl rfl)
theorem dX3_denied_6 : decode cX3_denied 6 = .ok (.goto 28, 3) := dk_167 0 28 (dk_at dksX3_denied_0 6 rfl rfl)
theorem dX3_denied_9 : decode cX3_denied 9 = .ok (.iload_n 0, 1) := dk_26 (dk_at dksX3_denied_0 9 rfl rfl)
theorem dX3_denied_10 : decode cX3_denied 10 = .ok (.iconst 2, 1) := dk_5 (dk_at dksX3_denied_0 10 rfl rfl)
theorem dX3_denied_11 : decode cX3_denied 11 = .ok (.if_icmp .ne 7, 3) := dk_160 0 7 (dk_at dksX3_denied_0 11 rfl rfl)
theorem dX3_denied_14 : decode cX3_denied 14 = .ok (.iconst 1, 1) := dk_4 (dk_at dksX3_denied_0 14 rfl rfl)
theorem dX3_denied_15 : decode cX3_denied 15 = .ok (.goto 19, 3) := dk_167 0 19 (dk_at dksX3_denied_0 15 rfl rfl)
theorem dX3_denied_18 : decode cX3_denied 18 = .ok (.iload_n 0, 1) := dk_26 (dk_at dksX3_denied_0 18 rfl rfl)
theorem dX3_denied_19 : decode cX3_denied 19 = .ok (.iconst 4, 1) := dk_7 (dk_at dksX3_denied_0 19 rfl rfl)
theorem dX3_denied_20 : decode cX3_denied 20 = .ok (.if_icmp .eq 9, 3) := dk_159 0 9 (dk_at dksX3_denied_0 20 rfl rfl)
theorem dX3_denied_23 : decode cX3_denied 23 = .ok (.iload_n 0, 1) := dk_26 (dk_at dksX3_denied_0 23 rfl rfl)
theorem dX3_denied_24 : decode cX3_denied 24 = .ok (.bipush 6, 2) := dk_16 6 (dk_at dksX3_denied_1 0 rfl rfl)
theorem dX3_denied_26 : decode cX3_denied 26 = .ok (.if_icmp .ne 7, 3) := dk_160 0 7 (dk_at dksX3_denied_1 2 rfl rfl)
theorem dX3_denied_29 : decode cX3_denied 29 = .ok (.iconst 3, 1) := dk_6 (dk_at dksX3_denied_1 5 rfl rfl)
theorem dX3_denied_30 : decode cX3_denied 30 = .ok (.goto 4, 3) := dk_167 0 4 (dk_at dksX3_denied_1 6 rfl rfl)
theorem dX3_denied_33 : decode cX3_denied 33 = .ok (.iconst 2, 1) := dk_5 (dk_at dksX3_denied_1 9 rfl rfl)
theorem dX3_denied_34 : decode cX3_denied 34 = .ok (.ireturn, 1) := dk_172 (dk_at dksX3_denied_1 10 rfl rfl)
abbrev cX3_faultPosition : ByteArray := prog_25_method_121_code
def yX3_faultPosition : MethodName := ⟨RX3, "faultPosition", "()I"⟩
def dkwX3_faultPosition_1 : List UInt8 := [180, 0, 54, 172]
abbrev dktX3_faultPosition_1 : List UInt8 := dkwX3_faultPosition_1 ++ []
def dkwX3_faultPosition_0 : List UInt8 := [42, 42, 180, 0, 54, 155, 0, 7, 4, 167, 0, 4, 3, 182, 0, 238, 158, 0, 7, 3, 167, 0, 7, 42]
abbrev dktX3_faultPosition_0 : List UInt8 := dkwX3_faultPosition_0 ++ dktX3_faultPosition_1
theorem dksX3_faultPosition_0 : cX3_faultPosition.data.toList.drop 0 = dktX3_faultPosition_0 := by decide +kernel
theorem dksX3_faultPosition_1 : cX3_faultPosition.data.toList.drop 24 = dktX3_faultPosition_1 := dk_seg dksX3_faultPosition_0 24 rfl rfl
theorem dX3_faultPosition_0 : decode cX3_faultPosition 0 = .ok (.aload_n 0, 1) := dk_42 (dk_at dksX3_faultPosition_0 0 rfl rfl)
theorem dX3_faultPosition_1 : decode cX3_faultPosition 1 = .ok (.aload_n 0, 1) := dk_42 (dk_at dksX3_faultPosition_0 1 rfl rfl)
theorem dX3_faultPosition_2 : decode cX3_faultPosition 2 = .ok (.getfield 54, 3) := dk_180 0 54 (dk_at dksX3_faultPosition_0 2 rfl rfl)
theorem dX3_faultPosition_5 : decode cX3_faultPosition 5 = .ok (.ifCond .lt 7, 3) := dk_155 0 7 (dk_at dksX3_faultPosition_0 5 rfl rfl)
theorem dX3_faultPosition_8 : decode cX3_faultPosition 8 = .ok (.iconst 1, 1) := dk_4 (dk_at dksX3_faultPosition_0 8 rfl rfl)
theorem dX3_faultPosition_9 : decode cX3_faultPosition 9 = .ok (.goto 4, 3) := dk_167 0 4 (dk_at dksX3_faultPosition_0 9 rfl rfl)
theorem dX3_faultPosition_12 : decode cX3_faultPosition 12 = .ok (.iconst 0, 1) := dk_3 (dk_at dksX3_faultPosition_0 12 rfl rfl)
theorem dX3_faultPosition_13 : decode cX3_faultPosition 13 = .ok (.invokevirtual 238, 3) := dk_182 0 238 (dk_at dksX3_faultPosition_0 13 rfl rfl)
theorem dX3_faultPosition_16 : decode cX3_faultPosition 16 = .ok (.ifCond .le 7, 3) := dk_158 0 7 (dk_at dksX3_faultPosition_0 16 rfl rfl)
theorem dX3_faultPosition_19 : decode cX3_faultPosition 19 = .ok (.iconst 0, 1) := dk_3 (dk_at dksX3_faultPosition_0 19 rfl rfl)
theorem dX3_faultPosition_20 : decode cX3_faultPosition 20 = .ok (.goto 7, 3) := dk_167 0 7 (dk_at dksX3_faultPosition_0 20 rfl rfl)
theorem dX3_faultPosition_23 : decode cX3_faultPosition 23 = .ok (.aload_n 0, 1) := dk_42 (dk_at dksX3_faultPosition_0 23 rfl rfl)
theorem dX3_faultPosition_24 : decode cX3_faultPosition 24 = .ok (.getfield 54, 3) := dk_180 0 54 (dk_at dksX3_faultPosition_1 0 rfl rfl)
theorem dX3_faultPosition_27 : decode cX3_faultPosition 27 = .ok (.ireturn, 1) := dk_172 (dk_at dksX3_faultPosition_1 3 rfl rfl)
abbrev cX3_undo : ByteArray := prog_25_method_122_code
def yX3_undo : MethodName := ⟨RX3, "undo", "()I"⟩
def dkwX3_undo_3 : List UInt8 := [42, 180, 0, 51, 172]
abbrev dktX3_undo_3 : List UInt8 := dkwX3_undo_3 ++ []
def dkwX3_undo_2 : List UInt8 := [3, 184, 0, 100, 42, 180, 0, 35, 17, 1, 24, 42, 180, 0, 51, 104, 42, 180, 0, 25, 3, 184, 0, 104]
abbrev dktX3_undo_2 : List UInt8 := dkwX3_undo_2 ++ dktX3_undo_3
def dkwX3_undo_1 : List UInt8 := [180, 0, 51, 4, 100, 181, 0, 51, 42, 180, 0, 19, 17, 1, 16, 42, 180, 0, 51, 104, 42, 180, 0, 7]
abbrev dktX3_undo_1 : List UInt8 := dkwX3_undo_1 ++ dktX3_undo_2
def dkwX3_undo_0 : List UInt8 := [42, 42, 180, 0, 51, 158, 0, 7, 4, 167, 0, 4, 3, 182, 0, 238, 158, 0, 5, 3, 172, 42, 89]
abbrev dktX3_undo_0 : List UInt8 := dkwX3_undo_0 ++ dktX3_undo_1
theorem dksX3_undo_0 : cX3_undo.data.toList.drop 0 = dktX3_undo_0 := by decide +kernel
theorem dksX3_undo_1 : cX3_undo.data.toList.drop 23 = dktX3_undo_1 := dk_seg dksX3_undo_0 23 rfl rfl
theorem dksX3_undo_2 : cX3_undo.data.toList.drop 47 = dktX3_undo_2 := dk_seg dksX3_undo_1 24 rfl rfl
theorem dksX3_undo_3 : cX3_undo.data.toList.drop 71 = dktX3_undo_3 := dk_seg dksX3_undo_2 24 rfl rfl
theorem dX3_undo_0 : decode cX3_undo 0 = .ok (.aload_n 0, 1) := dk_42 (dk_at dksX3_undo_0 0 rfl rfl)
theorem dX3_undo_1 : decode cX3_undo 1 = .ok (.aload_n 0, 1) := dk_42 (dk_at dksX3_undo_0 1 rfl rfl)
theorem dX3_undo_2 : decode cX3_undo 2 = .ok (.getfield 51, 3) := dk_180 0 51 (dk_at dksX3_undo_0 2 rfl rfl)
theorem dX3_undo_5 : decode cX3_undo 5 = .ok (.ifCond .le 7, 3) := dk_158 0 7 (dk_at dksX3_undo_0 5 rfl rfl)
theorem dX3_undo_8 : decode cX3_undo 8 = .ok (.iconst 1, 1) := dk_4 (dk_at dksX3_undo_0 8 rfl rfl)
theorem dX3_undo_9 : decode cX3_undo 9 = .ok (.goto 4, 3) := dk_167 0 4 (dk_at dksX3_undo_0 9 rfl rfl)
theorem dX3_undo_12 : decode cX3_undo 12 = .ok (.iconst 0, 1) := dk_3 (dk_at dksX3_undo_0 12 rfl rfl)
theorem dX3_undo_13 : decode cX3_undo 13 = .ok (.invokevirtual 238, 3) := dk_182 0 238 (dk_at dksX3_undo_0 13 rfl rfl)
theorem dX3_undo_16 : decode cX3_undo 16 = .ok (.ifCond .le 5, 3) := dk_158 0 5 (dk_at dksX3_undo_0 16 rfl rfl)
theorem dX3_undo_19 : decode cX3_undo 19 = .ok (.iconst 0, 1) := dk_3 (dk_at dksX3_undo_0 19 rfl rfl)
theorem dX3_undo_20 : decode cX3_undo 20 = .ok (.ireturn, 1) := dk_172 (dk_at dksX3_undo_0 20 rfl rfl)
theorem dX3_undo_21 : decode cX3_undo 21 = .ok (.aload_n 0, 1) := dk_42 (dk_at dksX3_undo_0 21 rfl rfl)
theorem dX3_undo_22 : decode cX3_undo 22 = .ok (.dup, 1) := dk_89 (dk_at dksX3_undo_0 22 rfl rfl)
theorem dX3_undo_23 : decode cX3_undo 23 = .ok (.getfield 51, 3) := dk_180 0 51 (dk_at dksX3_undo_1 0 rfl rfl)
theorem dX3_undo_26 : decode cX3_undo 26 = .ok (.iconst 1, 1) := dk_4 (dk_at dksX3_undo_1 3 rfl rfl)
theorem dX3_undo_27 : decode cX3_undo 27 = .ok (.isub, 1) := dk_100 (dk_at dksX3_undo_1 4 rfl rfl)
theorem dX3_undo_28 : decode cX3_undo 28 = .ok (.putfield 51, 3) := dk_181 0 51 (dk_at dksX3_undo_1 5 rfl rfl)
theorem dX3_undo_31 : decode cX3_undo 31 = .ok (.aload_n 0, 1) := dk_42 (dk_at dksX3_undo_1 8 rfl rfl)
theorem dX3_undo_32 : decode cX3_undo 32 = .ok (.getfield 19, 3) := dk_180 0 19 (dk_at dksX3_undo_1 9 rfl rfl)
theorem dX3_undo_35 : decode cX3_undo 35 = .ok (.sipush 272, 3) := dk_17 1 16 (dk_at dksX3_undo_1 12 rfl rfl)
theorem dX3_undo_38 : decode cX3_undo 38 = .ok (.aload_n 0, 1) := dk_42 (dk_at dksX3_undo_1 15 rfl rfl)
theorem dX3_undo_39 : decode cX3_undo 39 = .ok (.getfield 51, 3) := dk_180 0 51 (dk_at dksX3_undo_1 16 rfl rfl)
theorem dX3_undo_42 : decode cX3_undo 42 = .ok (.imul, 1) := dk_104 (dk_at dksX3_undo_1 19 rfl rfl)
theorem dX3_undo_43 : decode cX3_undo 43 = .ok (.aload_n 0, 1) := dk_42 (dk_at dksX3_undo_1 20 rfl rfl)
theorem dX3_undo_44 : decode cX3_undo 44 = .ok (.getfield 7, 3) := dk_180 0 7 (dk_at dksX3_undo_1 21 rfl rfl)
theorem dX3_undo_47 : decode cX3_undo 47 = .ok (.iconst 0, 1) := dk_3 (dk_at dksX3_undo_2 0 rfl rfl)
theorem dX3_undo_48 : decode cX3_undo 48 = .ok (.invokestatic 100, 3) := dk_184 0 100 (dk_at dksX3_undo_2 1 rfl rfl)
theorem dX3_undo_51 : decode cX3_undo 51 = .ok (.aload_n 0, 1) := dk_42 (dk_at dksX3_undo_2 4 rfl rfl)
theorem dX3_undo_52 : decode cX3_undo 52 = .ok (.getfield 35, 3) := dk_180 0 35 (dk_at dksX3_undo_2 5 rfl rfl)
theorem dX3_undo_55 : decode cX3_undo 55 = .ok (.sipush 280, 3) := dk_17 1 24 (dk_at dksX3_undo_2 8 rfl rfl)
theorem dX3_undo_58 : decode cX3_undo 58 = .ok (.aload_n 0, 1) := dk_42 (dk_at dksX3_undo_2 11 rfl rfl)
theorem dX3_undo_59 : decode cX3_undo 59 = .ok (.getfield 51, 3) := dk_180 0 51 (dk_at dksX3_undo_2 12 rfl rfl)
theorem dX3_undo_62 : decode cX3_undo 62 = .ok (.imul, 1) := dk_104 (dk_at dksX3_undo_2 15 rfl rfl)
theorem dX3_undo_63 : decode cX3_undo 63 = .ok (.aload_n 0, 1) := dk_42 (dk_at dksX3_undo_2 16 rfl rfl)
theorem dX3_undo_64 : decode cX3_undo 64 = .ok (.getfield 25, 3) := dk_180 0 25 (dk_at dksX3_undo_2 17 rfl rfl)
theorem dX3_undo_67 : decode cX3_undo 67 = .ok (.iconst 0, 1) := dk_3 (dk_at dksX3_undo_2 20 rfl rfl)
theorem dX3_undo_68 : decode cX3_undo 68 = .ok (.invokestatic 104, 3) := dk_184 0 104 (dk_at dksX3_undo_2 21 rfl rfl)
theorem dX3_undo_71 : decode cX3_undo 71 = .ok (.aload_n 0, 1) := dk_42 (dk_at dksX3_undo_3 0 rfl rfl)
theorem dX3_undo_72 : decode cX3_undo 72 = .ok (.getfield 51, 3) := dk_180 0 51 (dk_at dksX3_undo_3 1 rfl rfl)
theorem dX3_undo_75 : decode cX3_undo 75 = .ok (.ireturn, 1) := dk_172 (dk_at dksX3_undo_3 4 rfl rfl)
abbrev cX3_undoCount : ByteArray := prog_25_method_123_code
def yX3_undoCount : MethodName := ⟨RX3, "undoCount", "()I"⟩
def dkwX3_undoCount_0 : List UInt8 := [42, 42, 180, 0, 51, 182, 0, 235, 172]
abbrev dktX3_undoCount_0 : List UInt8 := dkwX3_undoCount_0 ++ []
theorem dksX3_undoCount_0 : cX3_undoCount.data.toList.drop 0 = dktX3_undoCount_0 := by decide +kernel
theorem dX3_undoCount_0 : decode cX3_undoCount 0 = .ok (.aload_n 0, 1) := dk_42 (dk_at dksX3_undoCount_0 0 rfl rfl)
theorem dX3_undoCount_1 : decode cX3_undoCount 1 = .ok (.aload_n 0, 1) := dk_42 (dk_at dksX3_undoCount_0 1 rfl rfl)
theorem dX3_undoCount_2 : decode cX3_undoCount 2 = .ok (.getfield 51, 3) := dk_180 0 51 (dk_at dksX3_undoCount_0 2 rfl rfl)
theorem dX3_undoCount_5 : decode cX3_undoCount 5 = .ok (.invokevirtual 235, 3) := dk_182 0 235 (dk_at dksX3_undoCount_0 5 rfl rfl)
theorem dX3_undoCount_8 : decode cX3_undoCount 8 = .ok (.ireturn, 1) := dk_172 (dk_at dksX3_undoCount_0 8 rfl rfl)
abbrev cX3_saveSnapshot : ByteArray := prog_25_method_124_code
def yX3_saveSnapshot : MethodName := ⟨RX3, "saveSnapshot", "()I"⟩
def dkwX3_saveSnapshot_1 : List UInt8 := [180, 0, 32, 3, 184, 0, 104, 42, 4, 181, 0, 66, 42, 180, 0, 7, 4, 46, 172]
abbrev dktX3_saveSnapshot_1 : List UInt8 := dkwX3_saveSnapshot_1 ++ []
def dkwX3_saveSnapshot_0 : List UInt8 := [42, 3, 181, 0, 47, 42, 180, 0, 7, 3, 42, 180, 0, 16, 3, 184, 0, 100, 42, 180, 0, 25, 3, 42]
abbrev dktX3_saveSnapshot_0 : List UInt8 := dkwX3_saveSnapshot_0 ++ dktX3_saveSnapshot_1
theorem dksX3_saveSnapshot_0 : cX3_saveSnapshot.data.toList.drop 0 = dktX3_saveSnapshot_0 := by decide +kernel
theorem dksX3_saveSnapshot_1 : cX3_saveSnapshot.data.toList.drop 24 = dktX3_saveSnapshot_1 := dk_seg dksX3_saveSnapshot_0 24 rfl rfl
theorem dX3_saveSnapshot_0 : decode cX3_saveSnapshot 0 = .ok (.aload_n 0, 1) := dk_42 (dk_at dksX3_saveSnapshot_0 0 rfl rfl)
theorem dX3_saveSnapshot_1 : decode cX3_saveSnapshot 1 = .ok (.iconst 0, 1) := dk_3 (dk_at dksX3_saveSnapshot_0 1 rfl rfl)
theorem dX3_saveSnapshot_2 : decode cX3_saveSnapshot 2 = .ok (.putfield 47, 3) := dk_181 0 47 (dk_at dksX3_saveSnapshot_0 2 rfl rfl)
theorem dX3_saveSnapshot_5 : decode cX3_saveSnapshot 5 = .ok (.aload_n 0, 1) := dk_42 (dk_at dksX3_saveSnapshot_0 5 rfl rfl)
theorem dX3_saveSnapshot_6 : decode cX3_saveSnapshot 6 = .ok (.getfield 7, 3) := dk_180 0 7 (dk_at dksX3_saveSnapshot_0 6 rfl rfl)
theorem dX3_saveSnapshot_9 : decode cX3_saveSnapshot 9 = .ok (.iconst 0, 1) := dk_3 (dk_at dksX3_saveSnapshot_0 9 rfl rfl)
theorem dX3_saveSnapshot_10 : decode cX3_saveSnapshot 10 = .ok (.aload_n 0, 1) := dk_42 (dk_at dksX3_saveSnapshot_0 10 rfl rfl)
theorem dX3_saveSnapshot_11 : decode cX3_saveSnapshot 11 = .ok (.getfield 16, 3) := dk_180 0 16 (dk_at dksX3_saveSnapshot_0 11 rfl rfl)
theorem dX3_saveSnapshot_14 : decode cX3_saveSnapshot 14 = .ok (.iconst 0, 1) := dk_3 (dk_at dksX3_saveSnapshot_0 14 rfl rfl)
theorem dX3_saveSnapshot_15 : decode cX3_saveSnapshot 15 = .ok (.invokestatic 100, 3) := dk_184 0 100 (dk_at dksX3_saveSnapshot_0 15 rfl rfl)
theorem dX3_saveSnapshot_18 : decode cX3_saveSnapshot 18 = .ok (.aload_n 0, 1) := dk_42 (dk_at dksX3_saveSnapshot_0 18 rfl rfl)
theorem dX3_saveSnapshot_19 : decode cX3_saveSnapshot 19 = .ok (.getfield 25, 3) := dk_180 0 25 (dk_at dksX3_saveSnapshot_0 19 rfl rfl)
theorem dX3_saveSnapshot_22 : decode cX3_saveSnapshot 22 = .ok (.iconst 0, 1) := dk_3 (dk_at dksX3_saveSnapshot_0 22 rfl rfl)
theorem dX3_saveSnapshot_23 : decode cX3_saveSnapshot 23 = .ok (.aload_n 0, 1) := dk_42 (dk_at dksX3_saveSnapshot_0 23 rfl rfl)
theorem dX3_saveSnapshot_24 : decode cX3_saveSnapshot 24 = .ok (.getfield 32, 3) := dk_180 0 32 (dk_at dksX3_saveSnapshot_1 0 rfl rfl)
theorem dX3_saveSnapshot_27 : decode cX3_saveSnapshot 27 = .ok (.iconst 0, 1) := dk_3 (dk_at dksX3_saveSnapshot_1 3 rfl rfl)
theorem dX3_saveSnapshot_28 : decode cX3_saveSnapshot 28 = .ok (.invokestatic 104, 3) := dk_184 0 104 (dk_at dksX3_saveSnapshot_1 4 rfl rfl)
theorem dX3_saveSnapshot_31 : decode cX3_saveSnapshot 31 = .ok (.aload_n 0, 1) := dk_42 (dk_at dksX3_saveSnapshot_1 7 rfl rfl)
theorem dX3_saveSnapshot_32 : decode cX3_saveSnapshot 32 = .ok (.iconst 1, 1) := dk_4 (dk_at dksX3_saveSnapshot_1 8 rfl rfl)
theorem dX3_saveSnapshot_33 : decode cX3_saveSnapshot 33 = .ok (.putfield 66, 3) := dk_181 0 66 (dk_at dksX3_saveSnapshot_1 9 rfl rfl)
theorem dX3_saveSnapshot_36 : decode cX3_saveSnapshot 36 = .ok (.aload_n 0, 1) := dk_42 (dk_at dksX3_saveSnapshot_1 12 rfl rfl)
theorem dX3_saveSnapshot_37 : decode cX3_saveSnapshot 37 = .ok (.getfield 7, 3) := dk_180 0 7 (dk_at dksX3_saveSnapshot_1 13 rfl rfl)
theorem dX3_saveSnapshot_40 : decode cX3_saveSnapshot 40 = .ok (.iconst 1, 1) := dk_4 (dk_at dksX3_saveSnapshot_1 16 rfl rfl)
theorem dX3_saveSnapshot_41 : decode cX3_saveSnapshot 41 = .ok (.iaload, 1) := dk_46 (dk_at dksX3_saveSnapshot_1 17 rfl rfl)
theorem dX3_saveSnapshot_42 : decode cX3_saveSnapshot 42 = .ok (.ireturn, 1) := dk_172 (dk_at dksX3_saveSnapshot_1 18 rfl rfl)
abbrev cX3_restoreSnapshot : ByteArray := prog_25_method_125_code
def yX3_restoreSnapshot : MethodName := ⟨RX3, "restoreSnapshot", "()I"⟩
def dkwX3_restoreSnapshot_2 : List UInt8 := [180, 0, 7, 4, 46, 172]
abbrev dktX3_restoreSnapshot_2 : List UInt8 := dkwX3_restoreSnapshot_2 ++ []
def dkwX3_restoreSnapshot_1 : List UInt8 := [184, 0, 100, 42, 180, 0, 32, 3, 42, 180, 0, 25, 3, 184, 0, 104, 42, 3, 181, 0, 51, 42]
abbrev dktX3_restoreSnapshot_1 : List UInt8 := dkwX3_restoreSnapshot_1 ++ dktX3_restoreSnapshot_2
def dkwX3_restoreSnapshot_0 : List UInt8 := [42, 42, 180, 0, 66, 182, 0, 238, 158, 0, 5, 3, 172, 42, 180, 0, 16, 3, 42, 180, 0, 7, 3]
abbrev dktX3_restoreSnapshot_0 : List UInt8 := dkwX3_restoreSnapshot_0 ++ dktX3_restoreSnapshot_1
theorem dksX3_restoreSnapshot_0 : cX3_restoreSnapshot.data.toList.drop 0 = dktX3_restoreSnapshot_0 := by decide +kernel
theorem dksX3_restoreSnapshot_1 : cX3_restoreSnapshot.data.toList.drop 23 = dktX3_restoreSnapshot_1 := dk_seg dksX3_restoreSnapshot_0 23 rfl rfl
theorem dksX3_restoreSnapshot_2 : cX3_restoreSnapshot.data.toList.drop 45 = dktX3_restoreSnapshot_2 := dk_seg dksX3_restoreSnapshot_1 22 rfl rfl
theorem dX3_restoreSnapshot_0 : decode cX3_restoreSnapshot 0 = .ok (.aload_n 0, 1) := dk_42 (dk_at dksX3_restoreSnapshot_0 0 rfl rfl)
theorem dX3_restoreSnapshot_1 : decode cX3_restoreSnapshot 1 = .ok (.aload_n 0, 1) := dk_42 (dk_at dksX3_restoreSnapshot_0 1 rfl rfl)
theorem dX3_restoreSnapshot_2 : decode cX3_restoreSnapshot 2 = .ok (.getfield 66, 3) := dk_180 0 66 (dk_at dksX3_restoreSnapshot_0 2 rfl rfl)
theorem dX3_restoreSnapshot_5 : decode cX3_restoreSnapshot 5 = .ok (.invokevirtual 238, 3) := dk_182 0 238 (dk_at dksX3_restoreSnapshot_0 5 rfl rfl)
theorem dX3_restoreSnapshot_8 : decode cX3_restoreSnapshot 8 = .ok (.ifCond .le 5, 3) := dk_158 0 5 (dk_at dksX3_restoreSnapshot_0 8 rfl rfl)
theorem dX3_restoreSnapshot_11 : decode cX3_restoreSnapshot 11 = .ok (.iconst 0, 1) := dk_3 (dk_at dksX3_restoreSnapshot_0 11 rfl rfl)
theorem dX3_restoreSnapshot_12 : decode cX3_restoreSnapshot 12 = .ok (.ireturn, 1) := dk_172 (dk_at dksX3_restoreSnapshot_0 12 rfl rfl)
theorem dX3_restoreSnapshot_13 : decode cX3_restoreSnapshot 13 = .ok (.aload_n 0, 1) := dk_42 (dk_at dksX3_restoreSnapshot_0 13 rfl rfl)
theorem dX3_restoreSnapshot_14 : decode cX3_restoreSnapshot 14 = .ok (.getfield 16, 3) := dk_180 0 16 (dk_at dksX3_restoreSnapshot_0 14 rfl rfl)
theorem dX3_restoreSnapshot_17 : decode cX3_restoreSnapshot 17 = .ok (.iconst 0, 1) := dk_3 (dk_at dksX3_restoreSnapshot_0 17 rfl rfl)
theorem dX3_restoreSnapshot_18 : decode cX3_restoreSnapshot 18 = .ok (.aload_n 0, 1) := dk_42 (dk_at dksX3_restoreSnapshot_0 18 rfl rfl)
theorem dX3_restoreSnapshot_19 : decode cX3_restoreSnapshot 19 = .ok (.getfield 7, 3) := dk_180 0 7 (dk_at dksX3_restoreSnapshot_0 19 rfl rfl)
theorem dX3_restoreSnapshot_22 : decode cX3_restoreSnapshot 22 = .ok (.iconst 0, 1) := dk_3 (dk_at dksX3_restoreSnapshot_0 22 rfl rfl)
theorem dX3_restoreSnapshot_23 : decode cX3_restoreSnapshot 23 = .ok (.invokestatic 100, 3) := dk_184 0 100 (dk_at dksX3_restoreSnapshot_1 0 rfl rfl)
theorem dX3_restoreSnapshot_26 : decode cX3_restoreSnapshot 26 = .ok (.aload_n 0, 1) := dk_42 (dk_at dksX3_restoreSnapshot_1 3 rfl rfl)
theorem dX3_restoreSnapshot_27 : decode cX3_restoreSnapshot 27 = .ok (.getfield 32, 3) := dk_180 0 32 (dk_at dksX3_restoreSnapshot_1 4 rfl rfl)
theorem dX3_restoreSnapshot_30 : decode cX3_restoreSnapshot 30 = .ok (.iconst 0, 1) := dk_3 (dk_at dksX3_restoreSnapshot_1 7 rfl rfl)
theorem dX3_restoreSnapshot_31 : decode cX3_restoreSnapshot 31 = .ok (.aload_n 0, 1) := dk_42 (dk_at dksX3_restoreSnapshot_1 8 rfl rfl)
theorem dX3_restoreSnapshot_32 : decode cX3_restoreSnapshot 32 = .ok (.getfield 25, 3) := dk_180 0 25 (dk_at dksX3_restoreSnapshot_1 9 rfl rfl)
theorem dX3_restoreSnapshot_35 : decode cX3_restoreSnapshot 35 = .ok (.iconst 0, 1) := dk_3 (dk_at dksX3_restoreSnapshot_1 12 rfl rfl)
theorem dX3_restoreSnapshot_36 : decode cX3_restoreSnapshot 36 = .ok (.invokestatic 104, 3) := dk_184 0 104 (dk_at dksX3_restoreSnapshot_1 13 rfl rfl)
theorem dX3_restoreSnapshot_39 : decode cX3_restoreSnapshot 39 = .ok (.aload_n 0, 1) := dk_42 (dk_at dksX3_restoreSnapshot_1 16 rfl rfl)
theorem dX3_restoreSnapshot_40 : decode cX3_restoreSnapshot 40 = .ok (.iconst 0, 1) := dk_3 (dk_at dksX3_restoreSnapshot_1 17 rfl rfl)
theorem dX3_restoreSnapshot_41 : decode cX3_restoreSnapshot 41 = .ok (.putfield 51, 3) := dk_181 0 51 (dk_at dksX3_restoreSnapshot_1 18 rfl rfl)
theorem dX3_restoreSnapshot_44 : decode cX3_restoreSnapshot 44 = .ok (.aload_n 0, 1) := dk_42 (dk_at dksX3_restoreSnapshot_1 21 rfl rfl)
theorem dX3_restoreSnapshot_45 : decode cX3_restoreSnapshot 45 = .ok (.getfield 7, 3) := dk_180 0 7 (dk_at dksX3_restoreSnapshot_2 0 rfl rfl)
theorem dX3_restoreSnapshot_48 : decode cX3_restoreSnapshot 48 = .ok (.iconst 1, 1) := dk_4 (dk_at dksX3_restoreSnapshot_2 3 rfl rfl)
theorem dX3_restoreSnapshot_49 : decode cX3_restoreSnapshot 49 = .ok (.iaload, 1) := dk_46 (dk_at dksX3_restoreSnapshot_2 4 rfl rfl)
theorem dX3_restoreSnapshot_50 : decode cX3_restoreSnapshot 50 = .ok (.ireturn, 1) := dk_172 (dk_at dksX3_restoreSnapshot_2 5 rfl rfl)
theorem q104 : (Jvm.Cond.initialized "WeirfoldLaneModel") ∈ lw_all := lw_g (lw_at lw_m1 11 rfl) rfl
theorem q530 : (Jvm.Cond.selects "WeirfoldLaneModel" ({ cls := "java/lang/Object", name := "getClass", desc := "()Ljava/lang/Class;" } : Jvm.MethodName) ({ cls := "java/lang/Object", name := "getClass", desc := "()Ljava/lang/Class;" } : Jvm.MethodName)) ∈ lw_all := lw_g (lw_at lw_m2 197 rfl) rfl
theorem q640 : (Jvm.Cond.selects "WeirfoldLaneModel" ({ cls := "java/lang/Object", name := "equals", desc := "(Ljava/lang/Object;)Z" } : Jvm.MethodName) ({ cls := "java/lang/Object", name := "equals", desc := "(Ljava/lang/Object;)Z" } : Jvm.MethodName)) ∈ lw_all := lw_g (lw_at lw_m3 67 rfl) rfl
theorem q2690 : (Jvm.Cond.instantiable "WeirfoldLaneModel" (29 : Nat)) ∈ lw_all := lw_g (lw_at lw_m11 197 rfl) rfl
theorem q2692 : (Jvm.Cond.instanceMethod ({ cls := "WeirfoldLaneModel", name := "<init>", desc := "()V" } : Jvm.MethodName)) ∈ lw_all := lw_g (lw_at lw_m11 199 rfl) rfl
theorem q2693 : (Jvm.Cond.code ({ cls := "WeirfoldLaneModel", name := "<init>", desc := "()V" } : Jvm.MethodName) prog_25_method_1_code (1 : Nat) (Option.none : Option Jvm.ClassFile.FieldType)) ∈ lw_all := lw_g (lw_at lw_m11 200 rfl) rfl
theorem q2694 : (Jvm.Cond.methodLink "WeirfoldLaneModel" (1 : Nat) ({ cls := "java/lang/Object", name := "<init>", desc := "()V" } : Jvm.MethodName)) ∈ lw_all := lw_g (lw_at lw_m11 201 rfl) rfl
theorem q2695 : (Jvm.Cond.fieldLink "WeirfoldLaneModel" (7 : Nat) "WeirfoldLaneModel" "now" "[I") ∈ lw_all := lw_g (lw_at lw_m11 202 rfl) rfl
theorem q2696 : (Jvm.Cond.fieldLink "WeirfoldLaneModel" (13 : Nat) "WeirfoldLaneModel" "before" "[I") ∈ lw_all := lw_g (lw_at lw_m11 203 rfl) rfl
theorem q2697 : (Jvm.Cond.fieldLink "WeirfoldLaneModel" (16 : Nat) "WeirfoldLaneModel" "saved" "[I") ∈ lw_all := lw_g (lw_at lw_m11 204 rfl) rfl
theorem q2698 : (Jvm.Cond.fieldLink "WeirfoldLaneModel" (19 : Nat) "WeirfoldLaneModel" "history" "[I") ∈ lw_all := lw_g (lw_at lw_m11 205 rfl) rfl
theorem q2699 : (Jvm.Cond.fieldLink "WeirfoldLaneModel" (22 : Nat) "WeirfoldLaneModel" "reached" "[I") ∈ lw_all := lw_g (lw_at lw_m11 206 rfl) rfl
theorem q2700 : (Jvm.Cond.fieldLink "WeirfoldLaneModel" (25 : Nat) "WeirfoldLaneModel" "kept" "[J") ∈ lw_all := lw_g (lw_at lw_m11 207 rfl) rfl
theorem q2701 : (Jvm.Cond.fieldLink "WeirfoldLaneModel" (29 : Nat) "WeirfoldLaneModel" "keptBefore" "[J") ∈ lw_all := lw_g (lw_at lw_m11 208 rfl) rfl
theorem q2702 : (Jvm.Cond.fieldLink "WeirfoldLaneModel" (32 : Nat) "WeirfoldLaneModel" "keptSaved" "[J") ∈ lw_all := lw_g (lw_at lw_m11 209 rfl) rfl
theorem q2703 : (Jvm.Cond.fieldLink "WeirfoldLaneModel" (35 : Nat) "WeirfoldLaneModel" "keptHistory" "[J") ∈ lw_all := lw_g (lw_at lw_m11 210 rfl) rfl
theorem q2704 : (Jvm.Cond.fieldLink "WeirfoldLaneModel" (38 : Nat) "WeirfoldLaneModel" "anew" "[J") ∈ lw_all := lw_g (lw_at lw_m11 211 rfl) rfl
theorem q2705 : (Jvm.Cond.fieldLink "WeirfoldLaneModel" (41 : Nat) "WeirfoldLaneModel" "behind" "[J") ∈ lw_all := lw_g (lw_at lw_m11 212 rfl) rfl
theorem q2706 : (Jvm.Cond.fieldLink "WeirfoldLaneModel" (44 : Nat) "WeirfoldLaneModel" "costs" "[J") ∈ lw_all := lw_g (lw_at lw_m11 213 rfl) rfl
theorem q2707 : (Jvm.Cond.fieldLink "WeirfoldLaneModel" (47 : Nat) "WeirfoldLaneModel" "thrown" "I") ∈ lw_all := lw_g (lw_at lw_m11 214 rfl) rfl
theorem q2708 : (Jvm.Cond.fieldLink "WeirfoldLaneModel" (51 : Nat) "WeirfoldLaneModel" "depth" "I") ∈ lw_all := lw_g (lw_at lw_m11 215 rfl) rfl
theorem q2709 : (Jvm.Cond.fieldLink "WeirfoldLaneModel" (54 : Nat) "WeirfoldLaneModel" "wrongAt" "I") ∈ lw_all := lw_g (lw_at lw_m11 216 rfl) rfl
theorem q2710 : (Jvm.Cond.fieldLink "WeirfoldLaneModel" (57 : Nat) "WeirfoldLaneModel" "reason" "I") ∈ lw_all := lw_g (lw_at lw_m11 217 rfl) rfl
theorem q2711 : (Jvm.Cond.fieldLink "WeirfoldLaneModel" (60 : Nat) "WeirfoldLaneModel" "detail" "I") ∈ lw_all := lw_g (lw_at lw_m11 218 rfl) rfl
theorem q2712 : (Jvm.Cond.fieldLink "WeirfoldLaneModel" (63 : Nat) "WeirfoldLaneModel" "cause" "I") ∈ lw_all := lw_g (lw_at lw_m11 219 rfl) rfl
theorem q2713 : (Jvm.Cond.fieldLink "WeirfoldLaneModel" (66 : Nat) "WeirfoldLaneModel" "isSaved" "Z") ∈ lw_all := lw_g (lw_at lw_m11 220 rfl) rfl
theorem q2714 : (Jvm.Cond.fieldLink "WeirfoldLaneModel" (70 : Nat) "WeirfoldLaneModel" "line" "[I") ∈ lw_all := lw_g (lw_at lw_m11 221 rfl) rfl
theorem q2715 : (Jvm.Cond.fieldLink "WeirfoldLaneModel" (73 : Nat) "WeirfoldLaneModel" "lineLength" "I") ∈ lw_all := lw_g (lw_at lw_m11 222 rfl) rfl
theorem q2716 : (Jvm.Cond.fieldLink "WeirfoldLaneModel" (76 : Nat) "WeirfoldLaneModel" "input" "[I") ∈ lw_all := lw_g (lw_at lw_m11 223 rfl) rfl
theorem q2717 : (Jvm.Cond.fieldLink "WeirfoldLaneModel" (79 : Nat) "WeirfoldLaneModel" "kinds" "[I") ∈ lw_all := lw_g (lw_at lw_m11 224 rfl) rfl
theorem q2718 : (Jvm.Cond.fieldLink "WeirfoldLaneModel" (82 : Nat) "WeirfoldLaneModel" "numbers" "[I") ∈ lw_all := lw_g (lw_at lw_m11 225 rfl) rfl
theorem q2719 : (Jvm.Cond.fieldLink "WeirfoldLaneModel" (85 : Nat) "WeirfoldLaneModel" "length" "I") ∈ lw_all := lw_g (lw_at lw_m11 226 rfl) rfl
theorem q2720 : (Jvm.Cond.fieldLink "WeirfoldLaneModel" (88 : Nat) "WeirfoldLaneModel" "textLength" "I") ∈ lw_all := lw_g (lw_at lw_m11 227 rfl) rfl
theorem q2721 : (Jvm.Cond.fieldLink "WeirfoldLaneModel" (91 : Nat) "WeirfoldLaneModel" "at" "I") ∈ lw_all := lw_g (lw_at lw_m11 228 rfl) rfl
theorem q2722 : (Jvm.Cond.fieldLink "WeirfoldLaneModel" (94 : Nat) "WeirfoldLaneModel" "commands" "I") ∈ lw_all := lw_g (lw_at lw_m11 229 rfl) rfl
theorem q2723 : (Jvm.Cond.fieldLink "WeirfoldLaneModel" (97 : Nat) "WeirfoldLaneModel" "isWrong" "Z") ∈ lw_all := lw_g (lw_at lw_m11 230 rfl) rfl
theorem q2724 : (Jvm.Cond.laysFinal "WeirfoldLaneModel" "WeirfoldLaneModel" "now" "[I") ∈ lw_all := lw_g (lw_at lw_m11 231 rfl) rfl
theorem q2725 : (Jvm.Cond.soleField "WeirfoldLaneModel" "now") ∈ lw_all := lw_g (lw_at lw_m11 232 rfl) rfl
theorem q2726 : (Jvm.Cond.laysFinal "WeirfoldLaneModel" "WeirfoldLaneModel" "before" "[I") ∈ lw_all := lw_g (lw_at lw_m11 233 rfl) rfl
theorem q2727 : (Jvm.Cond.soleField "WeirfoldLaneModel" "before") ∈ lw_all := lw_g (lw_at lw_m11 234 rfl) rfl
theorem q2728 : (Jvm.Cond.laysFinal "WeirfoldLaneModel" "WeirfoldLaneModel" "saved" "[I") ∈ lw_all := lw_g (lw_at lw_m11 235 rfl) rfl
theorem q2729 : (Jvm.Cond.soleField "WeirfoldLaneModel" "saved") ∈ lw_all := lw_g (lw_at lw_m11 236 rfl) rfl
theorem q2730 : (Jvm.Cond.laysFinal "WeirfoldLaneModel" "WeirfoldLaneModel" "history" "[I") ∈ lw_all := lw_g (lw_at lw_m11 237 rfl) rfl
theorem q2731 : (Jvm.Cond.soleField "WeirfoldLaneModel" "history") ∈ lw_all := lw_g (lw_at lw_m11 238 rfl) rfl
theorem q2732 : (Jvm.Cond.laysFinal "WeirfoldLaneModel" "WeirfoldLaneModel" "reached" "[I") ∈ lw_all := lw_g (lw_at lw_m11 239 rfl) rfl
theorem q2733 : (Jvm.Cond.soleField "WeirfoldLaneModel" "reached") ∈ lw_all := lw_g (lw_at lw_m12 0 rfl) rfl
theorem q2734 : (Jvm.Cond.laysFinal "WeirfoldLaneModel" "WeirfoldLaneModel" "kept" "[J") ∈ lw_all := lw_g (lw_at lw_m12 1 rfl) rfl
theorem q2735 : (Jvm.Cond.soleField "WeirfoldLaneModel" "kept") ∈ lw_all := lw_g (lw_at lw_m12 2 rfl) rfl
theorem q2736 : (Jvm.Cond.laysFinal "WeirfoldLaneModel" "WeirfoldLaneModel" "keptBefore" "[J") ∈ lw_all := lw_g (lw_at lw_m12 3 rfl) rfl
theorem q2737 : (Jvm.Cond.soleField "WeirfoldLaneModel" "keptBefore") ∈ lw_all := lw_g (lw_at lw_m12 4 rfl) rfl
theorem q2738 : (Jvm.Cond.laysFinal "WeirfoldLaneModel" "WeirfoldLaneModel" "keptSaved" "[J") ∈ lw_all := lw_g (lw_at lw_m12 5 rfl) rfl
theorem q2739 : (Jvm.Cond.soleField "WeirfoldLaneModel" "keptSaved") ∈ lw_all := lw_g (lw_at lw_m12 6 rfl) rfl
theorem q2740 : (Jvm.Cond.laysFinal "WeirfoldLaneModel" "WeirfoldLaneModel" "keptHistory" "[J") ∈ lw_all := lw_g (lw_at lw_m12 7 rfl) rfl
theorem q2741 : (Jvm.Cond.soleField "WeirfoldLaneModel" "keptHistory") ∈ lw_all := lw_g (lw_at lw_m12 8 rfl) rfl
theorem q2742 : (Jvm.Cond.laysFinal "WeirfoldLaneModel" "WeirfoldLaneModel" "anew" "[J") ∈ lw_all := lw_g (lw_at lw_m12 9 rfl) rfl
theorem q2743 : (Jvm.Cond.soleField "WeirfoldLaneModel" "anew") ∈ lw_all := lw_g (lw_at lw_m12 10 rfl) rfl
theorem q2744 : (Jvm.Cond.laysFinal "WeirfoldLaneModel" "WeirfoldLaneModel" "behind" "[J") ∈ lw_all := lw_g (lw_at lw_m12 11 rfl) rfl
theorem q2745 : (Jvm.Cond.soleField "WeirfoldLaneModel" "behind") ∈ lw_all := lw_g (lw_at lw_m12 12 rfl) rfl
theorem q2746 : (Jvm.Cond.laysFinal "WeirfoldLaneModel" "WeirfoldLaneModel" "costs" "[J") ∈ lw_all := lw_g (lw_at lw_m12 13 rfl) rfl
theorem q2747 : (Jvm.Cond.soleField "WeirfoldLaneModel" "costs") ∈ lw_all := lw_g (lw_at lw_m12 14 rfl) rfl
theorem q2748 : (Jvm.Cond.lays "WeirfoldLaneModel" "WeirfoldLaneModel" "thrown" "I") ∈ lw_all := lw_g (lw_at lw_m12 15 rfl) rfl
theorem q2749 : (Jvm.Cond.soleField "WeirfoldLaneModel" "thrown") ∈ lw_all := lw_g (lw_at lw_m12 16 rfl) rfl
theorem q2750 : (Jvm.Cond.lays "WeirfoldLaneModel" "WeirfoldLaneModel" "depth" "I") ∈ lw_all := lw_g (lw_at lw_m12 17 rfl) rfl
theorem q2751 : (Jvm.Cond.soleField "WeirfoldLaneModel" "depth") ∈ lw_all := lw_g (lw_at lw_m12 18 rfl) rfl
theorem q2752 : (Jvm.Cond.lays "WeirfoldLaneModel" "WeirfoldLaneModel" "wrongAt" "I") ∈ lw_all := lw_g (lw_at lw_m12 19 rfl) rfl
theorem q2753 : (Jvm.Cond.soleField "WeirfoldLaneModel" "wrongAt") ∈ lw_all := lw_g (lw_at lw_m12 20 rfl) rfl
theorem q2754 : (Jvm.Cond.lays "WeirfoldLaneModel" "WeirfoldLaneModel" "reason" "I") ∈ lw_all := lw_g (lw_at lw_m12 21 rfl) rfl
theorem q2755 : (Jvm.Cond.soleField "WeirfoldLaneModel" "reason") ∈ lw_all := lw_g (lw_at lw_m12 22 rfl) rfl
theorem q2756 : (Jvm.Cond.lays "WeirfoldLaneModel" "WeirfoldLaneModel" "detail" "I") ∈ lw_all := lw_g (lw_at lw_m12 23 rfl) rfl
theorem q2757 : (Jvm.Cond.soleField "WeirfoldLaneModel" "detail") ∈ lw_all := lw_g (lw_at lw_m12 24 rfl) rfl
theorem q2758 : (Jvm.Cond.lays "WeirfoldLaneModel" "WeirfoldLaneModel" "cause" "I") ∈ lw_all := lw_g (lw_at lw_m12 25 rfl) rfl
theorem q2759 : (Jvm.Cond.soleField "WeirfoldLaneModel" "cause") ∈ lw_all := lw_g (lw_at lw_m12 26 rfl) rfl
theorem q2760 : (Jvm.Cond.lays "WeirfoldLaneModel" "WeirfoldLaneModel" "isSaved" "Z") ∈ lw_all := lw_g (lw_at lw_m12 27 rfl) rfl
theorem q2761 : (Jvm.Cond.soleField "WeirfoldLaneModel" "isSaved") ∈ lw_all := lw_g (lw_at lw_m12 28 rfl) rfl
theorem q2762 : (Jvm.Cond.laysFinal "WeirfoldLaneModel" "WeirfoldLaneModel" "line" "[I") ∈ lw_all := lw_g (lw_at lw_m12 29 rfl) rfl
theorem q2763 : (Jvm.Cond.soleField "WeirfoldLaneModel" "line") ∈ lw_all := lw_g (lw_at lw_m12 30 rfl) rfl
theorem q2764 : (Jvm.Cond.lays "WeirfoldLaneModel" "WeirfoldLaneModel" "lineLength" "I") ∈ lw_all := lw_g (lw_at lw_m12 31 rfl) rfl
theorem q2765 : (Jvm.Cond.soleField "WeirfoldLaneModel" "lineLength") ∈ lw_all := lw_g (lw_at lw_m12 32 rfl) rfl
theorem q2766 : (Jvm.Cond.laysFinal "WeirfoldLaneModel" "WeirfoldLaneModel" "input" "[I") ∈ lw_all := lw_g (lw_at lw_m12 33 rfl) rfl
theorem q2767 : (Jvm.Cond.soleField "WeirfoldLaneModel" "input") ∈ lw_all := lw_g (lw_at lw_m12 34 rfl) rfl
theorem q2768 : (Jvm.Cond.laysFinal "WeirfoldLaneModel" "WeirfoldLaneModel" "kinds" "[I") ∈ lw_all := lw_g (lw_at lw_m12 35 rfl) rfl
theorem q2769 : (Jvm.Cond.soleField "WeirfoldLaneModel" "kinds") ∈ lw_all := lw_g (lw_at lw_m12 36 rfl) rfl
theorem q2770 : (Jvm.Cond.laysFinal "WeirfoldLaneModel" "WeirfoldLaneModel" "numbers" "[I") ∈ lw_all := lw_g (lw_at lw_m12 37 rfl) rfl
theorem q2771 : (Jvm.Cond.soleField "WeirfoldLaneModel" "numbers") ∈ lw_all := lw_g (lw_at lw_m12 38 rfl) rfl
theorem q2772 : (Jvm.Cond.lays "WeirfoldLaneModel" "WeirfoldLaneModel" "length" "I") ∈ lw_all := lw_g (lw_at lw_m12 39 rfl) rfl
theorem q2773 : (Jvm.Cond.soleField "WeirfoldLaneModel" "length") ∈ lw_all := lw_g (lw_at lw_m12 40 rfl) rfl
theorem q2774 : (Jvm.Cond.lays "WeirfoldLaneModel" "WeirfoldLaneModel" "textLength" "I") ∈ lw_all := lw_g (lw_at lw_m12 41 rfl) rfl
theorem q2775 : (Jvm.Cond.soleField "WeirfoldLaneModel" "textLength") ∈ lw_all := lw_g (lw_at lw_m12 42 rfl) rfl
theorem q2776 : (Jvm.Cond.lays "WeirfoldLaneModel" "WeirfoldLaneModel" "at" "I") ∈ lw_all := lw_g (lw_at lw_m12 43 rfl) rfl
theorem q2777 : (Jvm.Cond.soleField "WeirfoldLaneModel" "at") ∈ lw_all := lw_g (lw_at lw_m12 44 rfl) rfl
theorem q2778 : (Jvm.Cond.lays "WeirfoldLaneModel" "WeirfoldLaneModel" "commands" "I") ∈ lw_all := lw_g (lw_at lw_m12 45 rfl) rfl
theorem q2779 : (Jvm.Cond.soleField "WeirfoldLaneModel" "commands") ∈ lw_all := lw_g (lw_at lw_m12 46 rfl) rfl
theorem q2780 : (Jvm.Cond.lays "WeirfoldLaneModel" "WeirfoldLaneModel" "isWrong" "Z") ∈ lw_all := lw_g (lw_at lw_m12 47 rfl) rfl
theorem q2781 : (Jvm.Cond.soleField "WeirfoldLaneModel" "isWrong") ∈ lw_all := lw_g (lw_at lw_m12 48 rfl) rfl
theorem q2782 : (Jvm.Cond.superclass "WeirfoldLaneModel" "java/lang/Object") ∈ lw_all := lw_g (lw_at lw_m12 49 rfl) rfl
theorem q2785 : (Jvm.Cond.instanceMethod ({ cls := "WeirfoldLaneModel", name := "thrown", desc := "()I" } : Jvm.MethodName)) ∈ lw_all := lw_g (lw_at lw_m12 52 rfl) rfl
theorem q2786 : (Jvm.Cond.selects "WeirfoldLaneModel" ({ cls := "WeirfoldLaneModel", name := "thrown", desc := "()I" } : Jvm.MethodName) ({ cls := "WeirfoldLaneModel", name := "thrown", desc := "()I" } : Jvm.MethodName)) ∈ lw_all := lw_g (lw_at lw_m12 53 rfl) rfl
theorem q2787 : (Jvm.Cond.code ({ cls := "WeirfoldLaneModel", name := "thrown", desc := "()I" } : Jvm.MethodName) prog_25_method_2_code (1 : Nat) (Option.some Jvm.ClassFile.FieldType.int)) ∈ lw_all := lw_g (lw_at lw_m12 54 rfl) rfl
theorem q2789 : (Jvm.Cond.instanceMethod ({ cls := "WeirfoldLaneModel", name := "addRow", desc := "(CII)I" } : Jvm.MethodName)) ∈ lw_all := lw_g (lw_at lw_m12 56 rfl) rfl
theorem q2790 : (Jvm.Cond.selects "WeirfoldLaneModel" ({ cls := "WeirfoldLaneModel", name := "addRow", desc := "(CII)I" } : Jvm.MethodName) ({ cls := "WeirfoldLaneModel", name := "addRow", desc := "(CII)I" } : Jvm.MethodName)) ∈ lw_all := lw_g (lw_at lw_m12 57 rfl) rfl
theorem q2791 : (Jvm.Cond.code ({ cls := "WeirfoldLaneModel", name := "addRow", desc := "(CII)I" } : Jvm.MethodName) prog_25_method_31_code (5 : Nat) (Option.some Jvm.ClassFile.FieldType.int)) ∈ lw_all := lw_g (lw_at lw_m12 58 rfl) rfl
theorem q2792 : (Jvm.Cond.methodLink "WeirfoldLaneModel" (163 : Nat) ({ cls := "WeirfoldLaneModel", name := "begin", desc := "()V" } : Jvm.MethodName)) ∈ lw_all := lw_g (lw_at lw_m12 59 rfl) rfl
theorem q2793 : (Jvm.Cond.privateMethod ({ cls := "WeirfoldLaneModel", name := "begin", desc := "()V" } : Jvm.MethodName)) ∈ lw_tbl := lw_at lw_m12 60 rfl
theorem q2794 : (Jvm.Cond.instanceMethod ({ cls := "WeirfoldLaneModel", name := "begin", desc := "()V" } : Jvm.MethodName)) ∈ lw_all := lw_g (lw_at lw_m12 61 rfl) rfl
theorem q2795 : (Jvm.Cond.code ({ cls := "WeirfoldLaneModel", name := "begin", desc := "()V" } : Jvm.MethodName) prog_25_method_7_code (1 : Nat) (Option.none : Option Jvm.ClassFile.FieldType)) ∈ lw_all := lw_g (lw_at lw_m12 62 rfl) rfl
theorem q2796 : (Jvm.Cond.methodLink "WeirfoldLaneModel" (100 : Nat) ({ cls := "WeirfoldLaneModel", name := "copy", desc := "([II[II)V" } : Jvm.MethodName)) ∈ lw_all := lw_g (lw_at lw_m12 63 rfl) rfl
theorem q2797 : (Jvm.Cond.static ({ cls := "WeirfoldLaneModel", name := "copy", desc := "([II[II)V" } : Jvm.MethodName)) ∈ lw_all := lw_g (lw_at lw_m12 64 rfl) rfl
theorem q2798 : (Jvm.Cond.code ({ cls := "WeirfoldLaneModel", name := "copy", desc := "([II[II)V" } : Jvm.MethodName) prog_25_method_4_code (5 : Nat) (Option.none : Option Jvm.ClassFile.FieldType)) ∈ lw_all := lw_g (lw_at lw_m12 65 rfl) rfl
theorem q2799 : (Jvm.Cond.methodLink "WeirfoldLaneModel" (104 : Nat) ({ cls := "WeirfoldLaneModel", name := "copyKept", desc := "([JI[JI)V" } : Jvm.MethodName)) ∈ lw_all := lw_g (lw_at lw_m12 66 rfl) rfl
theorem q2800 : (Jvm.Cond.static ({ cls := "WeirfoldLaneModel", name := "copyKept", desc := "([JI[JI)V" } : Jvm.MethodName)) ∈ lw_all := lw_g (lw_at lw_m12 67 rfl) rfl
theorem q2801 : (Jvm.Cond.code ({ cls := "WeirfoldLaneModel", name := "copyKept", desc := "([JI[JI)V" } : Jvm.MethodName) prog_25_method_5_code (5 : Nat) (Option.none : Option Jvm.ClassFile.FieldType)) ∈ lw_all := lw_g (lw_at lw_m12 68 rfl) rfl
theorem q2802 : (Jvm.Cond.methodLink "WeirfoldLaneModel" (166 : Nat) ({ cls := "WeirfoldLaneModel", name := "cannotRow", desc := "(III)I" } : Jvm.MethodName)) ∈ lw_all := lw_g (lw_at lw_m12 69 rfl) rfl
theorem q2803 : (Jvm.Cond.privateMethod ({ cls := "WeirfoldLaneModel", name := "cannotRow", desc := "(III)I" } : Jvm.MethodName)) ∈ lw_tbl := lw_at lw_m12 70 rfl
theorem q2804 : (Jvm.Cond.instanceMethod ({ cls := "WeirfoldLaneModel", name := "cannotRow", desc := "(III)I" } : Jvm.MethodName)) ∈ lw_all := lw_g (lw_at lw_m12 71 rfl) rfl
theorem q2805 : (Jvm.Cond.code ({ cls := "WeirfoldLaneModel", name := "cannotRow", desc := "(III)I" } : Jvm.MethodName) prog_25_method_29_code (4 : Nat) (Option.some Jvm.ClassFile.FieldType.int)) ∈ lw_all := lw_g (lw_at lw_m12 72 rfl) rfl
theorem q2806 : (Jvm.Cond.methodLink "WeirfoldLaneModel" (153 : Nat) ({ cls := "WeirfoldLaneModel", name := "isGroup", desc := "(I)Z" } : Jvm.MethodName)) ∈ lw_all := lw_g (lw_at lw_m12 73 rfl) rfl
theorem q2807 : (Jvm.Cond.static ({ cls := "WeirfoldLaneModel", name := "isGroup", desc := "(I)Z" } : Jvm.MethodName)) ∈ lw_all := lw_g (lw_at lw_m12 74 rfl) rfl
theorem q2808 : (Jvm.Cond.code ({ cls := "WeirfoldLaneModel", name := "isGroup", desc := "(I)Z" } : Jvm.MethodName) prog_25_method_14_code (1 : Nat) (Option.some Jvm.ClassFile.FieldType.boolean)) ∈ lw_all := lw_g (lw_at lw_m12 75 rfl) rfl
theorem q2809 : (Jvm.Cond.methodLink "WeirfoldLaneModel" (112 : Nat) ({ cls := "WeirfoldLaneModel", name := "in", desc := "(III)Z" } : Jvm.MethodName)) ∈ lw_all := lw_g (lw_at lw_m12 76 rfl) rfl
theorem q2810 : (Jvm.Cond.static ({ cls := "WeirfoldLaneModel", name := "in", desc := "(III)Z" } : Jvm.MethodName)) ∈ lw_all := lw_g (lw_at lw_m12 77 rfl) rfl
theorem q2811 : (Jvm.Cond.code ({ cls := "WeirfoldLaneModel", name := "in", desc := "(III)Z" } : Jvm.MethodName) prog_25_method_3_code (3 : Nat) (Option.some Jvm.ClassFile.FieldType.boolean)) ∈ lw_all := lw_g (lw_at lw_m12 78 rfl) rfl
theorem q2812 : (Jvm.Cond.methodLink "WeirfoldLaneModel" (156 : Nat) ({ cls := "WeirfoldLaneModel", name := "deny", desc := "(III)I" } : Jvm.MethodName)) ∈ lw_all := lw_g (lw_at lw_m12 79 rfl) rfl
theorem q2813 : (Jvm.Cond.privateMethod ({ cls := "WeirfoldLaneModel", name := "deny", desc := "(III)I" } : Jvm.MethodName)) ∈ lw_tbl := lw_at lw_m12 80 rfl
theorem q2814 : (Jvm.Cond.instanceMethod ({ cls := "WeirfoldLaneModel", name := "deny", desc := "(III)I" } : Jvm.MethodName)) ∈ lw_all := lw_g (lw_at lw_m12 81 rfl) rfl
theorem q2815 : (Jvm.Cond.code ({ cls := "WeirfoldLaneModel", name := "deny", desc := "(III)I" } : Jvm.MethodName) prog_25_method_11_code (4 : Nat) (Option.some Jvm.ClassFile.FieldType.int)) ∈ lw_all := lw_g (lw_at lw_m12 82 rfl) rfl
theorem q2816 : (Jvm.Cond.methodLink "WeirfoldLaneModel" (169 : Nat) ({ cls := "WeirfoldLaneModel", name := "fail", desc := "(I)I" } : Jvm.MethodName)) ∈ lw_all := lw_g (lw_at lw_m12 83 rfl) rfl
theorem q2817 : (Jvm.Cond.privateMethod ({ cls := "WeirfoldLaneModel", name := "fail", desc := "(I)I" } : Jvm.MethodName)) ∈ lw_tbl := lw_at lw_m12 84 rfl
theorem q2818 : (Jvm.Cond.instanceMethod ({ cls := "WeirfoldLaneModel", name := "fail", desc := "(I)I" } : Jvm.MethodName)) ∈ lw_all := lw_g (lw_at lw_m12 85 rfl) rfl
theorem q2819 : (Jvm.Cond.code ({ cls := "WeirfoldLaneModel", name := "fail", desc := "(I)I" } : Jvm.MethodName) prog_25_method_6_code (2 : Nat) (Option.some Jvm.ClassFile.FieldType.int)) ∈ lw_all := lw_g (lw_at lw_m12 86 rfl) rfl
theorem q2820 : (Jvm.Cond.methodLink "WeirfoldLaneModel" (173 : Nat) ({ cls := "WeirfoldLaneModel", name := "newRow", desc := "(III)I" } : Jvm.MethodName)) ∈ lw_all := lw_g (lw_at lw_m12 87 rfl) rfl
theorem q2821 : (Jvm.Cond.privateMethod ({ cls := "WeirfoldLaneModel", name := "newRow", desc := "(III)I" } : Jvm.MethodName)) ∈ lw_tbl := lw_at lw_m12 88 rfl
theorem q2822 : (Jvm.Cond.instanceMethod ({ cls := "WeirfoldLaneModel", name := "newRow", desc := "(III)I" } : Jvm.MethodName)) ∈ lw_all := lw_g (lw_at lw_m12 89 rfl) rfl
theorem q2823 : (Jvm.Cond.code ({ cls := "WeirfoldLaneModel", name := "newRow", desc := "(III)I" } : Jvm.MethodName) prog_25_method_30_code (6 : Nat) (Option.some Jvm.ClassFile.FieldType.int)) ∈ lw_all := lw_g (lw_at lw_m12 90 rfl) rfl
theorem q2824 : (Jvm.Cond.methodLink "WeirfoldLaneModel" (159 : Nat) ({ cls := "WeirfoldLaneModel", name := "touched", desc := "(I)V" } : Jvm.MethodName)) ∈ lw_all := lw_g (lw_at lw_m12 91 rfl) rfl
theorem q2825 : (Jvm.Cond.privateMethod ({ cls := "WeirfoldLaneModel", name := "touched", desc := "(I)V" } : Jvm.MethodName)) ∈ lw_tbl := lw_at lw_m12 92 rfl
theorem q2826 : (Jvm.Cond.instanceMethod ({ cls := "WeirfoldLaneModel", name := "touched", desc := "(I)V" } : Jvm.MethodName)) ∈ lw_all := lw_g (lw_at lw_m12 93 rfl) rfl
theorem q2827 : (Jvm.Cond.code ({ cls := "WeirfoldLaneModel", name := "touched", desc := "(I)V" } : Jvm.MethodName) prog_25_method_28_code (4 : Nat) (Option.none : Option Jvm.ClassFile.FieldType)) ∈ lw_all := lw_g (lw_at lw_m12 94 rfl) rfl
theorem q2828 : (Jvm.Cond.methodLink "WeirfoldLaneModel" (138 : Nat) ({ cls := "WeirfoldLaneModel", name := "isStaleNow", desc := "(II)Z" } : Jvm.MethodName)) ∈ lw_all := lw_g (lw_at lw_m12 95 rfl) rfl
theorem q2829 : (Jvm.Cond.privateMethod ({ cls := "WeirfoldLaneModel", name := "isStaleNow", desc := "(II)Z" } : Jvm.MethodName)) ∈ lw_tbl := lw_at lw_m12 96 rfl
theorem q2830 : (Jvm.Cond.instanceMethod ({ cls := "WeirfoldLaneModel", name := "isStaleNow", desc := "(II)Z" } : Jvm.MethodName)) ∈ lw_all := lw_g (lw_at lw_m12 97 rfl) rfl
theorem q2831 : (Jvm.Cond.code ({ cls := "WeirfoldLaneModel", name := "isStaleNow", desc := "(II)Z" } : Jvm.MethodName) prog_25_method_19_code (3 : Nat) (Option.some Jvm.ClassFile.FieldType.boolean)) ∈ lw_all := lw_g (lw_at lw_m12 98 rfl) rfl
theorem q2832 : (Jvm.Cond.methodLink "WeirfoldLaneModel" (142 : Nat) ({ cls := "WeirfoldLaneModel", name := "compute", desc := "(II)V" } : Jvm.MethodName)) ∈ lw_all := lw_g (lw_at lw_m12 99 rfl) rfl
theorem q2833 : (Jvm.Cond.privateMethod ({ cls := "WeirfoldLaneModel", name := "compute", desc := "(II)V" } : Jvm.MethodName)) ∈ lw_tbl := lw_at lw_m12 100 rfl
theorem q2834 : (Jvm.Cond.instanceMethod ({ cls := "WeirfoldLaneModel", name := "compute", desc := "(II)V" } : Jvm.MethodName)) ∈ lw_all := lw_g (lw_at lw_m12 101 rfl) rfl
theorem q2835 : (Jvm.Cond.code ({ cls := "WeirfoldLaneModel", name := "compute", desc := "(II)V" } : Jvm.MethodName) prog_25_method_25_code (4 : Nat) (Option.none : Option Jvm.ClassFile.FieldType)) ∈ lw_all := lw_g (lw_at lw_m12 102 rfl) rfl
theorem q2836 : (Jvm.Cond.methodLink "WeirfoldLaneModel" (131 : Nat) ({ cls := "WeirfoldLaneModel", name := "at", desc := "(III)I" } : Jvm.MethodName)) ∈ lw_all := lw_g (lw_at lw_m12 103 rfl) rfl
theorem q2837 : (Jvm.Cond.static ({ cls := "WeirfoldLaneModel", name := "at", desc := "(III)I" } : Jvm.MethodName)) ∈ lw_all := lw_g (lw_at lw_m12 104 rfl) rfl
theorem q2838 : (Jvm.Cond.code ({ cls := "WeirfoldLaneModel", name := "at", desc := "(III)I" } : Jvm.MethodName) prog_25_method_21_code (3 : Nat) (Option.some Jvm.ClassFile.FieldType.int)) ∈ lw_all := lw_g (lw_at lw_m12 105 rfl) rfl
theorem q2839 : (Jvm.Cond.methodLink "WeirfoldLaneModel" (134 : Nat) ({ cls := "WeirfoldLaneModel", name := "made", desc := "(III[J)J" } : Jvm.MethodName)) ∈ lw_all := lw_g (lw_at lw_m12 106 rfl) rfl
theorem q2840 : (Jvm.Cond.privateMethod ({ cls := "WeirfoldLaneModel", name := "made", desc := "(III[J)J" } : Jvm.MethodName)) ∈ lw_tbl := lw_at lw_m12 107 rfl
theorem q2841 : (Jvm.Cond.instanceMethod ({ cls := "WeirfoldLaneModel", name := "made", desc := "(III[J)J" } : Jvm.MethodName)) ∈ lw_all := lw_g (lw_at lw_m12 108 rfl) rfl
theorem q2842 : (Jvm.Cond.code ({ cls := "WeirfoldLaneModel", name := "made", desc := "(III[J)J" } : Jvm.MethodName) prog_25_method_24_code (10 : Nat) (Option.some Jvm.ClassFile.FieldType.long)) ∈ lw_all := lw_g (lw_at lw_m12 109 rfl) rfl
theorem q2843 : (Jvm.Cond.methodLink "WeirfoldLaneModel" (123 : Nat) ({ cls := "WeirfoldLaneModel", name := "isBase", desc := "(I)Z" } : Jvm.MethodName)) ∈ lw_all := lw_g (lw_at lw_m12 110 rfl) rfl
theorem q2844 : (Jvm.Cond.privateMethod ({ cls := "WeirfoldLaneModel", name := "isBase", desc := "(I)Z" } : Jvm.MethodName)) ∈ lw_tbl := lw_at lw_m12 111 rfl
theorem q2845 : (Jvm.Cond.instanceMethod ({ cls := "WeirfoldLaneModel", name := "isBase", desc := "(I)Z" } : Jvm.MethodName)) ∈ lw_all := lw_g (lw_at lw_m12 112 rfl) rfl
theorem q2846 : (Jvm.Cond.code ({ cls := "WeirfoldLaneModel", name := "isBase", desc := "(I)Z" } : Jvm.MethodName) prog_25_method_18_code (2 : Nat) (Option.some Jvm.ClassFile.FieldType.boolean)) ∈ lw_all := lw_g (lw_at lw_m12 113 rfl) rfl
theorem q2847 : (Jvm.Cond.methodLink "WeirfoldLaneModel" (116 : Nat) ({ cls := "WeirfoldLaneModel", name := "s", desc := "(II)I" } : Jvm.MethodName)) ∈ lw_all := lw_g (lw_at lw_m12 114 rfl) rfl
theorem q2848 : (Jvm.Cond.privateMethod ({ cls := "WeirfoldLaneModel", name := "s", desc := "(II)I" } : Jvm.MethodName)) ∈ lw_tbl := lw_at lw_m12 115 rfl
theorem q2849 : (Jvm.Cond.instanceMethod ({ cls := "WeirfoldLaneModel", name := "s", desc := "(II)I" } : Jvm.MethodName)) ∈ lw_all := lw_g (lw_at lw_m12 116 rfl) rfl
theorem q2850 : (Jvm.Cond.code ({ cls := "WeirfoldLaneModel", name := "s", desc := "(II)I" } : Jvm.MethodName) prog_25_method_17_code (3 : Nat) (Option.some Jvm.ClassFile.FieldType.int)) ∈ lw_all := lw_g (lw_at lw_m12 117 rfl) rfl
theorem q2851 : (Jvm.Cond.methodLink "WeirfoldLaneModel" (127 : Nat) ({ cls := "WeirfoldLaneModel", name := "ofRows", desc := "(III)J" } : Jvm.MethodName)) ∈ lw_all := lw_g (lw_at lw_m12 118 rfl) rfl
theorem q2852 : (Jvm.Cond.privateMethod ({ cls := "WeirfoldLaneModel", name := "ofRows", desc := "(III)J" } : Jvm.MethodName)) ∈ lw_tbl := lw_at lw_m12 119 rfl
theorem q2853 : (Jvm.Cond.instanceMethod ({ cls := "WeirfoldLaneModel", name := "ofRows", desc := "(III)J" } : Jvm.MethodName)) ∈ lw_all := lw_g (lw_at lw_m12 120 rfl) rfl
theorem q2854 : (Jvm.Cond.code ({ cls := "WeirfoldLaneModel", name := "ofRows", desc := "(III)J" } : Jvm.MethodName) prog_25_method_23_code (9 : Nat) (Option.some Jvm.ClassFile.FieldType.long)) ∈ lw_all := lw_g (lw_at lw_m12 121 rfl) rfl
theorem q2855 : (Jvm.Cond.methodLink "WeirfoldLaneModel" (119 : Nat) ({ cls := "WeirfoldLaneModel", name := "counts", desc := "(IIII)Z" } : Jvm.MethodName)) ∈ lw_all := lw_g (lw_at lw_m12 122 rfl) rfl
theorem q2856 : (Jvm.Cond.privateMethod ({ cls := "WeirfoldLaneModel", name := "counts", desc := "(IIII)Z" } : Jvm.MethodName)) ∈ lw_tbl := lw_at lw_m12 123 rfl
theorem q2857 : (Jvm.Cond.instanceMethod ({ cls := "WeirfoldLaneModel", name := "counts", desc := "(IIII)Z" } : Jvm.MethodName)) ∈ lw_all := lw_g (lw_at lw_m12 124 rfl) rfl
theorem q2858 : (Jvm.Cond.code ({ cls := "WeirfoldLaneModel", name := "counts", desc := "(IIII)Z" } : Jvm.MethodName) prog_25_method_22_code (5 : Nat) (Option.some Jvm.ClassFile.FieldType.boolean)) ∈ lw_all := lw_g (lw_at lw_m12 125 rfl) rfl
theorem q2859 : (Jvm.Cond.methodLink "WeirfoldLaneModel" (108 : Nat) ({ cls := "WeirfoldLaneModel", name := "r", desc := "(II)I" } : Jvm.MethodName)) ∈ lw_all := lw_g (lw_at lw_m12 126 rfl) rfl
theorem q2860 : (Jvm.Cond.privateMethod ({ cls := "WeirfoldLaneModel", name := "r", desc := "(II)I" } : Jvm.MethodName)) ∈ lw_tbl := lw_at lw_m12 127 rfl
theorem q2861 : (Jvm.Cond.instanceMethod ({ cls := "WeirfoldLaneModel", name := "r", desc := "(II)I" } : Jvm.MethodName)) ∈ lw_all := lw_g (lw_at lw_m12 128 rfl) rfl
theorem q2862 : (Jvm.Cond.code ({ cls := "WeirfoldLaneModel", name := "r", desc := "(II)I" } : Jvm.MethodName) prog_25_method_12_code (3 : Nat) (Option.some Jvm.ClassFile.FieldType.int)) ∈ lw_all := lw_g (lw_at lw_m12 129 rfl) rfl
theorem q2863 : (Jvm.Cond.methodLink "WeirfoldLaneModel" (146 : Nat) ({ cls := "WeirfoldLaneModel", name := "mark", desc := "(IIZ)V" } : Jvm.MethodName)) ∈ lw_all := lw_g (lw_at lw_m12 130 rfl) rfl
theorem q2864 : (Jvm.Cond.privateMethod ({ cls := "WeirfoldLaneModel", name := "mark", desc := "(IIZ)V" } : Jvm.MethodName)) ∈ lw_tbl := lw_at lw_m12 131 rfl
theorem q2865 : (Jvm.Cond.instanceMethod ({ cls := "WeirfoldLaneModel", name := "mark", desc := "(IIZ)V" } : Jvm.MethodName)) ∈ lw_all := lw_g (lw_at lw_m12 132 rfl) rfl
theorem q2866 : (Jvm.Cond.code ({ cls := "WeirfoldLaneModel", name := "mark", desc := "(IIZ)V" } : Jvm.MethodName) prog_25_method_20_code (4 : Nat) (Option.none : Option Jvm.ClassFile.FieldType)) ∈ lw_all := lw_g (lw_at lw_m12 133 rfl) rfl
theorem q2867 : (Jvm.Cond.methodLink "WeirfoldLaneModel" (150 : Nat) ({ cls := "WeirfoldLaneModel", name := "isFromStale", desc := "(II)Z" } : Jvm.MethodName)) ∈ lw_all := lw_g (lw_at lw_m12 134 rfl) rfl
theorem q2868 : (Jvm.Cond.privateMethod ({ cls := "WeirfoldLaneModel", name := "isFromStale", desc := "(II)Z" } : Jvm.MethodName)) ∈ lw_tbl := lw_at lw_m12 135 rfl
theorem q2869 : (Jvm.Cond.instanceMethod ({ cls := "WeirfoldLaneModel", name := "isFromStale", desc := "(II)Z" } : Jvm.MethodName)) ∈ lw_all := lw_g (lw_at lw_m12 136 rfl) rfl
theorem q2870 : (Jvm.Cond.code ({ cls := "WeirfoldLaneModel", name := "isFromStale", desc := "(II)Z" } : Jvm.MethodName) prog_25_method_26_code (5 : Nat) (Option.some Jvm.ClassFile.FieldType.boolean)) ∈ lw_all := lw_g (lw_at lw_m12 137 rfl) rfl
theorem q2871 : (Jvm.Cond.methodLink "WeirfoldLaneModel" (176 : Nat) ({ cls := "WeirfoldLaneModel", name := "commit", desc := "(I)I" } : Jvm.MethodName)) ∈ lw_all := lw_g (lw_at lw_m12 138 rfl) rfl
theorem q2872 : (Jvm.Cond.privateMethod ({ cls := "WeirfoldLaneModel", name := "commit", desc := "(I)I" } : Jvm.MethodName)) ∈ lw_tbl := lw_at lw_m12 139 rfl
theorem q2873 : (Jvm.Cond.instanceMethod ({ cls := "WeirfoldLaneModel", name := "commit", desc := "(I)I" } : Jvm.MethodName)) ∈ lw_all := lw_g (lw_at lw_m12 140 rfl) rfl
theorem q2874 : (Jvm.Cond.code ({ cls := "WeirfoldLaneModel", name := "commit", desc := "(I)I" } : Jvm.MethodName) prog_25_method_8_code (3 : Nat) (Option.some Jvm.ClassFile.FieldType.int)) ∈ lw_all := lw_g (lw_at lw_m12 141 rfl) rfl
theorem q2876 : (Jvm.Cond.instanceMethod ({ cls := "WeirfoldLaneModel", name := "removeRow", desc := "(I)I" } : Jvm.MethodName)) ∈ lw_all := lw_g (lw_at lw_m12 143 rfl) rfl
theorem q2877 : (Jvm.Cond.selects "WeirfoldLaneModel" ({ cls := "WeirfoldLaneModel", name := "removeRow", desc := "(I)I" } : Jvm.MethodName) ({ cls := "WeirfoldLaneModel", name := "removeRow", desc := "(I)I" } : Jvm.MethodName)) ∈ lw_all := lw_g (lw_at lw_m12 144 rfl) rfl
theorem q2878 : (Jvm.Cond.code ({ cls := "WeirfoldLaneModel", name := "removeRow", desc := "(I)I" } : Jvm.MethodName) prog_25_method_33_code (2 : Nat) (Option.some Jvm.ClassFile.FieldType.int)) ∈ lw_all := lw_g (lw_at lw_m12 145 rfl) rfl
theorem q2879 : (Jvm.Cond.methodLink "WeirfoldLaneModel" (179 : Nat) ({ cls := "WeirfoldLaneModel", name := "row", desc := "(I)I" } : Jvm.MethodName)) ∈ lw_all := lw_g (lw_at lw_m12 146 rfl) rfl
theorem q2880 : (Jvm.Cond.privateMethod ({ cls := "WeirfoldLaneModel", name := "row", desc := "(I)I" } : Jvm.MethodName)) ∈ lw_tbl := lw_at lw_m12 147 rfl
theorem q2881 : (Jvm.Cond.instanceMethod ({ cls := "WeirfoldLaneModel", name := "row", desc := "(I)I" } : Jvm.MethodName)) ∈ lw_all := lw_g (lw_at lw_m12 148 rfl) rfl
theorem q2882 : (Jvm.Cond.code ({ cls := "WeirfoldLaneModel", name := "row", desc := "(I)I" } : Jvm.MethodName) prog_25_method_13_code (3 : Nat) (Option.some Jvm.ClassFile.FieldType.int)) ∈ lw_all := lw_g (lw_at lw_m12 149 rfl) rfl
theorem q2883 : (Jvm.Cond.methodLink "WeirfoldLaneModel" (182 : Nat) ({ cls := "WeirfoldLaneModel", name := "goneRow", desc := "(I)I" } : Jvm.MethodName)) ∈ lw_all := lw_g (lw_at lw_m12 150 rfl) rfl
theorem q2884 : (Jvm.Cond.privateMethod ({ cls := "WeirfoldLaneModel", name := "goneRow", desc := "(I)I" } : Jvm.MethodName)) ∈ lw_tbl := lw_at lw_m12 151 rfl
theorem q2885 : (Jvm.Cond.instanceMethod ({ cls := "WeirfoldLaneModel", name := "goneRow", desc := "(I)I" } : Jvm.MethodName)) ∈ lw_all := lw_g (lw_at lw_m12 152 rfl) rfl
theorem q2886 : (Jvm.Cond.code ({ cls := "WeirfoldLaneModel", name := "goneRow", desc := "(I)I" } : Jvm.MethodName) prog_25_method_32_code (6 : Nat) (Option.some Jvm.ClassFile.FieldType.int)) ∈ lw_all := lw_g (lw_at lw_m12 153 rfl) rfl
theorem q2888 : (Jvm.Cond.instanceMethod ({ cls := "WeirfoldLaneModel", name := "beginDay", desc := "()I" } : Jvm.MethodName)) ∈ lw_all := lw_g (lw_at lw_m12 155 rfl) rfl
theorem q2889 : (Jvm.Cond.selects "WeirfoldLaneModel" ({ cls := "WeirfoldLaneModel", name := "beginDay", desc := "()I" } : Jvm.MethodName) ({ cls := "WeirfoldLaneModel", name := "beginDay", desc := "()I" } : Jvm.MethodName)) ∈ lw_all := lw_g (lw_at lw_m12 156 rfl) rfl
theorem q2890 : (Jvm.Cond.code ({ cls := "WeirfoldLaneModel", name := "beginDay", desc := "()I" } : Jvm.MethodName) prog_25_method_37_code (2 : Nat) (Option.some Jvm.ClassFile.FieldType.int)) ∈ lw_all := lw_g (lw_at lw_m12 157 rfl) rfl
theorem q2891 : (Jvm.Cond.methodLink "WeirfoldLaneModel" (188 : Nat) ({ cls := "WeirfoldLaneModel", name := "cannotBegin", desc := "()I" } : Jvm.MethodName)) ∈ lw_all := lw_g (lw_at lw_m12 158 rfl) rfl
theorem q2892 : (Jvm.Cond.privateMethod ({ cls := "WeirfoldLaneModel", name := "cannotBegin", desc := "()I" } : Jvm.MethodName)) ∈ lw_tbl := lw_at lw_m12 159 rfl
theorem q2893 : (Jvm.Cond.instanceMethod ({ cls := "WeirfoldLaneModel", name := "cannotBegin", desc := "()I" } : Jvm.MethodName)) ∈ lw_all := lw_g (lw_at lw_m12 160 rfl) rfl
theorem q2894 : (Jvm.Cond.code ({ cls := "WeirfoldLaneModel", name := "cannotBegin", desc := "()I" } : Jvm.MethodName) prog_25_method_34_code (1 : Nat) (Option.some Jvm.ClassFile.FieldType.int)) ∈ lw_all := lw_g (lw_at lw_m12 161 rfl) rfl
theorem q2895 : (Jvm.Cond.methodLink "WeirfoldLaneModel" (192 : Nat) ({ cls := "WeirfoldLaneModel", name := "begins", desc := "()I" } : Jvm.MethodName)) ∈ lw_all := lw_g (lw_at lw_m12 162 rfl) rfl
theorem q2896 : (Jvm.Cond.privateMethod ({ cls := "WeirfoldLaneModel", name := "begins", desc := "()I" } : Jvm.MethodName)) ∈ lw_tbl := lw_at lw_m12 163 rfl
theorem q2897 : (Jvm.Cond.instanceMethod ({ cls := "WeirfoldLaneModel", name := "begins", desc := "()I" } : Jvm.MethodName)) ∈ lw_all := lw_g (lw_at lw_m12 164 rfl) rfl
theorem q2898 : (Jvm.Cond.code ({ cls := "WeirfoldLaneModel", name := "begins", desc := "()I" } : Jvm.MethodName) prog_25_method_36_code (3 : Nat) (Option.some Jvm.ClassFile.FieldType.int)) ∈ lw_all := lw_g (lw_at lw_m12 165 rfl) rfl
theorem q2899 : (Jvm.Cond.methodLink "WeirfoldLaneModel" (185 : Nat) ({ cls := "WeirfoldLaneModel", name := "judged", desc := "(II)I" } : Jvm.MethodName)) ∈ lw_all := lw_g (lw_at lw_m12 166 rfl) rfl
theorem q2900 : (Jvm.Cond.privateMethod ({ cls := "WeirfoldLaneModel", name := "judged", desc := "(II)I" } : Jvm.MethodName)) ∈ lw_tbl := lw_at lw_m12 167 rfl
theorem q2901 : (Jvm.Cond.instanceMethod ({ cls := "WeirfoldLaneModel", name := "judged", desc := "(II)I" } : Jvm.MethodName)) ∈ lw_all := lw_g (lw_at lw_m12 168 rfl) rfl
theorem q2902 : (Jvm.Cond.code ({ cls := "WeirfoldLaneModel", name := "judged", desc := "(II)I" } : Jvm.MethodName) prog_25_method_35_code (3 : Nat) (Option.some Jvm.ClassFile.FieldType.int)) ∈ lw_all := lw_g (lw_at lw_m12 169 rfl) rfl
theorem q2904 : (Jvm.Cond.instanceMethod ({ cls := "WeirfoldLaneModel", name := "addBase", desc := "(CI)I" } : Jvm.MethodName)) ∈ lw_all := lw_g (lw_at lw_m12 171 rfl) rfl
theorem q2905 : (Jvm.Cond.selects "WeirfoldLaneModel" ({ cls := "WeirfoldLaneModel", name := "addBase", desc := "(CI)I" } : Jvm.MethodName) ({ cls := "WeirfoldLaneModel", name := "addBase", desc := "(CI)I" } : Jvm.MethodName)) ∈ lw_all := lw_g (lw_at lw_m12 172 rfl) rfl
theorem q2906 : (Jvm.Cond.code ({ cls := "WeirfoldLaneModel", name := "addBase", desc := "(CI)I" } : Jvm.MethodName) prog_25_method_41_code (4 : Nat) (Option.some Jvm.ClassFile.FieldType.int)) ∈ lw_all := lw_g (lw_at lw_m12 173 rfl) rfl
theorem q2907 : (Jvm.Cond.methodLink "WeirfoldLaneModel" (198 : Nat) ({ cls := "WeirfoldLaneModel", name := "cannotBase", desc := "(II)I" } : Jvm.MethodName)) ∈ lw_all := lw_g (lw_at lw_m12 174 rfl) rfl
theorem q2908 : (Jvm.Cond.privateMethod ({ cls := "WeirfoldLaneModel", name := "cannotBase", desc := "(II)I" } : Jvm.MethodName)) ∈ lw_tbl := lw_at lw_m12 175 rfl
theorem q2909 : (Jvm.Cond.instanceMethod ({ cls := "WeirfoldLaneModel", name := "cannotBase", desc := "(II)I" } : Jvm.MethodName)) ∈ lw_all := lw_g (lw_at lw_m12 176 rfl) rfl
theorem q2910 : (Jvm.Cond.code ({ cls := "WeirfoldLaneModel", name := "cannotBase", desc := "(II)I" } : Jvm.MethodName) prog_25_method_40_code (4 : Nat) (Option.some Jvm.ClassFile.FieldType.int)) ∈ lw_all := lw_g (lw_at lw_m12 177 rfl) rfl
theorem q2911 : (Jvm.Cond.methodLink "WeirfoldLaneModel" (195 : Nat) ({ cls := "WeirfoldLaneModel", name := "cannotStep", desc := "(I)I" } : Jvm.MethodName)) ∈ lw_all := lw_g (lw_at lw_m12 178 rfl) rfl
theorem q2912 : (Jvm.Cond.privateMethod ({ cls := "WeirfoldLaneModel", name := "cannotStep", desc := "(I)I" } : Jvm.MethodName)) ∈ lw_tbl := lw_at lw_m12 179 rfl
theorem q2913 : (Jvm.Cond.instanceMethod ({ cls := "WeirfoldLaneModel", name := "cannotStep", desc := "(I)I" } : Jvm.MethodName)) ∈ lw_all := lw_g (lw_at lw_m12 180 rfl) rfl
theorem q2914 : (Jvm.Cond.code ({ cls := "WeirfoldLaneModel", name := "cannotStep", desc := "(I)I" } : Jvm.MethodName) prog_25_method_38_code (2 : Nat) (Option.some Jvm.ClassFile.FieldType.int)) ∈ lw_all := lw_g (lw_at lw_m12 181 rfl) rfl
theorem q2915 : (Jvm.Cond.methodLink "WeirfoldLaneModel" (201 : Nat) ({ cls := "WeirfoldLaneModel", name := "newStep", desc := "(IIII)I" } : Jvm.MethodName)) ∈ lw_all := lw_g (lw_at lw_m12 182 rfl) rfl
theorem q2916 : (Jvm.Cond.privateMethod ({ cls := "WeirfoldLaneModel", name := "newStep", desc := "(IIII)I" } : Jvm.MethodName)) ∈ lw_tbl := lw_at lw_m12 183 rfl
theorem q2917 : (Jvm.Cond.instanceMethod ({ cls := "WeirfoldLaneModel", name := "newStep", desc := "(IIII)I" } : Jvm.MethodName)) ∈ lw_all := lw_g (lw_at lw_m12 184 rfl) rfl
theorem q2918 : (Jvm.Cond.code ({ cls := "WeirfoldLaneModel", name := "newStep", desc := "(IIII)I" } : Jvm.MethodName) prog_25_method_39_code (9 : Nat) (Option.some Jvm.ClassFile.FieldType.int)) ∈ lw_all := lw_g (lw_at lw_m12 185 rfl) rfl
theorem q2920 : (Jvm.Cond.instanceMethod ({ cls := "WeirfoldLaneModel", name := "addPair", desc := "(CII)I" } : Jvm.MethodName)) ∈ lw_all := lw_g (lw_at lw_m12 187 rfl) rfl
theorem q2921 : (Jvm.Cond.selects "WeirfoldLaneModel" ({ cls := "WeirfoldLaneModel", name := "addPair", desc := "(CII)I" } : Jvm.MethodName) ({ cls := "WeirfoldLaneModel", name := "addPair", desc := "(CII)I" } : Jvm.MethodName)) ∈ lw_all := lw_g (lw_at lw_m12 188 rfl) rfl
theorem q2922 : (Jvm.Cond.code ({ cls := "WeirfoldLaneModel", name := "addPair", desc := "(CII)I" } : Jvm.MethodName) prog_25_method_43_code (5 : Nat) (Option.some Jvm.ClassFile.FieldType.int)) ∈ lw_all := lw_g (lw_at lw_m12 189 rfl) rfl
theorem q2923 : (Jvm.Cond.methodLink "WeirfoldLaneModel" (208 : Nat) ({ cls := "WeirfoldLaneModel", name := "cannotPair", desc := "(III)I" } : Jvm.MethodName)) ∈ lw_all := lw_g (lw_at lw_m12 190 rfl) rfl
theorem q2924 : (Jvm.Cond.privateMethod ({ cls := "WeirfoldLaneModel", name := "cannotPair", desc := "(III)I" } : Jvm.MethodName)) ∈ lw_tbl := lw_at lw_m12 191 rfl
theorem q2925 : (Jvm.Cond.instanceMethod ({ cls := "WeirfoldLaneModel", name := "cannotPair", desc := "(III)I" } : Jvm.MethodName)) ∈ lw_all := lw_g (lw_at lw_m12 192 rfl) rfl
theorem q2926 : (Jvm.Cond.code ({ cls := "WeirfoldLaneModel", name := "cannotPair", desc := "(III)I" } : Jvm.MethodName) prog_25_method_42_code (4 : Nat) (Option.some Jvm.ClassFile.FieldType.int)) ∈ lw_all := lw_g (lw_at lw_m12 193 rfl) rfl
theorem q2927 : (Jvm.Cond.methodLink "WeirfoldLaneModel" (205 : Nat) ({ cls := "WeirfoldLaneModel", name := "isStep", desc := "(I)Z" } : Jvm.MethodName)) ∈ lw_all := lw_g (lw_at lw_m12 194 rfl) rfl
theorem q2928 : (Jvm.Cond.privateMethod ({ cls := "WeirfoldLaneModel", name := "isStep", desc := "(I)Z" } : Jvm.MethodName)) ∈ lw_tbl := lw_at lw_m12 195 rfl
theorem q2929 : (Jvm.Cond.instanceMethod ({ cls := "WeirfoldLaneModel", name := "isStep", desc := "(I)Z" } : Jvm.MethodName)) ∈ lw_all := lw_g (lw_at lw_m12 196 rfl) rfl
theorem q2930 : (Jvm.Cond.code ({ cls := "WeirfoldLaneModel", name := "isStep", desc := "(I)Z" } : Jvm.MethodName) prog_25_method_15_code (2 : Nat) (Option.some Jvm.ClassFile.FieldType.boolean)) ∈ lw_all := lw_g (lw_at lw_m12 197 rfl) rfl
theorem q2932 : (Jvm.Cond.instanceMethod ({ cls := "WeirfoldLaneModel", name := "addRunning", desc := "(I)I" } : Jvm.MethodName)) ∈ lw_all := lw_g (lw_at lw_m12 199 rfl) rfl
theorem q2933 : (Jvm.Cond.selects "WeirfoldLaneModel" ({ cls := "WeirfoldLaneModel", name := "addRunning", desc := "(I)I" } : Jvm.MethodName) ({ cls := "WeirfoldLaneModel", name := "addRunning", desc := "(I)I" } : Jvm.MethodName)) ∈ lw_all := lw_g (lw_at lw_m12 200 rfl) rfl
theorem q2934 : (Jvm.Cond.code ({ cls := "WeirfoldLaneModel", name := "addRunning", desc := "(I)I" } : Jvm.MethodName) prog_25_method_45_code (3 : Nat) (Option.some Jvm.ClassFile.FieldType.int)) ∈ lw_all := lw_g (lw_at lw_m12 201 rfl) rfl
theorem q2935 : (Jvm.Cond.methodLink "WeirfoldLaneModel" (211 : Nat) ({ cls := "WeirfoldLaneModel", name := "cannotRun", desc := "(I)I" } : Jvm.MethodName)) ∈ lw_all := lw_g (lw_at lw_m12 202 rfl) rfl
theorem q2936 : (Jvm.Cond.privateMethod ({ cls := "WeirfoldLaneModel", name := "cannotRun", desc := "(I)I" } : Jvm.MethodName)) ∈ lw_tbl := lw_at lw_m12 203 rfl
theorem q2937 : (Jvm.Cond.instanceMethod ({ cls := "WeirfoldLaneModel", name := "cannotRun", desc := "(I)I" } : Jvm.MethodName)) ∈ lw_all := lw_g (lw_at lw_m12 204 rfl) rfl
theorem q2938 : (Jvm.Cond.code ({ cls := "WeirfoldLaneModel", name := "cannotRun", desc := "(I)I" } : Jvm.MethodName) prog_25_method_44_code (2 : Nat) (Option.some Jvm.ClassFile.FieldType.int)) ∈ lw_all := lw_g (lw_at lw_m12 205 rfl) rfl
theorem q2940 : (Jvm.Cond.instanceMethod ({ cls := "WeirfoldLaneModel", name := "addBounded", desc := "(II)I" } : Jvm.MethodName)) ∈ lw_all := lw_g (lw_at lw_m12 207 rfl) rfl
theorem q2941 : (Jvm.Cond.selects "WeirfoldLaneModel" ({ cls := "WeirfoldLaneModel", name := "addBounded", desc := "(II)I" } : Jvm.MethodName) ({ cls := "WeirfoldLaneModel", name := "addBounded", desc := "(II)I" } : Jvm.MethodName)) ∈ lw_all := lw_g (lw_at lw_m12 208 rfl) rfl
theorem q2942 : (Jvm.Cond.code ({ cls := "WeirfoldLaneModel", name := "addBounded", desc := "(II)I" } : Jvm.MethodName) prog_25_method_47_code (4 : Nat) (Option.some Jvm.ClassFile.FieldType.int)) ∈ lw_all := lw_g (lw_at lw_m12 209 rfl) rfl
theorem q2943 : (Jvm.Cond.methodLink "WeirfoldLaneModel" (214 : Nat) ({ cls := "WeirfoldLaneModel", name := "cannotKeep", desc := "(II)I" } : Jvm.MethodName)) ∈ lw_all := lw_g (lw_at lw_m12 210 rfl) rfl
theorem q2944 : (Jvm.Cond.privateMethod ({ cls := "WeirfoldLaneModel", name := "cannotKeep", desc := "(II)I" } : Jvm.MethodName)) ∈ lw_tbl := lw_at lw_m12 211 rfl
theorem q2945 : (Jvm.Cond.instanceMethod ({ cls := "WeirfoldLaneModel", name := "cannotKeep", desc := "(II)I" } : Jvm.MethodName)) ∈ lw_all := lw_g (lw_at lw_m12 212 rfl) rfl
theorem q2946 : (Jvm.Cond.code ({ cls := "WeirfoldLaneModel", name := "cannotKeep", desc := "(II)I" } : Jvm.MethodName) prog_25_method_46_code (3 : Nat) (Option.some Jvm.ClassFile.FieldType.int)) ∈ lw_all := lw_g (lw_at lw_m12 213 rfl) rfl
theorem q2948 : (Jvm.Cond.instanceMethod ({ cls := "WeirfoldLaneModel", name := "removeStep", desc := "(I)I" } : Jvm.MethodName)) ∈ lw_all := lw_g (lw_at lw_m12 215 rfl) rfl
theorem q2949 : (Jvm.Cond.selects "WeirfoldLaneModel" ({ cls := "WeirfoldLaneModel", name := "removeStep", desc := "(I)I" } : Jvm.MethodName) ({ cls := "WeirfoldLaneModel", name := "removeStep", desc := "(I)I" } : Jvm.MethodName)) ∈ lw_all := lw_g (lw_at lw_m12 216 rfl) rfl
theorem q2950 : (Jvm.Cond.code ({ cls := "WeirfoldLaneModel", name := "removeStep", desc := "(I)I" } : Jvm.MethodName) prog_25_method_51_code (3 : Nat) (Option.some Jvm.ClassFile.FieldType.int)) ∈ lw_all := lw_g (lw_at lw_m12 217 rfl) rfl
theorem q2951 : (Jvm.Cond.methodLink "WeirfoldLaneModel" (220 : Nat) ({ cls := "WeirfoldLaneModel", name := "cannotCut", desc := "(I)I" } : Jvm.MethodName)) ∈ lw_all := lw_g (lw_at lw_m12 218 rfl) rfl
theorem q2952 : (Jvm.Cond.privateMethod ({ cls := "WeirfoldLaneModel", name := "cannotCut", desc := "(I)I" } : Jvm.MethodName)) ∈ lw_tbl := lw_at lw_m12 219 rfl
theorem q2953 : (Jvm.Cond.instanceMethod ({ cls := "WeirfoldLaneModel", name := "cannotCut", desc := "(I)I" } : Jvm.MethodName)) ∈ lw_all := lw_g (lw_at lw_m12 220 rfl) rfl
theorem q2954 : (Jvm.Cond.code ({ cls := "WeirfoldLaneModel", name := "cannotCut", desc := "(I)I" } : Jvm.MethodName) prog_25_method_49_code (3 : Nat) (Option.some Jvm.ClassFile.FieldType.int)) ∈ lw_all := lw_g (lw_at lw_m12 221 rfl) rfl
theorem q2955 : (Jvm.Cond.methodLink "WeirfoldLaneModel" (217 : Nat) ({ cls := "WeirfoldLaneModel", name := "isInput", desc := "(II)Z" } : Jvm.MethodName)) ∈ lw_all := lw_g (lw_at lw_m12 222 rfl) rfl
theorem q2956 : (Jvm.Cond.privateMethod ({ cls := "WeirfoldLaneModel", name := "isInput", desc := "(II)Z" } : Jvm.MethodName)) ∈ lw_tbl := lw_at lw_m12 223 rfl
theorem q2957 : (Jvm.Cond.instanceMethod ({ cls := "WeirfoldLaneModel", name := "isInput", desc := "(II)Z" } : Jvm.MethodName)) ∈ lw_all := lw_g (lw_at lw_m12 224 rfl) rfl
theorem q2958 : (Jvm.Cond.code ({ cls := "WeirfoldLaneModel", name := "isInput", desc := "(II)Z" } : Jvm.MethodName) prog_25_method_48_code (3 : Nat) (Option.some Jvm.ClassFile.FieldType.boolean)) ∈ lw_all := lw_g (lw_at lw_m12 225 rfl) rfl
theorem q2959 : (Jvm.Cond.methodLink "WeirfoldLaneModel" (223 : Nat) ({ cls := "WeirfoldLaneModel", name := "cut", desc := "(I)I" } : Jvm.MethodName)) ∈ lw_all := lw_g (lw_at lw_m12 226 rfl) rfl
theorem q2960 : (Jvm.Cond.privateMethod ({ cls := "WeirfoldLaneModel", name := "cut", desc := "(I)I" } : Jvm.MethodName)) ∈ lw_tbl := lw_at lw_m12 227 rfl
theorem q2961 : (Jvm.Cond.instanceMethod ({ cls := "WeirfoldLaneModel", name := "cut", desc := "(I)I" } : Jvm.MethodName)) ∈ lw_all := lw_g (lw_at lw_m12 228 rfl) rfl
theorem q2962 : (Jvm.Cond.code ({ cls := "WeirfoldLaneModel", name := "cut", desc := "(I)I" } : Jvm.MethodName) prog_25_method_50_code (4 : Nat) (Option.some Jvm.ClassFile.FieldType.int)) ∈ lw_all := lw_g (lw_at lw_m12 229 rfl) rfl
theorem q2964 : (Jvm.Cond.instanceMethod ({ cls := "WeirfoldLaneModel", name := "repair", desc := "(I)I" } : Jvm.MethodName)) ∈ lw_all := lw_g (lw_at lw_m12 231 rfl) rfl
theorem q2965 : (Jvm.Cond.selects "WeirfoldLaneModel" ({ cls := "WeirfoldLaneModel", name := "repair", desc := "(I)I" } : Jvm.MethodName) ({ cls := "WeirfoldLaneModel", name := "repair", desc := "(I)I" } : Jvm.MethodName)) ∈ lw_all := lw_g (lw_at lw_m12 232 rfl) rfl
theorem q2966 : (Jvm.Cond.code ({ cls := "WeirfoldLaneModel", name := "repair", desc := "(I)I" } : Jvm.MethodName) prog_25_method_54_code (3 : Nat) (Option.some Jvm.ClassFile.FieldType.int)) ∈ lw_all := lw_g (lw_at lw_m12 233 rfl) rfl
theorem q2967 : (Jvm.Cond.methodLink "WeirfoldLaneModel" (229 : Nat) ({ cls := "WeirfoldLaneModel", name := "cannotRepair", desc := "(I)I" } : Jvm.MethodName)) ∈ lw_all := lw_g (lw_at lw_m12 234 rfl) rfl
theorem q2968 : (Jvm.Cond.privateMethod ({ cls := "WeirfoldLaneModel", name := "cannotRepair", desc := "(I)I" } : Jvm.MethodName)) ∈ lw_tbl := lw_at lw_m12 235 rfl
theorem q2969 : (Jvm.Cond.instanceMethod ({ cls := "WeirfoldLaneModel", name := "cannotRepair", desc := "(I)I" } : Jvm.MethodName)) ∈ lw_all := lw_g (lw_at lw_m12 236 rfl) rfl
theorem q2970 : (Jvm.Cond.code ({ cls := "WeirfoldLaneModel", name := "cannotRepair", desc := "(I)I" } : Jvm.MethodName) prog_25_method_52_code (4 : Nat) (Option.some Jvm.ClassFile.FieldType.int)) ∈ lw_all := lw_g (lw_at lw_m12 237 rfl) rfl
theorem q2971 : (Jvm.Cond.methodLink "WeirfoldLaneModel" (226 : Nat) ({ cls := "WeirfoldLaneModel", name := "isDay", desc := "(I)Z" } : Jvm.MethodName)) ∈ lw_all := lw_g (lw_at lw_m12 238 rfl) rfl
theorem q2972 : (Jvm.Cond.privateMethod ({ cls := "WeirfoldLaneModel", name := "isDay", desc := "(I)Z" } : Jvm.MethodName)) ∈ lw_tbl := lw_at lw_m12 239 rfl
theorem q2973 : (Jvm.Cond.instanceMethod ({ cls := "WeirfoldLaneModel", name := "isDay", desc := "(I)Z" } : Jvm.MethodName)) ∈ lw_all := lw_g (lw_at lw_m13 0 rfl) rfl
theorem q2974 : (Jvm.Cond.code ({ cls := "WeirfoldLaneModel", name := "isDay", desc := "(I)Z" } : Jvm.MethodName) prog_25_method_16_code (2 : Nat) (Option.some Jvm.ClassFile.FieldType.boolean)) ∈ lw_all := lw_g (lw_at lw_m13 1 rfl) rfl
theorem q2975 : (Jvm.Cond.methodLink "WeirfoldLaneModel" (232 : Nat) ({ cls := "WeirfoldLaneModel", name := "repairs", desc := "(I)I" } : Jvm.MethodName)) ∈ lw_all := lw_g (lw_at lw_m13 2 rfl) rfl
theorem q2976 : (Jvm.Cond.privateMethod ({ cls := "WeirfoldLaneModel", name := "repairs", desc := "(I)I" } : Jvm.MethodName)) ∈ lw_tbl := lw_at lw_m13 3 rfl
theorem q2977 : (Jvm.Cond.instanceMethod ({ cls := "WeirfoldLaneModel", name := "repairs", desc := "(I)I" } : Jvm.MethodName)) ∈ lw_all := lw_g (lw_at lw_m13 4 rfl) rfl
theorem q2978 : (Jvm.Cond.code ({ cls := "WeirfoldLaneModel", name := "repairs", desc := "(I)I" } : Jvm.MethodName) prog_25_method_53_code (4 : Nat) (Option.some Jvm.ClassFile.FieldType.int)) ∈ lw_all := lw_g (lw_at lw_m13 5 rfl) rfl
theorem q2980 : (Jvm.Cond.instanceMethod ({ cls := "WeirfoldLaneModel", name := "today", desc := "()I" } : Jvm.MethodName)) ∈ lw_all := lw_g (lw_at lw_m13 7 rfl) rfl
theorem q2981 : (Jvm.Cond.selects "WeirfoldLaneModel" ({ cls := "WeirfoldLaneModel", name := "today", desc := "()I" } : Jvm.MethodName) ({ cls := "WeirfoldLaneModel", name := "today", desc := "()I" } : Jvm.MethodName)) ∈ lw_all := lw_g (lw_at lw_m13 8 rfl) rfl
theorem q2982 : (Jvm.Cond.code ({ cls := "WeirfoldLaneModel", name := "today", desc := "()I" } : Jvm.MethodName) prog_25_method_55_code (1 : Nat) (Option.some Jvm.ClassFile.FieldType.int)) ∈ lw_all := lw_g (lw_at lw_m13 9 rfl) rfl
theorem q2983 : (Jvm.Cond.methodLink "WeirfoldLaneModel" (235 : Nat) ({ cls := "WeirfoldLaneModel", name := "plain", desc := "(I)I" } : Jvm.MethodName)) ∈ lw_all := lw_g (lw_at lw_m13 10 rfl) rfl
theorem q2984 : (Jvm.Cond.privateMethod ({ cls := "WeirfoldLaneModel", name := "plain", desc := "(I)I" } : Jvm.MethodName)) ∈ lw_tbl := lw_at lw_m13 11 rfl
theorem q2985 : (Jvm.Cond.instanceMethod ({ cls := "WeirfoldLaneModel", name := "plain", desc := "(I)I" } : Jvm.MethodName)) ∈ lw_all := lw_g (lw_at lw_m13 12 rfl) rfl
theorem q2986 : (Jvm.Cond.code ({ cls := "WeirfoldLaneModel", name := "plain", desc := "(I)I" } : Jvm.MethodName) prog_25_method_9_code (2 : Nat) (Option.some Jvm.ClassFile.FieldType.int)) ∈ lw_all := lw_g (lw_at lw_m13 13 rfl) rfl
theorem q2988 : (Jvm.Cond.instanceMethod ({ cls := "WeirfoldLaneModel", name := "rows", desc := "()I" } : Jvm.MethodName)) ∈ lw_all := lw_g (lw_at lw_m13 15 rfl) rfl
theorem q2989 : (Jvm.Cond.selects "WeirfoldLaneModel" ({ cls := "WeirfoldLaneModel", name := "rows", desc := "()I" } : Jvm.MethodName) ({ cls := "WeirfoldLaneModel", name := "rows", desc := "()I" } : Jvm.MethodName)) ∈ lw_all := lw_g (lw_at lw_m13 16 rfl) rfl
theorem q2990 : (Jvm.Cond.code ({ cls := "WeirfoldLaneModel", name := "rows", desc := "()I" } : Jvm.MethodName) prog_25_method_56_code (1 : Nat) (Option.some Jvm.ClassFile.FieldType.int)) ∈ lw_all := lw_g (lw_at lw_m13 17 rfl) rfl
theorem q2992 : (Jvm.Cond.instanceMethod ({ cls := "WeirfoldLaneModel", name := "rowAt", desc := "(I)I" } : Jvm.MethodName)) ∈ lw_all := lw_g (lw_at lw_m13 19 rfl) rfl
theorem q2993 : (Jvm.Cond.selects "WeirfoldLaneModel" ({ cls := "WeirfoldLaneModel", name := "rowAt", desc := "(I)I" } : Jvm.MethodName) ({ cls := "WeirfoldLaneModel", name := "rowAt", desc := "(I)I" } : Jvm.MethodName)) ∈ lw_all := lw_g (lw_at lw_m13 20 rfl) rfl
theorem q2994 : (Jvm.Cond.code ({ cls := "WeirfoldLaneModel", name := "rowAt", desc := "(I)I" } : Jvm.MethodName) prog_25_method_57_code (2 : Nat) (Option.some Jvm.ClassFile.FieldType.int)) ∈ lw_all := lw_g (lw_at lw_m13 21 rfl) rfl
theorem q2995 : (Jvm.Cond.methodLink "WeirfoldLaneModel" (238 : Nat) ({ cls := "WeirfoldLaneModel", name := "checked", desc := "(Z)I" } : Jvm.MethodName)) ∈ lw_all := lw_g (lw_at lw_m13 22 rfl) rfl
theorem q2996 : (Jvm.Cond.privateMethod ({ cls := "WeirfoldLaneModel", name := "checked", desc := "(Z)I" } : Jvm.MethodName)) ∈ lw_tbl := lw_at lw_m13 23 rfl
theorem q2997 : (Jvm.Cond.instanceMethod ({ cls := "WeirfoldLaneModel", name := "checked", desc := "(Z)I" } : Jvm.MethodName)) ∈ lw_all := lw_g (lw_at lw_m13 24 rfl) rfl
theorem q2998 : (Jvm.Cond.code ({ cls := "WeirfoldLaneModel", name := "checked", desc := "(Z)I" } : Jvm.MethodName) prog_25_method_10_code (2 : Nat) (Option.some Jvm.ClassFile.FieldType.int)) ∈ lw_all := lw_g (lw_at lw_m13 25 rfl) rfl
theorem q3000 : (Jvm.Cond.instanceMethod ({ cls := "WeirfoldLaneModel", name := "dayOf", desc := "(I)I" } : Jvm.MethodName)) ∈ lw_all := lw_g (lw_at lw_m13 27 rfl) rfl
theorem q3001 : (Jvm.Cond.selects "WeirfoldLaneModel" ({ cls := "WeirfoldLaneModel", name := "dayOf", desc := "(I)I" } : Jvm.MethodName) ({ cls := "WeirfoldLaneModel", name := "dayOf", desc := "(I)I" } : Jvm.MethodName)) ∈ lw_all := lw_g (lw_at lw_m13 28 rfl) rfl
theorem q3002 : (Jvm.Cond.code ({ cls := "WeirfoldLaneModel", name := "dayOf", desc := "(I)I" } : Jvm.MethodName) prog_25_method_58_code (2 : Nat) (Option.some Jvm.ClassFile.FieldType.int)) ∈ lw_all := lw_g (lw_at lw_m13 29 rfl) rfl
theorem q3004 : (Jvm.Cond.instanceMethod ({ cls := "WeirfoldLaneModel", name := "groupOf", desc := "(I)C" } : Jvm.MethodName)) ∈ lw_all := lw_g (lw_at lw_m13 31 rfl) rfl
theorem q3005 : (Jvm.Cond.selects "WeirfoldLaneModel" ({ cls := "WeirfoldLaneModel", name := "groupOf", desc := "(I)C" } : Jvm.MethodName) ({ cls := "WeirfoldLaneModel", name := "groupOf", desc := "(I)C" } : Jvm.MethodName)) ∈ lw_all := lw_g (lw_at lw_m13 32 rfl) rfl
theorem q3006 : (Jvm.Cond.code ({ cls := "WeirfoldLaneModel", name := "groupOf", desc := "(I)C" } : Jvm.MethodName) prog_25_method_59_code (2 : Nat) (Option.some Jvm.ClassFile.FieldType.char)) ∈ lw_all := lw_g (lw_at lw_m13 33 rfl) rfl
theorem q3008 : (Jvm.Cond.instanceMethod ({ cls := "WeirfoldLaneModel", name := "rowByAmount", desc := "(I)I" } : Jvm.MethodName)) ∈ lw_all := lw_g (lw_at lw_m13 35 rfl) rfl
theorem q3009 : (Jvm.Cond.selects "WeirfoldLaneModel" ({ cls := "WeirfoldLaneModel", name := "rowByAmount", desc := "(I)I" } : Jvm.MethodName) ({ cls := "WeirfoldLaneModel", name := "rowByAmount", desc := "(I)I" } : Jvm.MethodName)) ∈ lw_all := lw_g (lw_at lw_m13 36 rfl) rfl
theorem q3010 : (Jvm.Cond.code ({ cls := "WeirfoldLaneModel", name := "rowByAmount", desc := "(I)I" } : Jvm.MethodName) prog_25_method_60_code (5 : Nat) (Option.some Jvm.ClassFile.FieldType.int)) ∈ lw_all := lw_g (lw_at lw_m13 37 rfl) rfl
theorem q3012 : (Jvm.Cond.instanceMethod ({ cls := "WeirfoldLaneModel", name := "steps", desc := "()I" } : Jvm.MethodName)) ∈ lw_all := lw_g (lw_at lw_m13 39 rfl) rfl
theorem q3013 : (Jvm.Cond.selects "WeirfoldLaneModel" ({ cls := "WeirfoldLaneModel", name := "steps", desc := "()I" } : Jvm.MethodName) ({ cls := "WeirfoldLaneModel", name := "steps", desc := "()I" } : Jvm.MethodName)) ∈ lw_all := lw_g (lw_at lw_m13 40 rfl) rfl
theorem q3014 : (Jvm.Cond.code ({ cls := "WeirfoldLaneModel", name := "steps", desc := "()I" } : Jvm.MethodName) prog_25_method_61_code (1 : Nat) (Option.some Jvm.ClassFile.FieldType.int)) ∈ lw_all := lw_g (lw_at lw_m13 41 rfl) rfl
theorem q3016 : (Jvm.Cond.instanceMethod ({ cls := "WeirfoldLaneModel", name := "kind", desc := "(I)C" } : Jvm.MethodName)) ∈ lw_all := lw_g (lw_at lw_m13 43 rfl) rfl
theorem q3017 : (Jvm.Cond.selects "WeirfoldLaneModel" ({ cls := "WeirfoldLaneModel", name := "kind", desc := "(I)C" } : Jvm.MethodName) ({ cls := "WeirfoldLaneModel", name := "kind", desc := "(I)C" } : Jvm.MethodName)) ∈ lw_all := lw_g (lw_at lw_m13 44 rfl) rfl
theorem q3018 : (Jvm.Cond.code ({ cls := "WeirfoldLaneModel", name := "kind", desc := "(I)C" } : Jvm.MethodName) prog_25_method_62_code (2 : Nat) (Option.some Jvm.ClassFile.FieldType.char)) ∈ lw_all := lw_g (lw_at lw_m13 45 rfl) rfl
theorem q3020 : (Jvm.Cond.instanceMethod ({ cls := "WeirfoldLaneModel", name := "dependsOn", desc := "(II)Z" } : Jvm.MethodName)) ∈ lw_all := lw_g (lw_at lw_m13 47 rfl) rfl
theorem q3021 : (Jvm.Cond.selects "WeirfoldLaneModel" ({ cls := "WeirfoldLaneModel", name := "dependsOn", desc := "(II)Z" } : Jvm.MethodName) ({ cls := "WeirfoldLaneModel", name := "dependsOn", desc := "(II)Z" } : Jvm.MethodName)) ∈ lw_all := lw_g (lw_at lw_m13 48 rfl) rfl
theorem q3022 : (Jvm.Cond.code ({ cls := "WeirfoldLaneModel", name := "dependsOn", desc := "(II)Z" } : Jvm.MethodName) prog_25_method_64_code (3 : Nat) (Option.some Jvm.ClassFile.FieldType.boolean)) ∈ lw_all := lw_g (lw_at lw_m13 49 rfl) rfl
theorem q3023 : (Jvm.Cond.methodLink "WeirfoldLaneModel" (242 : Nat) ({ cls := "WeirfoldLaneModel", name := "layReached", desc := "()V" } : Jvm.MethodName)) ∈ lw_all := lw_g (lw_at lw_m13 50 rfl) rfl
theorem q3024 : (Jvm.Cond.privateMethod ({ cls := "WeirfoldLaneModel", name := "layReached", desc := "()V" } : Jvm.MethodName)) ∈ lw_tbl := lw_at lw_m13 51 rfl
theorem q3025 : (Jvm.Cond.instanceMethod ({ cls := "WeirfoldLaneModel", name := "layReached", desc := "()V" } : Jvm.MethodName)) ∈ lw_all := lw_g (lw_at lw_m13 52 rfl) rfl
theorem q3026 : (Jvm.Cond.code ({ cls := "WeirfoldLaneModel", name := "layReached", desc := "()V" } : Jvm.MethodName) prog_25_method_63_code (2 : Nat) (Option.none : Option Jvm.ClassFile.FieldType)) ∈ lw_all := lw_g (lw_at lw_m13 53 rfl) rfl
theorem q3028 : (Jvm.Cond.instanceMethod ({ cls := "WeirfoldLaneModel", name := "level", desc := "(I)I" } : Jvm.MethodName)) ∈ lw_all := lw_g (lw_at lw_m13 55 rfl) rfl
theorem q3029 : (Jvm.Cond.selects "WeirfoldLaneModel" ({ cls := "WeirfoldLaneModel", name := "level", desc := "(I)I" } : Jvm.MethodName) ({ cls := "WeirfoldLaneModel", name := "level", desc := "(I)I" } : Jvm.MethodName)) ∈ lw_all := lw_g (lw_at lw_m13 56 rfl) rfl
theorem q3030 : (Jvm.Cond.code ({ cls := "WeirfoldLaneModel", name := "level", desc := "(I)I" } : Jvm.MethodName) prog_25_method_65_code (5 : Nat) (Option.some Jvm.ClassFile.FieldType.int)) ∈ lw_all := lw_g (lw_at lw_m13 57 rfl) rfl
theorem q3032 : (Jvm.Cond.instanceMethod ({ cls := "WeirfoldLaneModel", name := "value", desc := "(IIC)J" } : Jvm.MethodName)) ∈ lw_all := lw_g (lw_at lw_m13 59 rfl) rfl
theorem q3033 : (Jvm.Cond.selects "WeirfoldLaneModel" ({ cls := "WeirfoldLaneModel", name := "value", desc := "(IIC)J" } : Jvm.MethodName) ({ cls := "WeirfoldLaneModel", name := "value", desc := "(IIC)J" } : Jvm.MethodName)) ∈ lw_all := lw_g (lw_at lw_m13 60 rfl) rfl
theorem q3034 : (Jvm.Cond.code ({ cls := "WeirfoldLaneModel", name := "value", desc := "(IIC)J" } : Jvm.MethodName) prog_25_method_67_code (4 : Nat) (Option.some Jvm.ClassFile.FieldType.long)) ∈ lw_all := lw_g (lw_at lw_m13 61 rfl) rfl
theorem q3035 : (Jvm.Cond.methodLink "WeirfoldLaneModel" (245 : Nat) ({ cls := "WeirfoldLaneModel", name := "cannotAsk", desc := "(III)I" } : Jvm.MethodName)) ∈ lw_all := lw_g (lw_at lw_m13 62 rfl) rfl
theorem q3036 : (Jvm.Cond.privateMethod ({ cls := "WeirfoldLaneModel", name := "cannotAsk", desc := "(III)I" } : Jvm.MethodName)) ∈ lw_tbl := lw_at lw_m13 63 rfl
theorem q3037 : (Jvm.Cond.instanceMethod ({ cls := "WeirfoldLaneModel", name := "cannotAsk", desc := "(III)I" } : Jvm.MethodName)) ∈ lw_all := lw_g (lw_at lw_m13 64 rfl) rfl
theorem q3038 : (Jvm.Cond.code ({ cls := "WeirfoldLaneModel", name := "cannotAsk", desc := "(III)I" } : Jvm.MethodName) prog_25_method_66_code (4 : Nat) (Option.some Jvm.ClassFile.FieldType.int)) ∈ lw_all := lw_g (lw_at lw_m13 65 rfl) rfl
theorem q3040 : (Jvm.Cond.instanceMethod ({ cls := "WeirfoldLaneModel", name := "valueAnew", desc := "(IIC)J" } : Jvm.MethodName)) ∈ lw_all := lw_g (lw_at lw_m13 67 rfl) rfl
theorem q3041 : (Jvm.Cond.selects "WeirfoldLaneModel" ({ cls := "WeirfoldLaneModel", name := "valueAnew", desc := "(IIC)J" } : Jvm.MethodName) ({ cls := "WeirfoldLaneModel", name := "valueAnew", desc := "(IIC)J" } : Jvm.MethodName)) ∈ lw_all := lw_g (lw_at lw_m13 68 rfl) rfl
theorem q3042 : (Jvm.Cond.code ({ cls := "WeirfoldLaneModel", name := "valueAnew", desc := "(IIC)J" } : Jvm.MethodName) prog_25_method_68_code (4 : Nat) (Option.some Jvm.ClassFile.FieldType.long)) ∈ lw_all := lw_g (lw_at lw_m13 69 rfl) rfl
theorem q3043 : (Jvm.Cond.methodLink "WeirfoldLaneModel" (248 : Nat) ({ cls := "WeirfoldLaneModel", name := "layAnew", desc := "()V" } : Jvm.MethodName)) ∈ lw_all := lw_g (lw_at lw_m13 70 rfl) rfl
theorem q3044 : (Jvm.Cond.privateMethod ({ cls := "WeirfoldLaneModel", name := "layAnew", desc := "()V" } : Jvm.MethodName)) ∈ lw_tbl := lw_at lw_m13 71 rfl
theorem q3045 : (Jvm.Cond.instanceMethod ({ cls := "WeirfoldLaneModel", name := "layAnew", desc := "()V" } : Jvm.MethodName)) ∈ lw_all := lw_g (lw_at lw_m13 72 rfl) rfl
theorem q3046 : (Jvm.Cond.code ({ cls := "WeirfoldLaneModel", name := "layAnew", desc := "()V" } : Jvm.MethodName) prog_25_method_27_code (4 : Nat) (Option.none : Option Jvm.ClassFile.FieldType)) ∈ lw_all := lw_g (lw_at lw_m13 73 rfl) rfl
theorem q3048 : (Jvm.Cond.instanceMethod ({ cls := "WeirfoldLaneModel", name := "total", desc := "(II)J" } : Jvm.MethodName)) ∈ lw_all := lw_g (lw_at lw_m13 75 rfl) rfl
theorem q3049 : (Jvm.Cond.selects "WeirfoldLaneModel" ({ cls := "WeirfoldLaneModel", name := "total", desc := "(II)J" } : Jvm.MethodName) ({ cls := "WeirfoldLaneModel", name := "total", desc := "(II)J" } : Jvm.MethodName)) ∈ lw_all := lw_g (lw_at lw_m13 76 rfl) rfl
theorem q3050 : (Jvm.Cond.code ({ cls := "WeirfoldLaneModel", name := "total", desc := "(II)J" } : Jvm.MethodName) prog_25_method_69_code (6 : Nat) (Option.some Jvm.ClassFile.FieldType.long)) ∈ lw_all := lw_g (lw_at lw_m13 77 rfl) rfl
theorem q3052 : (Jvm.Cond.instanceMethod ({ cls := "WeirfoldLaneModel", name := "isStale", desc := "(II)Z" } : Jvm.MethodName)) ∈ lw_all := lw_g (lw_at lw_m13 79 rfl) rfl
theorem q3053 : (Jvm.Cond.selects "WeirfoldLaneModel" ({ cls := "WeirfoldLaneModel", name := "isStale", desc := "(II)Z" } : Jvm.MethodName) ({ cls := "WeirfoldLaneModel", name := "isStale", desc := "(II)Z" } : Jvm.MethodName)) ∈ lw_all := lw_g (lw_at lw_m13 80 rfl) rfl
theorem q3054 : (Jvm.Cond.code ({ cls := "WeirfoldLaneModel", name := "isStale", desc := "(II)Z" } : Jvm.MethodName) prog_25_method_70_code (3 : Nat) (Option.some Jvm.ClassFile.FieldType.boolean)) ∈ lw_all := lw_g (lw_at lw_m13 81 rfl) rfl
theorem q3056 : (Jvm.Cond.instanceMethod ({ cls := "WeirfoldLaneModel", name := "stale", desc := "()I" } : Jvm.MethodName)) ∈ lw_all := lw_g (lw_at lw_m13 83 rfl) rfl
theorem q3057 : (Jvm.Cond.selects "WeirfoldLaneModel" ({ cls := "WeirfoldLaneModel", name := "stale", desc := "()I" } : Jvm.MethodName) ({ cls := "WeirfoldLaneModel", name := "stale", desc := "()I" } : Jvm.MethodName)) ∈ lw_all := lw_g (lw_at lw_m13 84 rfl) rfl
theorem q3058 : (Jvm.Cond.code ({ cls := "WeirfoldLaneModel", name := "stale", desc := "()I" } : Jvm.MethodName) prog_25_method_72_code (1 : Nat) (Option.some Jvm.ClassFile.FieldType.int)) ∈ lw_all := lw_g (lw_at lw_m13 85 rfl) rfl
theorem q3059 : (Jvm.Cond.methodLink "WeirfoldLaneModel" (251 : Nat) ({ cls := "WeirfoldLaneModel", name := "staleCount", desc := "()I" } : Jvm.MethodName)) ∈ lw_all := lw_g (lw_at lw_m13 86 rfl) rfl
theorem q3060 : (Jvm.Cond.privateMethod ({ cls := "WeirfoldLaneModel", name := "staleCount", desc := "()I" } : Jvm.MethodName)) ∈ lw_tbl := lw_at lw_m13 87 rfl
theorem q3061 : (Jvm.Cond.instanceMethod ({ cls := "WeirfoldLaneModel", name := "staleCount", desc := "()I" } : Jvm.MethodName)) ∈ lw_all := lw_g (lw_at lw_m13 88 rfl) rfl
theorem q3062 : (Jvm.Cond.code ({ cls := "WeirfoldLaneModel", name := "staleCount", desc := "()I" } : Jvm.MethodName) prog_25_method_71_code (4 : Nat) (Option.some Jvm.ClassFile.FieldType.int)) ∈ lw_all := lw_g (lw_at lw_m13 89 rfl) rfl
theorem q3064 : (Jvm.Cond.instanceMethod ({ cls := "WeirfoldLaneModel", name := "wrong", desc := "()I" } : Jvm.MethodName)) ∈ lw_all := lw_g (lw_at lw_m13 91 rfl) rfl
theorem q3065 : (Jvm.Cond.selects "WeirfoldLaneModel" ({ cls := "WeirfoldLaneModel", name := "wrong", desc := "()I" } : Jvm.MethodName) ({ cls := "WeirfoldLaneModel", name := "wrong", desc := "()I" } : Jvm.MethodName)) ∈ lw_all := lw_g (lw_at lw_m13 92 rfl) rfl
theorem q3066 : (Jvm.Cond.code ({ cls := "WeirfoldLaneModel", name := "wrong", desc := "()I" } : Jvm.MethodName) prog_25_method_73_code (5 : Nat) (Option.some Jvm.ClassFile.FieldType.int)) ∈ lw_all := lw_g (lw_at lw_m13 93 rfl) rfl
theorem q3068 : (Jvm.Cond.instanceMethod ({ cls := "WeirfoldLaneModel", name := "rowsBehind", desc := "(IIC)I" } : Jvm.MethodName)) ∈ lw_all := lw_g (lw_at lw_m13 95 rfl) rfl
theorem q3069 : (Jvm.Cond.selects "WeirfoldLaneModel" ({ cls := "WeirfoldLaneModel", name := "rowsBehind", desc := "(IIC)I" } : Jvm.MethodName) ({ cls := "WeirfoldLaneModel", name := "rowsBehind", desc := "(IIC)I" } : Jvm.MethodName)) ∈ lw_all := lw_g (lw_at lw_m13 96 rfl) rfl
theorem q3070 : (Jvm.Cond.code ({ cls := "WeirfoldLaneModel", name := "rowsBehind", desc := "(IIC)I" } : Jvm.MethodName) prog_25_method_77_code (4 : Nat) (Option.some Jvm.ClassFile.FieldType.int)) ∈ lw_all := lw_g (lw_at lw_m13 97 rfl) rfl
theorem q3071 : (Jvm.Cond.methodLink "WeirfoldLaneModel" (260 : Nat) ({ cls := "WeirfoldLaneModel", name := "count", desc := "(III)I" } : Jvm.MethodName)) ∈ lw_all := lw_g (lw_at lw_m13 98 rfl) rfl
theorem q3072 : (Jvm.Cond.privateMethod ({ cls := "WeirfoldLaneModel", name := "count", desc := "(III)I" } : Jvm.MethodName)) ∈ lw_tbl := lw_at lw_m13 99 rfl
theorem q3073 : (Jvm.Cond.instanceMethod ({ cls := "WeirfoldLaneModel", name := "count", desc := "(III)I" } : Jvm.MethodName)) ∈ lw_all := lw_g (lw_at lw_m13 100 rfl) rfl
theorem q3074 : (Jvm.Cond.code ({ cls := "WeirfoldLaneModel", name := "count", desc := "(III)I" } : Jvm.MethodName) prog_25_method_76_code (6 : Nat) (Option.some Jvm.ClassFile.FieldType.int)) ∈ lw_all := lw_g (lw_at lw_m13 101 rfl) rfl
theorem q3075 : (Jvm.Cond.methodLink "WeirfoldLaneModel" (257 : Nat) ({ cls := "WeirfoldLaneModel", name := "layBehind", desc := "(I)V" } : Jvm.MethodName)) ∈ lw_all := lw_g (lw_at lw_m13 102 rfl) rfl
theorem q3076 : (Jvm.Cond.privateMethod ({ cls := "WeirfoldLaneModel", name := "layBehind", desc := "(I)V" } : Jvm.MethodName)) ∈ lw_tbl := lw_at lw_m13 103 rfl
theorem q3077 : (Jvm.Cond.instanceMethod ({ cls := "WeirfoldLaneModel", name := "layBehind", desc := "(I)V" } : Jvm.MethodName)) ∈ lw_all := lw_g (lw_at lw_m13 104 rfl) rfl
theorem q3078 : (Jvm.Cond.code ({ cls := "WeirfoldLaneModel", name := "layBehind", desc := "(I)V" } : Jvm.MethodName) prog_25_method_75_code (6 : Nat) (Option.none : Option Jvm.ClassFile.FieldType)) ∈ lw_all := lw_g (lw_at lw_m13 105 rfl) rfl
theorem q3079 : (Jvm.Cond.methodLink "WeirfoldLaneModel" (254 : Nat) ({ cls := "WeirfoldLaneModel", name := "ownRows", desc := "(III)J" } : Jvm.MethodName)) ∈ lw_all := lw_g (lw_at lw_m13 106 rfl) rfl
theorem q3080 : (Jvm.Cond.privateMethod ({ cls := "WeirfoldLaneModel", name := "ownRows", desc := "(III)J" } : Jvm.MethodName)) ∈ lw_tbl := lw_at lw_m13 107 rfl
theorem q3081 : (Jvm.Cond.instanceMethod ({ cls := "WeirfoldLaneModel", name := "ownRows", desc := "(III)J" } : Jvm.MethodName)) ∈ lw_all := lw_g (lw_at lw_m13 108 rfl) rfl
theorem q3082 : (Jvm.Cond.code ({ cls := "WeirfoldLaneModel", name := "ownRows", desc := "(III)J" } : Jvm.MethodName) prog_25_method_74_code (7 : Nat) (Option.some Jvm.ClassFile.FieldType.long)) ∈ lw_all := lw_g (lw_at lw_m13 109 rfl) rfl
theorem q3084 : (Jvm.Cond.instanceMethod ({ cls := "WeirfoldLaneModel", name := "rowsBehindByMarking", desc := "(IIC)I" } : Jvm.MethodName)) ∈ lw_all := lw_g (lw_at lw_m13 111 rfl) rfl
theorem q3085 : (Jvm.Cond.selects "WeirfoldLaneModel" ({ cls := "WeirfoldLaneModel", name := "rowsBehindByMarking", desc := "(IIC)I" } : Jvm.MethodName) ({ cls := "WeirfoldLaneModel", name := "rowsBehindByMarking", desc := "(IIC)I" } : Jvm.MethodName)) ∈ lw_all := lw_g (lw_at lw_m13 112 rfl) rfl
theorem q3086 : (Jvm.Cond.code ({ cls := "WeirfoldLaneModel", name := "rowsBehindByMarking", desc := "(IIC)I" } : Jvm.MethodName) prog_25_method_78_code (4 : Nat) (Option.some Jvm.ClassFile.FieldType.int)) ∈ lw_all := lw_g (lw_at lw_m13 113 rfl) rfl
theorem q3088 : (Jvm.Cond.instanceMethod ({ cls := "WeirfoldLaneModel", name := "reach", desc := "(I)I" } : Jvm.MethodName)) ∈ lw_all := lw_g (lw_at lw_m13 115 rfl) rfl
theorem q3089 : (Jvm.Cond.selects "WeirfoldLaneModel" ({ cls := "WeirfoldLaneModel", name := "reach", desc := "(I)I" } : Jvm.MethodName) ({ cls := "WeirfoldLaneModel", name := "reach", desc := "(I)I" } : Jvm.MethodName)) ∈ lw_all := lw_g (lw_at lw_m13 116 rfl) rfl
theorem q3090 : (Jvm.Cond.code ({ cls := "WeirfoldLaneModel", name := "reach", desc := "(I)I" } : Jvm.MethodName) prog_25_method_79_code (6 : Nat) (Option.some Jvm.ClassFile.FieldType.int)) ∈ lw_all := lw_g (lw_at lw_m13 117 rfl) rfl
theorem q3092 : (Jvm.Cond.instanceMethod ({ cls := "WeirfoldLaneModel", name := "cost", desc := "(II)J" } : Jvm.MethodName)) ∈ lw_all := lw_g (lw_at lw_m13 119 rfl) rfl
theorem q3093 : (Jvm.Cond.selects "WeirfoldLaneModel" ({ cls := "WeirfoldLaneModel", name := "cost", desc := "(II)J" } : Jvm.MethodName) ({ cls := "WeirfoldLaneModel", name := "cost", desc := "(II)J" } : Jvm.MethodName)) ∈ lw_all := lw_g (lw_at lw_m13 120 rfl) rfl
theorem q3094 : (Jvm.Cond.code ({ cls := "WeirfoldLaneModel", name := "cost", desc := "(II)J" } : Jvm.MethodName) prog_25_method_82_code (3 : Nat) (Option.some Jvm.ClassFile.FieldType.long)) ∈ lw_all := lw_g (lw_at lw_m13 121 rfl) rfl
theorem q3095 : (Jvm.Cond.methodLink "WeirfoldLaneModel" (265 : Nat) ({ cls := "WeirfoldLaneModel", name := "layCosts", desc := "(I)V" } : Jvm.MethodName)) ∈ lw_all := lw_g (lw_at lw_m13 122 rfl) rfl
theorem q3096 : (Jvm.Cond.privateMethod ({ cls := "WeirfoldLaneModel", name := "layCosts", desc := "(I)V" } : Jvm.MethodName)) ∈ lw_tbl := lw_at lw_m13 123 rfl
theorem q3097 : (Jvm.Cond.instanceMethod ({ cls := "WeirfoldLaneModel", name := "layCosts", desc := "(I)V" } : Jvm.MethodName)) ∈ lw_all := lw_g (lw_at lw_m13 124 rfl) rfl
theorem q3098 : (Jvm.Cond.code ({ cls := "WeirfoldLaneModel", name := "layCosts", desc := "(I)V" } : Jvm.MethodName) prog_25_method_80_code (7 : Nat) (Option.none : Option Jvm.ClassFile.FieldType)) ∈ lw_all := lw_g (lw_at lw_m13 125 rfl) rfl
theorem q3099 : (Jvm.Cond.constantLong "WeirfoldLaneModel" (263 : Nat) (7 : Int64)) ∈ lw_all := lw_g (lw_at lw_m13 126 rfl) rfl
theorem q3101 : (Jvm.Cond.instanceMethod ({ cls := "WeirfoldLaneModel", name := "bestPlan", desc := "(I)I" } : Jvm.MethodName)) ∈ lw_all := lw_g (lw_at lw_m13 128 rfl) rfl
theorem q3102 : (Jvm.Cond.selects "WeirfoldLaneModel" ({ cls := "WeirfoldLaneModel", name := "bestPlan", desc := "(I)I" } : Jvm.MethodName) ({ cls := "WeirfoldLaneModel", name := "bestPlan", desc := "(I)I" } : Jvm.MethodName)) ∈ lw_all := lw_g (lw_at lw_m13 129 rfl) rfl
theorem q3103 : (Jvm.Cond.code ({ cls := "WeirfoldLaneModel", name := "bestPlan", desc := "(I)I" } : Jvm.MethodName) prog_25_method_86_code (2 : Nat) (Option.some Jvm.ClassFile.FieldType.int)) ∈ lw_all := lw_g (lw_at lw_m13 130 rfl) rfl
theorem q3104 : (Jvm.Cond.methodLink "WeirfoldLaneModel" (278 : Nat) ({ cls := "WeirfoldLaneModel", name := "bestOf", desc := "(I)I" } : Jvm.MethodName)) ∈ lw_all := lw_g (lw_at lw_m13 131 rfl) rfl
theorem q3105 : (Jvm.Cond.privateMethod ({ cls := "WeirfoldLaneModel", name := "bestOf", desc := "(I)I" } : Jvm.MethodName)) ∈ lw_tbl := lw_at lw_m13 132 rfl
theorem q3106 : (Jvm.Cond.instanceMethod ({ cls := "WeirfoldLaneModel", name := "bestOf", desc := "(I)I" } : Jvm.MethodName)) ∈ lw_all := lw_g (lw_at lw_m13 133 rfl) rfl
theorem q3107 : (Jvm.Cond.code ({ cls := "WeirfoldLaneModel", name := "bestOf", desc := "(I)I" } : Jvm.MethodName) prog_25_method_85_code (2 : Nat) (Option.some Jvm.ClassFile.FieldType.int)) ∈ lw_all := lw_g (lw_at lw_m13 134 rfl) rfl
theorem q3108 : (Jvm.Cond.methodLink "WeirfoldLaneModel" (275 : Nat) ({ cls := "WeirfoldLaneModel", name := "best", desc := "(I)I" } : Jvm.MethodName)) ∈ lw_all := lw_g (lw_at lw_m13 135 rfl) rfl
theorem q3109 : (Jvm.Cond.privateMethod ({ cls := "WeirfoldLaneModel", name := "best", desc := "(I)I" } : Jvm.MethodName)) ∈ lw_tbl := lw_at lw_m13 136 rfl
theorem q3110 : (Jvm.Cond.instanceMethod ({ cls := "WeirfoldLaneModel", name := "best", desc := "(I)I" } : Jvm.MethodName)) ∈ lw_all := lw_g (lw_at lw_m13 137 rfl) rfl
theorem q3111 : (Jvm.Cond.code ({ cls := "WeirfoldLaneModel", name := "best", desc := "(I)I" } : Jvm.MethodName) prog_25_method_84_code (4 : Nat) (Option.some Jvm.ClassFile.FieldType.int)) ∈ lw_all := lw_g (lw_at lw_m13 138 rfl) rfl
theorem q3112 : (Jvm.Cond.methodLink "WeirfoldLaneModel" (268 : Nat) ({ cls := "WeirfoldLaneModel", name := "many", desc := "(I)I" } : Jvm.MethodName)) ∈ lw_all := lw_g (lw_at lw_m13 139 rfl) rfl
theorem q3113 : (Jvm.Cond.static ({ cls := "WeirfoldLaneModel", name := "many", desc := "(I)I" } : Jvm.MethodName)) ∈ lw_all := lw_g (lw_at lw_m13 140 rfl) rfl
theorem q3114 : (Jvm.Cond.code ({ cls := "WeirfoldLaneModel", name := "many", desc := "(I)I" } : Jvm.MethodName) prog_25_method_83_code (3 : Nat) (Option.some Jvm.ClassFile.FieldType.int)) ∈ lw_all := lw_g (lw_at lw_m13 141 rfl) rfl
theorem q3115 : (Jvm.Cond.methodLink "WeirfoldLaneModel" (271 : Nat) ({ cls := "WeirfoldLaneModel", name := "whole", desc := "(I)J" } : Jvm.MethodName)) ∈ lw_all := lw_g (lw_at lw_m13 142 rfl) rfl
theorem q3116 : (Jvm.Cond.privateMethod ({ cls := "WeirfoldLaneModel", name := "whole", desc := "(I)J" } : Jvm.MethodName)) ∈ lw_tbl := lw_at lw_m13 143 rfl
theorem q3117 : (Jvm.Cond.instanceMethod ({ cls := "WeirfoldLaneModel", name := "whole", desc := "(I)J" } : Jvm.MethodName)) ∈ lw_all := lw_g (lw_at lw_m13 144 rfl) rfl
theorem q3118 : (Jvm.Cond.code ({ cls := "WeirfoldLaneModel", name := "whole", desc := "(I)J" } : Jvm.MethodName) prog_25_method_81_code (5 : Nat) (Option.some Jvm.ClassFile.FieldType.long)) ∈ lw_all := lw_g (lw_at lw_m13 145 rfl) rfl
theorem q3120 : (Jvm.Cond.instanceMethod ({ cls := "WeirfoldLaneModel", name := "bestPlanByDeciding", desc := "(I)I" } : Jvm.MethodName)) ∈ lw_all := lw_g (lw_at lw_m13 147 rfl) rfl
theorem q3121 : (Jvm.Cond.selects "WeirfoldLaneModel" ({ cls := "WeirfoldLaneModel", name := "bestPlanByDeciding", desc := "(I)I" } : Jvm.MethodName) ({ cls := "WeirfoldLaneModel", name := "bestPlanByDeciding", desc := "(I)I" } : Jvm.MethodName)) ∈ lw_all := lw_g (lw_at lw_m13 148 rfl) rfl
theorem q3122 : (Jvm.Cond.code ({ cls := "WeirfoldLaneModel", name := "bestPlanByDeciding", desc := "(I)I" } : Jvm.MethodName) prog_25_method_87_code (2 : Nat) (Option.some Jvm.ClassFile.FieldType.int)) ∈ lw_all := lw_g (lw_at lw_m13 149 rfl) rfl
theorem q3124 : (Jvm.Cond.instanceMethod ({ cls := "WeirfoldLaneModel", name := "bestCost", desc := "(I)J" } : Jvm.MethodName)) ∈ lw_all := lw_g (lw_at lw_m13 151 rfl) rfl
theorem q3125 : (Jvm.Cond.selects "WeirfoldLaneModel" ({ cls := "WeirfoldLaneModel", name := "bestCost", desc := "(I)J" } : Jvm.MethodName) ({ cls := "WeirfoldLaneModel", name := "bestCost", desc := "(I)J" } : Jvm.MethodName)) ∈ lw_all := lw_g (lw_at lw_m13 152 rfl) rfl
theorem q3126 : (Jvm.Cond.code ({ cls := "WeirfoldLaneModel", name := "bestCost", desc := "(I)J" } : Jvm.MethodName) prog_25_method_88_code (2 : Nat) (Option.some Jvm.ClassFile.FieldType.long)) ∈ lw_all := lw_g (lw_at lw_m13 153 rfl) rfl
theorem q3128 : (Jvm.Cond.instanceMethod ({ cls := "WeirfoldLaneModel", name := "added", desc := "()I" } : Jvm.MethodName)) ∈ lw_all := lw_g (lw_at lw_m13 155 rfl) rfl
theorem q3129 : (Jvm.Cond.selects "WeirfoldLaneModel" ({ cls := "WeirfoldLaneModel", name := "added", desc := "()I" } : Jvm.MethodName) ({ cls := "WeirfoldLaneModel", name := "added", desc := "()I" } : Jvm.MethodName)) ∈ lw_all := lw_g (lw_at lw_m13 156 rfl) rfl
theorem q3130 : (Jvm.Cond.code ({ cls := "WeirfoldLaneModel", name := "added", desc := "()I" } : Jvm.MethodName) prog_25_method_89_code (1 : Nat) (Option.some Jvm.ClassFile.FieldType.int)) ∈ lw_all := lw_g (lw_at lw_m13 157 rfl) rfl
theorem q3132 : (Jvm.Cond.instanceMethod ({ cls := "WeirfoldLaneModel", name := "removed", desc := "()I" } : Jvm.MethodName)) ∈ lw_all := lw_g (lw_at lw_m13 159 rfl) rfl
theorem q3133 : (Jvm.Cond.selects "WeirfoldLaneModel" ({ cls := "WeirfoldLaneModel", name := "removed", desc := "()I" } : Jvm.MethodName) ({ cls := "WeirfoldLaneModel", name := "removed", desc := "()I" } : Jvm.MethodName)) ∈ lw_all := lw_g (lw_at lw_m13 160 rfl) rfl
theorem q3134 : (Jvm.Cond.code ({ cls := "WeirfoldLaneModel", name := "removed", desc := "()I" } : Jvm.MethodName) prog_25_method_90_code (1 : Nat) (Option.some Jvm.ClassFile.FieldType.int)) ∈ lw_all := lw_g (lw_at lw_m13 161 rfl) rfl
theorem q3136 : (Jvm.Cond.instanceMethod ({ cls := "WeirfoldLaneModel", name := "late", desc := "()I" } : Jvm.MethodName)) ∈ lw_all := lw_g (lw_at lw_m13 163 rfl) rfl
theorem q3137 : (Jvm.Cond.selects "WeirfoldLaneModel" ({ cls := "WeirfoldLaneModel", name := "late", desc := "()I" } : Jvm.MethodName) ({ cls := "WeirfoldLaneModel", name := "late", desc := "()I" } : Jvm.MethodName)) ∈ lw_all := lw_g (lw_at lw_m13 164 rfl) rfl
theorem q3138 : (Jvm.Cond.code ({ cls := "WeirfoldLaneModel", name := "late", desc := "()I" } : Jvm.MethodName) prog_25_method_91_code (1 : Nat) (Option.some Jvm.ClassFile.FieldType.int)) ∈ lw_all := lw_g (lw_at lw_m13 165 rfl) rfl
theorem q3140 : (Jvm.Cond.instanceMethod ({ cls := "WeirfoldLaneModel", name := "repaired", desc := "()I" } : Jvm.MethodName)) ∈ lw_all := lw_g (lw_at lw_m13 167 rfl) rfl
theorem q3141 : (Jvm.Cond.selects "WeirfoldLaneModel" ({ cls := "WeirfoldLaneModel", name := "repaired", desc := "()I" } : Jvm.MethodName) ({ cls := "WeirfoldLaneModel", name := "repaired", desc := "()I" } : Jvm.MethodName)) ∈ lw_all := lw_g (lw_at lw_m13 168 rfl) rfl
theorem q3142 : (Jvm.Cond.code ({ cls := "WeirfoldLaneModel", name := "repaired", desc := "()I" } : Jvm.MethodName) prog_25_method_92_code (1 : Nat) (Option.some Jvm.ClassFile.FieldType.int)) ∈ lw_all := lw_g (lw_at lw_m13 169 rfl) rfl
theorem q3144 : (Jvm.Cond.instanceMethod ({ cls := "WeirfoldLaneModel", name := "meanAmount", desc := "()D" } : Jvm.MethodName)) ∈ lw_all := lw_g (lw_at lw_m13 171 rfl) rfl
theorem q3145 : (Jvm.Cond.selects "WeirfoldLaneModel" ({ cls := "WeirfoldLaneModel", name := "meanAmount", desc := "()D" } : Jvm.MethodName) ({ cls := "WeirfoldLaneModel", name := "meanAmount", desc := "()D" } : Jvm.MethodName)) ∈ lw_all := lw_g (lw_at lw_m13 172 rfl) rfl
theorem q3146 : (Jvm.Cond.code ({ cls := "WeirfoldLaneModel", name := "meanAmount", desc := "()D" } : Jvm.MethodName) prog_25_method_93_code (3 : Nat) (Option.some Jvm.ClassFile.FieldType.double)) ∈ lw_all := lw_g (lw_at lw_m13 173 rfl) rfl
theorem q3148 : (Jvm.Cond.instanceMethod ({ cls := "WeirfoldLaneModel", name := "staleShare", desc := "()F" } : Jvm.MethodName)) ∈ lw_all := lw_g (lw_at lw_m13 175 rfl) rfl
theorem q3149 : (Jvm.Cond.selects "WeirfoldLaneModel" ({ cls := "WeirfoldLaneModel", name := "staleShare", desc := "()F" } : Jvm.MethodName) ({ cls := "WeirfoldLaneModel", name := "staleShare", desc := "()F" } : Jvm.MethodName)) ∈ lw_all := lw_g (lw_at lw_m13 176 rfl) rfl
theorem q3150 : (Jvm.Cond.code ({ cls := "WeirfoldLaneModel", name := "staleShare", desc := "()F" } : Jvm.MethodName) prog_25_method_94_code (1 : Nat) (Option.some Jvm.ClassFile.FieldType.float)) ∈ lw_all := lw_g (lw_at lw_m13 177 rfl) rfl
theorem q3152 : (Jvm.Cond.instanceMethod ({ cls := "WeirfoldLaneModel", name := "denial", desc := "()I" } : Jvm.MethodName)) ∈ lw_all := lw_g (lw_at lw_m13 179 rfl) rfl
theorem q3153 : (Jvm.Cond.selects "WeirfoldLaneModel" ({ cls := "WeirfoldLaneModel", name := "denial", desc := "()I" } : Jvm.MethodName) ({ cls := "WeirfoldLaneModel", name := "denial", desc := "()I" } : Jvm.MethodName)) ∈ lw_all := lw_g (lw_at lw_m13 180 rfl) rfl
theorem q3154 : (Jvm.Cond.code ({ cls := "WeirfoldLaneModel", name := "denial", desc := "()I" } : Jvm.MethodName) prog_25_method_95_code (1 : Nat) (Option.some Jvm.ClassFile.FieldType.int)) ∈ lw_all := lw_g (lw_at lw_m13 181 rfl) rfl
theorem q3156 : (Jvm.Cond.instanceMethod ({ cls := "WeirfoldLaneModel", name := "denialDetail", desc := "()I" } : Jvm.MethodName)) ∈ lw_all := lw_g (lw_at lw_m13 183 rfl) rfl
theorem q3157 : (Jvm.Cond.selects "WeirfoldLaneModel" ({ cls := "WeirfoldLaneModel", name := "denialDetail", desc := "()I" } : Jvm.MethodName) ({ cls := "WeirfoldLaneModel", name := "denialDetail", desc := "()I" } : Jvm.MethodName)) ∈ lw_all := lw_g (lw_at lw_m13 184 rfl) rfl
theorem q3158 : (Jvm.Cond.code ({ cls := "WeirfoldLaneModel", name := "denialDetail", desc := "()I" } : Jvm.MethodName) prog_25_method_96_code (1 : Nat) (Option.some Jvm.ClassFile.FieldType.int)) ∈ lw_all := lw_g (lw_at lw_m13 185 rfl) rfl
theorem q3160 : (Jvm.Cond.instanceMethod ({ cls := "WeirfoldLaneModel", name := "denialCause", desc := "()I" } : Jvm.MethodName)) ∈ lw_all := lw_g (lw_at lw_m13 187 rfl) rfl
theorem q3161 : (Jvm.Cond.selects "WeirfoldLaneModel" ({ cls := "WeirfoldLaneModel", name := "denialCause", desc := "()I" } : Jvm.MethodName) ({ cls := "WeirfoldLaneModel", name := "denialCause", desc := "()I" } : Jvm.MethodName)) ∈ lw_all := lw_g (lw_at lw_m13 188 rfl) rfl
theorem q3162 : (Jvm.Cond.code ({ cls := "WeirfoldLaneModel", name := "denialCause", desc := "()I" } : Jvm.MethodName) prog_25_method_97_code (1 : Nat) (Option.some Jvm.ClassFile.FieldType.int)) ∈ lw_all := lw_g (lw_at lw_m13 189 rfl) rfl
theorem q3164 : (Jvm.Cond.instanceMethod ({ cls := "WeirfoldLaneModel", name := "writeStep", desc := "(I)I" } : Jvm.MethodName)) ∈ lw_all := lw_g (lw_at lw_m13 191 rfl) rfl
theorem q3165 : (Jvm.Cond.selects "WeirfoldLaneModel" ({ cls := "WeirfoldLaneModel", name := "writeStep", desc := "(I)I" } : Jvm.MethodName) ({ cls := "WeirfoldLaneModel", name := "writeStep", desc := "(I)I" } : Jvm.MethodName)) ∈ lw_all := lw_g (lw_at lw_m13 192 rfl) rfl
theorem q3166 : (Jvm.Cond.code ({ cls := "WeirfoldLaneModel", name := "writeStep", desc := "(I)I" } : Jvm.MethodName) prog_25_method_100_code (3 : Nat) (Option.some Jvm.ClassFile.FieldType.int)) ∈ lw_all := lw_g (lw_at lw_m13 193 rfl) rfl
theorem q3167 : (Jvm.Cond.methodLink "WeirfoldLaneModel" (288 : Nat) ({ cls := "WeirfoldLaneModel", name := "writeNumber", desc := "(J)V" } : Jvm.MethodName)) ∈ lw_all := lw_g (lw_at lw_m13 194 rfl) rfl
theorem q3168 : (Jvm.Cond.privateMethod ({ cls := "WeirfoldLaneModel", name := "writeNumber", desc := "(J)V" } : Jvm.MethodName)) ∈ lw_tbl := lw_at lw_m13 195 rfl
theorem q3169 : (Jvm.Cond.instanceMethod ({ cls := "WeirfoldLaneModel", name := "writeNumber", desc := "(J)V" } : Jvm.MethodName)) ∈ lw_all := lw_g (lw_at lw_m13 196 rfl) rfl
theorem q3170 : (Jvm.Cond.code ({ cls := "WeirfoldLaneModel", name := "writeNumber", desc := "(J)V" } : Jvm.MethodName) prog_25_method_99_code (7 : Nat) (Option.none : Option Jvm.ClassFile.FieldType)) ∈ lw_all := lw_g (lw_at lw_m13 197 rfl) rfl
theorem q3171 : (Jvm.Cond.methodLink "WeirfoldLaneModel" (281 : Nat) ({ cls := "WeirfoldLaneModel", name := "write", desc := "(I)V" } : Jvm.MethodName)) ∈ lw_all := lw_g (lw_at lw_m13 198 rfl) rfl
theorem q3172 : (Jvm.Cond.privateMethod ({ cls := "WeirfoldLaneModel", name := "write", desc := "(I)V" } : Jvm.MethodName)) ∈ lw_tbl := lw_at lw_m13 199 rfl
theorem q3173 : (Jvm.Cond.instanceMethod ({ cls := "WeirfoldLaneModel", name := "write", desc := "(I)V" } : Jvm.MethodName)) ∈ lw_all := lw_g (lw_at lw_m13 200 rfl) rfl
theorem q3174 : (Jvm.Cond.code ({ cls := "WeirfoldLaneModel", name := "write", desc := "(I)V" } : Jvm.MethodName) prog_25_method_98_code (2 : Nat) (Option.none : Option Jvm.ClassFile.FieldType)) ∈ lw_all := lw_g (lw_at lw_m13 201 rfl) rfl
theorem q3175 : (Jvm.Cond.constantLong "WeirfoldLaneModel" (284 : Nat) (9 : Int64)) ∈ lw_all := lw_g (lw_at lw_m13 202 rfl) rfl
theorem q3176 : (Jvm.Cond.constantLong "WeirfoldLaneModel" (286 : Nat) (10 : Int64)) ∈ lw_all := lw_g (lw_at lw_m13 203 rfl) rfl
theorem q3178 : (Jvm.Cond.instanceMethod ({ cls := "WeirfoldLaneModel", name := "writePartition", desc := "(II)I" } : Jvm.MethodName)) ∈ lw_all := lw_g (lw_at lw_m13 205 rfl) rfl
theorem q3179 : (Jvm.Cond.selects "WeirfoldLaneModel" ({ cls := "WeirfoldLaneModel", name := "writePartition", desc := "(II)I" } : Jvm.MethodName) ({ cls := "WeirfoldLaneModel", name := "writePartition", desc := "(II)I" } : Jvm.MethodName)) ∈ lw_all := lw_g (lw_at lw_m13 206 rfl) rfl
theorem q3180 : (Jvm.Cond.code ({ cls := "WeirfoldLaneModel", name := "writePartition", desc := "(II)I" } : Jvm.MethodName) prog_25_method_101_code (4 : Nat) (Option.some Jvm.ClassFile.FieldType.int)) ∈ lw_all := lw_g (lw_at lw_m13 207 rfl) rfl
theorem q3182 : (Jvm.Cond.instanceMethod ({ cls := "WeirfoldLaneModel", name := "lineCharacter", desc := "(I)C" } : Jvm.MethodName)) ∈ lw_all := lw_g (lw_at lw_m13 209 rfl) rfl
theorem q3183 : (Jvm.Cond.selects "WeirfoldLaneModel" ({ cls := "WeirfoldLaneModel", name := "lineCharacter", desc := "(I)C" } : Jvm.MethodName) ({ cls := "WeirfoldLaneModel", name := "lineCharacter", desc := "(I)C" } : Jvm.MethodName)) ∈ lw_all := lw_g (lw_at lw_m13 210 rfl) rfl
theorem q3184 : (Jvm.Cond.code ({ cls := "WeirfoldLaneModel", name := "lineCharacter", desc := "(I)C" } : Jvm.MethodName) prog_25_method_102_code (2 : Nat) (Option.some Jvm.ClassFile.FieldType.char)) ∈ lw_all := lw_g (lw_at lw_m13 211 rfl) rfl
theorem q3186 : (Jvm.Cond.instanceMethod ({ cls := "WeirfoldLaneModel", name := "feed", desc := "(C)I" } : Jvm.MethodName)) ∈ lw_all := lw_g (lw_at lw_m13 213 rfl) rfl
theorem q3187 : (Jvm.Cond.selects "WeirfoldLaneModel" ({ cls := "WeirfoldLaneModel", name := "feed", desc := "(C)I" } : Jvm.MethodName) ({ cls := "WeirfoldLaneModel", name := "feed", desc := "(C)I" } : Jvm.MethodName)) ∈ lw_all := lw_g (lw_at lw_m13 214 rfl) rfl
theorem q3188 : (Jvm.Cond.code ({ cls := "WeirfoldLaneModel", name := "feed", desc := "(C)I" } : Jvm.MethodName) prog_25_method_103_code (2 : Nat) (Option.some Jvm.ClassFile.FieldType.int)) ∈ lw_all := lw_g (lw_at lw_m13 215 rfl) rfl
theorem q3190 : (Jvm.Cond.instanceMethod ({ cls := "WeirfoldLaneModel", name := "execute", desc := "()I" } : Jvm.MethodName)) ∈ lw_all := lw_g (lw_at lw_m13 217 rfl) rfl
theorem q3191 : (Jvm.Cond.selects "WeirfoldLaneModel" ({ cls := "WeirfoldLaneModel", name := "execute", desc := "()I" } : Jvm.MethodName) ({ cls := "WeirfoldLaneModel", name := "execute", desc := "()I" } : Jvm.MethodName)) ∈ lw_all := lw_g (lw_at lw_m13 218 rfl) rfl
theorem q3192 : (Jvm.Cond.code ({ cls := "WeirfoldLaneModel", name := "execute", desc := "()I" } : Jvm.MethodName) prog_25_method_120_code (5 : Nat) (Option.some Jvm.ClassFile.FieldType.int)) ∈ lw_all := lw_g (lw_at lw_m13 219 rfl) rfl
theorem q3193 : (Jvm.Cond.methodLink "WeirfoldLaneModel" (328 : Nat) ({ cls := "WeirfoldLaneModel", name := "parse", desc := "()V" } : Jvm.MethodName)) ∈ lw_all := lw_g (lw_at lw_m13 220 rfl) rfl
theorem q3194 : (Jvm.Cond.privateMethod ({ cls := "WeirfoldLaneModel", name := "parse", desc := "()V" } : Jvm.MethodName)) ∈ lw_tbl := lw_at lw_m13 221 rfl
theorem q3195 : (Jvm.Cond.instanceMethod ({ cls := "WeirfoldLaneModel", name := "parse", desc := "()V" } : Jvm.MethodName)) ∈ lw_all := lw_g (lw_at lw_m13 222 rfl) rfl
theorem q3196 : (Jvm.Cond.code ({ cls := "WeirfoldLaneModel", name := "parse", desc := "()V" } : Jvm.MethodName) prog_25_method_116_code (1 : Nat) (Option.none : Option Jvm.ClassFile.FieldType)) ∈ lw_all := lw_g (lw_at lw_m13 223 rfl) rfl
theorem q3197 : (Jvm.Cond.methodLink "WeirfoldLaneModel" (325 : Nat) ({ cls := "WeirfoldLaneModel", name := "command", desc := "()V" } : Jvm.MethodName)) ∈ lw_all := lw_g (lw_at lw_m13 224 rfl) rfl
theorem q3198 : (Jvm.Cond.privateMethod ({ cls := "WeirfoldLaneModel", name := "command", desc := "()V" } : Jvm.MethodName)) ∈ lw_tbl := lw_at lw_m13 225 rfl
theorem q3199 : (Jvm.Cond.instanceMethod ({ cls := "WeirfoldLaneModel", name := "command", desc := "()V" } : Jvm.MethodName)) ∈ lw_all := lw_g (lw_at lw_m13 226 rfl) rfl
theorem q3200 : (Jvm.Cond.code ({ cls := "WeirfoldLaneModel", name := "command", desc := "()V" } : Jvm.MethodName) prog_25_method_115_code (2 : Nat) (Option.none : Option Jvm.ClassFile.FieldType)) ∈ lw_all := lw_g (lw_at lw_m13 227 rfl) rfl
theorem q3201 : (Jvm.Cond.methodLink "WeirfoldLaneModel" (319 : Nat) ({ cls := "WeirfoldLaneModel", name := "word", desc := "()I" } : Jvm.MethodName)) ∈ lw_all := lw_g (lw_at lw_m13 228 rfl) rfl
theorem q3202 : (Jvm.Cond.privateMethod ({ cls := "WeirfoldLaneModel", name := "word", desc := "()I" } : Jvm.MethodName)) ∈ lw_tbl := lw_at lw_m13 229 rfl
theorem q3203 : (Jvm.Cond.instanceMethod ({ cls := "WeirfoldLaneModel", name := "word", desc := "()I" } : Jvm.MethodName)) ∈ lw_all := lw_g (lw_at lw_m13 230 rfl) rfl
theorem q3204 : (Jvm.Cond.code ({ cls := "WeirfoldLaneModel", name := "word", desc := "()I" } : Jvm.MethodName) prog_25_method_113_code (4 : Nat) (Option.some Jvm.ClassFile.FieldType.int)) ∈ lw_all := lw_g (lw_at lw_m13 231 rfl) rfl
theorem q3205 : (Jvm.Cond.methodLink "WeirfoldLaneModel" (304 : Nat) ({ cls := "WeirfoldLaneModel", name := "spelled", desc := "(II)I" } : Jvm.MethodName)) ∈ lw_all := lw_g (lw_at lw_m13 232 rfl) rfl
theorem q3206 : (Jvm.Cond.static ({ cls := "WeirfoldLaneModel", name := "spelled", desc := "(II)I" } : Jvm.MethodName)) ∈ lw_all := lw_g (lw_at lw_m13 233 rfl) rfl
theorem q3207 : (Jvm.Cond.code ({ cls := "WeirfoldLaneModel", name := "spelled", desc := "(II)I" } : Jvm.MethodName) prog_25_method_112_code (2 : Nat) (Option.some Jvm.ClassFile.FieldType.int)) ∈ lw_all := lw_g (lw_at lw_m13 234 rfl) rfl
theorem q3208 : (Jvm.Cond.methodLink "WeirfoldLaneModel" (300 : Nat) ({ cls := "WeirfoldLaneModel", name := "pick", desc := "(IIIIIII)I" } : Jvm.MethodName)) ∈ lw_all := lw_g (lw_at lw_m13 235 rfl) rfl
theorem q3209 : (Jvm.Cond.static ({ cls := "WeirfoldLaneModel", name := "pick", desc := "(IIIIIII)I" } : Jvm.MethodName)) ∈ lw_all := lw_g (lw_at lw_m13 236 rfl) rfl
theorem q3210 : (Jvm.Cond.code ({ cls := "WeirfoldLaneModel", name := "pick", desc := "(IIIIIII)I" } : Jvm.MethodName) prog_25_method_111_code (7 : Nat) (Option.some Jvm.ClassFile.FieldType.int)) ∈ lw_all := lw_g (lw_at lw_m13 237 rfl) rfl
theorem q3211 : (Jvm.Cond.methodLink "WeirfoldLaneModel" (322 : Nat) ({ cls := "WeirfoldLaneModel", name := "readsRest", desc := "(I)V" } : Jvm.MethodName)) ∈ lw_all := lw_g (lw_at lw_m13 238 rfl) rfl
theorem q3212 : (Jvm.Cond.privateMethod ({ cls := "WeirfoldLaneModel", name := "readsRest", desc := "(I)V" } : Jvm.MethodName)) ∈ lw_tbl := lw_at lw_m13 239 rfl
theorem q3213 : (Jvm.Cond.instanceMethod ({ cls := "WeirfoldLaneModel", name := "readsRest", desc := "(I)V" } : Jvm.MethodName)) ∈ lw_all := lw_g (lw_at lw_m14 0 rfl) rfl
theorem q3214 : (Jvm.Cond.code ({ cls := "WeirfoldLaneModel", name := "readsRest", desc := "(I)V" } : Jvm.MethodName) prog_25_method_114_code (2 : Nat) (Option.none : Option Jvm.ClassFile.FieldType)) ∈ lw_all := lw_g (lw_at lw_m14 1 rfl) rfl
theorem q3215 : (Jvm.Cond.methodLink "WeirfoldLaneModel" (294 : Nat) ({ cls := "WeirfoldLaneModel", name := "sign", desc := "(I)V" } : Jvm.MethodName)) ∈ lw_all := lw_g (lw_at lw_m14 2 rfl) rfl
theorem q3216 : (Jvm.Cond.privateMethod ({ cls := "WeirfoldLaneModel", name := "sign", desc := "(I)V" } : Jvm.MethodName)) ∈ lw_tbl := lw_at lw_m14 3 rfl
theorem q3217 : (Jvm.Cond.instanceMethod ({ cls := "WeirfoldLaneModel", name := "sign", desc := "(I)V" } : Jvm.MethodName)) ∈ lw_all := lw_g (lw_at lw_m14 4 rfl) rfl
theorem q3218 : (Jvm.Cond.code ({ cls := "WeirfoldLaneModel", name := "sign", desc := "(I)V" } : Jvm.MethodName) prog_25_method_105_code (2 : Nat) (Option.none : Option Jvm.ClassFile.FieldType)) ∈ lw_all := lw_g (lw_at lw_m14 5 rfl) rfl
theorem q3219 : (Jvm.Cond.methodLink "WeirfoldLaneModel" (292 : Nat) ({ cls := "WeirfoldLaneModel", name := "mark", desc := "()I" } : Jvm.MethodName)) ∈ lw_all := lw_g (lw_at lw_m14 6 rfl) rfl
theorem q3220 : (Jvm.Cond.privateMethod ({ cls := "WeirfoldLaneModel", name := "mark", desc := "()I" } : Jvm.MethodName)) ∈ lw_tbl := lw_at lw_m14 7 rfl
theorem q3221 : (Jvm.Cond.instanceMethod ({ cls := "WeirfoldLaneModel", name := "mark", desc := "()I" } : Jvm.MethodName)) ∈ lw_all := lw_g (lw_at lw_m14 8 rfl) rfl
theorem q3222 : (Jvm.Cond.code ({ cls := "WeirfoldLaneModel", name := "mark", desc := "()I" } : Jvm.MethodName) prog_25_method_104_code (1 : Nat) (Option.some Jvm.ClassFile.FieldType.int)) ∈ lw_all := lw_g (lw_at lw_m14 9 rfl) rfl
theorem q3223 : (Jvm.Cond.methodLink "WeirfoldLaneModel" (307 : Nat) ({ cls := "WeirfoldLaneModel", name := "group", desc := "()I" } : Jvm.MethodName)) ∈ lw_all := lw_g (lw_at lw_m14 10 rfl) rfl
theorem q3224 : (Jvm.Cond.privateMethod ({ cls := "WeirfoldLaneModel", name := "group", desc := "()I" } : Jvm.MethodName)) ∈ lw_tbl := lw_at lw_m14 11 rfl
theorem q3225 : (Jvm.Cond.instanceMethod ({ cls := "WeirfoldLaneModel", name := "group", desc := "()I" } : Jvm.MethodName)) ∈ lw_all := lw_g (lw_at lw_m14 12 rfl) rfl
theorem q3226 : (Jvm.Cond.code ({ cls := "WeirfoldLaneModel", name := "group", desc := "()I" } : Jvm.MethodName) prog_25_method_110_code (2 : Nat) (Option.some Jvm.ClassFile.FieldType.int)) ∈ lw_all := lw_g (lw_at lw_m14 13 rfl) rfl
theorem q3227 : (Jvm.Cond.methodLink "WeirfoldLaneModel" (310 : Nat) ({ cls := "WeirfoldLaneModel", name := "put", desc := "(II)V" } : Jvm.MethodName)) ∈ lw_all := lw_g (lw_at lw_m14 14 rfl) rfl
theorem q3228 : (Jvm.Cond.privateMethod ({ cls := "WeirfoldLaneModel", name := "put", desc := "(II)V" } : Jvm.MethodName)) ∈ lw_tbl := lw_at lw_m14 15 rfl
theorem q3229 : (Jvm.Cond.instanceMethod ({ cls := "WeirfoldLaneModel", name := "put", desc := "(II)V" } : Jvm.MethodName)) ∈ lw_all := lw_g (lw_at lw_m14 16 rfl) rfl
theorem q3230 : (Jvm.Cond.code ({ cls := "WeirfoldLaneModel", name := "put", desc := "(II)V" } : Jvm.MethodName) prog_25_method_108_code (3 : Nat) (Option.none : Option Jvm.ClassFile.FieldType)) ∈ lw_all := lw_g (lw_at lw_m14 17 rfl) rfl
theorem q3231 : (Jvm.Cond.methodLink "WeirfoldLaneModel" (297 : Nat) ({ cls := "WeirfoldLaneModel", name := "digits", desc := "(I)I" } : Jvm.MethodName)) ∈ lw_all := lw_g (lw_at lw_m14 18 rfl) rfl
theorem q3232 : (Jvm.Cond.privateMethod ({ cls := "WeirfoldLaneModel", name := "digits", desc := "(I)I" } : Jvm.MethodName)) ∈ lw_tbl := lw_at lw_m14 19 rfl
theorem q3233 : (Jvm.Cond.instanceMethod ({ cls := "WeirfoldLaneModel", name := "digits", desc := "(I)I" } : Jvm.MethodName)) ∈ lw_all := lw_g (lw_at lw_m14 20 rfl) rfl
theorem q3234 : (Jvm.Cond.code ({ cls := "WeirfoldLaneModel", name := "digits", desc := "(I)I" } : Jvm.MethodName) prog_25_method_106_code (4 : Nat) (Option.some Jvm.ClassFile.FieldType.int)) ∈ lw_all := lw_g (lw_at lw_m14 21 rfl) rfl
theorem q3235 : (Jvm.Cond.methodLink "WeirfoldLaneModel" (313 : Nat) ({ cls := "WeirfoldLaneModel", name := "behindBlank", desc := "(I)I" } : Jvm.MethodName)) ∈ lw_all := lw_g (lw_at lw_m14 22 rfl) rfl
theorem q3236 : (Jvm.Cond.privateMethod ({ cls := "WeirfoldLaneModel", name := "behindBlank", desc := "(I)I" } : Jvm.MethodName)) ∈ lw_tbl := lw_at lw_m14 23 rfl
theorem q3237 : (Jvm.Cond.instanceMethod ({ cls := "WeirfoldLaneModel", name := "behindBlank", desc := "(I)I" } : Jvm.MethodName)) ∈ lw_all := lw_g (lw_at lw_m14 24 rfl) rfl
theorem q3238 : (Jvm.Cond.code ({ cls := "WeirfoldLaneModel", name := "behindBlank", desc := "(I)I" } : Jvm.MethodName) prog_25_method_107_code (2 : Nat) (Option.some Jvm.ClassFile.FieldType.int)) ∈ lw_all := lw_g (lw_at lw_m14 25 rfl) rfl
theorem q3239 : (Jvm.Cond.methodLink "WeirfoldLaneModel" (316 : Nat) ({ cls := "WeirfoldLaneModel", name := "oneOf", desc := "(III)I" } : Jvm.MethodName)) ∈ lw_all := lw_g (lw_at lw_m14 26 rfl) rfl
theorem q3240 : (Jvm.Cond.privateMethod ({ cls := "WeirfoldLaneModel", name := "oneOf", desc := "(III)I" } : Jvm.MethodName)) ∈ lw_tbl := lw_at lw_m14 27 rfl
theorem q3241 : (Jvm.Cond.instanceMethod ({ cls := "WeirfoldLaneModel", name := "oneOf", desc := "(III)I" } : Jvm.MethodName)) ∈ lw_all := lw_g (lw_at lw_m14 28 rfl) rfl
theorem q3242 : (Jvm.Cond.code ({ cls := "WeirfoldLaneModel", name := "oneOf", desc := "(III)I" } : Jvm.MethodName) prog_25_method_109_code (5 : Nat) (Option.some Jvm.ClassFile.FieldType.int)) ∈ lw_all := lw_g (lw_at lw_m14 29 rfl) rfl
theorem q3243 : (Jvm.Cond.methodLink "WeirfoldLaneModel" (331 : Nat) ({ cls := "WeirfoldLaneModel", name := "why", desc := "(IIII)I" } : Jvm.MethodName)) ∈ lw_all := lw_g (lw_at lw_m14 30 rfl) rfl
theorem q3244 : (Jvm.Cond.privateMethod ({ cls := "WeirfoldLaneModel", name := "why", desc := "(IIII)I" } : Jvm.MethodName)) ∈ lw_tbl := lw_at lw_m14 31 rfl
theorem q3245 : (Jvm.Cond.instanceMethod ({ cls := "WeirfoldLaneModel", name := "why", desc := "(IIII)I" } : Jvm.MethodName)) ∈ lw_all := lw_g (lw_at lw_m14 32 rfl) rfl
theorem q3246 : (Jvm.Cond.code ({ cls := "WeirfoldLaneModel", name := "why", desc := "(IIII)I" } : Jvm.MethodName) prog_25_method_117_code (5 : Nat) (Option.some Jvm.ClassFile.FieldType.int)) ∈ lw_all := lw_g (lw_at lw_m14 33 rfl) rfl
theorem q3247 : (Jvm.Cond.methodLink "WeirfoldLaneModel" (334 : Nat) ({ cls := "WeirfoldLaneModel", name := "does", desc := "(IIII)I" } : Jvm.MethodName)) ∈ lw_all := lw_g (lw_at lw_m14 34 rfl) rfl
theorem q3248 : (Jvm.Cond.privateMethod ({ cls := "WeirfoldLaneModel", name := "does", desc := "(IIII)I" } : Jvm.MethodName)) ∈ lw_tbl := lw_at lw_m14 35 rfl
theorem q3249 : (Jvm.Cond.instanceMethod ({ cls := "WeirfoldLaneModel", name := "does", desc := "(IIII)I" } : Jvm.MethodName)) ∈ lw_all := lw_g (lw_at lw_m14 36 rfl) rfl
theorem q3250 : (Jvm.Cond.code ({ cls := "WeirfoldLaneModel", name := "does", desc := "(IIII)I" } : Jvm.MethodName) prog_25_method_118_code (5 : Nat) (Option.some Jvm.ClassFile.FieldType.int)) ∈ lw_all := lw_g (lw_at lw_m14 37 rfl) rfl
theorem q3251 : (Jvm.Cond.methodLink "WeirfoldLaneModel" (337 : Nat) ({ cls := "WeirfoldLaneModel", name := "denied", desc := "(I)I" } : Jvm.MethodName)) ∈ lw_all := lw_g (lw_at lw_m14 38 rfl) rfl
theorem q3252 : (Jvm.Cond.static ({ cls := "WeirfoldLaneModel", name := "denied", desc := "(I)I" } : Jvm.MethodName)) ∈ lw_all := lw_g (lw_at lw_m14 39 rfl) rfl
theorem q3253 : (Jvm.Cond.code ({ cls := "WeirfoldLaneModel", name := "denied", desc := "(I)I" } : Jvm.MethodName) prog_25_method_119_code (1 : Nat) (Option.some Jvm.ClassFile.FieldType.int)) ∈ lw_all := lw_g (lw_at lw_m14 40 rfl) rfl
theorem q3255 : (Jvm.Cond.instanceMethod ({ cls := "WeirfoldLaneModel", name := "faultPosition", desc := "()I" } : Jvm.MethodName)) ∈ lw_all := lw_g (lw_at lw_m14 42 rfl) rfl
theorem q3256 : (Jvm.Cond.selects "WeirfoldLaneModel" ({ cls := "WeirfoldLaneModel", name := "faultPosition", desc := "()I" } : Jvm.MethodName) ({ cls := "WeirfoldLaneModel", name := "faultPosition", desc := "()I" } : Jvm.MethodName)) ∈ lw_all := lw_g (lw_at lw_m14 43 rfl) rfl
theorem q3257 : (Jvm.Cond.code ({ cls := "WeirfoldLaneModel", name := "faultPosition", desc := "()I" } : Jvm.MethodName) prog_25_method_121_code (1 : Nat) (Option.some Jvm.ClassFile.FieldType.int)) ∈ lw_all := lw_g (lw_at lw_m14 44 rfl) rfl
theorem q3259 : (Jvm.Cond.instanceMethod ({ cls := "WeirfoldLaneModel", name := "undo", desc := "()I" } : Jvm.MethodName)) ∈ lw_all := lw_g (lw_at lw_m14 46 rfl) rfl
theorem q3260 : (Jvm.Cond.selects "WeirfoldLaneModel" ({ cls := "WeirfoldLaneModel", name := "undo", desc := "()I" } : Jvm.MethodName) ({ cls := "WeirfoldLaneModel", name := "undo", desc := "()I" } : Jvm.MethodName)) ∈ lw_all := lw_g (lw_at lw_m14 47 rfl) rfl
theorem q3261 : (Jvm.Cond.code ({ cls := "WeirfoldLaneModel", name := "undo", desc := "()I" } : Jvm.MethodName) prog_25_method_122_code (1 : Nat) (Option.some Jvm.ClassFile.FieldType.int)) ∈ lw_all := lw_g (lw_at lw_m14 48 rfl) rfl
theorem q3263 : (Jvm.Cond.instanceMethod ({ cls := "WeirfoldLaneModel", name := "undoCount", desc := "()I" } : Jvm.MethodName)) ∈ lw_all := lw_g (lw_at lw_m14 50 rfl) rfl
theorem q3264 : (Jvm.Cond.selects "WeirfoldLaneModel" ({ cls := "WeirfoldLaneModel", name := "undoCount", desc := "()I" } : Jvm.MethodName) ({ cls := "WeirfoldLaneModel", name := "undoCount", desc := "()I" } : Jvm.MethodName)) ∈ lw_all := lw_g (lw_at lw_m14 51 rfl) rfl
theorem q3265 : (Jvm.Cond.code ({ cls := "WeirfoldLaneModel", name := "undoCount", desc := "()I" } : Jvm.MethodName) prog_25_method_123_code (1 : Nat) (Option.some Jvm.ClassFile.FieldType.int)) ∈ lw_all := lw_g (lw_at lw_m14 52 rfl) rfl
theorem q3267 : (Jvm.Cond.instanceMethod ({ cls := "WeirfoldLaneModel", name := "saveSnapshot", desc := "()I" } : Jvm.MethodName)) ∈ lw_all := lw_g (lw_at lw_m14 54 rfl) rfl
theorem q3268 : (Jvm.Cond.selects "WeirfoldLaneModel" ({ cls := "WeirfoldLaneModel", name := "saveSnapshot", desc := "()I" } : Jvm.MethodName) ({ cls := "WeirfoldLaneModel", name := "saveSnapshot", desc := "()I" } : Jvm.MethodName)) ∈ lw_all := lw_g (lw_at lw_m14 55 rfl) rfl
theorem q3269 : (Jvm.Cond.code ({ cls := "WeirfoldLaneModel", name := "saveSnapshot", desc := "()I" } : Jvm.MethodName) prog_25_method_124_code (1 : Nat) (Option.some Jvm.ClassFile.FieldType.int)) ∈ lw_all := lw_g (lw_at lw_m14 56 rfl) rfl
theorem q3271 : (Jvm.Cond.instanceMethod ({ cls := "WeirfoldLaneModel", name := "restoreSnapshot", desc := "()I" } : Jvm.MethodName)) ∈ lw_all := lw_g (lw_at lw_m14 58 rfl) rfl
theorem q3272 : (Jvm.Cond.selects "WeirfoldLaneModel" ({ cls := "WeirfoldLaneModel", name := "restoreSnapshot", desc := "()I" } : Jvm.MethodName) ({ cls := "WeirfoldLaneModel", name := "restoreSnapshot", desc := "()I" } : Jvm.MethodName)) ∈ lw_all := lw_g (lw_at lw_m14 59 rfl) rfl
theorem q3273 : (Jvm.Cond.code ({ cls := "WeirfoldLaneModel", name := "restoreSnapshot", desc := "()I" } : Jvm.MethodName) prog_25_method_125_code (1 : Nat) (Option.some Jvm.ClassFile.FieldType.int)) ∈ lw_all := lw_g (lw_at lw_m14 60 rfl) rfl
theorem q3306 : (Jvm.Cond.castable "WeirfoldLaneModel" "java/lang/Object") ∈ lw_tbl := lw_at lw_m14 93 rfl
theorem in_X3 : ∀ w ∈ wsX30, w ∈ lw_all := lw_in wsX30 [2724, 2726, 2728, 2730, 2732, 2734, 2736, 2738, 2740, 2742, 2744, 2746, 2748, 2750, 2752, 2754, 2756, 2758, 2760, 2762, 2764, 2766, 2768, 2770, 2772, 2774, 2776, 2778, 2780] (by decide +kernel) (by decide +kernel)
