/-! WeirfoldLaneLaw -/
set_option maxRecDepth 100000
def RX0 : String := "WeirfoldLaneLaw"
abbrev cX0_addRow : ByteArray := method_3_code
def yX0_addRow : MethodName := ⟨RX0, "addRow", "(LWeirfoldLane;CII[J)I"⟩
def dkwX0_addRow_1 : List UInt8 := [172]
abbrev dktX0_addRow_1 : List UInt8 := dkwX0_addRow_1 ++ []
def dkwX0_addRow_0 : List UInt8 := [25, 4, 3, 42, 27, 28, 29, 182, 0, 7, 133, 80, 167, 0, 11, 58, 5, 4, 172, 58, 5, 5, 172, 3]
abbrev dktX0_addRow_0 : List UInt8 := dkwX0_addRow_0 ++ dktX0_addRow_1
theorem dksX0_addRow_0 : cX0_addRow.data.toList.drop 0 = dktX0_addRow_0 := by decide +kernel
theorem dksX0_addRow_1 : cX0_addRow.data.toList.drop 24 = dktX0_addRow_1 := dk_seg dksX0_addRow_0 24 rfl rfl
theorem dX0_addRow_0 : decode cX0_addRow 0 = .ok (.aload 4, 2) := dk_25 4 (dk_at dksX0_addRow_0 0 rfl rfl)
theorem dX0_addRow_2 : decode cX0_addRow 2 = .ok (.iconst 0, 1) := dk_3 (dk_at dksX0_addRow_0 2 rfl rfl)
theorem dX0_addRow_3 : decode cX0_addRow 3 = .ok (.aload_n 0, 1) := dk_42 (dk_at dksX0_addRow_0 3 rfl rfl)
theorem dX0_addRow_4 : decode cX0_addRow 4 = .ok (.iload_n 1, 1) := dk_27 (dk_at dksX0_addRow_0 4 rfl rfl)
theorem dX0_addRow_5 : decode cX0_addRow 5 = .ok (.iload_n 2, 1) := dk_28 (dk_at dksX0_addRow_0 5 rfl rfl)
theorem dX0_addRow_6 : decode cX0_addRow 6 = .ok (.iload_n 3, 1) := dk_29 (dk_at dksX0_addRow_0 6 rfl rfl)
theorem dX0_addRow_7 : decode cX0_addRow 7 = .ok (.invokevirtual 7, 3) := dk_182 0 7 (dk_at dksX0_addRow_0 7 rfl rfl)
theorem dX0_addRow_10 : decode cX0_addRow 10 = .ok (.i2l, 1) := dk_133 (dk_at dksX0_addRow_0 10 rfl rfl)
theorem dX0_addRow_11 : decode cX0_addRow 11 = .ok (.lastore, 1) := dk_80 (dk_at dksX0_addRow_0 11 rfl rfl)
theorem dX0_addRow_12 : decode cX0_addRow 12 = .ok (.goto 11, 3) := dk_167 0 11 (dk_at dksX0_addRow_0 12 rfl rfl)
theorem dX0_addRow_15 : decode cX0_addRow 15 = .ok (.astore 5, 2) := dk_58 5 (dk_at dksX0_addRow_0 15 rfl rfl)
theorem dX0_addRow_17 : decode cX0_addRow 17 = .ok (.iconst 1, 1) := dk_4 (dk_at dksX0_addRow_0 17 rfl rfl)
theorem dX0_addRow_18 : decode cX0_addRow 18 = .ok (.ireturn, 1) := dk_172 (dk_at dksX0_addRow_0 18 rfl rfl)
theorem dX0_addRow_19 : decode cX0_addRow 19 = .ok (.astore 5, 2) := dk_58 5 (dk_at dksX0_addRow_0 19 rfl rfl)
theorem dX0_addRow_21 : decode cX0_addRow 21 = .ok (.iconst 2, 1) := dk_5 (dk_at dksX0_addRow_0 21 rfl rfl)
theorem dX0_addRow_22 : decode cX0_addRow 22 = .ok (.ireturn, 1) := dk_172 (dk_at dksX0_addRow_0 22 rfl rfl)
theorem dX0_addRow_23 : decode cX0_addRow 23 = .ok (.iconst 0, 1) := dk_3 (dk_at dksX0_addRow_0 23 rfl rfl)
theorem dX0_addRow_24 : decode cX0_addRow 24 = .ok (.ireturn, 1) := dk_172 (dk_at dksX0_addRow_1 0 rfl rfl)
abbrev cX0_removeRow : ByteArray := method_4_code
def yX0_removeRow : MethodName := ⟨RX0, "removeRow", "(LWeirfoldLane;I[J)I"⟩
def dkwX0_removeRow_0 : List UInt8 := [44, 3, 42, 27, 182, 0, 17, 133, 80, 167, 0, 6, 78, 4, 172, 3, 172]
abbrev dktX0_removeRow_0 : List UInt8 := dkwX0_removeRow_0 ++ []
theorem dksX0_removeRow_0 : cX0_removeRow.data.toList.drop 0 = dktX0_removeRow_0 := by decide +kernel
theorem dX0_removeRow_0 : decode cX0_removeRow 0 = .ok (.aload_n 2, 1) := dk_44 (dk_at dksX0_removeRow_0 0 rfl rfl)
theorem dX0_removeRow_1 : decode cX0_removeRow 1 = .ok (.iconst 0, 1) := dk_3 (dk_at dksX0_removeRow_0 1 rfl rfl)
theorem dX0_removeRow_2 : decode cX0_removeRow 2 = .ok (.aload_n 0, 1) := dk_42 (dk_at dksX0_removeRow_0 2 rfl rfl)
theorem dX0_removeRow_3 : decode cX0_removeRow 3 = .ok (.iload_n 1, 1) := dk_27 (dk_at dksX0_removeRow_0 3 rfl rfl)
theorem dX0_removeRow_4 : decode cX0_removeRow 4 = .ok (.invokevirtual 17, 3) := dk_182 0 17 (dk_at dksX0_removeRow_0 4 rfl rfl)
theorem dX0_removeRow_7 : decode cX0_removeRow 7 = .ok (.i2l, 1) := dk_133 (dk_at dksX0_removeRow_0 7 rfl rfl)
theorem dX0_removeRow_8 : decode cX0_removeRow 8 = .ok (.lastore, 1) := dk_80 (dk_at dksX0_removeRow_0 8 rfl rfl)
theorem dX0_removeRow_9 : decode cX0_removeRow 9 = .ok (.goto 6, 3) := dk_167 0 6 (dk_at dksX0_removeRow_0 9 rfl rfl)
theorem dX0_removeRow_12 : decode cX0_removeRow 12 = .ok (.astore_n 3, 1) := dk_78 (dk_at dksX0_removeRow_0 12 rfl rfl)
theorem dX0_removeRow_13 : decode cX0_removeRow 13 = .ok (.iconst 1, 1) := dk_4 (dk_at dksX0_removeRow_0 13 rfl rfl)
theorem dX0_removeRow_14 : decode cX0_removeRow 14 = .ok (.ireturn, 1) := dk_172 (dk_at dksX0_removeRow_0 14 rfl rfl)
theorem dX0_removeRow_15 : decode cX0_removeRow 15 = .ok (.iconst 0, 1) := dk_3 (dk_at dksX0_removeRow_0 15 rfl rfl)
theorem dX0_removeRow_16 : decode cX0_removeRow 16 = .ok (.ireturn, 1) := dk_172 (dk_at dksX0_removeRow_0 16 rfl rfl)
abbrev cX0_beginDay : ByteArray := method_5_code
def yX0_beginDay : MethodName := ⟨RX0, "beginDay", "(LWeirfoldLane;[J)I"⟩
def dkwX0_beginDay_0 : List UInt8 := [43, 3, 42, 182, 0, 23, 133, 80, 167, 0, 6, 77, 4, 172, 3, 172]
abbrev dktX0_beginDay_0 : List UInt8 := dkwX0_beginDay_0 ++ []
theorem dksX0_beginDay_0 : cX0_beginDay.data.toList.drop 0 = dktX0_beginDay_0 := by decide +kernel
theorem dX0_beginDay_0 : decode cX0_beginDay 0 = .ok (.aload_n 1, 1) := dk_43 (dk_at dksX0_beginDay_0 0 rfl rfl)
theorem dX0_beginDay_1 : decode cX0_beginDay 1 = .ok (.iconst 0, 1) := dk_3 (dk_at dksX0_beginDay_0 1 rfl rfl)
theorem dX0_beginDay_2 : decode cX0_beginDay 2 = .ok (.aload_n 0, 1) := dk_42 (dk_at dksX0_beginDay_0 2 rfl rfl)
theorem dX0_beginDay_3 : decode cX0_beginDay 3 = .ok (.invokevirtual 23, 3) := dk_182 0 23 (dk_at dksX0_beginDay_0 3 rfl rfl)
theorem dX0_beginDay_6 : decode cX0_beginDay 6 = .ok (.i2l, 1) := dk_133 (dk_at dksX0_beginDay_0 6 rfl rfl)
theorem dX0_beginDay_7 : decode cX0_beginDay 7 = .ok (.lastore, 1) := dk_80 (dk_at dksX0_beginDay_0 7 rfl rfl)
theorem dX0_beginDay_8 : decode cX0_beginDay 8 = .ok (.goto 6, 3) := dk_167 0 6 (dk_at dksX0_beginDay_0 8 rfl rfl)
theorem dX0_beginDay_11 : decode cX0_beginDay 11 = .ok (.astore_n 2, 1) := dk_77 (dk_at dksX0_beginDay_0 11 rfl rfl)
theorem dX0_beginDay_12 : decode cX0_beginDay 12 = .ok (.iconst 1, 1) := dk_4 (dk_at dksX0_beginDay_0 12 rfl rfl)
theorem dX0_beginDay_13 : decode cX0_beginDay 13 = .ok (.ireturn, 1) := dk_172 (dk_at dksX0_beginDay_0 13 rfl rfl)
theorem dX0_beginDay_14 : decode cX0_beginDay 14 = .ok (.iconst 0, 1) := dk_3 (dk_at dksX0_beginDay_0 14 rfl rfl)
theorem dX0_beginDay_15 : decode cX0_beginDay 15 = .ok (.ireturn, 1) := dk_172 (dk_at dksX0_beginDay_0 15 rfl rfl)
abbrev cX0_rowAt : ByteArray := method_6_code
def yX0_rowAt : MethodName := ⟨RX0, "rowAt", "(LWeirfoldLane;I[J)I"⟩
def dkwX0_rowAt_0 : List UInt8 := [44, 3, 42, 27, 182, 0, 27, 133, 80, 167, 0, 6, 78, 4, 172, 3, 172]
abbrev dktX0_rowAt_0 : List UInt8 := dkwX0_rowAt_0 ++ []
theorem dksX0_rowAt_0 : cX0_rowAt.data.toList.drop 0 = dktX0_rowAt_0 := by decide +kernel
theorem dX0_rowAt_0 : decode cX0_rowAt 0 = .ok (.aload_n 2, 1) := dk_44 (dk_at dksX0_rowAt_0 0 rfl rfl)
theorem dX0_rowAt_1 : decode cX0_rowAt 1 = .ok (.iconst 0, 1) := dk_3 (dk_at dksX0_rowAt_0 1 rfl rfl)
theorem dX0_rowAt_2 : decode cX0_rowAt 2 = .ok (.aload_n 0, 1) := dk_42 (dk_at dksX0_rowAt_0 2 rfl rfl)
theorem dX0_rowAt_3 : decode cX0_rowAt 3 = .ok (.iload_n 1, 1) := dk_27 (dk_at dksX0_rowAt_0 3 rfl rfl)
theorem dX0_rowAt_4 : decode cX0_rowAt 4 = .ok (.invokevirtual 27, 3) := dk_182 0 27 (dk_at dksX0_rowAt_0 4 rfl rfl)
theorem dX0_rowAt_7 : decode cX0_rowAt 7 = .ok (.i2l, 1) := dk_133 (dk_at dksX0_rowAt_0 7 rfl rfl)
theorem dX0_rowAt_8 : decode cX0_rowAt 8 = .ok (.lastore, 1) := dk_80 (dk_at dksX0_rowAt_0 8 rfl rfl)
theorem dX0_rowAt_9 : decode cX0_rowAt 9 = .ok (.goto 6, 3) := dk_167 0 6 (dk_at dksX0_rowAt_0 9 rfl rfl)
theorem dX0_rowAt_12 : decode cX0_rowAt 12 = .ok (.astore_n 3, 1) := dk_78 (dk_at dksX0_rowAt_0 12 rfl rfl)
theorem dX0_rowAt_13 : decode cX0_rowAt 13 = .ok (.iconst 1, 1) := dk_4 (dk_at dksX0_rowAt_0 13 rfl rfl)
theorem dX0_rowAt_14 : decode cX0_rowAt 14 = .ok (.ireturn, 1) := dk_172 (dk_at dksX0_rowAt_0 14 rfl rfl)
theorem dX0_rowAt_15 : decode cX0_rowAt 15 = .ok (.iconst 0, 1) := dk_3 (dk_at dksX0_rowAt_0 15 rfl rfl)
theorem dX0_rowAt_16 : decode cX0_rowAt 16 = .ok (.ireturn, 1) := dk_172 (dk_at dksX0_rowAt_0 16 rfl rfl)
abbrev cX0_dayOf : ByteArray := method_7_code
def yX0_dayOf : MethodName := ⟨RX0, "dayOf", "(LWeirfoldLane;I[J)I"⟩
def dkwX0_dayOf_0 : List UInt8 := [44, 3, 42, 27, 182, 0, 30, 133, 80, 167, 0, 6, 78, 4, 172, 3, 172]
abbrev dktX0_dayOf_0 : List UInt8 := dkwX0_dayOf_0 ++ []
theorem dksX0_dayOf_0 : cX0_dayOf.data.toList.drop 0 = dktX0_dayOf_0 := by decide +kernel
theorem dX0_dayOf_0 : decode cX0_dayOf 0 = .ok (.aload_n 2, 1) := dk_44 (dk_at dksX0_dayOf_0 0 rfl rfl)
theorem dX0_dayOf_1 : decode cX0_dayOf 1 = .ok (.iconst 0, 1) := dk_3 (dk_at dksX0_dayOf_0 1 rfl rfl)
theorem dX0_dayOf_2 : decode cX0_dayOf 2 = .ok (.aload_n 0, 1) := dk_42 (dk_at dksX0_dayOf_0 2 rfl rfl)
theorem dX0_dayOf_3 : decode cX0_dayOf 3 = .ok (.iload_n 1, 1) := dk_27 (dk_at dksX0_dayOf_0 3 rfl rfl)
theorem dX0_dayOf_4 : decode cX0_dayOf 4 = .ok (.invokevirtual 30, 3) := dk_182 0 30 (dk_at dksX0_dayOf_0 4 rfl rfl)
theorem dX0_dayOf_7 : decode cX0_dayOf 7 = .ok (.i2l, 1) := dk_133 (dk_at dksX0_dayOf_0 7 rfl rfl)
theorem dX0_dayOf_8 : decode cX0_dayOf 8 = .ok (.lastore, 1) := dk_80 (dk_at dksX0_dayOf_0 8 rfl rfl)
theorem dX0_dayOf_9 : decode cX0_dayOf 9 = .ok (.goto 6, 3) := dk_167 0 6 (dk_at dksX0_dayOf_0 9 rfl rfl)
theorem dX0_dayOf_12 : decode cX0_dayOf 12 = .ok (.astore_n 3, 1) := dk_78 (dk_at dksX0_dayOf_0 12 rfl rfl)
theorem dX0_dayOf_13 : decode cX0_dayOf 13 = .ok (.iconst 1, 1) := dk_4 (dk_at dksX0_dayOf_0 13 rfl rfl)
theorem dX0_dayOf_14 : decode cX0_dayOf 14 = .ok (.ireturn, 1) := dk_172 (dk_at dksX0_dayOf_0 14 rfl rfl)
theorem dX0_dayOf_15 : decode cX0_dayOf 15 = .ok (.iconst 0, 1) := dk_3 (dk_at dksX0_dayOf_0 15 rfl rfl)
theorem dX0_dayOf_16 : decode cX0_dayOf 16 = .ok (.ireturn, 1) := dk_172 (dk_at dksX0_dayOf_0 16 rfl rfl)
abbrev cX0_groupOf : ByteArray := method_8_code
def yX0_groupOf : MethodName := ⟨RX0, "groupOf", "(LWeirfoldLane;I[J)I"⟩
def dkwX0_groupOf_0 : List UInt8 := [44, 3, 42, 27, 182, 0, 33, 133, 80, 167, 0, 6, 78, 4, 172, 3, 172]
abbrev dktX0_groupOf_0 : List UInt8 := dkwX0_groupOf_0 ++ []
theorem dksX0_groupOf_0 : cX0_groupOf.data.toList.drop 0 = dktX0_groupOf_0 := by decide +kernel
theorem dX0_groupOf_0 : decode cX0_groupOf 0 = .ok (.aload_n 2, 1) := dk_44 (dk_at dksX0_groupOf_0 0 rfl rfl)
theorem dX0_groupOf_1 : decode cX0_groupOf 1 = .ok (.iconst 0, 1) := dk_3 (dk_at dksX0_groupOf_0 1 rfl rfl)
theorem dX0_groupOf_2 : decode cX0_groupOf 2 = .ok (.aload_n 0, 1) := dk_42 (dk_at dksX0_groupOf_0 2 rfl rfl)
theorem dX0_groupOf_3 : decode cX0_groupOf 3 = .ok (.iload_n 1, 1) := dk_27 (dk_at dksX0_groupOf_0 3 rfl rfl)
theorem dX0_groupOf_4 : decode cX0_groupOf 4 = .ok (.invokevirtual 33, 3) := dk_182 0 33 (dk_at dksX0_groupOf_0 4 rfl rfl)
theorem dX0_groupOf_7 : decode cX0_groupOf 7 = .ok (.i2l, 1) := dk_133 (dk_at dksX0_groupOf_0 7 rfl rfl)
theorem dX0_groupOf_8 : decode cX0_groupOf 8 = .ok (.lastore, 1) := dk_80 (dk_at dksX0_groupOf_0 8 rfl rfl)
theorem dX0_groupOf_9 : decode cX0_groupOf 9 = .ok (.goto 6, 3) := dk_167 0 6 (dk_at dksX0_groupOf_0 9 rfl rfl)
theorem dX0_groupOf_12 : decode cX0_groupOf 12 = .ok (.astore_n 3, 1) := dk_78 (dk_at dksX0_groupOf_0 12 rfl rfl)
theorem dX0_groupOf_13 : decode cX0_groupOf 13 = .ok (.iconst 1, 1) := dk_4 (dk_at dksX0_groupOf_0 13 rfl rfl)
theorem dX0_groupOf_14 : decode cX0_groupOf 14 = .ok (.ireturn, 1) := dk_172 (dk_at dksX0_groupOf_0 14 rfl rfl)
theorem dX0_groupOf_15 : decode cX0_groupOf 15 = .ok (.iconst 0, 1) := dk_3 (dk_at dksX0_groupOf_0 15 rfl rfl)
theorem dX0_groupOf_16 : decode cX0_groupOf 16 = .ok (.ireturn, 1) := dk_172 (dk_at dksX0_groupOf_0 16 rfl rfl)
abbrev cX0_rowByAmount : ByteArray := method_9_code
def yX0_rowByAmount : MethodName := ⟨RX0, "rowByAmount", "(LWeirfoldLane;I[J)I"⟩
def dkwX0_rowByAmount_0 : List UInt8 := [44, 3, 42, 27, 182, 0, 37, 133, 80, 167, 0, 6, 78, 4, 172, 3, 172]
abbrev dktX0_rowByAmount_0 : List UInt8 := dkwX0_rowByAmount_0 ++ []
theorem dksX0_rowByAmount_0 : cX0_rowByAmount.data.toList.drop 0 = dktX0_rowByAmount_0 := by decide +kernel
theorem dX0_rowByAmount_0 : decode cX0_rowByAmount 0 = .ok (.aload_n 2, 1) := dk_44 (dk_at dksX0_rowByAmount_0 0 rfl rfl)
theorem dX0_rowByAmount_1 : decode cX0_rowByAmount 1 = .ok (.iconst 0, 1) := dk_3 (dk_at dksX0_rowByAmount_0 1 rfl rfl)
theorem dX0_rowByAmount_2 : decode cX0_rowByAmount 2 = .ok (.aload_n 0, 1) := dk_42 (dk_at dksX0_rowByAmount_0 2 rfl rfl)
theorem dX0_rowByAmount_3 : decode cX0_rowByAmount 3 = .ok (.iload_n 1, 1) := dk_27 (dk_at dksX0_rowByAmount_0 3 rfl rfl)
theorem dX0_rowByAmount_4 : decode cX0_rowByAmount 4 = .ok (.invokevirtual 37, 3) := dk_182 0 37 (dk_at dksX0_rowByAmount_0 4 rfl rfl)
theorem dX0_rowByAmount_7 : decode cX0_rowByAmount 7 = .ok (.i2l, 1) := dk_133 (dk_at dksX0_rowByAmount_0 7 rfl rfl)
theorem dX0_rowByAmount_8 : decode cX0_rowByAmount 8 = .ok (.lastore, 1) := dk_80 (dk_at dksX0_rowByAmount_0 8 rfl rfl)
theorem dX0_rowByAmount_9 : decode cX0_rowByAmount 9 = .ok (.goto 6, 3) := dk_167 0 6 (dk_at dksX0_rowByAmount_0 9 rfl rfl)
theorem dX0_rowByAmount_12 : decode cX0_rowByAmount 12 = .ok (.astore_n 3, 1) := dk_78 (dk_at dksX0_rowByAmount_0 12 rfl rfl)
theorem dX0_rowByAmount_13 : decode cX0_rowByAmount 13 = .ok (.iconst 1, 1) := dk_4 (dk_at dksX0_rowByAmount_0 13 rfl rfl)
theorem dX0_rowByAmount_14 : decode cX0_rowByAmount 14 = .ok (.ireturn, 1) := dk_172 (dk_at dksX0_rowByAmount_0 14 rfl rfl)
theorem dX0_rowByAmount_15 : decode cX0_rowByAmount 15 = .ok (.iconst 0, 1) := dk_3 (dk_at dksX0_rowByAmount_0 15 rfl rfl)
theorem dX0_rowByAmount_16 : decode cX0_rowByAmount 16 = .ok (.ireturn, 1) := dk_172 (dk_at dksX0_rowByAmount_0 16 rfl rfl)
abbrev cX0_addBase : ByteArray := method_10_code
def yX0_addBase : MethodName := ⟨RX0, "addBase", "(LWeirfoldLane;CI[J)I"⟩
def dkwX0_addBase_0 : List UInt8 := [45, 3, 42, 27, 28, 182, 0, 40, 133, 80, 167, 0, 11, 58, 4, 4, 172, 58, 4, 5, 172, 3, 172]
abbrev dktX0_addBase_0 : List UInt8 := dkwX0_addBase_0 ++ []
theorem dksX0_addBase_0 : cX0_addBase.data.toList.drop 0 = dktX0_addBase_0 := by decide +kernel
theorem dX0_addBase_0 : decode cX0_addBase 0 = .ok (.aload_n 3, 1) := dk_45 (dk_at dksX0_addBase_0 0 rfl rfl)
theorem dX0_addBase_1 : decode cX0_addBase 1 = .ok (.iconst 0, 1) := dk_3 (dk_at dksX0_addBase_0 1 rfl rfl)
theorem dX0_addBase_2 : decode cX0_addBase 2 = .ok (.aload_n 0, 1) := dk_42 (dk_at dksX0_addBase_0 2 rfl rfl)
theorem dX0_addBase_3 : decode cX0_addBase 3 = .ok (.iload_n 1, 1) := dk_27 (dk_at dksX0_addBase_0 3 rfl rfl)
theorem dX0_addBase_4 : decode cX0_addBase 4 = .ok (.iload_n 2, 1) := dk_28 (dk_at dksX0_addBase_0 4 rfl rfl)
theorem dX0_addBase_5 : decode cX0_addBase 5 = .ok (.invokevirtual 40, 3) := dk_182 0 40 (dk_at dksX0_addBase_0 5 rfl rfl)
theorem dX0_addBase_8 : decode cX0_addBase 8 = .ok (.i2l, 1) := dk_133 (dk_at dksX0_addBase_0 8 rfl rfl)
theorem dX0_addBase_9 : decode cX0_addBase 9 = .ok (.lastore, 1) := dk_80 (dk_at dksX0_addBase_0 9 rfl rfl)
theorem dX0_addBase_10 : decode cX0_addBase 10 = .ok (.goto 11, 3) := dk_167 0 11 (dk_at dksX0_addBase_0 10 rfl rfl)
theorem dX0_addBase_13 : decode cX0_addBase 13 = .ok (.astore 4, 2) := dk_58 4 (dk_at dksX0_addBase_0 13 rfl rfl)
theorem dX0_addBase_15 : decode cX0_addBase 15 = .ok (.iconst 1, 1) := dk_4 (dk_at dksX0_addBase_0 15 rfl rfl)
theorem dX0_addBase_16 : decode cX0_addBase 16 = .ok (.ireturn, 1) := dk_172 (dk_at dksX0_addBase_0 16 rfl rfl)
theorem dX0_addBase_17 : decode cX0_addBase 17 = .ok (.astore 4, 2) := dk_58 4 (dk_at dksX0_addBase_0 17 rfl rfl)
theorem dX0_addBase_19 : decode cX0_addBase 19 = .ok (.iconst 2, 1) := dk_5 (dk_at dksX0_addBase_0 19 rfl rfl)
theorem dX0_addBase_20 : decode cX0_addBase 20 = .ok (.ireturn, 1) := dk_172 (dk_at dksX0_addBase_0 20 rfl rfl)
theorem dX0_addBase_21 : decode cX0_addBase 21 = .ok (.iconst 0, 1) := dk_3 (dk_at dksX0_addBase_0 21 rfl rfl)
theorem dX0_addBase_22 : decode cX0_addBase 22 = .ok (.ireturn, 1) := dk_172 (dk_at dksX0_addBase_0 22 rfl rfl)
abbrev cX0_addPair : ByteArray := method_11_code
def yX0_addPair : MethodName := ⟨RX0, "addPair", "(LWeirfoldLane;CII[J)I"⟩
def dkwX0_addPair_1 : List UInt8 := [58, 5, 6, 172, 3, 172]
abbrev dktX0_addPair_1 : List UInt8 := dkwX0_addPair_1 ++ []
def dkwX0_addPair_0 : List UInt8 := [25, 4, 3, 42, 27, 28, 29, 182, 0, 44, 133, 80, 167, 0, 15, 58, 5, 4, 172, 58, 5, 5, 172]
abbrev dktX0_addPair_0 : List UInt8 := dkwX0_addPair_0 ++ dktX0_addPair_1
theorem dksX0_addPair_0 : cX0_addPair.data.toList.drop 0 = dktX0_addPair_0 := by decide +kernel
theorem dksX0_addPair_1 : cX0_addPair.data.toList.drop 23 = dktX0_addPair_1 := dk_seg dksX0_addPair_0 23 rfl rfl
theorem dX0_addPair_0 : decode cX0_addPair 0 = .ok (.aload 4, 2) := dk_25 4 (dk_at dksX0_addPair_0 0 rfl rfl)
theorem dX0_addPair_2 : decode cX0_addPair 2 = .ok (.iconst 0, 1) := dk_3 (dk_at dksX0_addPair_0 2 rfl rfl)
theorem dX0_addPair_3 : decode cX0_addPair 3 = .ok (.aload_n 0, 1) := dk_42 (dk_at dksX0_addPair_0 3 rfl rfl)
theorem dX0_addPair_4 : decode cX0_addPair 4 = .ok (.iload_n 1, 1) := dk_27 (dk_at dksX0_addPair_0 4 rfl rfl)
theorem dX0_addPair_5 : decode cX0_addPair 5 = .ok (.iload_n 2, 1) := dk_28 (dk_at dksX0_addPair_0 5 rfl rfl)
theorem dX0_addPair_6 : decode cX0_addPair 6 = .ok (.iload_n 3, 1) := dk_29 (dk_at dksX0_addPair_0 6 rfl rfl)
theorem dX0_addPair_7 : decode cX0_addPair 7 = .ok (.invokevirtual 44, 3) := dk_182 0 44 (dk_at dksX0_addPair_0 7 rfl rfl)
theorem dX0_addPair_10 : decode cX0_addPair 10 = .ok (.i2l, 1) := dk_133 (dk_at dksX0_addPair_0 10 rfl rfl)
theorem dX0_addPair_11 : decode cX0_addPair 11 = .ok (.lastore, 1) := dk_80 (dk_at dksX0_addPair_0 11 rfl rfl)
theorem dX0_addPair_12 : decode cX0_addPair 12 = .ok (.goto 15, 3) := dk_167 0 15 (dk_at dksX0_addPair_0 12 rfl rfl)
theorem dX0_addPair_15 : decode cX0_addPair 15 = .ok (.astore 5, 2) := dk_58 5 (dk_at dksX0_addPair_0 15 rfl rfl)
theorem dX0_addPair_17 : decode cX0_addPair 17 = .ok (.iconst 1, 1) := dk_4 (dk_at dksX0_addPair_0 17 rfl rfl)
theorem dX0_addPair_18 : decode cX0_addPair 18 = .ok (.ireturn, 1) := dk_172 (dk_at dksX0_addPair_0 18 rfl rfl)
theorem dX0_addPair_19 : decode cX0_addPair 19 = .ok (.astore 5, 2) := dk_58 5 (dk_at dksX0_addPair_0 19 rfl rfl)
theorem dX0_addPair_21 : decode cX0_addPair 21 = .ok (.iconst 2, 1) := dk_5 (dk_at dksX0_addPair_0 21 rfl rfl)
theorem dX0_addPair_22 : decode cX0_addPair 22 = .ok (.ireturn, 1) := dk_172 (dk_at dksX0_addPair_0 22 rfl rfl)
theorem dX0_addPair_23 : decode cX0_addPair 23 = .ok (.astore 5, 2) := dk_58 5 (dk_at dksX0_addPair_1 0 rfl rfl)
theorem dX0_addPair_25 : decode cX0_addPair 25 = .ok (.iconst 3, 1) := dk_6 (dk_at dksX0_addPair_1 2 rfl rfl)
theorem dX0_addPair_26 : decode cX0_addPair 26 = .ok (.ireturn, 1) := dk_172 (dk_at dksX0_addPair_1 3 rfl rfl)
theorem dX0_addPair_27 : decode cX0_addPair 27 = .ok (.iconst 0, 1) := dk_3 (dk_at dksX0_addPair_1 4 rfl rfl)
theorem dX0_addPair_28 : decode cX0_addPair 28 = .ok (.ireturn, 1) := dk_172 (dk_at dksX0_addPair_1 5 rfl rfl)
abbrev cX0_addRunning : ByteArray := method_12_code
def yX0_addRunning : MethodName := ⟨RX0, "addRunning", "(LWeirfoldLane;I[J)I"⟩
def dkwX0_addRunning_0 : List UInt8 := [44, 3, 42, 27, 182, 0, 49, 133, 80, 167, 0, 9, 78, 4, 172, 78, 5, 172, 3, 172]
abbrev dktX0_addRunning_0 : List UInt8 := dkwX0_addRunning_0 ++ []
theorem dksX0_addRunning_0 : cX0_addRunning.data.toList.drop 0 = dktX0_addRunning_0 := by decide +kernel
theorem dX0_addRunning_0 : decode cX0_addRunning 0 = .ok (.aload_n 2, 1) := dk_44 (dk_at dksX0_addRunning_0 0 rfl rfl)
theorem dX0_addRunning_1 : decode cX0_addRunning 1 = .ok (.iconst 0, 1) := dk_3 (dk_at dksX0_addRunning_0 1 rfl rfl)
theorem dX0_addRunning_2 : decode cX0_addRunning 2 = .ok (.aload_n 0, 1) := dk_42 (dk_at dksX0_addRunning_0 2 rfl rfl)
theorem dX0_addRunning_3 : decode cX0_addRunning 3 = .ok (.iload_n 1, 1) := dk_27 (dk_at dksX0_addRunning_0 3 rfl rfl)
theorem dX0_addRunning_4 : decode cX0_addRunning 4 = .ok (.invokevirtual 49, 3) := dk_182 0 49 (dk_at dksX0_addRunning_0 4 rfl rfl)
theorem dX0_addRunning_7 : decode cX0_addRunning 7 = .ok (.i2l, 1) := dk_133 (dk_at dksX0_addRunning_0 7 rfl rfl)
theorem dX0_addRunning_8 : decode cX0_addRunning 8 = .ok (.lastore, 1) := dk_80 (dk_at dksX0_addRunning_0 8 rfl rfl)
theorem dX0_addRunning_9 : decode cX0_addRunning 9 = .ok (.goto 9, 3) := dk_167 0 9 (dk_at dksX0_addRunning_0 9 rfl rfl)
theorem dX0_addRunning_12 : decode cX0_addRunning 12 = .ok (.astore_n 3, 1) := dk_78 (dk_at dksX0_addRunning_0 12 rfl rfl)
theorem dX0_addRunning_13 : decode cX0_addRunning 13 = .ok (.iconst 1, 1) := dk_4 (dk_at dksX0_addRunning_0 13 rfl rfl)
theorem dX0_addRunning_14 : decode cX0_addRunning 14 = .ok (.ireturn, 1) := dk_172 (dk_at dksX0_addRunning_0 14 rfl rfl)
theorem dX0_addRunning_15 : decode cX0_addRunning 15 = .ok (.astore_n 3, 1) := dk_78 (dk_at dksX0_addRunning_0 15 rfl rfl)
theorem dX0_addRunning_16 : decode cX0_addRunning 16 = .ok (.iconst 2, 1) := dk_5 (dk_at dksX0_addRunning_0 16 rfl rfl)
theorem dX0_addRunning_17 : decode cX0_addRunning 17 = .ok (.ireturn, 1) := dk_172 (dk_at dksX0_addRunning_0 17 rfl rfl)
theorem dX0_addRunning_18 : decode cX0_addRunning 18 = .ok (.iconst 0, 1) := dk_3 (dk_at dksX0_addRunning_0 18 rfl rfl)
theorem dX0_addRunning_19 : decode cX0_addRunning 19 = .ok (.ireturn, 1) := dk_172 (dk_at dksX0_addRunning_0 19 rfl rfl)
abbrev cX0_addBounded : ByteArray := method_13_code
def yX0_addBounded : MethodName := ⟨RX0, "addBounded", "(LWeirfoldLane;II[J)I"⟩
def dkwX0_addBounded_1 : List UInt8 := [172, 3, 172]
abbrev dktX0_addBounded_1 : List UInt8 := dkwX0_addBounded_1 ++ []
def dkwX0_addBounded_0 : List UInt8 := [45, 3, 42, 27, 28, 182, 0, 52, 133, 80, 167, 0, 15, 58, 4, 4, 172, 58, 4, 5, 172, 58, 4, 6]
abbrev dktX0_addBounded_0 : List UInt8 := dkwX0_addBounded_0 ++ dktX0_addBounded_1
theorem dksX0_addBounded_0 : cX0_addBounded.data.toList.drop 0 = dktX0_addBounded_0 := by decide +kernel
theorem dksX0_addBounded_1 : cX0_addBounded.data.toList.drop 24 = dktX0_addBounded_1 := dk_seg dksX0_addBounded_0 24 rfl rfl
theorem dX0_addBounded_0 : decode cX0_addBounded 0 = .ok (.aload_n 3, 1) := dk_45 (dk_at dksX0_addBounded_0 0 rfl rfl)
theorem dX0_addBounded_1 : decode cX0_addBounded 1 = .ok (.iconst 0, 1) := dk_3 (dk_at dksX0_addBounded_0 1 rfl rfl)
theorem dX0_addBounded_2 : decode cX0_addBounded 2 = .ok (.aload_n 0, 1) := dk_42 (dk_at dksX0_addBounded_0 2 rfl rfl)
theorem dX0_addBounded_3 : decode cX0_addBounded 3 = .ok (.iload_n 1, 1) := dk_27 (dk_at dksX0_addBounded_0 3 rfl rfl)
theorem dX0_addBounded_4 : decode cX0_addBounded 4 = .ok (.iload_n 2, 1) := dk_28 (dk_at dksX0_addBounded_0 4 rfl rfl)
theorem dX0_addBounded_5 : decode cX0_addBounded 5 = .ok (.invokevirtual 52, 3) := dk_182 0 52 (dk_at dksX0_addBounded_0 5 rfl rfl)
theorem dX0_addBounded_8 : decode cX0_addBounded 8 = .ok (.i2l, 1) := dk_133 (dk_at dksX0_addBounded_0 8 rfl rfl)
theorem dX0_addBounded_9 : decode cX0_addBounded 9 = .ok (.lastore, 1) := dk_80 (dk_at dksX0_addBounded_0 9 rfl rfl)
theorem dX0_addBounded_10 : decode cX0_addBounded 10 = .ok (.goto 15, 3) := dk_167 0 15 (dk_at dksX0_addBounded_0 10 rfl rfl)
theorem dX0_addBounded_13 : decode cX0_addBounded 13 = .ok (.astore 4, 2) := dk_58 4 (dk_at dksX0_addBounded_0 13 rfl rfl)
theorem dX0_addBounded_15 : decode cX0_addBounded 15 = .ok (.iconst 1, 1) := dk_4 (dk_at dksX0_addBounded_0 15 rfl rfl)
theorem dX0_addBounded_16 : decode cX0_addBounded 16 = .ok (.ireturn, 1) := dk_172 (dk_at dksX0_addBounded_0 16 rfl rfl)
theorem dX0_addBounded_17 : decode cX0_addBounded 17 = .ok (.astore 4, 2) := dk_58 4 (dk_at dksX0_addBounded_0 17 rfl rfl)
theorem dX0_addBounded_19 : decode cX0_addBounded 19 = .ok (.iconst 2, 1) := dk_5 (dk_at dksX0_addBounded_0 19 rfl rfl)
theorem dX0_addBounded_20 : decode cX0_addBounded 20 = .ok (.ireturn, 1) := dk_172 (dk_at dksX0_addBounded_0 20 rfl rfl)
theorem dX0_addBounded_21 : decode cX0_addBounded 21 = .ok (.astore 4, 2) := dk_58 4 (dk_at dksX0_addBounded_0 21 rfl rfl)
theorem dX0_addBounded_23 : decode cX0_addBounded 23 = .ok (.iconst 3, 1) := dk_6 (dk_at dksX0_addBounded_0 23 rfl rfl)
theorem dX0_addBounded_24 : decode cX0_addBounded 24 = .ok (.ireturn, 1) := dk_172 (dk_at dksX0_addBounded_1 0 rfl rfl)
theorem dX0_addBounded_25 : decode cX0_addBounded 25 = .ok (.iconst 0, 1) := dk_3 (dk_at dksX0_addBounded_1 1 rfl rfl)
theorem dX0_addBounded_26 : decode cX0_addBounded 26 = .ok (.ireturn, 1) := dk_172 (dk_at dksX0_addBounded_1 2 rfl rfl)
abbrev cX0_removeStep : ByteArray := method_14_code
def yX0_removeStep : MethodName := ⟨RX0, "removeStep", "(LWeirfoldLane;I[J)I"⟩
def dkwX0_removeStep_0 : List UInt8 := [44, 3, 42, 27, 182, 0, 56, 133, 80, 167, 0, 9, 78, 4, 172, 78, 5, 172, 3, 172]
abbrev dktX0_removeStep_0 : List UInt8 := dkwX0_removeStep_0 ++ []
theorem dksX0_removeStep_0 : cX0_removeStep.data.toList.drop 0 = dktX0_removeStep_0 := by decide +kernel
theorem dX0_removeStep_0 : decode cX0_removeStep 0 = .ok (.aload_n 2, 1) := dk_44 (dk_at dksX0_removeStep_0 0 rfl rfl)
theorem dX0_removeStep_1 : decode cX0_removeStep 1 = .ok (.iconst 0, 1) := dk_3 (dk_at dksX0_removeStep_0 1 rfl rfl)
theorem dX0_removeStep_2 : decode cX0_removeStep 2 = .ok (.aload_n 0, 1) := dk_42 (dk_at dksX0_removeStep_0 2 rfl rfl)
theorem dX0_removeStep_3 : decode cX0_removeStep 3 = .ok (.iload_n 1, 1) := dk_27 (dk_at dksX0_removeStep_0 3 rfl rfl)
theorem dX0_removeStep_4 : decode cX0_removeStep 4 = .ok (.invokevirtual 56, 3) := dk_182 0 56 (dk_at dksX0_removeStep_0 4 rfl rfl)
theorem dX0_removeStep_7 : decode cX0_removeStep 7 = .ok (.i2l, 1) := dk_133 (dk_at dksX0_removeStep_0 7 rfl rfl)
theorem dX0_removeStep_8 : decode cX0_removeStep 8 = .ok (.lastore, 1) := dk_80 (dk_at dksX0_removeStep_0 8 rfl rfl)
theorem dX0_removeStep_9 : decode cX0_removeStep 9 = .ok (.goto 9, 3) := dk_167 0 9 (dk_at dksX0_removeStep_0 9 rfl rfl)
theorem dX0_removeStep_12 : decode cX0_removeStep 12 = .ok (.astore_n 3, 1) := dk_78 (dk_at dksX0_removeStep_0 12 rfl rfl)
theorem dX0_removeStep_13 : decode cX0_removeStep 13 = .ok (.iconst 1, 1) := dk_4 (dk_at dksX0_removeStep_0 13 rfl rfl)
theorem dX0_removeStep_14 : decode cX0_removeStep 14 = .ok (.ireturn, 1) := dk_172 (dk_at dksX0_removeStep_0 14 rfl rfl)
theorem dX0_removeStep_15 : decode cX0_removeStep 15 = .ok (.astore_n 3, 1) := dk_78 (dk_at dksX0_removeStep_0 15 rfl rfl)
theorem dX0_removeStep_16 : decode cX0_removeStep 16 = .ok (.iconst 2, 1) := dk_5 (dk_at dksX0_removeStep_0 16 rfl rfl)
theorem dX0_removeStep_17 : decode cX0_removeStep 17 = .ok (.ireturn, 1) := dk_172 (dk_at dksX0_removeStep_0 17 rfl rfl)
theorem dX0_removeStep_18 : decode cX0_removeStep 18 = .ok (.iconst 0, 1) := dk_3 (dk_at dksX0_removeStep_0 18 rfl rfl)
theorem dX0_removeStep_19 : decode cX0_removeStep 19 = .ok (.ireturn, 1) := dk_172 (dk_at dksX0_removeStep_0 19 rfl rfl)
abbrev cX0_kind : ByteArray := method_15_code
def yX0_kind : MethodName := ⟨RX0, "kind", "(LWeirfoldLane;I[J)I"⟩
def dkwX0_kind_0 : List UInt8 := [44, 3, 42, 27, 182, 0, 59, 133, 80, 167, 0, 6, 78, 4, 172, 3, 172]
abbrev dktX0_kind_0 : List UInt8 := dkwX0_kind_0 ++ []
theorem dksX0_kind_0 : cX0_kind.data.toList.drop 0 = dktX0_kind_0 := by decide +kernel
theorem dX0_kind_0 : decode cX0_kind 0 = .ok (.aload_n 2, 1) := dk_44 (dk_at dksX0_kind_0 0 rfl rfl)
theorem dX0_kind_1 : decode cX0_kind 1 = .ok (.iconst 0, 1) := dk_3 (dk_at dksX0_kind_0 1 rfl rfl)
theorem dX0_kind_2 : decode cX0_kind 2 = .ok (.aload_n 0, 1) := dk_42 (dk_at dksX0_kind_0 2 rfl rfl)
theorem dX0_kind_3 : decode cX0_kind 3 = .ok (.iload_n 1, 1) := dk_27 (dk_at dksX0_kind_0 3 rfl rfl)
theorem dX0_kind_4 : decode cX0_kind 4 = .ok (.invokevirtual 59, 3) := dk_182 0 59 (dk_at dksX0_kind_0 4 rfl rfl)
theorem dX0_kind_7 : decode cX0_kind 7 = .ok (.i2l, 1) := dk_133 (dk_at dksX0_kind_0 7 rfl rfl)
theorem dX0_kind_8 : decode cX0_kind 8 = .ok (.lastore, 1) := dk_80 (dk_at dksX0_kind_0 8 rfl rfl)
theorem dX0_kind_9 : decode cX0_kind 9 = .ok (.goto 6, 3) := dk_167 0 6 (dk_at dksX0_kind_0 9 rfl rfl)
theorem dX0_kind_12 : decode cX0_kind 12 = .ok (.astore_n 3, 1) := dk_78 (dk_at dksX0_kind_0 12 rfl rfl)
theorem dX0_kind_13 : decode cX0_kind 13 = .ok (.iconst 1, 1) := dk_4 (dk_at dksX0_kind_0 13 rfl rfl)
theorem dX0_kind_14 : decode cX0_kind 14 = .ok (.ireturn, 1) := dk_172 (dk_at dksX0_kind_0 14 rfl rfl)
theorem dX0_kind_15 : decode cX0_kind 15 = .ok (.iconst 0, 1) := dk_3 (dk_at dksX0_kind_0 15 rfl rfl)
theorem dX0_kind_16 : decode cX0_kind 16 = .ok (.ireturn, 1) := dk_172 (dk_at dksX0_kind_0 16 rfl rfl)
abbrev cX0_dependsOn : ByteArray := method_16_code
def yX0_dependsOn : MethodName := ⟨RX0, "dependsOn", "(LWeirfoldLane;II[J)I"⟩
def dkwX0_dependsOn_1 : List UInt8 := [3, 172]
abbrev dktX0_dependsOn_1 : List UInt8 := dkwX0_dependsOn_1 ++ []
def dkwX0_dependsOn_0 : List UInt8 := [45, 3, 42, 27, 28, 182, 0, 62, 153, 0, 7, 10, 167, 0, 4, 9, 80, 167, 0, 7, 58, 4, 4, 172]
abbrev dktX0_dependsOn_0 : List UInt8 := dkwX0_dependsOn_0 ++ dktX0_dependsOn_1
theorem dksX0_dependsOn_0 : cX0_dependsOn.data.toList.drop 0 = dktX0_dependsOn_0 := by decide +kernel
theorem dksX0_dependsOn_1 : cX0_dependsOn.data.toList.drop 24 = dktX0_dependsOn_1 := dk_seg dksX0_dependsOn_0 24 rfl rfl
theorem dX0_dependsOn_0 : decode cX0_dependsOn 0 = .ok (.aload_n 3, 1) := dk_45 (dk_at dksX0_dependsOn_0 0 rfl rfl)
theorem dX0_dependsOn_1 : decode cX0_dependsOn 1 = .ok (.iconst 0, 1) := dk_3 (dk_at dksX0_dependsOn_0 1 rfl rfl)
theorem dX0_dependsOn_2 : decode cX0_dependsOn 2 = .ok (.aload_n 0, 1) := dk_42 (dk_at dksX0_dependsOn_0 2 rfl rfl)
theorem dX0_dependsOn_3 : decode cX0_dependsOn 3 = .ok (.iload_n 1, 1) := dk_27 (dk_at dksX0_dependsOn_0 3 rfl rfl)
theorem dX0_dependsOn_4 : decode cX0_dependsOn 4 = .ok (.iload_n 2, 1) := dk_28 (dk_at dksX0_dependsOn_0 4 rfl rfl)
theorem dX0_dependsOn_5 : decode cX0_dependsOn 5 = .ok (.invokevirtual 62, 3) := dk_182 0 62 (dk_at dksX0_dependsOn_0 5 rfl rfl)
theorem dX0_dependsOn_8 : decode cX0_dependsOn 8 = .ok (.ifCond .eq 7, 3) := dk_153 0 7 (dk_at dksX0_dependsOn_0 8 rfl rfl)
theorem dX0_dependsOn_11 : decode cX0_dependsOn 11 = .ok (.lconst 1, 1) := dk_10 (dk_at dksX0_dependsOn_0 11 rfl rfl)
theorem dX0_dependsOn_12 : decode cX0_dependsOn 12 = .ok (.goto 4, 3) := dk_167 0 4 (dk_at dksX0_dependsOn_0 12 rfl rfl)
theorem dX0_dependsOn_15 : decode cX0_dependsOn 15 = .ok (.lconst 0, 1) := dk_9 (dk_at dksX0_dependsOn_0 15 rfl rfl)
theorem dX0_dependsOn_16 : decode cX0_dependsOn 16 = .ok (.lastore, 1) := dk_80 (dk_at dksX0_dependsOn_0 16 rfl rfl)
theorem dX0_dependsOn_17 : decode cX0_dependsOn 17 = .ok (.goto 7, 3) := dk_167 0 7 (dk_at dksX0_dependsOn_0 17 rfl rfl)
theorem dX0_dependsOn_20 : decode cX0_dependsOn 20 = .ok (.astore 4, 2) := dk_58 4 (dk_at dksX0_dependsOn_0 20 rfl rfl)
theorem dX0_dependsOn_22 : decode cX0_dependsOn 22 = .ok (.iconst 1, 1) := dk_4 (dk_at dksX0_dependsOn_0 22 rfl rfl)
theorem dX0_dependsOn_23 : decode cX0_dependsOn 23 = .ok (.ireturn, 1) := dk_172 (dk_at dksX0_dependsOn_0 23 rfl rfl)
theorem dX0_dependsOn_24 : decode cX0_dependsOn 24 = .ok (.iconst 0, 1) := dk_3 (dk_at dksX0_dependsOn_1 0 rfl rfl)
theorem dX0_dependsOn_25 : decode cX0_dependsOn 25 = .ok (.ireturn, 1) := dk_172 (dk_at dksX0_dependsOn_1 1 rfl rfl)
abbrev cX0_level : ByteArray := method_17_code
def yX0_level : MethodName := ⟨RX0, "level", "(LWeirfoldLane;I[J)I"⟩
def dkwX0_level_0 : List UInt8 := [44, 3, 42, 27, 182, 0, 66, 133, 80, 167, 0, 6, 78, 4, 172, 3, 172]
abbrev dktX0_level_0 : List UInt8 := dkwX0_level_0 ++ []
theorem dksX0_level_0 : cX0_level.data.toList.drop 0 = dktX0_level_0 := by decide +kernel
theorem dX0_level_0 : decode cX0_level 0 = .ok (.aload_n 2, 1) := dk_44 (dk_at dksX0_level_0 0 rfl rfl)
theorem dX0_level_1 : decode cX0_level 1 = .ok (.iconst 0, 1) := dk_3 (dk_at dksX0_level_0 1 rfl rfl)
theorem dX0_level_2 : decode cX0_level 2 = .ok (.aload_n 0, 1) := dk_42 (dk_at dksX0_level_0 2 rfl rfl)
theorem dX0_level_3 : decode cX0_level 3 = .ok (.iload_n 1, 1) := dk_27 (dk_at dksX0_level_0 3 rfl rfl)
theorem dX0_level_4 : decode cX0_level 4 = .ok (.invokevirtual 66, 3) := dk_182 0 66 (dk_at dksX0_level_0 4 rfl rfl)
theorem dX0_level_7 : decode cX0_level 7 = .ok (.i2l, 1) := dk_133 (dk_at dksX0_level_0 7 rfl rfl)
theorem dX0_level_8 : decode cX0_level 8 = .ok (.lastore, 1) := dk_80 (dk_at dksX0_level_0 8 rfl rfl)
theorem dX0_level_9 : decode cX0_level 9 = .ok (.goto 6, 3) := dk_167 0 6 (dk_at dksX0_level_0 9 rfl rfl)
theorem dX0_level_12 : decode cX0_level 12 = .ok (.astore_n 3, 1) := dk_78 (dk_at dksX0_level_0 12 rfl rfl)
theorem dX0_level_13 : decode cX0_level 13 = .ok (.iconst 1, 1) := dk_4 (dk_at dksX0_level_0 13 rfl rfl)
theorem dX0_level_14 : decode cX0_level 14 = .ok (.ireturn, 1) := dk_172 (dk_at dksX0_level_0 14 rfl rfl)
theorem dX0_level_15 : decode cX0_level 15 = .ok (.iconst 0, 1) := dk_3 (dk_at dksX0_level_0 15 rfl rfl)
theorem dX0_level_16 : decode cX0_level 16 = .ok (.ireturn, 1) := dk_172 (dk_at dksX0_level_0 16 rfl rfl)
abbrev cX0_value : ByteArray := method_18_code
def yX0_value : MethodName := ⟨RX0, "value", "(LWeirfoldLane;IIC[J)I"⟩
def dkwX0_value_0 : List UInt8 := [25, 4, 3, 42, 27, 28, 29, 182, 0, 69, 80, 167, 0, 11, 58, 5, 4, 172, 58, 5, 5, 172, 3, 172]
abbrev dktX0_value_0 : List UInt8 := dkwX0_value_0 ++ []
theorem dksX0_value_0 : cX0_value.data.toList.drop 0 = dktX0_value_0 := by decide +kernel
theorem dX0_value_0 : decode cX0_value 0 = .ok (.aload 4, 2) := dk_25 4 (dk_at dksX0_value_0 0 rfl rfl)
theorem dX0_value_2 : decode cX0_value 2 = .ok (.iconst 0, 1) := dk_3 (dk_at dksX0_value_0 2 rfl rfl)
theorem dX0_value_3 : decode cX0_value 3 = .ok (.aload_n 0, 1) := dk_42 (dk_at dksX0_value_0 3 rfl rfl)
theorem dX0_value_4 : decode cX0_value 4 = .ok (.iload_n 1, 1) := dk_27 (dk_at dksX0_value_0 4 rfl rfl)
theorem dX0_value_5 : decode cX0_value 5 = .ok (.iload_n 2, 1) := dk_28 (dk_at dksX0_value_0 5 rfl rfl)
theorem dX0_value_6 : decode cX0_value 6 = .ok (.iload_n 3, 1) := dk_29 (dk_at dksX0_value_0 6 rfl rfl)
theorem dX0_value_7 : decode cX0_value 7 = .ok (.invokevirtual 69, 3) := dk_182 0 69 (dk_at dksX0_value_0 7 rfl rfl)
theorem dX0_value_10 : decode cX0_value 10 = .ok (.lastore, 1) := dk_80 (dk_at dksX0_value_0 10 rfl rfl)
theorem dX0_value_11 : decode cX0_value 11 = .ok (.goto 11, 3) := dk_167 0 11 (dk_at dksX0_value_0 11 rfl rfl)
theorem dX0_value_14 : decode cX0_value 14 = .ok (.astore 5, 2) := dk_58 5 (dk_at dksX0_value_0 14 rfl rfl)
theorem dX0_value_16 : decode cX0_value 16 = .ok (.iconst 1, 1) := dk_4 (dk_at dksX0_value_0 16 rfl rfl)
theorem dX0_value_17 : decode cX0_value 17 = .ok (.ireturn, 1) := dk_172 (dk_at dksX0_value_0 17 rfl rfl)
theorem dX0_value_18 : decode cX0_value 18 = .ok (.astore 5, 2) := dk_58 5 (dk_at dksX0_value_0 18 rfl rfl)
theorem dX0_value_20 : decode cX0_value 20 = .ok (.iconst 2, 1) := dk_5 (dk_at dksX0_value_0 20 rfl rfl)
theorem dX0_value_21 : decode cX0_value 21 = .ok (.ireturn, 1) := dk_172 (dk_at dksX0_value_0 21 rfl rfl)
theorem dX0_value_22 : decode cX0_value 22 = .ok (.iconst 0, 1) := dk_3 (dk_at dksX0_value_0 22 rfl rfl)
theorem dX0_value_23 : decode cX0_value 23 = .ok (.ireturn, 1) := dk_172 (dk_at dksX0_value_0 23 rfl rfl)
abbrev cX0_valueAnew : ByteArray := method_19_code
def yX0_valueAnew : MethodName := ⟨RX0, "valueAnew", "(LWeirfoldLane;IIC[J)I"⟩
def dkwX0_valueAnew_0 : List UInt8 := [25, 4, 3, 42, 27, 28, 29, 182, 0, 73, 80, 167, 0, 11, 58, 5, 4, 172, 58, 5, 5, 172, 3, 172]
abbrev dktX0_valueAnew_0 : List UInt8 := dkwX0_valueAnew_0 ++ []
theorem dksX0_valueAnew_0 : cX0_valueAnew.data.toList.drop 0 = dktX0_valueAnew_0 := by decide +kernel
theorem dX0_valueAnew_0 : decode cX0_valueAnew 0 = .ok (.aload 4, 2) := dk_25 4 (dk_at dksX0_valueAnew_0 0 rfl rfl)
theorem dX0_valueAnew_2 : decode cX0_valueAnew 2 = .ok (.iconst 0, 1) := dk_3 (dk_at dksX0_valueAnew_0 2 rfl rfl)
theorem dX0_valueAnew_3 : decode cX0_valueAnew 3 = .ok (.aload_n 0, 1) := dk_42 (dk_at dksX0_valueAnew_0 3 rfl rfl)
theorem dX0_valueAnew_4 : decode cX0_valueAnew 4 = .ok (.iload_n 1, 1) := dk_27 (dk_at dksX0_valueAnew_0 4 rfl rfl)
theorem dX0_valueAnew_5 : decode cX0_valueAnew 5 = .ok (.iload_n 2, 1) := dk_28 (dk_at dksX0_valueAnew_0 5 rfl rfl)
theorem dX0_valueAnew_6 : decode cX0_valueAnew 6 = .ok (.iload_n 3, 1) := dk_29 (dk_at dksX0_valueAnew_0 6 rfl rfl)
theorem dX0_valueAnew_7 : decode cX0_valueAnew 7 = .ok (.invokevirtual 73, 3) := dk_182 0 73 (dk_at dksX0_valueAnew_0 7 rfl rfl)
theorem dX0_valueAnew_10 : decode cX0_valueAnew 10 = .ok (.lastore, 1) := dk_80 (dk_at dksX0_valueAnew_0 10 rfl rfl)
theorem dX0_valueAnew_11 : decode cX0_valueAnew 11 = .ok (.goto 11, 3) := dk_167 0 11 (dk_at dksX0_valueAnew_0 11 rfl rfl)
theorem dX0_valueAnew_14 : decode cX0_valueAnew 14 = .ok (.astore 5, 2) := dk_58 5 (dk_at dksX0_valueAnew_0 14 rfl rfl)
theorem dX0_valueAnew_16 : decode cX0_valueAnew 16 = .ok (.iconst 1, 1) := dk_4 (dk_at dksX0_valueAnew_0 16 rfl rfl)
theorem dX0_valueAnew_17 : decode cX0_valueAnew 17 = .ok (.ireturn, 1) := dk_172 (dk_at dksX0_valueAnew_0 17 rfl rfl)
theorem dX0_valueAnew_18 : decode cX0_valueAnew 18 = .ok (.astore 5, 2) := dk_58 5 (dk_at dksX0_valueAnew_0 18 rfl rfl)
theorem dX0_valueAnew_20 : decode cX0_valueAnew 20 = .ok (.iconst 2, 1) := dk_5 (dk_at dksX0_valueAnew_0 20 rfl rfl)
theorem dX0_valueAnew_21 : decode cX0_valueAnew 21 = .ok (.ireturn, 1) := dk_172 (dk_at dksX0_valueAnew_0 21 rfl rfl)
theorem dX0_valueAnew_22 : decode cX0_valueAnew 22 = .ok (.iconst 0, 1) := dk_3 (dk_at dksX0_valueAnew_0 22 rfl rfl)
theorem dX0_valueAnew_23 : decode cX0_valueAnew 23 = .ok (.ireturn, 1) := dk_172 (dk_at dksX0_valueAnew_0 23 rfl rfl)
abbrev cX0_total : ByteArray := method_20_code
def yX0_total : MethodName := ⟨RX0, "total", "(LWeirfoldLane;II[J)I"⟩
def dkwX0_total_0 : List UInt8 := [45, 3, 42, 27, 28, 182, 0, 76, 80, 167, 0, 11, 58, 4, 4, 172, 58, 4, 5, 172, 3, 172]
abbrev dktX0_total_0 : List UInt8 := dkwX0_total_0 ++ []
theorem dksX0_total_0 : cX0_total.data.toList.drop 0 = dktX0_total_0 := by decide +kernel
theorem dX0_total_0 : decode cX0_total 0 = .ok (.aload_n 3, 1) := dk_45 (dk_at dksX0_total_0 0 rfl rfl)
theorem dX0_total_1 : decode cX0_total 1 = .ok (.iconst 0, 1) := dk_3 (dk_at dksX0_total_0 1 rfl rfl)
theorem dX0_total_2 : decode cX0_total 2 = .ok (.aload_n 0, 1) := dk_42 (dk_at dksX0_total_0 2 rfl rfl)
theorem dX0_total_3 : decode cX0_total 3 = .ok (.iload_n 1, 1) := dk_27 (dk_at dksX0_total_0 3 rfl rfl)
theorem dX0_total_4 : decode cX0_total 4 = .ok (.iload_n 2, 1) := dk_28 (dk_at dksX0_total_0 4 rfl rfl)
theorem dX0_total_5 : decode cX0_total 5 = .ok (.invokevirtual 76, 3) := dk_182 0 76 (dk_at dksX0_total_0 5 rfl rfl)
theorem dX0_total_8 : decode cX0_total 8 = .ok (.lastore, 1) := dk_80 (dk_at dksX0_total_0 8 rfl rfl)
theorem dX0_total_9 : decode cX0_total 9 = .ok (.goto 11, 3) := dk_167 0 11 (dk_at dksX0_total_0 9 rfl rfl)
theorem dX0_total_12 : decode cX0_total 12 = .ok (.astore 4, 2) := dk_58 4 (dk_at dksX0_total_0 12 rfl rfl)
theorem dX0_total_14 : decode cX0_total 14 = .ok (.iconst 1, 1) := dk_4 (dk_at dksX0_total_0 14 rfl rfl)
theorem dX0_total_15 : decode cX0_total 15 = .ok (.ireturn, 1) := dk_172 (dk_at dksX0_total_0 15 rfl rfl)
theorem dX0_total_16 : decode cX0_total 16 = .ok (.astore 4, 2) := dk_58 4 (dk_at dksX0_total_0 16 rfl rfl)
theorem dX0_total_18 : decode cX0_total 18 = .ok (.iconst 2, 1) := dk_5 (dk_at dksX0_total_0 18 rfl rfl)
theorem dX0_total_19 : decode cX0_total 19 = .ok (.ireturn, 1) := dk_172 (dk_at dksX0_total_0 19 rfl rfl)
theorem dX0_total_20 : decode cX0_total 20 = .ok (.iconst 0, 1) := dk_3 (dk_at dksX0_total_0 20 rfl rfl)
theorem dX0_total_21 : decode cX0_total 21 = .ok (.ireturn, 1) := dk_172 (dk_at dksX0_total_0 21 rfl rfl)
abbrev cX0_isStale : ByteArray := method_21_code
def yX0_isStale : MethodName := ⟨RX0, "isStale", "(LWeirfoldLane;II[J)I"⟩
def dkwX0_isStale_1 : List UInt8 := [58, 4, 5, 172, 3, 172]
abbrev dktX0_isStale_1 : List UInt8 := dkwX0_isStale_1 ++ []
def dkwX0_isStale_0 : List UInt8 := [45, 3, 42, 27, 28, 182, 0, 80, 153, 0, 7, 10, 167, 0, 4, 9, 80, 167, 0, 11, 58, 4, 4, 172]
abbrev dktX0_isStale_0 : List UInt8 := dkwX0_isStale_0 ++ dktX0_isStale_1
theorem dksX0_isStale_0 : cX0_isStale.data.toList.drop 0 = dktX0_isStale_0 := by decide +kernel
theorem dksX0_isStale_1 : cX0_isStale.data.toList.drop 24 = dktX0_isStale_1 := dk_seg dksX0_isStale_0 24 rfl rfl
theorem dX0_isStale_0 : decode cX0_isStale 0 = .ok (.aload_n 3, 1) := dk_45 (dk_at dksX0_isStale_0 0 rfl rfl)
theorem dX0_isStale_1 : decode cX0_isStale 1 = .ok (.iconst 0, 1) := dk_3 (dk_at dksX0_isStale_0 1 rfl rfl)
theorem dX0_isStale_2 : decode cX0_isStale 2 = .ok (.aload_n 0, 1) := dk_42 (dk_at dksX0_isStale_0 2 rfl rfl)
theorem dX0_isStale_3 : decode cX0_isStale 3 = .ok (.iload_n 1, 1) := dk_27 (dk_at dksX0_isStale_0 3 rfl rfl)
theorem dX0_isStale_4 : decode cX0_isStale 4 = .ok (.iload_n 2, 1) := dk_28 (dk_at dksX0_isStale_0 4 rfl rfl)
theorem dX0_isStale_5 : decode cX0_isStale 5 = .ok (.invokevirtual 80, 3) := dk_182 0 80 (dk_at dksX0_isStale_0 5 rfl rfl)
theorem dX0_isStale_8 : decode cX0_isStale 8 = .ok (.ifCond .eq 7, 3) := dk_153 0 7 (dk_at dksX0_isStale_0 8 rfl rfl)
theorem dX0_isStale_11 : decode cX0_isStale 11 = .ok (.lconst 1, 1) := dk_10 (dk_at dksX0_isStale_0 11 rfl rfl)
theorem dX0_isStale_12 : decode cX0_isStale 12 = .ok (.goto 4, 3) := dk_167 0 4 (dk_at dksX0_isStale_0 12 rfl rfl)
theorem dX0_isStale_15 : decode cX0_isStale 15 = .ok (.lconst 0, 1) := dk_9 (dk_at dksX0_isStale_0 15 rfl rfl)
theorem dX0_isStale_16 : decode cX0_isStale 16 = .ok (.lastore, 1) := dk_80 (dk_at dksX0_isStale_0 16 rfl rfl)
theorem dX0_isStale_17 : decode cX0_isStale 17 = .ok (.goto 11, 3) := dk_167 0 11 (dk_at dksX0_isStale_0 17 rfl rfl)
theorem dX0_isStale_20 : decode cX0_isStale 20 = .ok (.astore 4, 2) := dk_58 4 (dk_at dksX0_isStale_0 20 rfl rfl)
theorem dX0_isStale_22 : decode cX0_isStale 22 = .ok (.iconst 1, 1) := dk_4 (dk_at dksX0_isStale_0 22 rfl rfl)
theorem dX0_isStale_23 : decode cX0_isStale 23 = .ok (.ireturn, 1) := dk_172 (dk_at dksX0_isStale_0 23 rfl rfl)
theorem dX0_isStale_24 : decode cX0_isStale 24 = .ok (.astore 4, 2) := dk_58 4 (dk_at dksX0_isStale_1 0 rfl rfl)
theorem dX0_isStale_26 : decode cX0_isStale 26 = .ok (.iconst 2, 1) := dk_5 (dk_at dksX0_isStale_1 2 rfl rfl)
theorem dX0_isStale_27 : decode cX0_isStale 27 = .ok (.ireturn, 1) := dk_172 (dk_at dksX0_isStale_1 3 rfl rfl)
theorem dX0_isStale_28 : decode cX0_isStale 28 = .ok (.iconst 0, 1) := dk_3 (dk_at dksX0_isStale_1 4 rfl rfl)
theorem dX0_isStale_29 : decode cX0_isStale 29 = .ok (.ireturn, 1) := dk_172 (dk_at dksX0_isStale_1 5 rfl rfl)
abbrev cX0_repair : ByteArray := method_22_code
def yX0_repair : MethodName := ⟨RX0, "repair", "(LWeirfoldLane;I[J)I"⟩
def dkwX0_repair_0 : List UInt8 := [44, 3, 42, 27, 182, 0, 83, 133, 80, 167, 0, 9, 78, 4, 172, 78, 5, 172, 3, 172]
abbrev dktX0_repair_0 : List UInt8 := dkwX0_repair_0 ++ []
theorem dksX0_repair_0 : cX0_repair.data.toList.drop 0 = dktX0_repair_0 := by decide +kernel
theorem dX0_repair_0 : decode cX0_repair 0 = .ok (.aload_n 2, 1) := dk_44 (dk_at dksX0_repair_0 0 rfl rfl)
theorem dX0_repair_1 : decode cX0_repair 1 = .ok (.iconst 0, 1) := dk_3 (dk_at dksX0_repair_0 1 rfl rfl)
theorem dX0_repair_2 : decode cX0_repair 2 = .ok (.aload_n 0, 1) := dk_42 (dk_at dksX0_repair_0 2 rfl rfl)
theorem dX0_repair_3 : decode cX0_repair 3 = .ok (.iload_n 1, 1) := dk_27 (dk_at dksX0_repair_0 3 rfl rfl)
theorem dX0_repair_4 : decode cX0_repair 4 = .ok (.invokevirtual 83, 3) := dk_182 0 83 (dk_at dksX0_repair_0 4 rfl rfl)
theorem dX0_repair_7 : decode cX0_repair 7 = .ok (.i2l, 1) := dk_133 (dk_at dksX0_repair_0 7 rfl rfl)
theorem dX0_repair_8 : decode cX0_repair 8 = .ok (.lastore, 1) := dk_80 (dk_at dksX0_repair_0 8 rfl rfl)
theorem dX0_repair_9 : decode cX0_repair 9 = .ok (.goto 9, 3) := dk_167 0 9 (dk_at dksX0_repair_0 9 rfl rfl)
theorem dX0_repair_12 : decode cX0_repair 12 = .ok (.astore_n 3, 1) := dk_78 (dk_at dksX0_repair_0 12 rfl rfl)
theorem dX0_repair_13 : decode cX0_repair 13 = .ok (.iconst 1, 1) := dk_4 (dk_at dksX0_repair_0 13 rfl rfl)
theorem dX0_repair_14 : decode cX0_repair 14 = .ok (.ireturn, 1) := dk_172 (dk_at dksX0_repair_0 14 rfl rfl)
theorem dX0_repair_15 : decode cX0_repair 15 = .ok (.astore_n 3, 1) := dk_78 (dk_at dksX0_repair_0 15 rfl rfl)
theorem dX0_repair_16 : decode cX0_repair 16 = .ok (.iconst 2, 1) := dk_5 (dk_at dksX0_repair_0 16 rfl rfl)
theorem dX0_repair_17 : decode cX0_repair 17 = .ok (.ireturn, 1) := dk_172 (dk_at dksX0_repair_0 17 rfl rfl)
theorem dX0_repair_18 : decode cX0_repair 18 = .ok (.iconst 0, 1) := dk_3 (dk_at dksX0_repair_0 18 rfl rfl)
theorem dX0_repair_19 : decode cX0_repair 19 = .ok (.ireturn, 1) := dk_172 (dk_at dksX0_repair_0 19 rfl rfl)
abbrev cX0_rowsBehind : ByteArray := method_23_code
def yX0_rowsBehind : MethodName := ⟨RX0, "rowsBehind", "(LWeirfoldLane;IIC[J)I"⟩
def dkwX0_rowsBehind_1 : List UInt8 := [172]
abbrev dktX0_rowsBehind_1 : List UInt8 := dkwX0_rowsBehind_1 ++ []
def dkwX0_rowsBehind_0 : List UInt8 := [25, 4, 3, 42, 27, 28, 29, 182, 0, 86, 133, 80, 167, 0, 11, 58, 5, 4, 172, 58, 5, 5, 172, 3]
abbrev dktX0_rowsBehind_0 : List UInt8 := dkwX0_rowsBehind_0 ++ dktX0_rowsBehind_1
theorem dksX0_rowsBehind_0 : cX0_rowsBehind.data.toList.drop 0 = dktX0_rowsBehind_0 := by decide +kernel
theorem dksX0_rowsBehind_1 : cX0_rowsBehind.data.toList.drop 24 = dktX0_rowsBehind_1 := dk_seg dksX0_rowsBehind_0 24 rfl rfl
theorem dX0_rowsBehind_0 : decode cX0_rowsBehind 0 = .ok (.aload 4, 2) := dk_25 4 (dk_at dksX0_rowsBehind_0 0 rfl rfl)
theorem dX0_rowsBehind_2 : decode cX0_rowsBehind 2 = .ok (.iconst 0, 1) := dk_3 (dk_at dksX0_rowsBehind_0 2 rfl rfl)
theorem dX0_rowsBehind_3 : decode cX0_rowsBehind 3 = .ok (.aload_n 0, 1) := dk_42 (dk_at dksX0_rowsBehind_0 3 rfl rfl)
theorem dX0_rowsBehind_4 : decode cX0_rowsBehind 4 = .ok (.iload_n 1, 1) := dk_27 (dk_at dksX0_rowsBehind_0 4 rfl rfl)
theorem dX0_rowsBehind_5 : decode cX0_rowsBehind 5 = .ok (.iload_n 2, 1) := dk_28 (dk_at dksX0_rowsBehind_0 5 rfl rfl)
theorem dX0_rowsBehind_6 : decode cX0_rowsBehind 6 = .ok (.iload_n 3, 1) := dk_29 (dk_at dksX0_rowsBehind_0 6 rfl rfl)
theorem dX0_rowsBehind_7 : decode cX0_rowsBehind 7 = .ok (.invokevirtual 86, 3) := dk_182 0 86 (dk_at dksX0_rowsBehind_0 7 rfl rfl)
theorem dX0_rowsBehind_10 : decode cX0_rowsBehind 10 = .ok (.i2l, 1) := dk_133 (dk_at dksX0_rowsBehind_0 10 rfl rfl)
theorem dX0_rowsBehind_11 : decode cX0_rowsBehind 11 = .ok (.lastore, 1) := dk_80 (dk_at dksX0_rowsBehind_0 11 rfl rfl)
theorem dX0_rowsBehind_12 : decode cX0_rowsBehind 12 = .ok (.goto 11, 3) := dk_167 0 11 (dk_at dksX0_rowsBehind_0 12 rfl rfl)
theorem dX0_rowsBehind_15 : decode cX0_rowsBehind 15 = .ok (.astore 5, 2) := dk_58 5 (dk_at dksX0_rowsBehind_0 15 rfl rfl)
theorem dX0_rowsBehind_17 : decode cX0_rowsBehind 17 = .ok (.iconst 1, 1) := dk_4 (dk_at dksX0_rowsBehind_0 17 rfl rfl)
theorem dX0_rowsBehind_18 : decode cX0_rowsBehind 18 = .ok (.ireturn, 1) := dk_172 (dk_at dksX0_rowsBehind_0 18 rfl rfl)
theorem dX0_rowsBehind_19 : decode cX0_rowsBehind 19 = .ok (.astore 5, 2) := dk_58 5 (dk_at dksX0_rowsBehind_0 19 rfl rfl)
theorem dX0_rowsBehind_21 : decode cX0_rowsBehind 21 = .ok (.iconst 2, 1) := dk_5 (dk_at dksX0_rowsBehind_0 21 rfl rfl)
theorem dX0_rowsBehind_22 : decode cX0_rowsBehind 22 = .ok (.ireturn, 1) := dk_172 (dk_at dksX0_rowsBehind_0 22 rfl rfl)
theorem dX0_rowsBehind_23 : decode cX0_rowsBehind 23 = .ok (.iconst 0, 1) := dk_3 (dk_at dksX0_rowsBehind_0 23 rfl rfl)
theorem dX0_rowsBehind_24 : decode cX0_rowsBehind 24 = .ok (.ireturn, 1) := dk_172 (dk_at dksX0_rowsBehind_1 0 rfl rfl)
abbrev cX0_rowsBehindByMarking : ByteArray := method_24_code
def yX0_rowsBehindByMarking : MethodName := ⟨RX0, "rowsBehindByMarking", "(LWeirfoldLane;IIC[J)I"⟩
def dkwX0_rowsBehindByMarking_1 : List UInt8 := [172]
abbrev dktX0_rowsBehindByMarking_1 : List UInt8 := dkwX0_rowsBehindByMarking_1 ++ []
def dkwX0_rowsBehindByMarking_0 : List UInt8 := [25, 4, 3, 42, 27, 28, 29, 182, 0, 90, 133, 80, 167, 0, 11, 58, 5, 4, 172, 58, 5, 5, 172, 3]
abbrev dktX0_rowsBehindByMarking_0 : List UInt8 := dkwX0_rowsBehindByMarking_0 ++ dktX0_rowsBehindByMarking_1
theorem dksX0_rowsBehindByMarking_0 : cX0_rowsBehindByMarking.data.toList.drop 0 = dktX0_rowsBehindByMarking_0 := by decide +kernel
theorem dksX0_rowsBehindByMarking_1 : cX0_rowsBehindByMarking.data.toList.drop 24 = dktX0_rowsBehindByMarking_1 := dk_seg dksX0_rowsBehindByMarking_0 24 rfl rfl
theorem dX0_rowsBehindByMarking_0 : decode cX0_rowsBehindByMarking 0 = .ok (.aload 4, 2) := dk_25 4 (dk_at dksX0_rowsBehindByMarking_0 0 rfl rfl)
theorem dX0_rowsBehindByMarking_2 : decode cX0_rowsBehindByMarking 2 = .ok (.iconst 0, 1) := dk_3 (dk_at dksX0_rowsBehindByMarking_0 2 rfl rfl)
theorem dX0_rowsBehindByMarking_3 : decode cX0_rowsBehindByMarking 3 = .ok (.aload_n 0, 1) := dk_42 (dk_at dksX0_rowsBehindByMarking_0 3 rfl rfl)
theorem dX0_rowsBehindByMarking_4 : decode cX0_rowsBehindByMarking 4 = .ok (.iload_n 1, 1) := dk_27 (dk_at dksX0_rowsBehindByMarking_0 4 rfl rfl)
theorem dX0_rowsBehindByMarking_5 : decode cX0_rowsBehindByMarking 5 = .ok (.iload_n 2, 1) := dk_28 (dk_at dksX0_rowsBehindByMarking_0 5 rfl rfl)
theorem dX0_rowsBehindByMarking_6 : decode cX0_rowsBehindByMarking 6 = .ok (.iload_n 3, 1) := dk_29 (dk_at dksX0_rowsBehindByMarking_0 6 rfl rfl)
theorem dX0_rowsBehindByMarking_7 : decode cX0_rowsBehindByMarking 7 = .ok (.invokevirtual 90, 3) := dk_182 0 90 (dk_at dksX0_rowsBehindByMarking_0 7 rfl rfl)
theorem dX0_rowsBehindByMarking_10 : decode cX0_rowsBehindByMarking 10 = .ok (.i2l, 1) := dk_133 (dk_at dksX0_rowsBehindByMarking_0 10 rfl rfl)
theorem dX0_rowsBehindByMarking_11 : decode cX0_rowsBehindByMarking 11 = .ok (.lastore, 1) := dk_80 (dk_at dksX0_rowsBehindByMarking_0 11 rfl rfl)
theorem dX0_rowsBehindByMarking_12 : decode cX0_rowsBehindByMarking 12 = .ok (.goto 11, 3) := dk_167 0 11 (dk_at dksX0_rowsBehindByMarking_0 12 rfl rfl)
theorem dX0_rowsBehindByMarking_15 : decode cX0_rowsBehindByMarking 15 = .ok (.astore 5, 2) := dk_58 5 (dk_at dksX0_rowsBehindByMarking_0 15 rfl rfl)
theorem dX0_rowsBehindByMarking_17 : decode cX0_rowsBehindByMarking 17 = .ok (.iconst 1, 1) := dk_4 (dk_at dksX0_rowsBehindByMarking_0 17 rfl rfl)
theorem dX0_rowsBehindByMarking_18 : decode cX0_rowsBehindByMarking 18 = .ok (.ireturn, 1) := dk_172 (dk_at dksX0_rowsBehindByMarking_0 18 rfl rfl)
theorem dX0_rowsBehindByMarking_19 : decode cX0_rowsBehindByMarking 19 = .ok (.astore 5, 2) := dk_58 5 (dk_at dksX0_rowsBehindByMarking_0 19 rfl rfl)
theorem dX0_rowsBehindByMarking_21 : decode cX0_rowsBehindByMarking 21 = .ok (.iconst 2, 1) := dk_5 (dk_at dksX0_rowsBehindByMarking_0 21 rfl rfl)
theorem dX0_rowsBehindByMarking_22 : decode cX0_rowsBehindByMarking 22 = .ok (.ireturn, 1) := dk_172 (dk_at dksX0_rowsBehindByMarking_0 22 rfl rfl)
theorem dX0_rowsBehindByMarking_23 : decode cX0_rowsBehindByMarking 23 = .ok (.iconst 0, 1) := dk_3 (dk_at dksX0_rowsBehindByMarking_0 23 rfl rfl)
theorem dX0_rowsBehindByMarking_24 : decode cX0_rowsBehindByMarking 24 = .ok (.ireturn, 1) := dk_172 (dk_at dksX0_rowsBehindByMarking_1 0 rfl rfl)
abbrev cX0_reach : ByteArray := method_25_code
def yX0_reach : MethodName := ⟨RX0, "reach", "(LWeirfoldLane;I[J)I"⟩
def dkwX0_reach_0 : List UInt8 := [44, 3, 42, 27, 182, 0, 93, 133, 80, 167, 0, 6, 78, 4, 172, 3, 172]
abbrev dktX0_reach_0 : List UInt8 := dkwX0_reach_0 ++ []
theorem dksX0_reach_0 : cX0_reach.data.toList.drop 0 = dktX0_reach_0 := by decide +kernel
theorem dX0_reach_0 : decode cX0_reach 0 = .ok (.aload_n 2, 1) := dk_44 (dk_at dksX0_reach_0 0 rfl rfl)
theorem dX0_reach_1 : decode cX0_reach 1 = .ok (.iconst 0, 1) := dk_3 (dk_at dksX0_reach_0 1 rfl rfl)
theorem dX0_reach_2 : decode cX0_reach 2 = .ok (.aload_n 0, 1) := dk_42 (dk_at dksX0_reach_0 2 rfl rfl)
theorem dX0_reach_3 : decode cX0_reach 3 = .ok (.iload_n 1, 1) := dk_27 (dk_at dksX0_reach_0 3 rfl rfl)
theorem dX0_reach_4 : decode cX0_reach 4 = .ok (.invokevirtual 93, 3) := dk_182 0 93 (dk_at dksX0_reach_0 4 rfl rfl)
theorem dX0_reach_7 : decode cX0_reach 7 = .ok (.i2l, 1) := dk_133 (dk_at dksX0_reach_0 7 rfl rfl)
theorem dX0_reach_8 : decode cX0_reach 8 = .ok (.lastore, 1) := dk_80 (dk_at dksX0_reach_0 8 rfl rfl)
theorem dX0_reach_9 : decode cX0_reach 9 = .ok (.goto 6, 3) := dk_167 0 6 (dk_at dksX0_reach_0 9 rfl rfl)
theorem dX0_reach_12 : decode cX0_reach 12 = .ok (.astore_n 3, 1) := dk_78 (dk_at dksX0_reach_0 12 rfl rfl)
theorem dX0_reach_13 : decode cX0_reach 13 = .ok (.iconst 1, 1) := dk_4 (dk_at dksX0_reach_0 13 rfl rfl)
theorem dX0_reach_14 : decode cX0_reach 14 = .ok (.ireturn, 1) := dk_172 (dk_at dksX0_reach_0 14 rfl rfl)
theorem dX0_reach_15 : decode cX0_reach 15 = .ok (.iconst 0, 1) := dk_3 (dk_at dksX0_reach_0 15 rfl rfl)
theorem dX0_reach_16 : decode cX0_reach 16 = .ok (.ireturn, 1) := dk_172 (dk_at dksX0_reach_0 16 rfl rfl)
abbrev cX0_cost : ByteArray := method_26_code
def yX0_cost : MethodName := ⟨RX0, "cost", "(LWeirfoldLane;II[J)I"⟩
def dkwX0_cost_0 : List UInt8 := [45, 3, 42, 27, 28, 182, 0, 96, 80, 167, 0, 11, 58, 4, 4, 172, 58, 4, 5, 172, 3, 172]
abbrev dktX0_cost_0 : List UInt8 := dkwX0_cost_0 ++ []
theorem dksX0_cost_0 : cX0_cost.data.toList.drop 0 = dktX0_cost_0 := by decide +kernel
theorem dX0_cost_0 : decode cX0_cost 0 = .ok (.aload_n 3, 1) := dk_45 (dk_at dksX0_cost_0 0 rfl rfl)
theorem dX0_cost_1 : decode cX0_cost 1 = .ok (.iconst 0, 1) := dk_3 (dk_at dksX0_cost_0 1 rfl rfl)
theorem dX0_cost_2 : decode cX0_cost 2 = .ok (.aload_n 0, 1) := dk_42 (dk_at dksX0_cost_0 2 rfl rfl)
theorem dX0_cost_3 : decode cX0_cost 3 = .ok (.iload_n 1, 1) := dk_27 (dk_at dksX0_cost_0 3 rfl rfl)
theorem dX0_cost_4 : decode cX0_cost 4 = .ok (.iload_n 2, 1) := dk_28 (dk_at dksX0_cost_0 4 rfl rfl)
theorem dX0_cost_5 : decode cX0_cost 5 = .ok (.invokevirtual 96, 3) := dk_182 0 96 (dk_at dksX0_cost_0 5 rfl rfl)
theorem dX0_cost_8 : decode cX0_cost 8 = .ok (.lastore, 1) := dk_80 (dk_at dksX0_cost_0 8 rfl rfl)
theorem dX0_cost_9 : decode cX0_cost 9 = .ok (.goto 11, 3) := dk_167 0 11 (dk_at dksX0_cost_0 9 rfl rfl)
theorem dX0_cost_12 : decode cX0_cost 12 = .ok (.astore 4, 2) := dk_58 4 (dk_at dksX0_cost_0 12 rfl rfl)
theorem dX0_cost_14 : decode cX0_cost 14 = .ok (.iconst 1, 1) := dk_4 (dk_at dksX0_cost_0 14 rfl rfl)
theorem dX0_cost_15 : decode cX0_cost 15 = .ok (.ireturn, 1) := dk_172 (dk_at dksX0_cost_0 15 rfl rfl)
theorem dX0_cost_16 : decode cX0_cost 16 = .ok (.astore 4, 2) := dk_58 4 (dk_at dksX0_cost_0 16 rfl rfl)
theorem dX0_cost_18 : decode cX0_cost 18 = .ok (.iconst 2, 1) := dk_5 (dk_at dksX0_cost_0 18 rfl rfl)
theorem dX0_cost_19 : decode cX0_cost 19 = .ok (.ireturn, 1) := dk_172 (dk_at dksX0_cost_0 19 rfl rfl)
theorem dX0_cost_20 : decode cX0_cost 20 = .ok (.iconst 0, 1) := dk_3 (dk_at dksX0_cost_0 20 rfl rfl)
theorem dX0_cost_21 : decode cX0_cost 21 = .ok (.ireturn, 1) := dk_172 (dk_at dksX0_cost_0 21 rfl rfl)
abbrev cX0_bestPlan : ByteArray := method_27_code
def yX0_bestPlan : MethodName := ⟨RX0, "bestPlan", "(LWeirfoldLane;I[J)I"⟩
def dkwX0_bestPlan_0 : List UInt8 := [44, 3, 42, 27, 182, 0, 99, 133, 80, 167, 0, 6, 78, 4, 172, 3, 172]
abbrev dktX0_bestPlan_0 : List UInt8 := dkwX0_bestPlan_0 ++ []
theorem dksX0_bestPlan_0 : cX0_bestPlan.data.toList.drop 0 = dktX0_bestPlan_0 := by decide +kernel
theorem dX0_bestPlan_0 : decode cX0_bestPlan 0 = .ok (.aload_n 2, 1) := dk_44 (dk_at dksX0_bestPlan_0 0 rfl rfl)
theorem dX0_bestPlan_1 : decode cX0_bestPlan 1 = .ok (.iconst 0, 1) := dk_3 (dk_at dksX0_bestPlan_0 1 rfl rfl)
theorem dX0_bestPlan_2 : decode cX0_bestPlan 2 = .ok (.aload_n 0, 1) := dk_42 (dk_at dksX0_bestPlan_0 2 rfl rfl)
theorem dX0_bestPlan_3 : decode cX0_bestPlan 3 = .ok (.iload_n 1, 1) := dk_27 (dk_at dksX0_bestPlan_0 3 rfl rfl)
theorem dX0_bestPlan_4 : decode cX0_bestPlan 4 = .ok (.invokevirtual 99, 3) := dk_182 0 99 (dk_at dksX0_bestPlan_0 4 rfl rfl)
theorem dX0_bestPlan_7 : decode cX0_bestPlan 7 = .ok (.i2l, 1) := dk_133 (dk_at dksX0_bestPlan_0 7 rfl rfl)
theorem dX0_bestPlan_8 : decode cX0_bestPlan 8 = .ok (.lastore, 1) := dk_80 (dk_at dksX0_bestPlan_0 8 rfl rfl)
theorem dX0_bestPlan_9 : decode cX0_bestPlan 9 = .ok (.goto 6, 3) := dk_167 0 6 (dk_at dksX0_bestPlan_0 9 rfl rfl)
theorem dX0_bestPlan_12 : decode cX0_bestPlan 12 = .ok (.astore_n 3, 1) := dk_78 (dk_at dksX0_bestPlan_0 12 rfl rfl)
theorem dX0_bestPlan_13 : decode cX0_bestPlan 13 = .ok (.iconst 1, 1) := dk_4 (dk_at dksX0_bestPlan_0 13 rfl rfl)
theorem dX0_bestPlan_14 : decode cX0_bestPlan 14 = .ok (.ireturn, 1) := dk_172 (dk_at dksX0_bestPlan_0 14 rfl rfl)
theorem dX0_bestPlan_15 : decode cX0_bestPlan 15 = .ok (.iconst 0, 1) := dk_3 (dk_at dksX0_bestPlan_0 15 rfl rfl)
theorem dX0_bestPlan_16 : decode cX0_bestPlan 16 = .ok (.ireturn, 1) := dk_172 (dk_at dksX0_bestPlan_0 16 rfl rfl)
abbrev cX0_bestPlanByDeciding : ByteArray := method_28_code
def yX0_bestPlanByDeciding : MethodName := ⟨RX0, "bestPlanByDeciding", "(LWeirfoldLane;I[J)I"⟩
def dkwX0_bestPlanByDeciding_0 : List UInt8 := [44, 3, 42, 27, 182, 0, 102, 133, 80, 167, 0, 6, 78, 4, 172, 3, 172]
abbrev dktX0_bestPlanByDeciding_0 : List UInt8 := dkwX0_bestPlanByDeciding_0 ++ []
theorem dksX0_bestPlanByDeciding_0 : cX0_bestPlanByDeciding.data.toList.drop 0 = dktX0_bestPlanByDeciding_0 := by decide +kernel
theorem dX0_bestPlanByDeciding_0 : decode cX0_bestPlanByDeciding 0 = .ok (.aload_n 2, 1) := dk_44 (dk_at dksX0_bestPlanByDeciding_0 0 rfl rfl)
theorem dX0_bestPlanByDeciding_1 : decode cX0_bestPlanByDeciding 1 = .ok (.iconst 0, 1) := dk_3 (dk_at dksX0_bestPlanByDeciding_0 1 rfl rfl)
theorem dX0_bestPlanByDeciding_2 : decode cX0_bestPlanByDeciding 2 = .ok (.aload_n 0, 1) := dk_42 (dk_at dksX0_bestPlanByDeciding_0 2 rfl rfl)
theorem dX0_bestPlanByDeciding_3 : decode cX0_bestPlanByDeciding 3 = .ok (.iload_n 1, 1) := dk_27 (dk_at dksX0_bestPlanByDeciding_0 3 rfl rfl)
theorem dX0_bestPlanByDeciding_4 : decode cX0_bestPlanByDeciding 4 = .ok (.invokevirtual 102, 3) := dk_182 0 102 (dk_at dksX0_bestPlanByDeciding_0 4 rfl rfl)
theorem dX0_bestPlanByDeciding_7 : decode cX0_bestPlanByDeciding 7 = .ok (.i2l, 1) := dk_133 (dk_at dksX0_bestPlanByDeciding_0 7 rfl rfl)
theorem dX0_bestPlanByDeciding_8 : decode cX0_bestPlanByDeciding 8 = .ok (.lastore, 1) := dk_80 (dk_at dksX0_bestPlanByDeciding_0 8 rfl rfl)
theorem dX0_bestPlanByDeciding_9 : decode cX0_bestPlanByDeciding 9 = .ok (.goto 6, 3) := dk_167 0 6 (dk_at dksX0_bestPlanByDeciding_0 9 rfl rfl)
theorem dX0_bestPlanByDeciding_12 : decode cX0_bestPlanByDeciding 12 = .ok (.astore_n 3, 1) := dk_78 (dk_at dksX0_bestPlanByDeciding_0 12 rfl rfl)
theorem dX0_bestPlanByDeciding_13 : decode cX0_bestPlanByDeciding 13 = .ok (.iconst 1, 1) := dk_4 (dk_at dksX0_bestPlanByDeciding_0 13 rfl rfl)
theorem dX0_bestPlanByDeciding_14 : decode cX0_bestPlanByDeciding 14 = .ok (.ireturn, 1) := dk_172 (dk_at dksX0_bestPlanByDeciding_0 14 rfl rfl)
theorem dX0_bestPlanByDeciding_15 : decode cX0_bestPlanByDeciding 15 = .ok (.iconst 0, 1) := dk_3 (dk_at dksX0_bestPlanByDeciding_0 15 rfl rfl)
theorem dX0_bestPlanByDeciding_16 : decode cX0_bestPlanByDeciding 16 = .ok (.ireturn, 1) := dk_172 (dk_at dksX0_bestPlanByDeciding_0 16 rfl rfl)
abbrev cX0_bestCost : ByteArray := method_29_code
def yX0_bestCost : MethodName := ⟨RX0, "bestCost", "(LWeirfoldLane;I[J)I"⟩
def dkwX0_bestCost_0 : List UInt8 := [44, 3, 42, 27, 182, 0, 105, 80, 167, 0, 6, 78, 4, 172, 3, 172]
abbrev dktX0_bestCost_0 : List UInt8 := dkwX0_bestCost_0 ++ []
theorem dksX0_bestCost_0 : cX0_bestCost.data.toList.drop 0 = dktX0_bestCost_0 := by decide +kernel
theorem dX0_bestCost_0 : decode cX0_bestCost 0 = .ok (.aload_n 2, 1) := dk_44 (dk_at dksX0_bestCost_0 0 rfl rfl)
theorem dX0_bestCost_1 : decode cX0_bestCost 1 = .ok (.iconst 0, 1) := dk_3 (dk_at dksX0_bestCost_0 1 rfl rfl)
theorem dX0_bestCost_2 : decode cX0_bestCost 2 = .ok (.aload_n 0, 1) := dk_42 (dk_at dksX0_bestCost_0 2 rfl rfl)
theorem dX0_bestCost_3 : decode cX0_bestCost 3 = .ok (.iload_n 1, 1) := dk_27 (dk_at dksX0_bestCost_0 3 rfl rfl)
theorem dX0_bestCost_4 : decode cX0_bestCost 4 = .ok (.invokevirtual 105, 3) := dk_182 0 105 (dk_at dksX0_bestCost_0 4 rfl rfl)
theorem dX0_bestCost_7 : decode cX0_bestCost 7 = .ok (.lastore, 1) := dk_80 (dk_at dksX0_bestCost_0 7 rfl rfl)
theorem dX0_bestCost_8 : decode cX0_bestCost 8 = .ok (.goto 6, 3) := dk_167 0 6 (dk_at dksX0_bestCost_0 8 rfl rfl)
theorem dX0_bestCost_11 : decode cX0_bestCost 11 = .ok (.astore_n 3, 1) := dk_78 (dk_at dksX0_bestCost_0 11 rfl rfl)
theorem dX0_bestCost_12 : decode cX0_bestCost 12 = .ok (.iconst 1, 1) := dk_4 (dk_at dksX0_bestCost_0 12 rfl rfl)
theorem dX0_bestCost_13 : decode cX0_bestCost 13 = .ok (.ireturn, 1) := dk_172 (dk_at dksX0_bestCost_0 13 rfl rfl)
theorem dX0_bestCost_14 : decode cX0_bestCost 14 = .ok (.iconst 0, 1) := dk_3 (dk_at dksX0_bestCost_0 14 rfl rfl)
theorem dX0_bestCost_15 : decode cX0_bestCost 15 = .ok (.ireturn, 1) := dk_172 (dk_at dksX0_bestCost_0 15 rfl rfl)
abbrev cX0_meanAmount : ByteArray := method_30_code
def yX0_meanAmount : MethodName := ⟨RX0, "meanAmount", "(LWeirfoldLane;[D)I"⟩
def dkwX0_meanAmount_0 : List UInt8 := [43, 3, 42, 182, 0, 109, 82, 167, 0, 6, 77, 4, 172, 3, 172]
abbrev dktX0_meanAmount_0 : List UInt8 := dkwX0_meanAmount_0 ++ []
theorem dksX0_meanAmount_0 : cX0_meanAmount.data.toList.drop 0 = dktX0_meanAmount_0 := by decide +kernel
theorem dX0_meanAmount_0 : decode cX0_meanAmount 0 = .ok (.aload_n 1, 1) := dk_43 (dk_at dksX0_meanAmount_0 0 rfl rfl)
theorem dX0_meanAmount_1 : decode cX0_meanAmount 1 = .ok (.iconst 0, 1) := dk_3 (dk_at dksX0_meanAmount_0 1 rfl rfl)
theorem dX0_meanAmount_2 : decode cX0_meanAmount 2 = .ok (.aload_n 0, 1) := dk_42 (dk_at dksX0_meanAmount_0 2 rfl rfl)
theorem dX0_meanAmount_3 : decode cX0_meanAmount 3 = .ok (.invokevirtual 109, 3) := dk_182 0 109 (dk_at dksX0_meanAmount_0 3 rfl rfl)
theorem dX0_meanAmount_6 : decode cX0_meanAmount 6 = .ok (.dastore, 1) := dk_82 (dk_at dksX0_meanAmount_0 6 rfl rfl)
theorem dX0_meanAmount_7 : decode cX0_meanAmount 7 = .ok (.goto 6, 3) := dk_167 0 6 (dk_at dksX0_meanAmount_0 7 rfl rfl)
theorem dX0_meanAmount_10 : decode cX0_meanAmount 10 = .ok (.astore_n 2, 1) := dk_77 (dk_at dksX0_meanAmount_0 10 rfl rfl)
theorem dX0_meanAmount_11 : decode cX0_meanAmount 11 = .ok (.iconst 1, 1) := dk_4 (dk_at dksX0_meanAmount_0 11 rfl rfl)
theorem dX0_meanAmount_12 : decode cX0_meanAmount 12 = .ok (.ireturn, 1) := dk_172 (dk_at dksX0_meanAmount_0 12 rfl rfl)
theorem dX0_meanAmount_13 : decode cX0_meanAmount 13 = .ok (.iconst 0, 1) := dk_3 (dk_at dksX0_meanAmount_0 13 rfl rfl)
theorem dX0_meanAmount_14 : decode cX0_meanAmount 14 = .ok (.ireturn, 1) := dk_172 (dk_at dksX0_meanAmount_0 14 rfl rfl)
abbrev cX0_staleShare : ByteArray := method_31_code
def yX0_staleShare : MethodName := ⟨RX0, "staleShare", "(LWeirfoldLane;[D)I"⟩
def dkwX0_staleShare_0 : List UInt8 := [43, 3, 42, 182, 0, 115, 141, 82, 167, 0, 6, 77, 4, 172, 3, 172]
abbrev dktX0_staleShare_0 : List UInt8 := dkwX0_staleShare_0 ++ []
theorem dksX0_staleShare_0 : cX0_staleShare.data.toList.drop 0 = dktX0_staleShare_0 := by decide +kernel
theorem dX0_staleShare_0 : decode cX0_staleShare 0 = .ok (.aload_n 1, 1) := dk_43 (dk_at dksX0_staleShare_0 0 rfl rfl)
theorem dX0_staleShare_1 : decode cX0_staleShare 1 = .ok (.iconst 0, 1) := dk_3 (dk_at dksX0_staleShare_0 1 rfl rfl)
theorem dX0_staleShare_2 : decode cX0_staleShare 2 = .ok (.aload_n 0, 1) := dk_42 (dk_at dksX0_staleShare_0 2 rfl rfl)
theorem dX0_staleShare_3 : decode cX0_staleShare 3 = .ok (.invokevirtual 115, 3) := dk_182 0 115 (dk_at dksX0_staleShare_0 3 rfl rfl)
theorem dX0_staleShare_6 : decode cX0_staleShare 6 = .ok (.f2d, 1) := dk_141 (dk_at dksX0_staleShare_0 6 rfl rfl)
theorem dX0_staleShare_7 : decode cX0_staleShare 7 = .ok (.dastore, 1) := dk_82 (dk_at dksX0_staleShare_0 7 rfl rfl)
theorem dX0_staleShare_8 : decode cX0_staleShare 8 = .ok (.goto 6, 3) := dk_167 0 6 (dk_at dksX0_staleShare_0 8 rfl rfl)
theorem dX0_staleShare_11 : decode cX0_staleShare 11 = .ok (.astore_n 2, 1) := dk_77 (dk_at dksX0_staleShare_0 11 rfl rfl)
theorem dX0_staleShare_12 : decode cX0_staleShare 12 = .ok (.iconst 1, 1) := dk_4 (dk_at dksX0_staleShare_0 12 rfl rfl)
theorem dX0_staleShare_13 : decode cX0_staleShare 13 = .ok (.ireturn, 1) := dk_172 (dk_at dksX0_staleShare_0 13 rfl rfl)
theorem dX0_staleShare_14 : decode cX0_staleShare 14 = .ok (.iconst 0, 1) := dk_3 (dk_at dksX0_staleShare_0 14 rfl rfl)
theorem dX0_staleShare_15 : decode cX0_staleShare 15 = .ok (.ireturn, 1) := dk_172 (dk_at dksX0_staleShare_0 15 rfl rfl)
abbrev cX0_feed : ByteArray := method_32_code
def yX0_feed : MethodName := ⟨RX0, "feed", "(LWeirfoldLane;C[J)I"⟩
def dkwX0_feed_0 : List UInt8 := [44, 3, 42, 27, 182, 0, 119, 133, 80, 167, 0, 6, 78, 4, 172, 3, 172]
abbrev dktX0_feed_0 : List UInt8 := dkwX0_feed_0 ++ []
theorem dksX0_feed_0 : cX0_feed.data.toList.drop 0 = dktX0_feed_0 := by decide +kernel
theorem dX0_feed_0 : decode cX0_feed 0 = .ok (.aload_n 2, 1) := dk_44 (dk_at dksX0_feed_0 0 rfl rfl)
theorem dX0_feed_1 : decode cX0_feed 1 = .ok (.iconst 0, 1) := dk_3 (dk_at dksX0_feed_0 1 rfl rfl)
theorem dX0_feed_2 : decode cX0_feed 2 = .ok (.aload_n 0, 1) := dk_42 (dk_at dksX0_feed_0 2 rfl rfl)
theorem dX0_feed_3 : decode cX0_feed 3 = .ok (.iload_n 1, 1) := dk_27 (dk_at dksX0_feed_0 3 rfl rfl)
theorem dX0_feed_4 : decode cX0_feed 4 = .ok (.invokevirtual 119, 3) := dk_182 0 119 (dk_at dksX0_feed_0 4 rfl rfl)
theorem dX0_feed_7 : decode cX0_feed 7 = .ok (.i2l, 1) := dk_133 (dk_at dksX0_feed_0 7 rfl rfl)
theorem dX0_feed_8 : decode cX0_feed 8 = .ok (.lastore, 1) := dk_80 (dk_at dksX0_feed_0 8 rfl rfl)
theorem dX0_feed_9 : decode cX0_feed 9 = .ok (.goto 6, 3) := dk_167 0 6 (dk_at dksX0_feed_0 9 rfl rfl)
theorem dX0_feed_12 : decode cX0_feed 12 = .ok (.astore_n 3, 1) := dk_78 (dk_at dksX0_feed_0 12 rfl rfl)
theorem dX0_feed_13 : decode cX0_feed 13 = .ok (.iconst 1, 1) := dk_4 (dk_at dksX0_feed_0 13 rfl rfl)
theorem dX0_feed_14 : decode cX0_feed 14 = .ok (.ireturn, 1) := dk_172 (dk_at dksX0_feed_0 14 rfl rfl)
theorem dX0_feed_15 : decode cX0_feed 15 = .ok (.iconst 0, 1) := dk_3 (dk_at dksX0_feed_0 15 rfl rfl)
theorem dX0_feed_16 : decode cX0_feed 16 = .ok (.ireturn, 1) := dk_172 (dk_at dksX0_feed_0 16 rfl rfl)
abbrev cX0_execute : ByteArray := method_33_code
def yX0_execute : MethodName := ⟨RX0, "execute", "(LWeirfoldLane;[J)I"⟩
def dkwX0_execute_0 : List UInt8 := [43, 3, 42, 182, 0, 125, 133, 80, 167, 0, 9, 77, 4, 172, 77, 5, 172, 3, 172]
abbrev dktX0_execute_0 : List UInt8 := dkwX0_execute_0 ++ []
theorem dksX0_execute_0 : cX0_execute.data.toList.drop 0 = dktX0_execute_0 := by decide +kernel
theorem dX0_execute_0 : decode cX0_execute 0 = .ok (.aload_n 1, 1) := dk_43 (dk_at dksX0_execute_0 0 rfl rfl)
theorem dX0_execute_1 : decode cX0_execute 1 = .ok (.iconst 0, 1) := dk_3 (dk_at dksX0_execute_0 1 rfl rfl)
theorem dX0_execute_2 : decode cX0_execute 2 = .ok (.aload_n 0, 1) := dk_42 (dk_at dksX0_execute_0 2 rfl rfl)
theorem dX0_execute_3 : decode cX0_execute 3 = .ok (.invokevirtual 125, 3) := dk_182 0 125 (dk_at dksX0_execute_0 3 rfl rfl)
theorem dX0_execute_6 : decode cX0_execute 6 = .ok (.i2l, 1) := dk_133 (dk_at dksX0_execute_0 6 rfl rfl)
theorem dX0_execute_7 : decode cX0_execute 7 = .ok (.lastore, 1) := dk_80 (dk_at dksX0_execute_0 7 rfl rfl)
theorem dX0_execute_8 : decode cX0_execute 8 = .ok (.goto 9, 3) := dk_167 0 9 (dk_at dksX0_execute_0 8 rfl rfl)
theorem dX0_execute_11 : decode cX0_execute 11 = .ok (.astore_n 2, 1) := dk_77 (dk_at dksX0_execute_0 11 rfl rfl)
theorem dX0_execute_12 : decode cX0_execute 12 = .ok (.iconst 1, 1) := dk_4 (dk_at dksX0_execute_0 12 rfl rfl)
theorem dX0_execute_13 : decode cX0_execute 13 = .ok (.ireturn, 1) := dk_172 (dk_at dksX0_execute_0 13 rfl rfl)
theorem dX0_execute_14 : decode cX0_execute 14 = .ok (.astore_n 2, 1) := dk_77 (dk_at dksX0_execute_0 14 rfl rfl)
theorem dX0_execute_15 : decode cX0_execute 15 = .ok (.iconst 2, 1) := dk_5 (dk_at dksX0_execute_0 15 rfl rfl)
theorem dX0_execute_16 : decode cX0_execute 16 = .ok (.ireturn, 1) := dk_172 (dk_at dksX0_execute_0 16 rfl rfl)
theorem dX0_execute_17 : decode cX0_execute 17 = .ok (.iconst 0, 1) := dk_3 (dk_at dksX0_execute_0 17 rfl rfl)
theorem dX0_execute_18 : decode cX0_execute 18 = .ok (.ireturn, 1) := dk_172 (dk_at dksX0_execute_0 18 rfl rfl)
abbrev cX0_faultPosition : ByteArray := method_34_code
def yX0_faultPosition : MethodName := ⟨RX0, "faultPosition", "(LWeirfoldLane;[J)I"⟩
def dkwX0_faultPosition_0 : List UInt8 := [43, 3, 42, 182, 0, 128, 133, 80, 167, 0, 6, 77, 4, 172, 3, 172]
abbrev dktX0_faultPosition_0 : List UInt8 := dkwX0_faultPosition_0 ++ []
theorem dksX0_faultPosition_0 : cX0_faultPosition.data.toList.drop 0 = dktX0_faultPosition_0 := by decide +kernel
theorem dX0_faultPosition_0 : decode cX0_faultPosition 0 = .ok (.aload_n 1, 1) := dk_43 (dk_at dksX0_faultPosition_0 0 rfl rfl)
theorem dX0_faultPosition_1 : decode cX0_faultPosition 1 = .ok (.iconst 0, 1) := dk_3 (dk_at dksX0_faultPosition_0 1 rfl rfl)
theorem dX0_faultPosition_2 : decode cX0_faultPosition 2 = .ok (.aload_n 0, 1) := dk_42 (dk_at dksX0_faultPosition_0 2 rfl rfl)
theorem dX0_faultPosition_3 : decode cX0_faultPosition 3 = .ok (.invokevirtual 128, 3) := dk_182 0 128 (dk_at dksX0_faultPosition_0 3 rfl rfl)
theorem dX0_faultPosition_6 : decode cX0_faultPosition 6 = .ok (.i2l, 1) := dk_133 (dk_at dksX0_faultPosition_0 6 rfl rfl)
theorem dX0_faultPosition_7 : decode cX0_faultPosition 7 = .ok (.lastore, 1) := dk_80 (dk_at dksX0_faultPosition_0 7 rfl rfl)
theorem dX0_faultPosition_8 : decode cX0_faultPosition 8 = .ok (.goto 6, 3) := dk_167 0 6 (dk_at dksX0_faultPosition_0 8 rfl rfl)
theorem dX0_faultPosition_11 : decode cX0_faultPosition 11 = .ok (.astore_n 2, 1) := dk_77 (dk_at dksX0_faultPosition_0 11 rfl rfl)
theorem dX0_faultPosition_12 : decode cX0_faultPosition 12 = .ok (.iconst 1, 1) := dk_4 (dk_at dksX0_faultPosition_0 12 rfl rfl)
theorem dX0_faultPosition_13 : decode cX0_faultPosition 13 = .ok (.ireturn, 1) := dk_172 (dk_at dksX0_faultPosition_0 13 rfl rfl)
theorem dX0_faultPosition_14 : decode cX0_faultPosition 14 = .ok (.iconst 0, 1) := dk_3 (dk_at dksX0_faultPosition_0 14 rfl rfl)
theorem dX0_faultPosition_15 : decode cX0_faultPosition 15 = .ok (.ireturn, 1) := dk_172 (dk_at dksX0_faultPosition_0 15 rfl rfl)
abbrev cX0_writeStep : ByteArray := method_35_code
def yX0_writeStep : MethodName := ⟨RX0, "writeStep", "(LWeirfoldLane;I[J)I"⟩
def dkwX0_writeStep_0 : List UInt8 := [44, 3, 42, 27, 182, 0, 131, 133, 80, 167, 0, 6, 78, 4, 172, 3, 172]
abbrev dktX0_writeStep_0 : List UInt8 := dkwX0_writeStep_0 ++ []
theorem dksX0_writeStep_0 : cX0_writeStep.data.toList.drop 0 = dktX0_writeStep_0 := by decide +kernel
theorem dX0_writeStep_0 : decode cX0_writeStep 0 = .ok (.aload_n 2, 1) := dk_44 (dk_at dksX0_writeStep_0 0 rfl rfl)
theorem dX0_writeStep_1 : decode cX0_writeStep 1 = .ok (.iconst 0, 1) := dk_3 (dk_at dksX0_writeStep_0 1 rfl rfl)
theorem dX0_writeStep_2 : decode cX0_writeStep 2 = .ok (.aload_n 0, 1) := dk_42 (dk_at dksX0_writeStep_0 2 rfl rfl)
theorem dX0_writeStep_3 : decode cX0_writeStep 3 = .ok (.iload_n 1, 1) := dk_27 (dk_at dksX0_writeStep_0 3 rfl rfl)
theorem dX0_writeStep_4 : decode cX0_writeStep 4 = .ok (.invokevirtual 131, 3) := dk_182 0 131 (dk_at dksX0_writeStep_0 4 rfl rfl)
theorem dX0_writeStep_7 : decode cX0_writeStep 7 = .ok (.i2l, 1) := dk_133 (dk_at dksX0_writeStep_0 7 rfl rfl)
theorem dX0_writeStep_8 : decode cX0_writeStep 8 = .ok (.lastore, 1) := dk_80 (dk_at dksX0_writeStep_0 8 rfl rfl)
theorem dX0_writeStep_9 : decode cX0_writeStep 9 = .ok (.goto 6, 3) := dk_167 0 6 (dk_at dksX0_writeStep_0 9 rfl rfl)
theorem dX0_writeStep_12 : decode cX0_writeStep 12 = .ok (.astore_n 3, 1) := dk_78 (dk_at dksX0_writeStep_0 12 rfl rfl)
theorem dX0_writeStep_13 : decode cX0_writeStep 13 = .ok (.iconst 1, 1) := dk_4 (dk_at dksX0_writeStep_0 13 rfl rfl)
theorem dX0_writeStep_14 : decode cX0_writeStep 14 = .ok (.ireturn, 1) := dk_172 (dk_at dksX0_writeStep_0 14 rfl rfl)
theorem dX0_writeStep_15 : decode cX0_writeStep 15 = .ok (.iconst 0, 1) := dk_3 (dk_at dksX0_writeStep_0 15 rfl rfl)
theorem dX0_writeStep_16 : decode cX0_writeStep 16 = .ok (.ireturn, 1) := dk_172 (dk_at dksX0_writeStep_0 16 rfl rfl)
abbrev cX0_writePartition : ByteArray := method_36_code
def yX0_writePartition : MethodName := ⟨RX0, "writePartition", "(LWeirfoldLane;II[J)I"⟩
def dkwX0_writePartition_0 : List UInt8 := [45, 3, 42, 27, 28, 182, 0, 134, 133, 80, 167, 0, 11, 58, 4, 4, 172, 58, 4, 5, 172, 3, 172]
abbrev dktX0_writePartition_0 : List UInt8 := dkwX0_writePartition_0 ++ []
theorem dksX0_writePartition_0 : cX0_writePartition.data.toList.drop 0 = dktX0_writePartition_0 := by decide +kernel
theorem dX0_writePartition_0 : decode cX0_writePartition 0 = .ok (.aload_n 3, 1) := dk_45 (dk_at dksX0_writePartition_0 0 rfl rfl)
theorem dX0_writePartition_1 : decode cX0_writePartition 1 = .ok (.iconst 0, 1) := dk_3 (dk_at dksX0_writePartition_0 1 rfl rfl)
theorem dX0_writePartition_2 : decode cX0_writePartition 2 = .ok (.aload_n 0, 1) := dk_42 (dk_at dksX0_writePartition_0 2 rfl rfl)
theorem dX0_writePartition_3 : decode cX0_writePartition 3 = .ok (.iload_n 1, 1) := dk_27 (dk_at dksX0_writePartition_0 3 rfl rfl)
theorem dX0_writePartition_4 : decode cX0_writePartition 4 = .ok (.iload_n 2, 1) := dk_28 (dk_at dksX0_writePartition_0 4 rfl rfl)
theorem dX0_writePartition_5 : decode cX0_writePartition 5 = .ok (.invokevirtual 134, 3) := dk_182 0 134 (dk_at dksX0_writePartition_0 5 rfl rfl)
theorem dX0_writePartition_8 : decode cX0_writePartition 8 = .ok (.i2l, 1) := dk_133 (dk_at dksX0_writePartition_0 8 rfl rfl)
theorem dX0_writePartition_9 : decode cX0_writePartition 9 = .ok (.lastore, 1) := dk_80 (dk_at dksX0_writePartition_0 9 rfl rfl)
theorem dX0_writePartition_10 : decode cX0_writePartition 10 = .ok (.goto 11, 3) := dk_167 0 11 (dk_at dksX0_writePartition_0 10 rfl rfl)
theorem dX0_writePartition_13 : decode cX0_writePartition 13 = .ok (.astore 4, 2) := dk_58 4 (dk_at dksX0_writePartition_0 13 rfl rfl)
theorem dX0_writePartition_15 : decode cX0_writePartition 15 = .ok (.iconst 1, 1) := dk_4 (dk_at dksX0_writePartition_0 15 rfl rfl)
theorem dX0_writePartition_16 : decode cX0_writePartition 16 = .ok (.ireturn, 1) := dk_172 (dk_at dksX0_writePartition_0 16 rfl rfl)
theorem dX0_writePartition_17 : decode cX0_writePartition 17 = .ok (.astore 4, 2) := dk_58 4 (dk_at dksX0_writePartition_0 17 rfl rfl)
theorem dX0_writePartition_19 : decode cX0_writePartition 19 = .ok (.iconst 2, 1) := dk_5 (dk_at dksX0_writePartition_0 19 rfl rfl)
theorem dX0_writePartition_20 : decode cX0_writePartition 20 = .ok (.ireturn, 1) := dk_172 (dk_at dksX0_writePartition_0 20 rfl rfl)
theorem dX0_writePartition_21 : decode cX0_writePartition 21 = .ok (.iconst 0, 1) := dk_3 (dk_at dksX0_writePartition_0 21 rfl rfl)
theorem dX0_writePartition_22 : decode cX0_writePartition 22 = .ok (.ireturn, 1) := dk_172 (dk_at dksX0_writePartition_0 22 rfl rfl)
abbrev cX0_lineCharacter : ByteArray := method_37_code
def yX0_lineCharacter : MethodName := ⟨RX0, "lineCharacter", "(LWeirfoldLane;I[J)I"⟩
def dkwX0_lineCharacter_0 : List UInt8 := [44, 3, 42, 27, 182, 0, 137, 133, 80, 167, 0, 6, 78, 4, 172, 3, 172]
abbrev dktX0_lineCharacter_0 : List UInt8 := dkwX0_lineCharacter_0 ++ []
theorem dksX0_lineCharacter_0 : cX0_lineCharacter.data.toList.drop 0 = dktX0_lineCharacter_0 := by decide +kernel
theorem dX0_lineCharacter_0 : decode cX0_lineCharacter 0 = .ok (.aload_n 2, 1) := dk_44 (dk_at dksX0_lineCharacter_0 0 rfl rfl)
theorem dX0_lineCharacter_1 : decode cX0_lineCharacter 1 = .ok (.iconst 0, 1) := dk_3 (dk_at dksX0_lineCharacter_0 1 rfl rfl)
theorem dX0_lineCharacter_2 : decode cX0_lineCharacter 2 = .ok (.aload_n 0, 1) := dk_42 (dk_at dksX0_lineCharacter_0 2 rfl rfl)
theorem dX0_lineCharacter_3 : decode cX0_lineCharacter 3 = .ok (.iload_n 1, 1) := dk_27 (dk_at dksX0_lineCharacter_0 3 rfl rfl)
theorem dX0_lineCharacter_4 : decode cX0_lineCharacter 4 = .ok (.invokevirtual 137, 3) := dk_182 0 137 (dk_at dksX0_lineCharacter_0 4 rfl rfl)
theorem dX0_lineCharacter_7 : decode cX0_lineCharacter 7 = .ok (.i2l, 1) := dk_133 (dk_at dksX0_lineCharacter_0 7 rfl rfl)
theorem dX0_lineCharacter_8 : decode cX0_lineCharacter 8 = .ok (.lastore, 1) := dk_80 (dk_at dksX0_lineCharacter_0 8 rfl rfl)
theorem dX0_lineCharacter_9 : decode cX0_lineCharacter 9 = .ok (.goto 6, 3) := dk_167 0 6 (dk_at dksX0_lineCharacter_0 9 rfl rfl)
theorem dX0_lineCharacter_12 : decode cX0_lineCharacter 12 = .ok (.astore_n 3, 1) := dk_78 (dk_at dksX0_lineCharacter_0 12 rfl rfl)
theorem dX0_lineCharacter_13 : decode cX0_lineCharacter 13 = .ok (.iconst 1, 1) := dk_4 (dk_at dksX0_lineCharacter_0 13 rfl rfl)
theorem dX0_lineCharacter_14 : decode cX0_lineCharacter 14 = .ok (.ireturn, 1) := dk_172 (dk_at dksX0_lineCharacter_0 14 rfl rfl)
theorem dX0_lineCharacter_15 : decode cX0_lineCharacter 15 = .ok (.iconst 0, 1) := dk_3 (dk_at dksX0_lineCharacter_0 15 rfl rfl)
theorem dX0_lineCharacter_16 : decode cX0_lineCharacter 16 = .ok (.ireturn, 1) := dk_172 (dk_at dksX0_lineCharacter_0 16 rfl rfl)
abbrev cX0_denial : ByteArray := method_38_code
def yX0_denial : MethodName := ⟨RX0, "denial", "(LWeirfoldLane;[J)I"⟩
def dkwX0_denial_0 : List UInt8 := [43, 3, 42, 182, 0, 140, 133, 80, 167, 0, 6, 77, 4, 172, 3, 172]
abbrev dktX0_denial_0 : List UInt8 := dkwX0_denial_0 ++ []
theorem dksX0_denial_0 : cX0_denial.data.toList.drop 0 = dktX0_denial_0 := by decide +kernel
theorem dX0_denial_0 : decode cX0_denial 0 = .ok (.aload_n 1, 1) := dk_43 (dk_at dksX0_denial_0 0 rfl rfl)
theorem dX0_denial_1 : decode cX0_denial 1 = .ok (.iconst 0, 1) := dk_3 (dk_at dksX0_denial_0 1 rfl rfl)
theorem dX0_denial_2 : decode cX0_denial 2 = .ok (.aload_n 0, 1) := dk_42 (dk_at dksX0_denial_0 2 rfl rfl)
theorem dX0_denial_3 : decode cX0_denial 3 = .ok (.invokevirtual 140, 3) := dk_182 0 140 (dk_at dksX0_denial_0 3 rfl rfl)
theorem dX0_denial_6 : decode cX0_denial 6 = .ok (.i2l, 1) := dk_133 (dk_at dksX0_denial_0 6 rfl rfl)
theorem dX0_denial_7 : decode cX0_denial 7 = .ok (.lastore, 1) := dk_80 (dk_at dksX0_denial_0 7 rfl rfl)
theorem dX0_denial_8 : decode cX0_denial 8 = .ok (.goto 6, 3) := dk_167 0 6 (dk_at dksX0_denial_0 8 rfl rfl)
theorem dX0_denial_11 : decode cX0_denial 11 = .ok (.astore_n 2, 1) := dk_77 (dk_at dksX0_denial_0 11 rfl rfl)
theorem dX0_denial_12 : decode cX0_denial 12 = .ok (.iconst 1, 1) := dk_4 (dk_at dksX0_denial_0 12 rfl rfl)
theorem dX0_denial_13 : decode cX0_denial 13 = .ok (.ireturn, 1) := dk_172 (dk_at dksX0_denial_0 13 rfl rfl)
theorem dX0_denial_14 : decode cX0_denial 14 = .ok (.iconst 0, 1) := dk_3 (dk_at dksX0_denial_0 14 rfl rfl)
theorem dX0_denial_15 : decode cX0_denial 15 = .ok (.ireturn, 1) := dk_172 (dk_at dksX0_denial_0 15 rfl rfl)
abbrev cX0_denialDetail : ByteArray := method_39_code
def yX0_denialDetail : MethodName := ⟨RX0, "denialDetail", "(LWeirfoldLane;[J)I"⟩
def dkwX0_denialDetail_0 : List UInt8 := [43, 3, 42, 182, 0, 143, 133, 80, 167, 0, 6, 77, 4, 172, 3, 172]
abbrev dktX0_denialDetail_0 : List UInt8 := dkwX0_denialDetail_0 ++ []
theorem dksX0_denialDetail_0 : cX0_denialDetail.data.toList.drop 0 = dktX0_denialDetail_0 := by decide +kernel
theorem dX0_denialDetail_0 : decode cX0_denialDetail 0 = .ok (.aload_n 1, 1) := dk_43 (dk_at dksX0_denialDetail_0 0 rfl rfl)
theorem dX0_denialDetail_1 : decode cX0_denialDetail 1 = .ok (.iconst 0, 1) := dk_3 (dk_at dksX0_denialDetail_0 1 rfl rfl)
theorem dX0_denialDetail_2 : decode cX0_denialDetail 2 = .ok (.aload_n 0, 1) := dk_42 (dk_at dksX0_denialDetail_0 2 rfl rfl)
theorem dX0_denialDetail_3 : decode cX0_denialDetail 3 = .ok (.invokevirtual 143, 3) := dk_182 0 143 (dk_at dksX0_denialDetail_0 3 rfl rfl)
theorem dX0_denialDetail_6 : decode cX0_denialDetail 6 = .ok (.i2l, 1) := dk_133 (dk_at dksX0_denialDetail_0 6 rfl rfl)
theorem dX0_denialDetail_7 : decode cX0_denialDetail 7 = .ok (.lastore, 1) := dk_80 (dk_at dksX0_denialDetail_0 7 rfl rfl)
theorem dX0_denialDetail_8 : decode cX0_denialDetail 8 = .ok (.goto 6, 3) := dk_167 0 6 (dk_at dksX0_denialDetail_0 8 rfl rfl)
theorem dX0_denialDetail_11 : decode cX0_denialDetail 11 = .ok (.astore_n 2, 1) := dk_77 (dk_at dksX0_denialDetail_0 11 rfl rfl)
theorem dX0_denialDetail_12 : decode cX0_denialDetail 12 = .ok (.iconst 1, 1) := dk_4 (dk_at dksX0_denialDetail_0 12 rfl rfl)
theorem dX0_denialDetail_13 : decode cX0_denialDetail 13 = .ok (.ireturn, 1) := dk_172 (dk_at dksX0_denialDetail_0 13 rfl rfl)
theorem dX0_denialDetail_14 : decode cX0_denialDetail 14 = .ok (.iconst 0, 1) := dk_3 (dk_at dksX0_denialDetail_0 14 rfl rfl)
theorem dX0_denialDetail_15 : decode cX0_denialDetail 15 = .ok (.ireturn, 1) := dk_172 (dk_at dksX0_denialDetail_0 15 rfl rfl)
abbrev cX0_denialCause : ByteArray := method_40_code
def yX0_denialCause : MethodName := ⟨RX0, "denialCause", "(LWeirfoldLane;[J)I"⟩
def dkwX0_denialCause_0 : List UInt8 := [43, 3, 42, 182, 0, 146, 133, 80, 167, 0, 6, 77, 4, 172, 3, 172]
abbrev dktX0_denialCause_0 : List UInt8 := dkwX0_denialCause_0 ++ []
theorem dksX0_denialCause_0 : cX0_denialCause.data.toList.drop 0 = dktX0_denialCause_0 := by decide +kernel
theorem dX0_denialCause_0 : decode cX0_denialCause 0 = .ok (.aload_n 1, 1) := dk_43 (dk_at dksX0_denialCause_0 0 rfl rfl)
theorem dX0_denialCause_1 : decode cX0_denialCause 1 = .ok (.iconst 0, 1) := dk_3 (dk_at dksX0_denialCause_0 1 rfl rfl)
theorem dX0_denialCause_2 : decode cX0_denialCause 2 = .ok (.aload_n 0, 1) := dk_42 (dk_at dksX0_denialCause_0 2 rfl rfl)
theorem dX0_denialCause_3 : decode cX0_denialCause 3 = .ok (.invokevirtual 146, 3) := dk_182 0 146 (dk_at dksX0_denialCause_0 3 rfl rfl)
theorem dX0_denialCause_6 : decode cX0_denialCause 6 = .ok (.i2l, 1) := dk_133 (dk_at dksX0_denialCause_0 6 rfl rfl)
theorem dX0_denialCause_7 : decode cX0_denialCause 7 = .ok (.lastore, 1) := dk_80 (dk_at dksX0_denialCause_0 7 rfl rfl)
theorem dX0_denialCause_8 : decode cX0_denialCause 8 = .ok (.goto 6, 3) := dk_167 0 6 (dk_at dksX0_denialCause_0 8 rfl rfl)
theorem dX0_denialCause_11 : decode cX0_denialCause 11 = .ok (.astore_n 2, 1) := dk_77 (dk_at dksX0_denialCause_0 11 rfl rfl)
theorem dX0_denialCause_12 : decode cX0_denialCause 12 = .ok (.iconst 1, 1) := dk_4 (dk_at dksX0_denialCause_0 12 rfl rfl)
theorem dX0_denialCause_13 : decode cX0_denialCause 13 = .ok (.ireturn, 1) := dk_172 (dk_at dksX0_denialCause_0 13 rfl rfl)
theorem dX0_denialCause_14 : decode cX0_denialCause 14 = .ok (.iconst 0, 1) := dk_3 (dk_at dksX0_denialCause_0 14 rfl rfl)
theorem dX0_denialCause_15 : decode cX0_denialCause 15 = .ok (.ireturn, 1) := dk_172 (dk_at dksX0_denialCause_0 15 rfl rfl)
abbrev cX0_undo : ByteArray := method_41_code
def yX0_undo : MethodName := ⟨RX0, "undo", "(LWeirfoldLane;[J)I"⟩
def dkwX0_undo_0 : List UInt8 := [43, 3, 42, 182, 0, 149, 133, 80, 167, 0, 6, 77, 4, 172, 3, 172]
abbrev dktX0_undo_0 : List UInt8 := dkwX0_undo_0 ++ []
theorem dksX0_undo_0 : cX0_undo.data.toList.drop 0 = dktX0_undo_0 := by decide +kernel
theorem dX0_undo_0 : decode cX0_undo 0 = .ok (.aload_n 1, 1) := dk_43 (dk_at dksX0_undo_0 0 rfl rfl)
theorem dX0_undo_1 : decode cX0_undo 1 = .ok (.iconst 0, 1) := dk_3 (dk_at dksX0_undo_0 1 rfl rfl)
theorem dX0_undo_2 : decode cX0_undo 2 = .ok (.aload_n 0, 1) := dk_42 (dk_at dksX0_undo_0 2 rfl rfl)
theorem dX0_undo_3 : decode cX0_undo 3 = .ok (.invokevirtual 149, 3) := dk_182 0 149 (dk_at dksX0_undo_0 3 rfl rfl)
theorem dX0_undo_6 : decode cX0_undo 6 = .ok (.i2l, 1) := dk_133 (dk_at dksX0_undo_0 6 rfl rfl)
theorem dX0_undo_7 : decode cX0_undo 7 = .ok (.lastore, 1) := dk_80 (dk_at dksX0_undo_0 7 rfl rfl)
theorem dX0_undo_8 : decode cX0_undo 8 = .ok (.goto 6, 3) := dk_167 0 6 (dk_at dksX0_undo_0 8 rfl rfl)
theorem dX0_undo_11 : decode cX0_undo 11 = .ok (.astore_n 2, 1) := dk_77 (dk_at dksX0_undo_0 11 rfl rfl)
theorem dX0_undo_12 : decode cX0_undo 12 = .ok (.iconst 1, 1) := dk_4 (dk_at dksX0_undo_0 12 rfl rfl)
theorem dX0_undo_13 : decode cX0_undo 13 = .ok (.ireturn, 1) := dk_172 (dk_at dksX0_undo_0 13 rfl rfl)
theorem dX0_undo_14 : decode cX0_undo 14 = .ok (.iconst 0, 1) := dk_3 (dk_at dksX0_undo_0 14 rfl rfl)
theorem dX0_undo_15 : decode cX0_undo 15 = .ok (.ireturn, 1) := dk_172 (dk_at dksX0_undo_0 15 rfl rfl)
abbrev cX0_restoreSnapshot : ByteArray := method_42_code
def yX0_restoreSnapshot : MethodName := ⟨RX0, "restoreSnapshot", "(LWeirfoldLane;[J)I"⟩
def dkwX0_restoreSnapshot_0 : List UInt8 := [43, 3, 42, 182, 0, 152, 133, 80, 167, 0, 6, 77, 4, 172, 3, 172]
abbrev dktX0_restoreSnapshot_0 : List UInt8 := dkwX0_restoreSnapshot_0 ++ []
theorem dksX0_restoreSnapshot_0 : cX0_restoreSnapshot.data.toList.drop 0 = dktX0_restoreSnapshot_0 := by decide +kernel
theorem dX0_restoreSnapshot_0 : decode cX0_restoreSnapshot 0 = .ok (.aload_n 1, 1) := dk_43 (dk_at dksX0_restoreSnapshot_0 0 rfl rfl)
theorem dX0_restoreSnapshot_1 : decode cX0_restoreSnapshot 1 = .ok (.iconst 0, 1) := dk_3 (dk_at dksX0_restoreSnapshot_0 1 rfl rfl)
theorem dX0_restoreSnapshot_2 : decode cX0_restoreSnapshot 2 = .ok (.aload_n 0, 1) := dk_42 (dk_at dksX0_restoreSnapshot_0 2 rfl rfl)
theorem dX0_restoreSnapshot_3 : decode cX0_restoreSnapshot 3 = .ok (.invokevirtual 152, 3) := dk_182 0 152 (dk_at dksX0_restoreSnapshot_0 3 rfl rfl)
theorem dX0_restoreSnapshot_6 : decode cX0_restoreSnapshot 6 = .ok (.i2l, 1) := dk_133 (dk_at dksX0_restoreSnapshot_0 6 rfl rfl)
theorem dX0_restoreSnapshot_7 : decode cX0_restoreSnapshot 7 = .ok (.lastore, 1) := dk_80 (dk_at dksX0_restoreSnapshot_0 7 rfl rfl)
theorem dX0_restoreSnapshot_8 : decode cX0_restoreSnapshot 8 = .ok (.goto 6, 3) := dk_167 0 6 (dk_at dksX0_restoreSnapshot_0 8 rfl rfl)
theorem dX0_restoreSnapshot_11 : decode cX0_restoreSnapshot 11 = .ok (.astore_n 2, 1) := dk_77 (dk_at dksX0_restoreSnapshot_0 11 rfl rfl)
theorem dX0_restoreSnapshot_12 : decode cX0_restoreSnapshot 12 = .ok (.iconst 1, 1) := dk_4 (dk_at dksX0_restoreSnapshot_0 12 rfl rfl)
theorem dX0_restoreSnapshot_13 : decode cX0_restoreSnapshot 13 = .ok (.ireturn, 1) := dk_172 (dk_at dksX0_restoreSnapshot_0 13 rfl rfl)
theorem dX0_restoreSnapshot_14 : decode cX0_restoreSnapshot 14 = .ok (.iconst 0, 1) := dk_3 (dk_at dksX0_restoreSnapshot_0 14 rfl rfl)
theorem dX0_restoreSnapshot_15 : decode cX0_restoreSnapshot 15 = .ok (.ireturn, 1) := dk_172 (dk_at dksX0_restoreSnapshot_0 15 rfl rfl)
theorem q93 : (Jvm.Cond.initialized "WeirfoldLaneLaw") ∈ lw_all := lw_g (lw_at lw_m1 0 rfl) rfl
theorem q149 : (Jvm.Cond.classLink "WeirfoldLaneLaw" (8 : Nat) "WeirfoldLane") ∈ lw_all := lw_g (lw_at lw_m1 56 rfl) rfl
theorem q151 : (Jvm.Cond.methodLink "WeirfoldLaneLaw" (155 : Nat) ({ cls := "WeirfoldLane", name := "<init>", desc := "()V" } : Jvm.MethodName)) ∈ lw_all := lw_g (lw_at lw_m1 58 rfl) rfl
theorem q309 : (Jvm.Cond.methodLink "WeirfoldLaneLaw" (176 : Nat) ({ cls := "WeirfoldLane", name := "today", desc := "()I" } : Jvm.MethodName)) ∈ lw_all := lw_g (lw_at lw_m1 216 rfl) rfl
theorem q313 : (Jvm.Cond.methodLink "WeirfoldLaneLaw" (180 : Nat) ({ cls := "WeirfoldLane", name := "rows", desc := "()I" } : Jvm.MethodName)) ∈ lw_all := lw_g (lw_at lw_m1 220 rfl) rfl
theorem q327 : (Jvm.Cond.methodLink "WeirfoldLaneLaw" (213 : Nat) ({ cls := "WeirfoldLane", name := "steps", desc := "()I" } : Jvm.MethodName)) ∈ lw_all := lw_g (lw_at lw_m1 234 rfl) rfl
theorem q331 : (Jvm.Cond.methodLink "WeirfoldLaneLaw" (239 : Nat) ({ cls := "WeirfoldLane", name := "stale", desc := "()I" } : Jvm.MethodName)) ∈ lw_all := lw_g (lw_at lw_m1 238 rfl) rfl
theorem q462 : (Jvm.Cond.methodLink "WeirfoldLaneLaw" (243 : Nat) ({ cls := "WeirfoldLane", name := "wrong", desc := "()I" } : Jvm.MethodName)) ∈ lw_all := lw_g (lw_at lw_m2 129 rfl) rfl
theorem q771 : (Jvm.Cond.methodLink "WeirfoldLaneLaw" (271 : Nat) ({ cls := "WeirfoldLane", name := "added", desc := "()I" } : Jvm.MethodName)) ∈ lw_all := lw_g (lw_at lw_m3 198 rfl) rfl
theorem q775 : (Jvm.Cond.methodLink "WeirfoldLaneLaw" (275 : Nat) ({ cls := "WeirfoldLane", name := "removed", desc := "()I" } : Jvm.MethodName)) ∈ lw_all := lw_g (lw_at lw_m3 202 rfl) rfl
theorem q779 : (Jvm.Cond.methodLink "WeirfoldLaneLaw" (279 : Nat) ({ cls := "WeirfoldLane", name := "late", desc := "()I" } : Jvm.MethodName)) ∈ lw_all := lw_g (lw_at lw_m3 206 rfl) rfl
theorem q783 : (Jvm.Cond.methodLink "WeirfoldLaneLaw" (283 : Nat) ({ cls := "WeirfoldLane", name := "repaired", desc := "()I" } : Jvm.MethodName)) ∈ lw_all := lw_g (lw_at lw_m3 210 rfl) rfl
theorem q787 : (Jvm.Cond.methodLink "WeirfoldLaneLaw" (325 : Nat) ({ cls := "WeirfoldLane", name := "undoCount", desc := "()I" } : Jvm.MethodName)) ∈ lw_all := lw_g (lw_at lw_m3 214 rfl) rfl
theorem q798 : (Jvm.Cond.methodLink "WeirfoldLaneLaw" (329 : Nat) ({ cls := "WeirfoldLane", name := "saveSnapshot", desc := "()I" } : Jvm.MethodName)) ∈ lw_all := lw_g (lw_at lw_m3 225 rfl) rfl
theorem q802 : (Jvm.Cond.methodLink "WeirfoldLaneLaw" (159 : Nat) ({ cls := "WeirfoldLaneLaw", name := "addRow", desc := "(LWeirfoldLane;CII[J)I" } : Jvm.MethodName)) ∈ lw_all := lw_g (lw_at lw_m3 229 rfl) rfl
theorem q803 : (Jvm.Cond.static ({ cls := "WeirfoldLaneLaw", name := "addRow", desc := "(LWeirfoldLane;CII[J)I" } : Jvm.MethodName)) ∈ lw_all := lw_g (lw_at lw_m3 230 rfl) rfl
theorem q804 : (Jvm.Cond.codeWith ({ cls := "WeirfoldLaneLaw", name := "addRow", desc := "(LWeirfoldLane;CII[J)I" } : Jvm.MethodName) method_3_code (6 : Nat) (Option.some Jvm.ClassFile.FieldType.int) [((0 : Nat), (12 : Nat), (15 : Nat), (13 : Nat)), ((0 : Nat), (12 : Nat), (19 : Nat), (15 : Nat))]) ∈ lw_all := lw_g (lw_at lw_m3 231 rfl) rfl
theorem q805 : (Jvm.Cond.classLink "WeirfoldLaneLaw" (13 : Nat) "java/lang/IllegalArgumentException") ∈ lw_all := lw_g (lw_at lw_m3 232 rfl) rfl
theorem q806 : (Jvm.Cond.classLink "WeirfoldLaneLaw" (15 : Nat) "java/lang/UnsupportedOperationException") ∈ lw_all := lw_g (lw_at lw_m3 233 rfl) rfl
theorem q807 : (Jvm.Cond.methodLink "WeirfoldLaneLaw" (7 : Nat) ({ cls := "WeirfoldLane", name := "addRow", desc := "(CII)I" } : Jvm.MethodName)) ∈ lw_all := lw_g (lw_at lw_m3 234 rfl) rfl
theorem q1700 : (Jvm.Cond.methodLink "WeirfoldLaneLaw" (168 : Nat) ({ cls := "WeirfoldLaneLaw", name := "removeRow", desc := "(LWeirfoldLane;I[J)I" } : Jvm.MethodName)) ∈ lw_all := lw_g (lw_at lw_m7 167 rfl) rfl
theorem q1701 : (Jvm.Cond.static ({ cls := "WeirfoldLaneLaw", name := "removeRow", desc := "(LWeirfoldLane;I[J)I" } : Jvm.MethodName)) ∈ lw_all := lw_g (lw_at lw_m7 168 rfl) rfl
theorem q1702 : (Jvm.Cond.codeWith ({ cls := "WeirfoldLaneLaw", name := "removeRow", desc := "(LWeirfoldLane;I[J)I" } : Jvm.MethodName) method_4_code (4 : Nat) (Option.some Jvm.ClassFile.FieldType.int) [((0 : Nat), (9 : Nat), (12 : Nat), (21 : Nat))]) ∈ lw_all := lw_g (lw_at lw_m7 169 rfl) rfl
theorem q1703 : (Jvm.Cond.classLink "WeirfoldLaneLaw" (21 : Nat) "java/util/NoSuchElementException") ∈ lw_all := lw_g (lw_at lw_m7 170 rfl) rfl
theorem q1704 : (Jvm.Cond.methodLink "WeirfoldLaneLaw" (17 : Nat) ({ cls := "WeirfoldLane", name := "removeRow", desc := "(I)I" } : Jvm.MethodName)) ∈ lw_all := lw_g (lw_at lw_m7 171 rfl) rfl
theorem q1709 : (Jvm.Cond.methodLink "WeirfoldLaneLaw" (172 : Nat) ({ cls := "WeirfoldLaneLaw", name := "beginDay", desc := "(LWeirfoldLane;[J)I" } : Jvm.MethodName)) ∈ lw_all := lw_g (lw_at lw_m7 176 rfl) rfl
theorem q1710 : (Jvm.Cond.static ({ cls := "WeirfoldLaneLaw", name := "beginDay", desc := "(LWeirfoldLane;[J)I" } : Jvm.MethodName)) ∈ lw_all := lw_g (lw_at lw_m7 177 rfl) rfl
theorem q1711 : (Jvm.Cond.codeWith ({ cls := "WeirfoldLaneLaw", name := "beginDay", desc := "(LWeirfoldLane;[J)I" } : Jvm.MethodName) method_5_code (3 : Nat) (Option.some Jvm.ClassFile.FieldType.int) [((0 : Nat), (8 : Nat), (11 : Nat), (15 : Nat))]) ∈ lw_all := lw_g (lw_at lw_m7 178 rfl) rfl
theorem q1712 : (Jvm.Cond.methodLink "WeirfoldLaneLaw" (23 : Nat) ({ cls := "WeirfoldLane", name := "beginDay", desc := "()I" } : Jvm.MethodName)) ∈ lw_all := lw_g (lw_at lw_m7 179 rfl) rfl
theorem q1717 : (Jvm.Cond.methodLink "WeirfoldLaneLaw" (184 : Nat) ({ cls := "WeirfoldLaneLaw", name := "rowAt", desc := "(LWeirfoldLane;I[J)I" } : Jvm.MethodName)) ∈ lw_all := lw_g (lw_at lw_m7 184 rfl) rfl
theorem q1718 : (Jvm.Cond.static ({ cls := "WeirfoldLaneLaw", name := "rowAt", desc := "(LWeirfoldLane;I[J)I" } : Jvm.MethodName)) ∈ lw_all := lw_g (lw_at lw_m7 185 rfl) rfl
theorem q1719 : (Jvm.Cond.codeWith ({ cls := "WeirfoldLaneLaw", name := "rowAt", desc := "(LWeirfoldLane;I[J)I" } : Jvm.MethodName) method_6_code (4 : Nat) (Option.some Jvm.ClassFile.FieldType.int) [((0 : Nat), (9 : Nat), (12 : Nat), (21 : Nat))]) ∈ lw_all := lw_g (lw_at lw_m7 186 rfl) rfl
theorem q1720 : (Jvm.Cond.methodLink "WeirfoldLaneLaw" (27 : Nat) ({ cls := "WeirfoldLane", name := "rowAt", desc := "(I)I" } : Jvm.MethodName)) ∈ lw_all := lw_g (lw_at lw_m7 187 rfl) rfl
theorem q1726 : (Jvm.Cond.methodLink "WeirfoldLaneLaw" (187 : Nat) ({ cls := "WeirfoldLaneLaw", name := "dayOf", desc := "(LWeirfoldLane;I[J)I" } : Jvm.MethodName)) ∈ lw_all := lw_g (lw_at lw_m7 193 rfl) rfl
theorem q1727 : (Jvm.Cond.static ({ cls := "WeirfoldLaneLaw", name := "dayOf", desc := "(LWeirfoldLane;I[J)I" } : Jvm.MethodName)) ∈ lw_all := lw_g (lw_at lw_m7 194 rfl) rfl
theorem q1728 : (Jvm.Cond.codeWith ({ cls := "WeirfoldLaneLaw", name := "dayOf", desc := "(LWeirfoldLane;I[J)I" } : Jvm.MethodName) method_7_code (4 : Nat) (Option.some Jvm.ClassFile.FieldType.int) [((0 : Nat), (9 : Nat), (12 : Nat), (21 : Nat))]) ∈ lw_all := lw_g (lw_at lw_m7 195 rfl) rfl
theorem q1729 : (Jvm.Cond.methodLink "WeirfoldLaneLaw" (30 : Nat) ({ cls := "WeirfoldLane", name := "dayOf", desc := "(I)I" } : Jvm.MethodName)) ∈ lw_all := lw_g (lw_at lw_m7 196 rfl) rfl
theorem q1734 : (Jvm.Cond.methodLink "WeirfoldLaneLaw" (190 : Nat) ({ cls := "WeirfoldLaneLaw", name := "groupOf", desc := "(LWeirfoldLane;I[J)I" } : Jvm.MethodName)) ∈ lw_all := lw_g (lw_at lw_m7 201 rfl) rfl
theorem q1735 : (Jvm.Cond.static ({ cls := "WeirfoldLaneLaw", name := "groupOf", desc := "(LWeirfoldLane;I[J)I" } : Jvm.MethodName)) ∈ lw_all := lw_g (lw_at lw_m7 202 rfl) rfl
theorem q1736 : (Jvm.Cond.codeWith ({ cls := "WeirfoldLaneLaw", name := "groupOf", desc := "(LWeirfoldLane;I[J)I" } : Jvm.MethodName) method_8_code (4 : Nat) (Option.some Jvm.ClassFile.FieldType.int) [((0 : Nat), (9 : Nat), (12 : Nat), (21 : Nat))]) ∈ lw_all := lw_g (lw_at lw_m7 203 rfl) rfl
theorem q1737 : (Jvm.Cond.methodLink "WeirfoldLaneLaw" (33 : Nat) ({ cls := "WeirfoldLane", name := "groupOf", desc := "(I)C" } : Jvm.MethodName)) ∈ lw_all := lw_g (lw_at lw_m7 204 rfl) rfl
theorem q1741 : (Jvm.Cond.methodLink "WeirfoldLaneLaw" (193 : Nat) ({ cls := "WeirfoldLaneLaw", name := "rowByAmount", desc := "(LWeirfoldLane;I[J)I" } : Jvm.MethodName)) ∈ lw_all := lw_g (lw_at lw_m7 208 rfl) rfl
theorem q1742 : (Jvm.Cond.static ({ cls := "WeirfoldLaneLaw", name := "rowByAmount", desc := "(LWeirfoldLane;I[J)I" } : Jvm.MethodName)) ∈ lw_all := lw_g (lw_at lw_m7 209 rfl) rfl
theorem q1743 : (Jvm.Cond.codeWith ({ cls := "WeirfoldLaneLaw", name := "rowByAmount", desc := "(LWeirfoldLane;I[J)I" } : Jvm.MethodName) method_9_code (4 : Nat) (Option.some Jvm.ClassFile.FieldType.int) [((0 : Nat), (9 : Nat), (12 : Nat), (21 : Nat))]) ∈ lw_all := lw_g (lw_at lw_m7 210 rfl) rfl
theorem q1744 : (Jvm.Cond.methodLink "WeirfoldLaneLaw" (37 : Nat) ({ cls := "WeirfoldLane", name := "rowByAmount", desc := "(I)I" } : Jvm.MethodName)) ∈ lw_all := lw_g (lw_at lw_m7 211 rfl) rfl
theorem q1779 : (Jvm.Cond.methodLink "WeirfoldLaneLaw" (196 : Nat) ({ cls := "WeirfoldLaneLaw", name := "addBase", desc := "(LWeirfoldLane;CI[J)I" } : Jvm.MethodName)) ∈ lw_all := lw_g (lw_at lw_m8 6 rfl) rfl
theorem q1780 : (Jvm.Cond.static ({ cls := "WeirfoldLaneLaw", name := "addBase", desc := "(LWeirfoldLane;CI[J)I" } : Jvm.MethodName)) ∈ lw_all := lw_g (lw_at lw_m8 7 rfl) rfl
theorem q1781 : (Jvm.Cond.codeWith ({ cls := "WeirfoldLaneLaw", name := "addBase", desc := "(LWeirfoldLane;CI[J)I" } : Jvm.MethodName) method_10_code (5 : Nat) (Option.some Jvm.ClassFile.FieldType.int) [((0 : Nat), (10 : Nat), (13 : Nat), (13 : Nat)), ((0 : Nat), (10 : Nat), (17 : Nat), (15 : Nat))]) ∈ lw_all := lw_g (lw_at lw_m8 8 rfl) rfl
theorem q1782 : (Jvm.Cond.methodLink "WeirfoldLaneLaw" (40 : Nat) ({ cls := "WeirfoldLane", name := "addBase", desc := "(CI)I" } : Jvm.MethodName)) ∈ lw_all := lw_g (lw_at lw_m8 9 rfl) rfl
theorem q1787 : (Jvm.Cond.methodLink "WeirfoldLaneLaw" (200 : Nat) ({ cls := "WeirfoldLaneLaw", name := "addPair", desc := "(LWeirfoldLane;CII[J)I" } : Jvm.MethodName)) ∈ lw_all := lw_g (lw_at lw_m8 14 rfl) rfl
theorem q1788 : (Jvm.Cond.static ({ cls := "WeirfoldLaneLaw", name := "addPair", desc := "(LWeirfoldLane;CII[J)I" } : Jvm.MethodName)) ∈ lw_all := lw_g (lw_at lw_m8 15 rfl) rfl
theorem q1789 : (Jvm.Cond.codeWith ({ cls := "WeirfoldLaneLaw", name := "addPair", desc := "(LWeirfoldLane;CII[J)I" } : Jvm.MethodName) method_11_code (6 : Nat) (Option.some Jvm.ClassFile.FieldType.int) [((0 : Nat), (12 : Nat), (15 : Nat), (13 : Nat)), ((0 : Nat), (12 : Nat), (19 : Nat), (47 : Nat)), ((0 : Nat), (12 : Nat), (23 : Nat), (15 : Nat))]) ∈ lw_all := lw_g (lw_at lw_m8 16 rfl) rfl
theorem q1790 : (Jvm.Cond.classLink "WeirfoldLaneLaw" (47 : Nat) "java/lang/IndexOutOfBoundsException") ∈ lw_all := lw_g (lw_at lw_m8 17 rfl) rfl
theorem q1806 : (Jvm.Cond.methodLink "WeirfoldLaneLaw" (44 : Nat) ({ cls := "WeirfoldLane", name := "addPair", desc := "(CII)I" } : Jvm.MethodName)) ∈ lw_all := lw_g (lw_at lw_m8 33 rfl) rfl
theorem q1811 : (Jvm.Cond.methodLink "WeirfoldLaneLaw" (203 : Nat) ({ cls := "WeirfoldLaneLaw", name := "addRunning", desc := "(LWeirfoldLane;I[J)I" } : Jvm.MethodName)) ∈ lw_all := lw_g (lw_at lw_m8 38 rfl) rfl
theorem q1812 : (Jvm.Cond.static ({ cls := "WeirfoldLaneLaw", name := "addRunning", desc := "(LWeirfoldLane;I[J)I" } : Jvm.MethodName)) ∈ lw_all := lw_g (lw_at lw_m8 39 rfl) rfl
theorem q1813 : (Jvm.Cond.codeWith ({ cls := "WeirfoldLaneLaw", name := "addRunning", desc := "(LWeirfoldLane;I[J)I" } : Jvm.MethodName) method_12_code (4 : Nat) (Option.some Jvm.ClassFile.FieldType.int) [((0 : Nat), (9 : Nat), (12 : Nat), (47 : Nat)), ((0 : Nat), (9 : Nat), (15 : Nat), (15 : Nat))]) ∈ lw_all := lw_g (lw_at lw_m8 40 rfl) rfl
theorem q1814 : (Jvm.Cond.methodLink "WeirfoldLaneLaw" (49 : Nat) ({ cls := "WeirfoldLane", name := "addRunning", desc := "(I)I" } : Jvm.MethodName)) ∈ lw_all := lw_g (lw_at lw_m8 41 rfl) rfl
theorem q1819 : (Jvm.Cond.methodLink "WeirfoldLaneLaw" (206 : Nat) ({ cls := "WeirfoldLaneLaw", name := "addBounded", desc := "(LWeirfoldLane;II[J)I" } : Jvm.MethodName)) ∈ lw_all := lw_g (lw_at lw_m8 46 rfl) rfl
theorem q1820 : (Jvm.Cond.static ({ cls := "WeirfoldLaneLaw", name := "addBounded", desc := "(LWeirfoldLane;II[J)I" } : Jvm.MethodName)) ∈ lw_all := lw_g (lw_at lw_m8 47 rfl) rfl
theorem q1821 : (Jvm.Cond.codeWith ({ cls := "WeirfoldLaneLaw", name := "addBounded", desc := "(LWeirfoldLane;II[J)I" } : Jvm.MethodName) method_13_code (5 : Nat) (Option.some Jvm.ClassFile.FieldType.int) [((0 : Nat), (10 : Nat), (13 : Nat), (47 : Nat)), ((0 : Nat), (10 : Nat), (17 : Nat), (13 : Nat)), ((0 : Nat), (10 : Nat), (21 : Nat), (15 : Nat))]) ∈ lw_all := lw_g (lw_at lw_m8 48 rfl) rfl
theorem q1822 : (Jvm.Cond.methodLink "WeirfoldLaneLaw" (52 : Nat) ({ cls := "WeirfoldLane", name := "addBounded", desc := "(II)I" } : Jvm.MethodName)) ∈ lw_all := lw_g (lw_at lw_m8 49 rfl) rfl
theorem q1827 : (Jvm.Cond.methodLink "WeirfoldLaneLaw" (210 : Nat) ({ cls := "WeirfoldLaneLaw", name := "removeStep", desc := "(LWeirfoldLane;I[J)I" } : Jvm.MethodName)) ∈ lw_all := lw_g (lw_at lw_m8 54 rfl) rfl
theorem q1828 : (Jvm.Cond.static ({ cls := "WeirfoldLaneLaw", name := "removeStep", desc := "(LWeirfoldLane;I[J)I" } : Jvm.MethodName)) ∈ lw_all := lw_g (lw_at lw_m8 55 rfl) rfl
theorem q1829 : (Jvm.Cond.codeWith ({ cls := "WeirfoldLaneLaw", name := "removeStep", desc := "(LWeirfoldLane;I[J)I" } : Jvm.MethodName) method_14_code (4 : Nat) (Option.some Jvm.ClassFile.FieldType.int) [((0 : Nat), (9 : Nat), (12 : Nat), (47 : Nat)), ((0 : Nat), (9 : Nat), (15 : Nat), (15 : Nat))]) ∈ lw_all := lw_g (lw_at lw_m8 56 rfl) rfl
theorem q1830 : (Jvm.Cond.methodLink "WeirfoldLaneLaw" (56 : Nat) ({ cls := "WeirfoldLane", name := "removeStep", desc := "(I)I" } : Jvm.MethodName)) ∈ lw_all := lw_g (lw_at lw_m8 57 rfl) rfl
theorem q1835 : (Jvm.Cond.methodLink "WeirfoldLaneLaw" (217 : Nat) ({ cls := "WeirfoldLaneLaw", name := "kind", desc := "(LWeirfoldLane;I[J)I" } : Jvm.MethodName)) ∈ lw_all := lw_g (lw_at lw_m8 62 rfl) rfl
theorem q1836 : (Jvm.Cond.static ({ cls := "WeirfoldLaneLaw", name := "kind", desc := "(LWeirfoldLane;I[J)I" } : Jvm.MethodName)) ∈ lw_all := lw_g (lw_at lw_m8 63 rfl) rfl
theorem q1837 : (Jvm.Cond.codeWith ({ cls := "WeirfoldLaneLaw", name := "kind", desc := "(LWeirfoldLane;I[J)I" } : Jvm.MethodName) method_15_code (4 : Nat) (Option.some Jvm.ClassFile.FieldType.int) [((0 : Nat), (9 : Nat), (12 : Nat), (47 : Nat))]) ∈ lw_all := lw_g (lw_at lw_m8 64 rfl) rfl
theorem q1838 : (Jvm.Cond.methodLink "WeirfoldLaneLaw" (59 : Nat) ({ cls := "WeirfoldLane", name := "kind", desc := "(I)C" } : Jvm.MethodName)) ∈ lw_all := lw_g (lw_at lw_m8 65 rfl) rfl
theorem q1853 : (Jvm.Cond.methodLink "WeirfoldLaneLaw" (220 : Nat) ({ cls := "WeirfoldLaneLaw", name := "dependsOn", desc := "(LWeirfoldLane;II[J)I" } : Jvm.MethodName)) ∈ lw_all := lw_g (lw_at lw_m8 80 rfl) rfl
theorem q1854 : (Jvm.Cond.static ({ cls := "WeirfoldLaneLaw", name := "dependsOn", desc := "(LWeirfoldLane;II[J)I" } : Jvm.MethodName)) ∈ lw_all := lw_g (lw_at lw_m8 81 rfl) rfl
theorem q1855 : (Jvm.Cond.codeWith ({ cls := "WeirfoldLaneLaw", name := "dependsOn", desc := "(LWeirfoldLane;II[J)I" } : Jvm.MethodName) method_16_code (5 : Nat) (Option.some Jvm.ClassFile.FieldType.int) [((0 : Nat), (17 : Nat), (20 : Nat), (47 : Nat))]) ∈ lw_all := lw_g (lw_at lw_m8 82 rfl) rfl
theorem q1856 : (Jvm.Cond.methodLink "WeirfoldLaneLaw" (62 : Nat) ({ cls := "WeirfoldLane", name := "dependsOn", desc := "(II)Z" } : Jvm.MethodName)) ∈ lw_all := lw_g (lw_at lw_m8 83 rfl) rfl
theorem q1879 : (Jvm.Cond.methodLink "WeirfoldLaneLaw" (223 : Nat) ({ cls := "WeirfoldLaneLaw", name := "level", desc := "(LWeirfoldLane;I[J)I" } : Jvm.MethodName)) ∈ lw_all := lw_g (lw_at lw_m8 106 rfl) rfl
theorem q1880 : (Jvm.Cond.static ({ cls := "WeirfoldLaneLaw", name := "level", desc := "(LWeirfoldLane;I[J)I" } : Jvm.MethodName)) ∈ lw_all := lw_g (lw_at lw_m8 107 rfl) rfl
theorem q1881 : (Jvm.Cond.codeWith ({ cls := "WeirfoldLaneLaw", name := "level", desc := "(LWeirfoldLane;I[J)I" } : Jvm.MethodName) method_17_code (4 : Nat) (Option.some Jvm.ClassFile.FieldType.int) [((0 : Nat), (9 : Nat), (12 : Nat), (47 : Nat))]) ∈ lw_all := lw_g (lw_at lw_m8 108 rfl) rfl
theorem q1882 : (Jvm.Cond.methodLink "WeirfoldLaneLaw" (66 : Nat) ({ cls := "WeirfoldLane", name := "level", desc := "(I)I" } : Jvm.MethodName)) ∈ lw_all := lw_g (lw_at lw_m8 109 rfl) rfl
theorem q1887 : (Jvm.Cond.methodLink "WeirfoldLaneLaw" (226 : Nat) ({ cls := "WeirfoldLaneLaw", name := "value", desc := "(LWeirfoldLane;IIC[J)I" } : Jvm.MethodName)) ∈ lw_all := lw_g (lw_at lw_m8 114 rfl) rfl
theorem q1888 : (Jvm.Cond.static ({ cls := "WeirfoldLaneLaw", name := "value", desc := "(LWeirfoldLane;IIC[J)I" } : Jvm.MethodName)) ∈ lw_all := lw_g (lw_at lw_m8 115 rfl) rfl
theorem q1889 : (Jvm.Cond.codeWith ({ cls := "WeirfoldLaneLaw", name := "value", desc := "(LWeirfoldLane;IIC[J)I" } : Jvm.MethodName) method_18_code (6 : Nat) (Option.some Jvm.ClassFile.FieldType.int) [((0 : Nat), (11 : Nat), (14 : Nat), (47 : Nat)), ((0 : Nat), (11 : Nat), (18 : Nat), (13 : Nat))]) ∈ lw_all := lw_g (lw_at lw_m8 116 rfl) rfl
theorem q1890 : (Jvm.Cond.methodLink "WeirfoldLaneLaw" (69 : Nat) ({ cls := "WeirfoldLane", name := "value", desc := "(IIC)J" } : Jvm.MethodName)) ∈ lw_all := lw_g (lw_at lw_m8 117 rfl) rfl
theorem q1897 : (Jvm.Cond.methodLink "WeirfoldLaneLaw" (230 : Nat) ({ cls := "WeirfoldLaneLaw", name := "valueAnew", desc := "(LWeirfoldLane;IIC[J)I" } : Jvm.MethodName)) ∈ lw_all := lw_g (lw_at lw_m8 124 rfl) rfl
theorem q1898 : (Jvm.Cond.static ({ cls := "WeirfoldLaneLaw", name := "valueAnew", desc := "(LWeirfoldLane;IIC[J)I" } : Jvm.MethodName)) ∈ lw_all := lw_g (lw_at lw_m8 125 rfl) rfl
theorem q1899 : (Jvm.Cond.codeWith ({ cls := "WeirfoldLaneLaw", name := "valueAnew", desc := "(LWeirfoldLane;IIC[J)I" } : Jvm.MethodName) method_19_code (6 : Nat) (Option.some Jvm.ClassFile.FieldType.int) [((0 : Nat), (11 : Nat), (14 : Nat), (47 : Nat)), ((0 : Nat), (11 : Nat), (18 : Nat), (13 : Nat))]) ∈ lw_all := lw_g (lw_at lw_m8 126 rfl) rfl
theorem q1900 : (Jvm.Cond.methodLink "WeirfoldLaneLaw" (73 : Nat) ({ cls := "WeirfoldLane", name := "valueAnew", desc := "(IIC)J" } : Jvm.MethodName)) ∈ lw_all := lw_g (lw_at lw_m8 127 rfl) rfl
theorem q1915 : (Jvm.Cond.methodLink "WeirfoldLaneLaw" (233 : Nat) ({ cls := "WeirfoldLaneLaw", name := "total", desc := "(LWeirfoldLane;II[J)I" } : Jvm.MethodName)) ∈ lw_all := lw_g (lw_at lw_m8 142 rfl) rfl
theorem q1916 : (Jvm.Cond.static ({ cls := "WeirfoldLaneLaw", name := "total", desc := "(LWeirfoldLane;II[J)I" } : Jvm.MethodName)) ∈ lw_all := lw_g (lw_at lw_m8 143 rfl) rfl
theorem q1917 : (Jvm.Cond.codeWith ({ cls := "WeirfoldLaneLaw", name := "total", desc := "(LWeirfoldLane;II[J)I" } : Jvm.MethodName) method_20_code (5 : Nat) (Option.some Jvm.ClassFile.FieldType.int) [((0 : Nat), (9 : Nat), (12 : Nat), (47 : Nat)), ((0 : Nat), (9 : Nat), (16 : Nat), (13 : Nat))]) ∈ lw_all := lw_g (lw_at lw_m8 144 rfl) rfl
theorem q1918 : (Jvm.Cond.methodLink "WeirfoldLaneLaw" (76 : Nat) ({ cls := "WeirfoldLane", name := "total", desc := "(II)J" } : Jvm.MethodName)) ∈ lw_all := lw_g (lw_at lw_m8 145 rfl) rfl
theorem q1922 : (Jvm.Cond.methodLink "WeirfoldLaneLaw" (236 : Nat) ({ cls := "WeirfoldLaneLaw", name := "isStale", desc := "(LWeirfoldLane;II[J)I" } : Jvm.MethodName)) ∈ lw_all := lw_g (lw_at lw_m8 149 rfl) rfl
theorem q1923 : (Jvm.Cond.static ({ cls := "WeirfoldLaneLaw", name := "isStale", desc := "(LWeirfoldLane;II[J)I" } : Jvm.MethodName)) ∈ lw_all := lw_g (lw_at lw_m8 150 rfl) rfl
theorem q1924 : (Jvm.Cond.codeWith ({ cls := "WeirfoldLaneLaw", name := "isStale", desc := "(LWeirfoldLane;II[J)I" } : Jvm.MethodName) method_21_code (5 : Nat) (Option.some Jvm.ClassFile.FieldType.int) [((0 : Nat), (17 : Nat), (20 : Nat), (47 : Nat)), ((0 : Nat), (17 : Nat), (24 : Nat), (13 : Nat))]) ∈ lw_all := lw_g (lw_at lw_m8 151 rfl) rfl
theorem q1925 : (Jvm.Cond.methodLink "WeirfoldLaneLaw" (80 : Nat) ({ cls := "WeirfoldLane", name := "isStale", desc := "(II)Z" } : Jvm.MethodName)) ∈ lw_all := lw_g (lw_at lw_m8 152 rfl) rfl
theorem q1930 : (Jvm.Cond.methodLink "WeirfoldLaneLaw" (247 : Nat) ({ cls := "WeirfoldLaneLaw", name := "repair", desc := "(LWeirfoldLane;I[J)I" } : Jvm.MethodName)) ∈ lw_all := lw_g (lw_at lw_m8 157 rfl) rfl
theorem q1931 : (Jvm.Cond.static ({ cls := "WeirfoldLaneLaw", name := "repair", desc := "(LWeirfoldLane;I[J)I" } : Jvm.MethodName)) ∈ lw_all := lw_g (lw_at lw_m8 158 rfl) rfl
theorem q1932 : (Jvm.Cond.codeWith ({ cls := "WeirfoldLaneLaw", name := "repair", desc := "(LWeirfoldLane;I[J)I" } : Jvm.MethodName) method_22_code (4 : Nat) (Option.some Jvm.ClassFile.FieldType.int) [((0 : Nat), (9 : Nat), (12 : Nat), (13 : Nat)), ((0 : Nat), (9 : Nat), (15 : Nat), (15 : Nat))]) ∈ lw_all := lw_g (lw_at lw_m8 159 rfl) rfl
theorem q1933 : (Jvm.Cond.methodLink "WeirfoldLaneLaw" (83 : Nat) ({ cls := "WeirfoldLane", name := "repair", desc := "(I)I" } : Jvm.MethodName)) ∈ lw_all := lw_g (lw_at lw_m8 160 rfl) rfl
theorem q1938 : (Jvm.Cond.methodLink "WeirfoldLaneLaw" (250 : Nat) ({ cls := "WeirfoldLaneLaw", name := "rowsBehind", desc := "(LWeirfoldLane;IIC[J)I" } : Jvm.MethodName)) ∈ lw_all := lw_g (lw_at lw_m8 165 rfl) rfl
theorem q1939 : (Jvm.Cond.static ({ cls := "WeirfoldLaneLaw", name := "rowsBehind", desc := "(LWeirfoldLane;IIC[J)I" } : Jvm.MethodName)) ∈ lw_all := lw_g (lw_at lw_m8 166 rfl) rfl
theorem q1940 : (Jvm.Cond.codeWith ({ cls := "WeirfoldLaneLaw", name := "rowsBehind", desc := "(LWeirfoldLane;IIC[J)I" } : Jvm.MethodName) method_23_code (6 : Nat) (Option.some Jvm.ClassFile.FieldType.int) [((0 : Nat), (12 : Nat), (15 : Nat), (47 : Nat)), ((0 : Nat), (12 : Nat), (19 : Nat), (13 : Nat))]) ∈ lw_all := lw_g (lw_at lw_m8 167 rfl) rfl
theorem q1941 : (Jvm.Cond.methodLink "WeirfoldLaneLaw" (86 : Nat) ({ cls := "WeirfoldLane", name := "rowsBehind", desc := "(IIC)I" } : Jvm.MethodName)) ∈ lw_all := lw_g (lw_at lw_m8 168 rfl) rfl
theorem q1975 : (Jvm.Cond.methodLink "WeirfoldLaneLaw" (253 : Nat) ({ cls := "WeirfoldLaneLaw", name := "rowsBehindByMarking", desc := "(LWeirfoldLane;IIC[J)I" } : Jvm.MethodName)) ∈ lw_all := lw_g (lw_at lw_m8 202 rfl) rfl
theorem q1976 : (Jvm.Cond.static ({ cls := "WeirfoldLaneLaw", name := "rowsBehindByMarking", desc := "(LWeirfoldLane;IIC[J)I" } : Jvm.MethodName)) ∈ lw_all := lw_g (lw_at lw_m8 203 rfl) rfl
theorem q1977 : (Jvm.Cond.codeWith ({ cls := "WeirfoldLaneLaw", name := "rowsBehindByMarking", desc := "(LWeirfoldLane;IIC[J)I" } : Jvm.MethodName) method_24_code (6 : Nat) (Option.some Jvm.ClassFile.FieldType.int) [((0 : Nat), (12 : Nat), (15 : Nat), (47 : Nat)), ((0 : Nat), (12 : Nat), (19 : Nat), (13 : Nat))]) ∈ lw_all := lw_g (lw_at lw_m8 204 rfl) rfl
theorem q1978 : (Jvm.Cond.methodLink "WeirfoldLaneLaw" (90 : Nat) ({ cls := "WeirfoldLane", name := "rowsBehindByMarking", desc := "(IIC)I" } : Jvm.MethodName)) ∈ lw_all := lw_g (lw_at lw_m8 205 rfl) rfl
theorem q2026 : (Jvm.Cond.methodLink "WeirfoldLaneLaw" (256 : Nat) ({ cls := "WeirfoldLaneLaw", name := "reach", desc := "(LWeirfoldLane;I[J)I" } : Jvm.MethodName)) ∈ lw_all := lw_g (lw_at lw_m9 13 rfl) rfl
theorem q2027 : (Jvm.Cond.static ({ cls := "WeirfoldLaneLaw", name := "reach", desc := "(LWeirfoldLane;I[J)I" } : Jvm.MethodName)) ∈ lw_all := lw_g (lw_at lw_m9 14 rfl) rfl
theorem q2028 : (Jvm.Cond.codeWith ({ cls := "WeirfoldLaneLaw", name := "reach", desc := "(LWeirfoldLane;I[J)I" } : Jvm.MethodName) method_25_code (4 : Nat) (Option.some Jvm.ClassFile.FieldType.int) [((0 : Nat), (9 : Nat), (12 : Nat), (21 : Nat))]) ∈ lw_all := lw_g (lw_at lw_m9 15 rfl) rfl
theorem q2029 : (Jvm.Cond.methodLink "WeirfoldLaneLaw" (93 : Nat) ({ cls := "WeirfoldLane", name := "reach", desc := "(I)I" } : Jvm.MethodName)) ∈ lw_all := lw_g (lw_at lw_m9 16 rfl) rfl
theorem q2037 : (Jvm.Cond.methodLink "WeirfoldLaneLaw" (259 : Nat) ({ cls := "WeirfoldLaneLaw", name := "cost", desc := "(LWeirfoldLane;II[J)I" } : Jvm.MethodName)) ∈ lw_all := lw_g (lw_at lw_m9 24 rfl) rfl
theorem q2038 : (Jvm.Cond.static ({ cls := "WeirfoldLaneLaw", name := "cost", desc := "(LWeirfoldLane;II[J)I" } : Jvm.MethodName)) ∈ lw_all := lw_g (lw_at lw_m9 25 rfl) rfl
theorem q2039 : (Jvm.Cond.codeWith ({ cls := "WeirfoldLaneLaw", name := "cost", desc := "(LWeirfoldLane;II[J)I" } : Jvm.MethodName) method_26_code (5 : Nat) (Option.some Jvm.ClassFile.FieldType.int) [((0 : Nat), (9 : Nat), (12 : Nat), (47 : Nat)), ((0 : Nat), (9 : Nat), (16 : Nat), (13 : Nat))]) ∈ lw_all := lw_g (lw_at lw_m9 26 rfl) rfl
theorem q2040 : (Jvm.Cond.methodLink "WeirfoldLaneLaw" (96 : Nat) ({ cls := "WeirfoldLane", name := "cost", desc := "(II)J" } : Jvm.MethodName)) ∈ lw_all := lw_g (lw_at lw_m9 27 rfl) rfl
theorem q2105 : (Jvm.Cond.methodLink "WeirfoldLaneLaw" (262 : Nat) ({ cls := "WeirfoldLaneLaw", name := "bestPlan", desc := "(LWeirfoldLane;I[J)I" } : Jvm.MethodName)) ∈ lw_all := lw_g (lw_at lw_m9 92 rfl) rfl
theorem q2106 : (Jvm.Cond.static ({ cls := "WeirfoldLaneLaw", name := "bestPlan", desc := "(LWeirfoldLane;I[J)I" } : Jvm.MethodName)) ∈ lw_all := lw_g (lw_at lw_m9 93 rfl) rfl
theorem q2107 : (Jvm.Cond.codeWith ({ cls := "WeirfoldLaneLaw", name := "bestPlan", desc := "(LWeirfoldLane;I[J)I" } : Jvm.MethodName) method_27_code (4 : Nat) (Option.some Jvm.ClassFile.FieldType.int) [((0 : Nat), (9 : Nat), (12 : Nat), (13 : Nat))]) ∈ lw_all := lw_g (lw_at lw_m9 94 rfl) rfl
theorem q2108 : (Jvm.Cond.methodLink "WeirfoldLaneLaw" (99 : Nat) ({ cls := "WeirfoldLane", name := "bestPlan", desc := "(I)I" } : Jvm.MethodName)) ∈ lw_all := lw_g (lw_at lw_m9 95 rfl) rfl
theorem q2124 : (Jvm.Cond.methodLink "WeirfoldLaneLaw" (265 : Nat) ({ cls := "WeirfoldLaneLaw", name := "bestPlanByDeciding", desc := "(LWeirfoldLane;I[J)I" } : Jvm.MethodName)) ∈ lw_all := lw_g (lw_at lw_m9 111 rfl) rfl
theorem q2125 : (Jvm.Cond.static ({ cls := "WeirfoldLaneLaw", name := "bestPlanByDeciding", desc := "(LWeirfoldLane;I[J)I" } : Jvm.MethodName)) ∈ lw_all := lw_g (lw_at lw_m9 112 rfl) rfl
theorem q2126 : (Jvm.Cond.codeWith ({ cls := "WeirfoldLaneLaw", name := "bestPlanByDeciding", desc := "(LWeirfoldLane;I[J)I" } : Jvm.MethodName) method_28_code (4 : Nat) (Option.some Jvm.ClassFile.FieldType.int) [((0 : Nat), (9 : Nat), (12 : Nat), (13 : Nat))]) ∈ lw_all := lw_g (lw_at lw_m9 113 rfl) rfl
theorem q2127 : (Jvm.Cond.methodLink "WeirfoldLaneLaw" (102 : Nat) ({ cls := "WeirfoldLane", name := "bestPlanByDeciding", desc := "(I)I" } : Jvm.MethodName)) ∈ lw_all := lw_g (lw_at lw_m9 114 rfl) rfl
theorem q2162 : (Jvm.Cond.methodLink "WeirfoldLaneLaw" (268 : Nat) ({ cls := "WeirfoldLaneLaw", name := "bestCost", desc := "(LWeirfoldLane;I[J)I" } : Jvm.MethodName)) ∈ lw_all := lw_g (lw_at lw_m9 149 rfl) rfl
theorem q2163 : (Jvm.Cond.static ({ cls := "WeirfoldLaneLaw", name := "bestCost", desc := "(LWeirfoldLane;I[J)I" } : Jvm.MethodName)) ∈ lw_all := lw_g (lw_at lw_m9 150 rfl) rfl
theorem q2164 : (Jvm.Cond.codeWith ({ cls := "WeirfoldLaneLaw", name := "bestCost", desc := "(LWeirfoldLane;I[J)I" } : Jvm.MethodName) method_29_code (4 : Nat) (Option.some Jvm.ClassFile.FieldType.int) [((0 : Nat), (8 : Nat), (11 : Nat), (13 : Nat))]) ∈ lw_all := lw_g (lw_at lw_m9 151 rfl) rfl
theorem q2165 : (Jvm.Cond.methodLink "WeirfoldLaneLaw" (105 : Nat) ({ cls := "WeirfoldLane", name := "bestCost", desc := "(I)J" } : Jvm.MethodName)) ∈ lw_all := lw_g (lw_at lw_m9 152 rfl) rfl
theorem q2170 : (Jvm.Cond.methodLink "WeirfoldLaneLaw" (287 : Nat) ({ cls := "WeirfoldLaneLaw", name := "meanAmount", desc := "(LWeirfoldLane;[D)I" } : Jvm.MethodName)) ∈ lw_all := lw_g (lw_at lw_m9 157 rfl) rfl
theorem q2171 : (Jvm.Cond.static ({ cls := "WeirfoldLaneLaw", name := "meanAmount", desc := "(LWeirfoldLane;[D)I" } : Jvm.MethodName)) ∈ lw_all := lw_g (lw_at lw_m9 158 rfl) rfl
theorem q2172 : (Jvm.Cond.codeWith ({ cls := "WeirfoldLaneLaw", name := "meanAmount", desc := "(LWeirfoldLane;[D)I" } : Jvm.MethodName) method_30_code (3 : Nat) (Option.some Jvm.ClassFile.FieldType.int) [((0 : Nat), (7 : Nat), (10 : Nat), (113 : Nat))]) ∈ lw_all := lw_g (lw_at lw_m9 159 rfl) rfl
theorem q2173 : (Jvm.Cond.classLink "WeirfoldLaneLaw" (113 : Nat) "java/lang/ArithmeticException") ∈ lw_all := lw_g (lw_at lw_m9 160 rfl) rfl
theorem q2187 : (Jvm.Cond.methodLink "WeirfoldLaneLaw" (109 : Nat) ({ cls := "WeirfoldLane", name := "meanAmount", desc := "()D" } : Jvm.MethodName)) ∈ lw_all := lw_g (lw_at lw_m9 174 rfl) rfl
theorem q2200 : (Jvm.Cond.methodLink "WeirfoldLaneLaw" (291 : Nat) ({ cls := "WeirfoldLaneLaw", name := "staleShare", desc := "(LWeirfoldLane;[D)I" } : Jvm.MethodName)) ∈ lw_all := lw_g (lw_at lw_m9 187 rfl) rfl
theorem q2201 : (Jvm.Cond.static ({ cls := "WeirfoldLaneLaw", name := "staleShare", desc := "(LWeirfoldLane;[D)I" } : Jvm.MethodName)) ∈ lw_all := lw_g (lw_at lw_m9 188 rfl) rfl
theorem q2202 : (Jvm.Cond.codeWith ({ cls := "WeirfoldLaneLaw", name := "staleShare", desc := "(LWeirfoldLane;[D)I" } : Jvm.MethodName) method_31_code (3 : Nat) (Option.some Jvm.ClassFile.FieldType.int) [((0 : Nat), (8 : Nat), (11 : Nat), (113 : Nat))]) ∈ lw_all := lw_g (lw_at lw_m9 189 rfl) rfl
theorem q2203 : (Jvm.Cond.methodLink "WeirfoldLaneLaw" (115 : Nat) ({ cls := "WeirfoldLane", name := "staleShare", desc := "()F" } : Jvm.MethodName)) ∈ lw_all := lw_g (lw_at lw_m9 190 rfl) rfl
theorem q2208 : (Jvm.Cond.methodLink "WeirfoldLaneLaw" (294 : Nat) ({ cls := "WeirfoldLaneLaw", name := "feed", desc := "(LWeirfoldLane;C[J)I" } : Jvm.MethodName)) ∈ lw_all := lw_g (lw_at lw_m9 195 rfl) rfl
theorem q2209 : (Jvm.Cond.static ({ cls := "WeirfoldLaneLaw", name := "feed", desc := "(LWeirfoldLane;C[J)I" } : Jvm.MethodName)) ∈ lw_all := lw_g (lw_at lw_m9 196 rfl) rfl
theorem q2210 : (Jvm.Cond.codeWith ({ cls := "WeirfoldLaneLaw", name := "feed", desc := "(LWeirfoldLane;C[J)I" } : Jvm.MethodName) method_32_code (4 : Nat) (Option.some Jvm.ClassFile.FieldType.int) [((0 : Nat), (9 : Nat), (12 : Nat), (123 : Nat))]) ∈ lw_all := lw_g (lw_at lw_m9 197 rfl) rfl
theorem q2211 : (Jvm.Cond.classLink "WeirfoldLaneLaw" (123 : Nat) "java/lang/IllegalStateException") ∈ lw_all := lw_g (lw_at lw_m9 198 rfl) rfl
theorem q2212 : (Jvm.Cond.methodLink "WeirfoldLaneLaw" (119 : Nat) ({ cls := "WeirfoldLane", name := "feed", desc := "(C)I" } : Jvm.MethodName)) ∈ lw_all := lw_g (lw_at lw_m9 199 rfl) rfl
theorem q2245 : (Jvm.Cond.methodLink "WeirfoldLaneLaw" (298 : Nat) ({ cls := "WeirfoldLaneLaw", name := "execute", desc := "(LWeirfoldLane;[J)I" } : Jvm.MethodName)) ∈ lw_all := lw_g (lw_at lw_m9 232 rfl) rfl
theorem q2246 : (Jvm.Cond.static ({ cls := "WeirfoldLaneLaw", name := "execute", desc := "(LWeirfoldLane;[J)I" } : Jvm.MethodName)) ∈ lw_all := lw_g (lw_at lw_m9 233 rfl) rfl
theorem q2247 : (Jvm.Cond.codeWith ({ cls := "WeirfoldLaneLaw", name := "execute", desc := "(LWeirfoldLane;[J)I" } : Jvm.MethodName) method_33_code (3 : Nat) (Option.some Jvm.ClassFile.FieldType.int) [((0 : Nat), (8 : Nat), (11 : Nat), (13 : Nat)), ((0 : Nat), (8 : Nat), (14 : Nat), (15 : Nat))]) ∈ lw_all := lw_g (lw_at lw_m9 234 rfl) rfl
theorem q2248 : (Jvm.Cond.methodLink "WeirfoldLaneLaw" (125 : Nat) ({ cls := "WeirfoldLane", name := "execute", desc := "()I" } : Jvm.MethodName)) ∈ lw_all := lw_g (lw_at lw_m9 235 rfl) rfl
theorem q2473 : (Jvm.Cond.methodLink "WeirfoldLaneLaw" (301 : Nat) ({ cls := "WeirfoldLaneLaw", name := "faultPosition", desc := "(LWeirfoldLane;[J)I" } : Jvm.MethodName)) ∈ lw_all := lw_g (lw_at lw_m10 220 rfl) rfl
theorem q2474 : (Jvm.Cond.static ({ cls := "WeirfoldLaneLaw", name := "faultPosition", desc := "(LWeirfoldLane;[J)I" } : Jvm.MethodName)) ∈ lw_all := lw_g (lw_at lw_m10 221 rfl) rfl
theorem q2475 : (Jvm.Cond.codeWith ({ cls := "WeirfoldLaneLaw", name := "faultPosition", desc := "(LWeirfoldLane;[J)I" } : Jvm.MethodName) method_34_code (3 : Nat) (Option.some Jvm.ClassFile.FieldType.int) [((0 : Nat), (8 : Nat), (11 : Nat), (21 : Nat))]) ∈ lw_all := lw_g (lw_at lw_m10 222 rfl) rfl
theorem q2476 : (Jvm.Cond.methodLink "WeirfoldLaneLaw" (128 : Nat) ({ cls := "WeirfoldLane", name := "faultPosition", desc := "()I" } : Jvm.MethodName)) ∈ lw_all := lw_g (lw_at lw_m10 223 rfl) rfl
theorem q2480 : (Jvm.Cond.methodLink "WeirfoldLaneLaw" (304 : Nat) ({ cls := "WeirfoldLaneLaw", name := "writeStep", desc := "(LWeirfoldLane;I[J)I" } : Jvm.MethodName)) ∈ lw_all := lw_g (lw_at lw_m10 227 rfl) rfl
theorem q2481 : (Jvm.Cond.static ({ cls := "WeirfoldLaneLaw", name := "writeStep", desc := "(LWeirfoldLane;I[J)I" } : Jvm.MethodName)) ∈ lw_all := lw_g (lw_at lw_m10 228 rfl) rfl
theorem q2482 : (Jvm.Cond.codeWith ({ cls := "WeirfoldLaneLaw", name := "writeStep", desc := "(LWeirfoldLane;I[J)I" } : Jvm.MethodName) method_35_code (4 : Nat) (Option.some Jvm.ClassFile.FieldType.int) [((0 : Nat), (9 : Nat), (12 : Nat), (47 : Nat))]) ∈ lw_all := lw_g (lw_at lw_m10 229 rfl) rfl
theorem q2483 : (Jvm.Cond.methodLink "WeirfoldLaneLaw" (131 : Nat) ({ cls := "WeirfoldLane", name := "writeStep", desc := "(I)I" } : Jvm.MethodName)) ∈ lw_all := lw_g (lw_at lw_m10 230 rfl) rfl
theorem q2556 : (Jvm.Cond.methodLink "WeirfoldLaneLaw" (307 : Nat) ({ cls := "WeirfoldLaneLaw", name := "writePartition", desc := "(LWeirfoldLane;II[J)I" } : Jvm.MethodName)) ∈ lw_all := lw_g (lw_at lw_m11 63 rfl) rfl
theorem q2557 : (Jvm.Cond.static ({ cls := "WeirfoldLaneLaw", name := "writePartition", desc := "(LWeirfoldLane;II[J)I" } : Jvm.MethodName)) ∈ lw_all := lw_g (lw_at lw_m11 64 rfl) rfl
theorem q2558 : (Jvm.Cond.codeWith ({ cls := "WeirfoldLaneLaw", name := "writePartition", desc := "(LWeirfoldLane;II[J)I" } : Jvm.MethodName) method_36_code (5 : Nat) (Option.some Jvm.ClassFile.FieldType.int) [((0 : Nat), (10 : Nat), (13 : Nat), (47 : Nat)), ((0 : Nat), (10 : Nat), (17 : Nat), (13 : Nat))]) ∈ lw_all := lw_g (lw_at lw_m11 65 rfl) rfl
theorem q2559 : (Jvm.Cond.methodLink "WeirfoldLaneLaw" (134 : Nat) ({ cls := "WeirfoldLane", name := "writePartition", desc := "(II)I" } : Jvm.MethodName)) ∈ lw_all := lw_g (lw_at lw_m11 66 rfl) rfl
theorem q2592 : (Jvm.Cond.methodLink "WeirfoldLaneLaw" (310 : Nat) ({ cls := "WeirfoldLaneLaw", name := "lineCharacter", desc := "(LWeirfoldLane;I[J)I" } : Jvm.MethodName)) ∈ lw_all := lw_g (lw_at lw_m11 99 rfl) rfl
theorem q2593 : (Jvm.Cond.static ({ cls := "WeirfoldLaneLaw", name := "lineCharacter", desc := "(LWeirfoldLane;I[J)I" } : Jvm.MethodName)) ∈ lw_all := lw_g (lw_at lw_m11 100 rfl) rfl
theorem q2594 : (Jvm.Cond.codeWith ({ cls := "WeirfoldLaneLaw", name := "lineCharacter", desc := "(LWeirfoldLane;I[J)I" } : Jvm.MethodName) method_37_code (4 : Nat) (Option.some Jvm.ClassFile.FieldType.int) [((0 : Nat), (9 : Nat), (12 : Nat), (47 : Nat))]) ∈ lw_all := lw_g (lw_at lw_m11 101 rfl) rfl
theorem q2595 : (Jvm.Cond.methodLink "WeirfoldLaneLaw" (137 : Nat) ({ cls := "WeirfoldLane", name := "lineCharacter", desc := "(I)C" } : Jvm.MethodName)) ∈ lw_all := lw_g (lw_at lw_m11 102 rfl) rfl
theorem q2611 : (Jvm.Cond.methodLink "WeirfoldLaneLaw" (313 : Nat) ({ cls := "WeirfoldLaneLaw", name := "denial", desc := "(LWeirfoldLane;[J)I" } : Jvm.MethodName)) ∈ lw_all := lw_g (lw_at lw_m11 118 rfl) rfl
theorem q2612 : (Jvm.Cond.static ({ cls := "WeirfoldLaneLaw", name := "denial", desc := "(LWeirfoldLane;[J)I" } : Jvm.MethodName)) ∈ lw_all := lw_g (lw_at lw_m11 119 rfl) rfl
theorem q2613 : (Jvm.Cond.codeWith ({ cls := "WeirfoldLaneLaw", name := "denial", desc := "(LWeirfoldLane;[J)I" } : Jvm.MethodName) method_38_code (3 : Nat) (Option.some Jvm.ClassFile.FieldType.int) [((0 : Nat), (8 : Nat), (11 : Nat), (21 : Nat))]) ∈ lw_all := lw_g (lw_at lw_m11 120 rfl) rfl
theorem q2614 : (Jvm.Cond.methodLink "WeirfoldLaneLaw" (140 : Nat) ({ cls := "WeirfoldLane", name := "denial", desc := "()I" } : Jvm.MethodName)) ∈ lw_all := lw_g (lw_at lw_m11 121 rfl) rfl
theorem q2622 : (Jvm.Cond.methodLink "WeirfoldLaneLaw" (316 : Nat) ({ cls := "WeirfoldLaneLaw", name := "denialDetail", desc := "(LWeirfoldLane;[J)I" } : Jvm.MethodName)) ∈ lw_all := lw_g (lw_at lw_m11 129 rfl) rfl
theorem q2623 : (Jvm.Cond.static ({ cls := "WeirfoldLaneLaw", name := "denialDetail", desc := "(LWeirfoldLane;[J)I" } : Jvm.MethodName)) ∈ lw_all := lw_g (lw_at lw_m11 130 rfl) rfl
theorem q2624 : (Jvm.Cond.codeWith ({ cls := "WeirfoldLaneLaw", name := "denialDetail", desc := "(LWeirfoldLane;[J)I" } : Jvm.MethodName) method_39_code (3 : Nat) (Option.some Jvm.ClassFile.FieldType.int) [((0 : Nat), (8 : Nat), (11 : Nat), (21 : Nat))]) ∈ lw_all := lw_g (lw_at lw_m11 131 rfl) rfl
theorem q2625 : (Jvm.Cond.methodLink "WeirfoldLaneLaw" (143 : Nat) ({ cls := "WeirfoldLane", name := "denialDetail", desc := "()I" } : Jvm.MethodName)) ∈ lw_all := lw_g (lw_at lw_m11 132 rfl) rfl
theorem q2629 : (Jvm.Cond.methodLink "WeirfoldLaneLaw" (319 : Nat) ({ cls := "WeirfoldLaneLaw", name := "denialCause", desc := "(LWeirfoldLane;[J)I" } : Jvm.MethodName)) ∈ lw_all := lw_g (lw_at lw_m11 136 rfl) rfl
theorem q2630 : (Jvm.Cond.static ({ cls := "WeirfoldLaneLaw", name := "denialCause", desc := "(LWeirfoldLane;[J)I" } : Jvm.MethodName)) ∈ lw_all := lw_g (lw_at lw_m11 137 rfl) rfl
theorem q2631 : (Jvm.Cond.codeWith ({ cls := "WeirfoldLaneLaw", name := "denialCause", desc := "(LWeirfoldLane;[J)I" } : Jvm.MethodName) method_40_code (3 : Nat) (Option.some Jvm.ClassFile.FieldType.int) [((0 : Nat), (8 : Nat), (11 : Nat), (21 : Nat))]) ∈ lw_all := lw_g (lw_at lw_m11 138 rfl) rfl
theorem q2632 : (Jvm.Cond.methodLink "WeirfoldLaneLaw" (146 : Nat) ({ cls := "WeirfoldLane", name := "denialCause", desc := "()I" } : Jvm.MethodName)) ∈ lw_all := lw_g (lw_at lw_m11 139 rfl) rfl
theorem q2649 : (Jvm.Cond.methodLink "WeirfoldLaneLaw" (322 : Nat) ({ cls := "WeirfoldLaneLaw", name := "undo", desc := "(LWeirfoldLane;[J)I" } : Jvm.MethodName)) ∈ lw_all := lw_g (lw_at lw_m11 156 rfl) rfl
theorem q2650 : (Jvm.Cond.static ({ cls := "WeirfoldLaneLaw", name := "undo", desc := "(LWeirfoldLane;[J)I" } : Jvm.MethodName)) ∈ lw_all := lw_g (lw_at lw_m11 157 rfl) rfl
theorem q2651 : (Jvm.Cond.codeWith ({ cls := "WeirfoldLaneLaw", name := "undo", desc := "(LWeirfoldLane;[J)I" } : Jvm.MethodName) method_41_code (3 : Nat) (Option.some Jvm.ClassFile.FieldType.int) [((0 : Nat), (8 : Nat), (11 : Nat), (123 : Nat))]) ∈ lw_all := lw_g (lw_at lw_m11 158 rfl) rfl
theorem q2652 : (Jvm.Cond.methodLink "WeirfoldLaneLaw" (149 : Nat) ({ cls := "WeirfoldLane", name := "undo", desc := "()I" } : Jvm.MethodName)) ∈ lw_all := lw_g (lw_at lw_m11 159 rfl) rfl
theorem q2675 : (Jvm.Cond.methodLink "WeirfoldLaneLaw" (333 : Nat) ({ cls := "WeirfoldLaneLaw", name := "restoreSnapshot", desc := "(LWeirfoldLane;[J)I" } : Jvm.MethodName)) ∈ lw_all := lw_g (lw_at lw_m11 182 rfl) rfl
theorem q2676 : (Jvm.Cond.static ({ cls := "WeirfoldLaneLaw", name := "restoreSnapshot", desc := "(LWeirfoldLane;[J)I" } : Jvm.MethodName)) ∈ lw_all := lw_g (lw_at lw_m11 183 rfl) rfl
theorem q2677 : (Jvm.Cond.codeWith ({ cls := "WeirfoldLaneLaw", name := "restoreSnapshot", desc := "(LWeirfoldLane;[J)I" } : Jvm.MethodName) method_42_code (3 : Nat) (Option.some Jvm.ClassFile.FieldType.int) [((0 : Nat), (8 : Nat), (11 : Nat), (123 : Nat))]) ∈ lw_all := lw_g (lw_at lw_m11 184 rfl) rfl
theorem q2678 : (Jvm.Cond.methodLink "WeirfoldLaneLaw" (152 : Nat) ({ cls := "WeirfoldLane", name := "restoreSnapshot", desc := "()I" } : Jvm.MethodName)) ∈ lw_all := lw_g (lw_at lw_m11 185 rfl) rfl
theorem q2689 : (Jvm.Cond.classLink "WeirfoldLaneLaw" (156 : Nat) "WeirfoldLaneModel") ∈ lw_all := lw_g (lw_at lw_m11 196 rfl) rfl
theorem q2691 : (Jvm.Cond.methodLink "WeirfoldLaneLaw" (158 : Nat) ({ cls := "WeirfoldLaneModel", name := "<init>", desc := "()V" } : Jvm.MethodName)) ∈ lw_all := lw_g (lw_at lw_m11 198 rfl) rfl
theorem q2784 : (Jvm.Cond.methodLink "WeirfoldLaneLaw" (165 : Nat) ({ cls := "WeirfoldLaneModel", name := "thrown", desc := "()I" } : Jvm.MethodName)) ∈ lw_all := lw_g (lw_at lw_m12 51 rfl) rfl
theorem q2788 : (Jvm.Cond.methodLink "WeirfoldLaneLaw" (164 : Nat) ({ cls := "WeirfoldLaneModel", name := "addRow", desc := "(CII)I" } : Jvm.MethodName)) ∈ lw_all := lw_g (lw_at lw_m12 55 rfl) rfl
theorem q2875 : (Jvm.Cond.methodLink "WeirfoldLaneLaw" (171 : Nat) ({ cls := "WeirfoldLaneModel", name := "removeRow", desc := "(I)I" } : Jvm.MethodName)) ∈ lw_all := lw_g (lw_at lw_m12 142 rfl) rfl
theorem q2887 : (Jvm.Cond.methodLink "WeirfoldLaneLaw" (175 : Nat) ({ cls := "WeirfoldLaneModel", name := "beginDay", desc := "()I" } : Jvm.MethodName)) ∈ lw_all := lw_g (lw_at lw_m12 154 rfl) rfl
theorem q2903 : (Jvm.Cond.methodLink "WeirfoldLaneLaw" (199 : Nat) ({ cls := "WeirfoldLaneModel", name := "addBase", desc := "(CI)I" } : Jvm.MethodName)) ∈ lw_all := lw_g (lw_at lw_m12 170 rfl) rfl
theorem q2919 : (Jvm.Cond.methodLink "WeirfoldLaneLaw" (202 : Nat) ({ cls := "WeirfoldLaneModel", name := "addPair", desc := "(CII)I" } : Jvm.MethodName)) ∈ lw_all := lw_g (lw_at lw_m12 186 rfl) rfl
theorem q2931 : (Jvm.Cond.methodLink "WeirfoldLaneLaw" (205 : Nat) ({ cls := "WeirfoldLaneModel", name := "addRunning", desc := "(I)I" } : Jvm.MethodName)) ∈ lw_all := lw_g (lw_at lw_m12 198 rfl) rfl
theorem q2939 : (Jvm.Cond.methodLink "WeirfoldLaneLaw" (209 : Nat) ({ cls := "WeirfoldLaneModel", name := "addBounded", desc := "(II)I" } : Jvm.MethodName)) ∈ lw_all := lw_g (lw_at lw_m12 206 rfl) rfl
theorem q2947 : (Jvm.Cond.methodLink "WeirfoldLaneLaw" (212 : Nat) ({ cls := "WeirfoldLaneModel", name := "removeStep", desc := "(I)I" } : Jvm.MethodName)) ∈ lw_all := lw_g (lw_at lw_m12 214 rfl) rfl
theorem q2963 : (Jvm.Cond.methodLink "WeirfoldLaneLaw" (249 : Nat) ({ cls := "WeirfoldLaneModel", name := "repair", desc := "(I)I" } : Jvm.MethodName)) ∈ lw_all := lw_g (lw_at lw_m12 230 rfl) rfl
theorem q2979 : (Jvm.Cond.methodLink "WeirfoldLaneLaw" (179 : Nat) ({ cls := "WeirfoldLaneModel", name := "today", desc := "()I" } : Jvm.MethodName)) ∈ lw_all := lw_g (lw_at lw_m13 6 rfl) rfl
theorem q2987 : (Jvm.Cond.methodLink "WeirfoldLaneLaw" (183 : Nat) ({ cls := "WeirfoldLaneModel", name := "rows", desc := "()I" } : Jvm.MethodName)) ∈ lw_all := lw_g (lw_at lw_m13 14 rfl) rfl
theorem q2991 : (Jvm.Cond.methodLink "WeirfoldLaneLaw" (186 : Nat) ({ cls := "WeirfoldLaneModel", name := "rowAt", desc := "(I)I" } : Jvm.MethodName)) ∈ lw_all := lw_g (lw_at lw_m13 18 rfl) rfl
theorem q2999 : (Jvm.Cond.methodLink "WeirfoldLaneLaw" (189 : Nat) ({ cls := "WeirfoldLaneModel", name := "dayOf", desc := "(I)I" } : Jvm.MethodName)) ∈ lw_all := lw_g (lw_at lw_m13 26 rfl) rfl
theorem q3003 : (Jvm.Cond.methodLink "WeirfoldLaneLaw" (192 : Nat) ({ cls := "WeirfoldLaneModel", name := "groupOf", desc := "(I)C" } : Jvm.MethodName)) ∈ lw_all := lw_g (lw_at lw_m13 30 rfl) rfl
theorem q3007 : (Jvm.Cond.methodLink "WeirfoldLaneLaw" (195 : Nat) ({ cls := "WeirfoldLaneModel", name := "rowByAmount", desc := "(I)I" } : Jvm.MethodName)) ∈ lw_all := lw_g (lw_at lw_m13 34 rfl) rfl
theorem q3011 : (Jvm.Cond.methodLink "WeirfoldLaneLaw" (216 : Nat) ({ cls := "WeirfoldLaneModel", name := "steps", desc := "()I" } : Jvm.MethodName)) ∈ lw_all := lw_g (lw_at lw_m13 38 rfl) rfl
theorem q3015 : (Jvm.Cond.methodLink "WeirfoldLaneLaw" (219 : Nat) ({ cls := "WeirfoldLaneModel", name := "kind", desc := "(I)C" } : Jvm.MethodName)) ∈ lw_all := lw_g (lw_at lw_m13 42 rfl) rfl
theorem q3019 : (Jvm.Cond.methodLink "WeirfoldLaneLaw" (222 : Nat) ({ cls := "WeirfoldLaneModel", name := "dependsOn", desc := "(II)Z" } : Jvm.MethodName)) ∈ lw_all := lw_g (lw_at lw_m13 46 rfl) rfl
theorem q3027 : (Jvm.Cond.methodLink "WeirfoldLaneLaw" (225 : Nat) ({ cls := "WeirfoldLaneModel", name := "level", desc := "(I)I" } : Jvm.MethodName)) ∈ lw_all := lw_g (lw_at lw_m13 54 rfl) rfl
theorem q3031 : (Jvm.Cond.methodLink "WeirfoldLaneLaw" (229 : Nat) ({ cls := "WeirfoldLaneModel", name := "value", desc := "(IIC)J" } : Jvm.MethodName)) ∈ lw_all := lw_g (lw_at lw_m13 58 rfl) rfl
theorem q3039 : (Jvm.Cond.methodLink "WeirfoldLaneLaw" (232 : Nat) ({ cls := "WeirfoldLaneModel", name := "valueAnew", desc := "(IIC)J" } : Jvm.MethodName)) ∈ lw_all := lw_g (lw_at lw_m13 66 rfl) rfl
theorem q3047 : (Jvm.Cond.methodLink "WeirfoldLaneLaw" (235 : Nat) ({ cls := "WeirfoldLaneModel", name := "total", desc := "(II)J" } : Jvm.MethodName)) ∈ lw_all := lw_g (lw_at lw_m13 74 rfl) rfl
theorem q3051 : (Jvm.Cond.methodLink "WeirfoldLaneLaw" (238 : Nat) ({ cls := "WeirfoldLaneModel", name := "isStale", desc := "(II)Z" } : Jvm.MethodName)) ∈ lw_all := lw_g (lw_at lw_m13 78 rfl) rfl
theorem q3055 : (Jvm.Cond.methodLink "WeirfoldLaneLaw" (242 : Nat) ({ cls := "WeirfoldLaneModel", name := "stale", desc := "()I" } : Jvm.MethodName)) ∈ lw_all := lw_g (lw_at lw_m13 82 rfl) rfl
theorem q3063 : (Jvm.Cond.methodLink "WeirfoldLaneLaw" (246 : Nat) ({ cls := "WeirfoldLaneModel", name := "wrong", desc := "()I" } : Jvm.MethodName)) ∈ lw_all := lw_g (lw_at lw_m13 90 rfl) rfl
theorem q3067 : (Jvm.Cond.methodLink "WeirfoldLaneLaw" (252 : Nat) ({ cls := "WeirfoldLaneModel", name := "rowsBehind", desc := "(IIC)I" } : Jvm.MethodName)) ∈ lw_all := lw_g (lw_at lw_m13 94 rfl) rfl
theorem q3083 : (Jvm.Cond.methodLink "WeirfoldLaneLaw" (255 : Nat) ({ cls := "WeirfoldLaneModel", name := "rowsBehindByMarking", desc := "(IIC)I" } : Jvm.MethodName)) ∈ lw_all := lw_g (lw_at lw_m13 110 rfl) rfl
theorem q3087 : (Jvm.Cond.methodLink "WeirfoldLaneLaw" (258 : Nat) ({ cls := "WeirfoldLaneModel", name := "reach", desc := "(I)I" } : Jvm.MethodName)) ∈ lw_all := lw_g (lw_at lw_m13 114 rfl) rfl
theorem q3091 : (Jvm.Cond.methodLink "WeirfoldLaneLaw" (261 : Nat) ({ cls := "WeirfoldLaneModel", name := "cost", desc := "(II)J" } : Jvm.MethodName)) ∈ lw_all := lw_g (lw_at lw_m13 118 rfl) rfl
theorem q3100 : (Jvm.Cond.methodLink "WeirfoldLaneLaw" (264 : Nat) ({ cls := "WeirfoldLaneModel", name := "bestPlan", desc := "(I)I" } : Jvm.MethodName)) ∈ lw_all := lw_g (lw_at lw_m13 127 rfl) rfl
theorem q3119 : (Jvm.Cond.methodLink "WeirfoldLaneLaw" (267 : Nat) ({ cls := "WeirfoldLaneModel", name := "bestPlanByDeciding", desc := "(I)I" } : Jvm.MethodName)) ∈ lw_all := lw_g (lw_at lw_m13 146 rfl) rfl
theorem q3123 : (Jvm.Cond.methodLink "WeirfoldLaneLaw" (270 : Nat) ({ cls := "WeirfoldLaneModel", name := "bestCost", desc := "(I)J" } : Jvm.MethodName)) ∈ lw_all := lw_g (lw_at lw_m13 150 rfl) rfl
theorem q3127 : (Jvm.Cond.methodLink "WeirfoldLaneLaw" (274 : Nat) ({ cls := "WeirfoldLaneModel", name := "added", desc := "()I" } : Jvm.MethodName)) ∈ lw_all := lw_g (lw_at lw_m13 154 rfl) rfl
theorem q3131 : (Jvm.Cond.methodLink "WeirfoldLaneLaw" (278 : Nat) ({ cls := "WeirfoldLaneModel", name := "removed", desc := "()I" } : Jvm.MethodName)) ∈ lw_all := lw_g (lw_at lw_m13 158 rfl) rfl
theorem q3135 : (Jvm.Cond.methodLink "WeirfoldLaneLaw" (282 : Nat) ({ cls := "WeirfoldLaneModel", name := "late", desc := "()I" } : Jvm.MethodName)) ∈ lw_all := lw_g (lw_at lw_m13 162 rfl) rfl
theorem q3139 : (Jvm.Cond.methodLink "WeirfoldLaneLaw" (286 : Nat) ({ cls := "WeirfoldLaneModel", name := "repaired", desc := "()I" } : Jvm.MethodName)) ∈ lw_all := lw_g (lw_at lw_m13 166 rfl) rfl
theorem q3143 : (Jvm.Cond.methodLink "WeirfoldLaneLaw" (290 : Nat) ({ cls := "WeirfoldLaneModel", name := "meanAmount", desc := "()D" } : Jvm.MethodName)) ∈ lw_all := lw_g (lw_at lw_m13 170 rfl) rfl
theorem q3147 : (Jvm.Cond.methodLink "WeirfoldLaneLaw" (293 : Nat) ({ cls := "WeirfoldLaneModel", name := "staleShare", desc := "()F" } : Jvm.MethodName)) ∈ lw_all := lw_g (lw_at lw_m13 174 rfl) rfl
theorem q3151 : (Jvm.Cond.methodLink "WeirfoldLaneLaw" (315 : Nat) ({ cls := "WeirfoldLaneModel", name := "denial", desc := "()I" } : Jvm.MethodName)) ∈ lw_all := lw_g (lw_at lw_m13 178 rfl) rfl
theorem q3155 : (Jvm.Cond.methodLink "WeirfoldLaneLaw" (318 : Nat) ({ cls := "WeirfoldLaneModel", name := "denialDetail", desc := "()I" } : Jvm.MethodName)) ∈ lw_all := lw_g (lw_at lw_m13 182 rfl) rfl
theorem q3159 : (Jvm.Cond.methodLink "WeirfoldLaneLaw" (321 : Nat) ({ cls := "WeirfoldLaneModel", name := "denialCause", desc := "()I" } : Jvm.MethodName)) ∈ lw_all := lw_g (lw_at lw_m13 186 rfl) rfl
theorem q3163 : (Jvm.Cond.methodLink "WeirfoldLaneLaw" (306 : Nat) ({ cls := "WeirfoldLaneModel", name := "writeStep", desc := "(I)I" } : Jvm.MethodName)) ∈ lw_all := lw_g (lw_at lw_m13 190 rfl) rfl
theorem q3177 : (Jvm.Cond.methodLink "WeirfoldLaneLaw" (309 : Nat) ({ cls := "WeirfoldLaneModel", name := "writePartition", desc := "(II)I" } : Jvm.MethodName)) ∈ lw_all := lw_g (lw_at lw_m13 204 rfl) rfl
theorem q3181 : (Jvm.Cond.methodLink "WeirfoldLaneLaw" (312 : Nat) ({ cls := "WeirfoldLaneModel", name := "lineCharacter", desc := "(I)C" } : Jvm.MethodName)) ∈ lw_all := lw_g (lw_at lw_m13 208 rfl) rfl
theorem q3185 : (Jvm.Cond.methodLink "WeirfoldLaneLaw" (297 : Nat) ({ cls := "WeirfoldLaneModel", name := "feed", desc := "(C)I" } : Jvm.MethodName)) ∈ lw_all := lw_g (lw_at lw_m13 212 rfl) rfl
theorem q3189 : (Jvm.Cond.methodLink "WeirfoldLaneLaw" (300 : Nat) ({ cls := "WeirfoldLaneModel", name := "execute", desc := "()I" } : Jvm.MethodName)) ∈ lw_all := lw_g (lw_at lw_m13 216 rfl) rfl
theorem q3254 : (Jvm.Cond.methodLink "WeirfoldLaneLaw" (303 : Nat) ({ cls := "WeirfoldLaneModel", name := "faultPosition", desc := "()I" } : Jvm.MethodName)) ∈ lw_all := lw_g (lw_at lw_m14 41 rfl) rfl
theorem q3258 : (Jvm.Cond.methodLink "WeirfoldLaneLaw" (324 : Nat) ({ cls := "WeirfoldLaneModel", name := "undo", desc := "()I" } : Jvm.MethodName)) ∈ lw_all := lw_g (lw_at lw_m14 45 rfl) rfl
theorem q3262 : (Jvm.Cond.methodLink "WeirfoldLaneLaw" (328 : Nat) ({ cls := "WeirfoldLaneModel", name := "undoCount", desc := "()I" } : Jvm.MethodName)) ∈ lw_all := lw_g (lw_at lw_m14 49 rfl) rfl
theorem q3266 : (Jvm.Cond.methodLink "WeirfoldLaneLaw" (332 : Nat) ({ cls := "WeirfoldLaneModel", name := "saveSnapshot", desc := "()I" } : Jvm.MethodName)) ∈ lw_all := lw_g (lw_at lw_m14 53 rfl) rfl
theorem q3270 : (Jvm.Cond.methodLink "WeirfoldLaneLaw" (335 : Nat) ({ cls := "WeirfoldLaneModel", name := "restoreSnapshot", desc := "()I" } : Jvm.MethodName)) ∈ lw_all := lw_g (lw_at lw_m14 57 rfl) rfl

/-! the law's own entry -/
set_option maxRecDepth 100000
abbrev cL_law : ByteArray := code
def dkwL_law_112 : List UInt8 := [148, 153, 0, 5, 3, 172, 167, 0, 3, 132, 5, 4, 167, 245, 18, 4, 172]
abbrev dktL_law_112 : List UInt8 := dkwL_law_112 ++ []
def dkwL_law_111 : List UInt8 := [54, 7, 44, 182, 0, 165, 21, 6, 159, 0, 5, 3, 172, 21, 6, 154, 0, 15, 45, 3, 47, 21, 7, 133]
abbrev dktL_law_111 : List UInt8 := dkwL_law_111 ++ dktL_law_112
def dkwL_law_110 : List UInt8 := [182, 1, 73, 44, 182, 1, 76, 159, 0, 49, 3, 172, 43, 45, 184, 1, 77, 54, 6, 44, 182, 1, 79]
abbrev dktL_law_110 : List UInt8 := dkwL_law_110 ++ dktL_law_111
def dkwL_law_109 : List UInt8 := [153, 0, 5, 3, 172, 167, 0, 73, 43, 182, 1, 69, 44, 182, 1, 72, 159, 0, 62, 3, 172, 43]
abbrev dktL_law_109 : List UInt8 := dkwL_law_109 ++ dktL_law_110
def dkwL_law_108 : List UInt8 := [182, 0, 165, 21, 6, 159, 0, 5, 3, 172, 21, 6, 154, 0, 15, 45, 3, 47, 21, 7, 133, 148]
abbrev dktL_law_108 : List UInt8 := dkwL_law_108 ++ dktL_law_109
def dkwL_law_107 : List UInt8 := [148, 153, 0, 5, 3, 172, 167, 0, 117, 43, 45, 184, 1, 66, 54, 6, 44, 182, 1, 68, 54, 7, 44]
abbrev dktL_law_107 : List UInt8 := dkwL_law_107 ++ dktL_law_108
def dkwL_law_106 : List UInt8 := [54, 7, 44, 182, 0, 165, 21, 6, 159, 0, 5, 3, 172, 21, 6, 154, 0, 15, 45, 3, 47, 21, 7, 133]
abbrev dktL_law_106 : List UInt8 := dkwL_law_106 ++ dktL_law_107
def dkwL_law_105 : List UInt8 := [21, 7, 133, 148, 153, 0, 5, 3, 172, 167, 0, 161, 43, 45, 184, 1, 63, 54, 6, 44, 182, 1, 65]
abbrev dktL_law_105 : List UInt8 := dkwL_law_105 ++ dktL_law_106
def dkwL_law_104 : List UInt8 := [182, 1, 62, 54, 7, 44, 182, 0, 165, 21, 6, 159, 0, 5, 3, 172, 21, 6, 154, 0, 15, 45, 3, 47]
abbrev dktL_law_104 : List UInt8 := dkwL_law_104 ++ dktL_law_105
def dkwL_law_103 : List UInt8 := [45, 3, 47, 21, 7, 133, 148, 153, 0, 5, 3, 172, 167, 0, 205, 43, 45, 184, 1, 60, 54, 6, 44]
abbrev dktL_law_103 : List UInt8 := dkwL_law_103 ++ dktL_law_104
def dkwL_law_102 : List UInt8 := [54, 6, 44, 182, 1, 59, 54, 7, 44, 182, 0, 165, 21, 6, 159, 0, 5, 3, 172, 21, 6, 154, 0, 15]
abbrev dktL_law_102 : List UInt8 := dkwL_law_102 ++ dktL_law_103
def dkwL_law_101 : List UInt8 := [154, 0, 15, 45, 3, 47, 21, 7, 133, 148, 153, 0, 5, 3, 172, 167, 0, 249, 43, 45, 184, 1, 57]
abbrev dktL_law_101 : List UInt8 := dkwL_law_101 ++ dktL_law_102
def dkwL_law_100 : List UInt8 := [21, 5, 4, 96, 46, 182, 1, 56, 54, 7, 44, 182, 0, 165, 21, 6, 159, 0, 5, 3, 172, 21, 6]
abbrev dktL_law_100 : List UInt8 := dkwL_law_100 ++ dktL_law_101
def dkwL_law_99 : List UInt8 := [148, 153, 0, 5, 3, 172, 167, 1, 49, 43, 42, 21, 5, 4, 96, 46, 45, 184, 1, 54, 54, 6, 44, 42]
abbrev dktL_law_99 : List UInt8 := dkwL_law_99 ++ dktL_law_100
def dkwL_law_98 : List UInt8 := [54, 7, 44, 182, 0, 165, 21, 6, 159, 0, 5, 3, 172, 21, 6, 154, 0, 15, 45, 3, 47, 21, 7, 133]
abbrev dktL_law_98 : List UInt8 := dkwL_law_98 ++ dktL_law_99
def dkwL_law_97 : List UInt8 := [46, 45, 184, 1, 51, 54, 6, 44, 42, 21, 5, 4, 96, 46, 42, 21, 5, 5, 96, 46, 182, 1, 53]
abbrev dktL_law_97 : List UInt8 := dkwL_law_97 ++ dktL_law_98
def dkwL_law_96 : List UInt8 := [21, 7, 133, 148, 153, 0, 5, 3, 172, 167, 1, 117, 43, 42, 21, 5, 4, 96, 46, 42, 21, 5, 5, 96]
abbrev dktL_law_96 : List UInt8 := dkwL_law_96 ++ dktL_law_97
def dkwL_law_95 : List UInt8 := [182, 1, 50, 54, 7, 44, 182, 0, 165, 21, 6, 159, 0, 5, 3, 172, 21, 6, 154, 0, 15, 45, 3, 47]
abbrev dktL_law_95 : List UInt8 := dkwL_law_95 ++ dktL_law_96
def dkwL_law_94 : List UInt8 := [167, 1, 173, 43, 42, 21, 5, 4, 96, 46, 45, 184, 1, 48, 54, 6, 44, 42, 21, 5, 4, 96, 46]
abbrev dktL_law_94 : List UInt8 := dkwL_law_94 ++ dktL_law_95
def dkwL_law_93 : List UInt8 := [159, 0, 5, 3, 172, 21, 6, 154, 0, 15, 45, 3, 47, 21, 7, 133, 148, 153, 0, 5, 3, 172]
abbrev dktL_law_93 : List UInt8 := dkwL_law_93 ++ dktL_law_94
def dkwL_law_92 : List UInt8 := [167, 1, 217, 43, 45, 184, 1, 45, 54, 6, 44, 182, 1, 47, 54, 7, 44, 182, 0, 165, 21, 6]
abbrev dktL_law_92 : List UInt8 := dkwL_law_92 ++ dktL_law_93
def dkwL_law_91 : List UInt8 := [159, 0, 5, 3, 172, 21, 6, 154, 0, 15, 45, 3, 47, 21, 7, 133, 148, 153, 0, 5, 3, 172]
abbrev dktL_law_91 : List UInt8 := dkwL_law_91 ++ dktL_law_92
def dkwL_law_90 : List UInt8 := [167, 2, 5, 43, 45, 184, 1, 42, 54, 6, 44, 182, 1, 44, 54, 7, 44, 182, 0, 165, 21, 6]
abbrev dktL_law_90 : List UInt8 := dkwL_law_90 ++ dktL_law_91
def dkwL_law_89 : List UInt8 := [159, 0, 5, 3, 172, 21, 6, 154, 0, 15, 45, 3, 47, 21, 7, 133, 148, 153, 0, 5, 3, 172]
abbrev dktL_law_89 : List UInt8 := dkwL_law_89 ++ dktL_law_90
def dkwL_law_88 : List UInt8 := [184, 1, 38, 54, 6, 44, 42, 21, 5, 4, 96, 46, 146, 182, 1, 41, 54, 7, 44, 182, 0, 165, 21, 6]
abbrev dktL_law_88 : List UInt8 := dkwL_law_88 ++ dktL_law_89
def dkwL_law_87 : List UInt8 := [23, 7, 23, 7, 149, 154, 0, 5, 3, 172, 167, 2, 63, 43, 42, 21, 5, 4, 96, 46, 146, 45]
abbrev dktL_law_87 : List UInt8 := dkwL_law_87 ++ dktL_law_88
def dkwL_law_86 : List UInt8 := [25, 4, 3, 49, 23, 7, 141, 151, 153, 0, 25, 25, 4, 3, 49, 25, 4, 3, 49, 151, 153, 0, 11]
abbrev dktL_law_86 : List UInt8 := dkwL_law_86 ++ dktL_law_87
def dkwL_law_85 : List UInt8 := [54, 6, 44, 182, 1, 37, 56, 7, 44, 182, 0, 165, 21, 6, 159, 0, 5, 3, 172, 21, 6, 154, 0, 36]
abbrev dktL_law_85 : List UInt8 := dkwL_law_85 ++ dktL_law_86
def dkwL_law_84 : List UInt8 := [49, 151, 153, 0, 11, 24, 7, 24, 7, 151, 154, 0, 5, 3, 172, 167, 2, 129, 43, 25, 4, 184, 1, 35]
abbrev dktL_law_84 : List UInt8 := dkwL_law_84 ++ dktL_law_85
def dkwL_law_83 : List UInt8 := [3, 172, 21, 6, 154, 0, 35, 25, 4, 3, 49, 24, 7, 151, 153, 0, 25, 25, 4, 3, 49, 25, 4, 3]
abbrev dktL_law_83 : List UInt8 := dkwL_law_83 ++ dktL_law_84
def dkwL_law_82 : List UInt8 := [172, 43, 25, 4, 184, 1, 31, 54, 6, 44, 182, 1, 34, 57, 7, 44, 182, 0, 165, 21, 6, 159, 0, 5]
abbrev dktL_law_82 : List UInt8 := dkwL_law_82 ++ dktL_law_83
def dkwL_law_81 : List UInt8 := [182, 1, 23, 44, 182, 1, 26, 159, 2, 209, 3, 172, 43, 182, 1, 27, 44, 182, 1, 30, 159, 2, 196, 3]
abbrev dktL_law_81 : List UInt8 := dkwL_law_81 ++ dktL_law_82
def dkwL_law_80 : List UInt8 := [44, 182, 1, 18, 159, 2, 235, 3, 172, 43, 182, 1, 19, 44, 182, 1, 22, 159, 2, 222, 3, 172, 43]
abbrev dktL_law_80 : List UInt8 := dkwL_law_80 ++ dktL_law_81
def dkwL_law_79 : List UInt8 := [172, 21, 6, 154, 0, 14, 45, 3, 47, 22, 7, 148, 153, 0, 5, 3, 172, 167, 2, 246, 43, 182, 1, 15]
abbrev dktL_law_79 : List UInt8 := dkwL_law_79 ++ dktL_law_80
def dkwL_law_78 : List UInt8 := [54, 6, 44, 42, 21, 5, 4, 96, 46, 182, 1, 14, 55, 7, 44, 182, 0, 165, 21, 6, 159, 0, 5, 3]
abbrev dktL_law_78 : List UInt8 := dkwL_law_78 ++ dktL_law_79
def dkwL_law_77 : List UInt8 := [21, 7, 133, 148, 153, 0, 5, 3, 172, 167, 3, 45, 43, 42, 21, 5, 4, 96, 46, 45, 184, 1, 12]
abbrev dktL_law_77 : List UInt8 := dkwL_law_77 ++ dktL_law_78
def dkwL_law_76 : List UInt8 := [182, 1, 11, 54, 7, 44, 182, 0, 165, 21, 6, 159, 0, 5, 3, 172, 21, 6, 154, 0, 15, 45, 3, 47]
abbrev dktL_law_76 : List UInt8 := dkwL_law_76 ++ dktL_law_77
def dkwL_law_75 : List UInt8 := [167, 3, 101, 43, 42, 21, 5, 4, 96, 46, 45, 184, 1, 9, 54, 6, 44, 42, 21, 5, 4, 96, 46]
abbrev dktL_law_75 : List UInt8 := dkwL_law_75 ++ dktL_law_76
def dkwL_law_74 : List UInt8 := [159, 0, 5, 3, 172, 21, 6, 154, 0, 15, 45, 3, 47, 21, 7, 133, 148, 153, 0, 5, 3, 172]
abbrev dktL_law_74 : List UInt8 := dkwL_law_74 ++ dktL_law_75
def dkwL_law_73 : List UInt8 := [45, 184, 1, 6, 54, 6, 44, 42, 21, 5, 4, 96, 46, 182, 1, 8, 54, 7, 44, 182, 0, 165, 21, 6]
abbrev dktL_law_73 : List UInt8 := dkwL_law_73 ++ dktL_law_74
def dkwL_law_72 : List UInt8 := [154, 0, 14, 45, 3, 47, 22, 7, 148, 153, 0, 5, 3, 172, 167, 3, 157, 43, 42, 21, 5, 4, 96, 46]
abbrev dktL_law_72 : List UInt8 := dkwL_law_72 ++ dktL_law_73
def dkwL_law_71 : List UInt8 := [42, 21, 5, 5, 96, 46, 182, 1, 5, 55, 7, 44, 182, 0, 165, 21, 6, 159, 0, 5, 3, 172, 21, 6]
abbrev dktL_law_71 : List UInt8 := dkwL_law_71 ++ dktL_law_72
def dkwL_law_70 : List UInt8 := [21, 5, 4, 96, 46, 42, 21, 5, 5, 96, 46, 45, 184, 1, 3, 54, 6, 44, 42, 21, 5, 4, 96, 46]
abbrev dktL_law_70 : List UInt8 := dkwL_law_70 ++ dktL_law_71
def dkwL_law_69 : List UInt8 := [172, 21, 6, 154, 0, 15, 45, 3, 47, 21, 7, 133, 148, 153, 0, 5, 3, 172, 167, 3, 224, 43, 42]
abbrev dktL_law_69 : List UInt8 := dkwL_law_69 ++ dktL_law_70
def dkwL_law_68 : List UInt8 := [54, 6, 44, 42, 21, 5, 4, 96, 46, 182, 1, 2, 54, 7, 44, 182, 0, 165, 21, 6, 159, 0, 5, 3]
abbrev dktL_law_68 : List UInt8 := dkwL_law_68 ++ dktL_law_69
def dkwL_law_67 : List UInt8 := [47, 21, 7, 133, 148, 153, 0, 5, 3, 172, 167, 4, 24, 43, 42, 21, 5, 4, 96, 46, 45, 184, 1, 0]
abbrev dktL_law_67 : List UInt8 := dkwL_law_67 ++ dktL_law_68
def dkwL_law_66 : List UInt8 := [146, 182, 0, 255, 54, 7, 44, 182, 0, 165, 21, 6, 159, 0, 5, 3, 172, 21, 6, 154, 0, 15, 45, 3]
abbrev dktL_law_66 : List UInt8 := dkwL_law_66 ++ dktL_law_67
def dkwL_law_65 : List UInt8 := [184, 0, 253, 54, 6, 44, 42, 21, 5, 4, 96, 46, 42, 21, 5, 5, 96, 46, 42, 21, 5, 6, 96, 46]
abbrev dktL_law_65 : List UInt8 := dkwL_law_65 ++ dktL_law_66
def dkwL_law_64 : List UInt8 := [167, 4, 106, 43, 42, 21, 5, 4, 96, 46, 42, 21, 5, 5, 96, 46, 42, 21, 5, 6, 96, 46, 146, 45]
abbrev dktL_law_64 : List UInt8 := dkwL_law_64 ++ dktL_law_65
def dkwL_law_63 : List UInt8 := [159, 0, 5, 3, 172, 21, 6, 154, 0, 15, 45, 3, 47, 21, 7, 133, 148, 153, 0, 5, 3, 172]
abbrev dktL_law_63 : List UInt8 := dkwL_law_63 ++ dktL_law_64
def dkwL_law_62 : List UInt8 := [21, 5, 5, 96, 46, 42, 21, 5, 6, 96, 46, 146, 182, 0, 252, 54, 7, 44, 182, 0, 165, 21, 6]
abbrev dktL_law_62 : List UInt8 := dkwL_law_62 ++ dktL_law_63
def dkwL_law_61 : List UInt8 := [96, 46, 42, 21, 5, 6, 96, 46, 146, 45, 184, 0, 250, 54, 6, 44, 42, 21, 5, 4, 96, 46, 42]
abbrev dktL_law_61 : List UInt8 := dkwL_law_61 ++ dktL_law_62
def dkwL_law_60 : List UInt8 := [47, 21, 7, 133, 148, 153, 0, 5, 3, 172, 167, 4, 188, 43, 42, 21, 5, 4, 96, 46, 42, 21, 5, 5]
abbrev dktL_law_60 : List UInt8 := dkwL_law_60 ++ dktL_law_61
def dkwL_law_59 : List UInt8 := [46, 182, 0, 249, 54, 7, 44, 182, 0, 165, 21, 6, 159, 0, 5, 3, 172, 21, 6, 154, 0, 15, 45, 3]
abbrev dktL_law_59 : List UInt8 := dkwL_law_59 ++ dktL_law_60
def dkwL_law_58 : List UInt8 := [159, 4, 246, 3, 172, 43, 42, 21, 5, 4, 96, 46, 45, 184, 0, 247, 54, 6, 44, 42, 21, 5, 4, 96]
abbrev dktL_law_58 : List UInt8 := dkwL_law_58 ++ dktL_law_59
def dkwL_law_57 : List UInt8 := [167, 5, 14, 43, 182, 0, 239, 44, 182, 0, 242, 159, 5, 3, 3, 172, 43, 182, 0, 243, 44, 182, 0, 246]
abbrev dktL_law_57 : List UInt8 := dkwL_law_57 ++ dktL_law_58
def dkwL_law_56 : List UInt8 := [21, 6, 154, 0, 22, 45, 3, 47, 21, 7, 153, 0, 7, 10, 167, 0, 4, 9, 148, 153, 0, 5, 3, 172]
abbrev dktL_law_56 : List UInt8 := dkwL_law_56 ++ dktL_law_57
def dkwL_law_55 : List UInt8 := [96, 46, 42, 21, 5, 5, 96, 46, 182, 0, 238, 54, 7, 44, 182, 0, 165, 21, 6, 159, 0, 5, 3, 172]
abbrev dktL_law_55 : List UInt8 := dkwL_law_55 ++ dktL_law_56
def dkwL_law_54 : List UInt8 := [43, 42, 21, 5, 4, 96, 46, 42, 21, 5, 5, 96, 46, 45, 184, 0, 236, 54, 6, 44, 42, 21, 5, 4]
abbrev dktL_law_54 : List UInt8 := dkwL_law_54 ++ dktL_law_55
def dkwL_law_53 : List UInt8 := [159, 0, 5, 3, 172, 21, 6, 154, 0, 14, 45, 3, 47, 22, 7, 148, 153, 0, 5, 3, 172, 167, 5, 89]
abbrev dktL_law_53 : List UInt8 := dkwL_law_53 ++ dktL_law_54
def dkwL_law_52 : List UInt8 := [21, 5, 4, 96, 46, 42, 21, 5, 5, 96, 46, 182, 0, 235, 55, 7, 44, 182, 0, 165, 21, 6]
abbrev dktL_law_52 : List UInt8 := dkwL_law_52 ++ dktL_law_53
def dkwL_law_51 : List UInt8 := [167, 5, 156, 43, 42, 21, 5, 4, 96, 46, 42, 21, 5, 5, 96, 46, 45, 184, 0, 233, 54, 6, 44, 42]
abbrev dktL_law_51 : List UInt8 := dkwL_law_51 ++ dktL_law_52
def dkwL_law_50 : List UInt8 := [21, 6, 159, 0, 5, 3, 172, 21, 6, 154, 0, 14, 45, 3, 47, 22, 7, 148, 153, 0, 5, 3, 172]
abbrev dktL_law_50 : List UInt8 := dkwL_law_50 ++ dktL_law_51
def dkwL_law_49 : List UInt8 := [96, 46, 42, 21, 5, 5, 96, 46, 42, 21, 5, 6, 96, 46, 146, 182, 0, 232, 55, 7, 44, 182, 0, 165]
abbrev dktL_law_49 : List UInt8 := dkwL_law_49 ++ dktL_law_50
def dkwL_law_48 : List UInt8 := [42, 21, 5, 5, 96, 46, 42, 21, 5, 6, 96, 46, 146, 45, 184, 0, 230, 54, 6, 44, 42, 21, 5, 4]
abbrev dktL_law_48 : List UInt8 := dkwL_law_48 ++ dktL_law_49
def dkwL_law_47 : List UInt8 := [154, 0, 14, 45, 3, 47, 22, 7, 148, 153, 0, 5, 3, 172, 167, 5, 237, 43, 42, 21, 5, 4, 96, 46]
abbrev dktL_law_47 : List UInt8 := dkwL_law_47 ++ dktL_law_48
def dkwL_law_46 : List UInt8 := [21, 5, 6, 96, 46, 146, 182, 0, 229, 55, 7, 44, 182, 0, 165, 21, 6, 159, 0, 5, 3, 172, 21, 6]
abbrev dktL_law_46 : List UInt8 := dkwL_law_46 ++ dktL_law_47
def dkwL_law_45 : List UInt8 := [6, 96, 46, 146, 45, 184, 0, 226, 54, 6, 44, 42, 21, 5, 4, 96, 46, 42, 21, 5, 5, 96, 46, 42]
abbrev dktL_law_45 : List UInt8 := dkwL_law_45 ++ dktL_law_46
def dkwL_law_44 : List UInt8 := [153, 0, 5, 3, 172, 167, 6, 62, 43, 42, 21, 5, 4, 96, 46, 42, 21, 5, 5, 96, 46, 42, 21, 5]
abbrev dktL_law_44 : List UInt8 := dkwL_law_44 ++ dktL_law_45
def dkwL_law_43 : List UInt8 := [182, 0, 165, 21, 6, 159, 0, 5, 3, 172, 21, 6, 154, 0, 15, 45, 3, 47, 21, 7, 133, 148]
abbrev dktL_law_43 : List UInt8 := dkwL_law_43 ++ dktL_law_44
def dkwL_law_42 : List UInt8 := [21, 5, 4, 96, 46, 45, 184, 0, 223, 54, 6, 44, 42, 21, 5, 4, 96, 46, 182, 0, 225, 54, 7, 44]
abbrev dktL_law_42 : List UInt8 := dkwL_law_42 ++ dktL_law_43
def dkwL_law_41 : List UInt8 := [3, 47, 21, 7, 153, 0, 7, 10, 167, 0, 4, 9, 148, 153, 0, 5, 3, 172, 167, 6, 118, 43, 42]
abbrev dktL_law_41 : List UInt8 := dkwL_law_41 ++ dktL_law_42
def dkwL_law_40 : List UInt8 := [96, 46, 182, 0, 222, 54, 7, 44, 182, 0, 165, 21, 6, 159, 0, 5, 3, 172, 21, 6, 154, 0, 22, 45]
abbrev dktL_law_40 : List UInt8 := dkwL_law_40 ++ dktL_law_41
def dkwL_law_39 : List UInt8 := [46, 42, 21, 5, 5, 96, 46, 45, 184, 0, 220, 54, 6, 44, 42, 21, 5, 4, 96, 46, 42, 21, 5, 5]
abbrev dktL_law_39 : List UInt8 := dkwL_law_39 ++ dktL_law_40
def dkwL_law_38 : List UInt8 := [154, 0, 15, 45, 3, 47, 21, 7, 133, 148, 153, 0, 5, 3, 172, 167, 6, 193, 43, 42, 21, 5, 4, 96]
abbrev dktL_law_38 : List UInt8 := dkwL_law_38 ++ dktL_law_39
def dkwL_law_37 : List UInt8 := [21, 5, 4, 96, 46, 182, 0, 219, 54, 7, 44, 182, 0, 165, 21, 6, 159, 0, 5, 3, 172, 21, 6]
abbrev dktL_law_37 : List UInt8 := dkwL_law_37 ++ dktL_law_38
def dkwL_law_36 : List UInt8 := [182, 0, 216, 159, 6, 251, 3, 172, 43, 42, 21, 5, 4, 96, 46, 45, 184, 0, 217, 54, 6, 44, 42]
abbrev dktL_law_36 : List UInt8 := dkwL_law_36 ++ dktL_law_37
def dkwL_law_35 : List UInt8 := [154, 0, 15, 45, 3, 47, 21, 7, 133, 148, 153, 0, 5, 3, 172, 167, 7, 6, 43, 182, 0, 213, 44]
abbrev dktL_law_35 : List UInt8 := dkwL_law_35 ++ dktL_law_36
def dkwL_law_34 : List UInt8 := [21, 5, 4, 96, 46, 182, 0, 212, 54, 7, 44, 182, 0, 165, 21, 6, 159, 0, 5, 3, 172, 21, 6]
abbrev dktL_law_34 : List UInt8 := dkwL_law_34 ++ dktL_law_35
def dkwL_law_33 : List UInt8 := [148, 153, 0, 5, 3, 172, 167, 7, 62, 43, 42, 21, 5, 4, 96, 46, 45, 184, 0, 210, 54, 6, 44, 42]
abbrev dktL_law_33 : List UInt8 := dkwL_law_33 ++ dktL_law_34
def dkwL_law_32 : List UInt8 := [54, 7, 44, 182, 0, 165, 21, 6, 159, 0, 5, 3, 172, 21, 6, 154, 0, 15, 45, 3, 47, 21, 7, 133]
abbrev dktL_law_32 : List UInt8 := dkwL_law_32 ++ dktL_law_33
def dkwL_law_31 : List UInt8 := [46, 45, 184, 0, 206, 54, 6, 44, 42, 21, 5, 4, 96, 46, 42, 21, 5, 5, 96, 46, 182, 0, 209]
abbrev dktL_law_31 : List UInt8 := dkwL_law_31 ++ dktL_law_32
def dkwL_law_30 : List UInt8 := [21, 7, 133, 148, 153, 0, 5, 3, 172, 167, 7, 130, 43, 42, 21, 5, 4, 96, 46, 42, 21, 5, 5, 96]
abbrev dktL_law_30 : List UInt8 := dkwL_law_30 ++ dktL_law_31
def dkwL_law_29 : List UInt8 := [182, 0, 205, 54, 7, 44, 182, 0, 165, 21, 6, 159, 0, 5, 3, 172, 21, 6, 154, 0, 15, 45, 3, 47]
abbrev dktL_law_29 : List UInt8 := dkwL_law_29 ++ dktL_law_30
def dkwL_law_28 : List UInt8 := [167, 7, 186, 43, 42, 21, 5, 4, 96, 46, 45, 184, 0, 203, 54, 6, 44, 42, 21, 5, 4, 96, 46]
abbrev dktL_law_28 : List UInt8 := dkwL_law_28 ++ dktL_law_29
def dkwL_law_27 : List UInt8 := [159, 0, 5, 3, 172, 21, 6, 154, 0, 15, 45, 3, 47, 21, 7, 133, 148, 153, 0, 5, 3, 172]
abbrev dktL_law_27 : List UInt8 := dkwL_law_27 ++ dktL_law_28
def dkwL_law_26 : List UInt8 := [21, 5, 5, 96, 46, 42, 21, 5, 6, 96, 46, 182, 0, 202, 54, 7, 44, 182, 0, 165, 21, 6]
abbrev dktL_law_26 : List UInt8 := dkwL_law_26 ++ dktL_law_27
def dkwL_law_25 : List UInt8 := [96, 46, 42, 21, 5, 6, 96, 46, 45, 184, 0, 200, 54, 6, 44, 42, 21, 5, 4, 96, 46, 146, 42]
abbrev dktL_law_25 : List UInt8 := dkwL_law_25 ++ dktL_law_26
def dkwL_law_24 : List UInt8 := [21, 7, 133, 148, 153, 0, 5, 3, 172, 167, 8, 12, 43, 42, 21, 5, 4, 96, 46, 146, 42, 21, 5, 5]
abbrev dktL_law_24 : List UInt8 := dkwL_law_24 ++ dktL_law_25
def dkwL_law_23 : List UInt8 := [182, 0, 199, 54, 7, 44, 182, 0, 165, 21, 6, 159, 0, 5, 3, 172, 21, 6, 154, 0, 15, 45, 3, 47]
abbrev dktL_law_23 : List UInt8 := dkwL_law_23 ++ dktL_law_24
def dkwL_law_22 : List UInt8 := [96, 46, 45, 184, 0, 196, 54, 6, 44, 42, 21, 5, 4, 96, 46, 146, 42, 21, 5, 5, 96, 46]
abbrev dktL_law_22 : List UInt8 := dkwL_law_22 ++ dktL_law_23
def dkwL_law_21 : List UInt8 := [21, 7, 133, 148, 153, 0, 5, 3, 172, 167, 8, 82, 43, 42, 21, 5, 4, 96, 46, 146, 42, 21, 5, 5]
abbrev dktL_law_21 : List UInt8 := dkwL_law_21 ++ dktL_law_22
def dkwL_law_20 : List UInt8 := [182, 0, 195, 54, 7, 44, 182, 0, 165, 21, 6, 159, 0, 5, 3, 172, 21, 6, 154, 0, 15, 45, 3, 47]
abbrev dktL_law_20 : List UInt8 := dkwL_law_20 ++ dktL_law_21
def dkwL_law_19 : List UInt8 := [167, 8, 138, 43, 42, 21, 5, 4, 96, 46, 45, 184, 0, 193, 54, 6, 44, 42, 21, 5, 4, 96, 46]
abbrev dktL_law_19 : List UInt8 := dkwL_law_19 ++ dktL_law_20
def dkwL_law_18 : List UInt8 := [21, 6, 159, 0, 5, 3, 172, 21, 6, 154, 0, 15, 45, 3, 47, 21, 7, 133, 148, 153, 0, 5, 3, 172]
abbrev dktL_law_18 : List UInt8 := dkwL_law_18 ++ dktL_law_19
def dkwL_law_17 : List UInt8 := [46, 45, 184, 0, 190, 54, 6, 44, 42, 21, 5, 4, 96, 46, 182, 0, 192, 54, 7, 44, 182, 0, 165]
abbrev dktL_law_17 : List UInt8 := dkwL_law_17 ++ dktL_law_18
def dkwL_law_16 : List UInt8 := [154, 0, 15, 45, 3, 47, 21, 7, 133, 148, 153, 0, 5, 3, 172, 167, 8, 194, 43, 42, 21, 5, 4, 96]
abbrev dktL_law_16 : List UInt8 := dkwL_law_16 ++ dktL_law_17
def dkwL_law_15 : List UInt8 := [21, 5, 4, 96, 46, 182, 0, 189, 54, 7, 44, 182, 0, 165, 21, 6, 159, 0, 5, 3, 172, 21, 6]
abbrev dktL_law_15 : List UInt8 := dkwL_law_15 ++ dktL_law_16
def dkwL_law_14 : List UInt8 := [153, 0, 5, 3, 172, 167, 8, 250, 43, 42, 21, 5, 4, 96, 46, 45, 184, 0, 187, 54, 6, 44, 42]
abbrev dktL_law_14 : List UInt8 := dkwL_law_14 ++ dktL_law_15
def dkwL_law_13 : List UInt8 := [182, 0, 165, 21, 6, 159, 0, 5, 3, 172, 21, 6, 154, 0, 15, 45, 3, 47, 21, 7, 133, 148]
abbrev dktL_law_13 : List UInt8 := dkwL_law_13 ++ dktL_law_14
def dkwL_law_12 : List UInt8 := [21, 5, 4, 96, 46, 45, 184, 0, 184, 54, 6, 44, 42, 21, 5, 4, 96, 46, 182, 0, 186, 54, 7, 44]
abbrev dktL_law_12 : List UInt8 := dkwL_law_12 ++ dktL_law_13
def dkwL_law_11 : List UInt8 := [182, 0, 179, 159, 9, 65, 3, 172, 43, 182, 0, 180, 44, 182, 0, 183, 159, 9, 52, 3, 172, 43, 42]
abbrev dktL_law_11 : List UInt8 := dkwL_law_11 ++ dktL_law_12
def dkwL_law_10 : List UInt8 := [154, 0, 15, 45, 3, 47, 21, 7, 133, 148, 153, 0, 5, 3, 172, 167, 9, 76, 43, 182, 0, 176, 44]
abbrev dktL_law_10 : List UInt8 := dkwL_law_10 ++ dktL_law_11
def dkwL_law_9 : List UInt8 := [184, 0, 172, 54, 6, 44, 182, 0, 175, 54, 7, 44, 182, 0, 165, 21, 6, 159, 0, 5, 3, 172, 21, 6]
abbrev dktL_law_9 : List UInt8 := dkwL_law_9 ++ dktL_law_10
def dkwL_law_8 : List UInt8 := [172, 21, 6, 154, 0, 15, 45, 3, 47, 21, 7, 133, 148, 153, 0, 5, 3, 172, 167, 9, 120, 43, 45]
abbrev dktL_law_8 : List UInt8 := dkwL_law_8 ++ dktL_law_9
def dkwL_law_7 : List UInt8 := [54, 6, 44, 42, 21, 5, 4, 96, 46, 182, 0, 171, 54, 7, 44, 182, 0, 165, 21, 6, 159, 0, 5, 3]
abbrev dktL_law_7 : List UInt8 := dkwL_law_7 ++ dktL_law_8
def dkwL_law_6 : List UInt8 := [21, 7, 133, 148, 153, 0, 5, 3, 172, 167, 9, 176, 43, 42, 21, 5, 4, 96, 46, 45, 184, 0, 168]
abbrev dktL_law_6 : List UInt8 := dkwL_law_6 ++ dktL_law_7
def dkwL_law_5 : List UInt8 := [182, 0, 164, 54, 7, 44, 182, 0, 165, 21, 6, 159, 0, 5, 3, 172, 21, 6, 154, 0, 15, 45, 3, 47]
abbrev dktL_law_5 : List UInt8 := dkwL_law_5 ++ dktL_law_6
def dkwL_law_4 : List UInt8 := [54, 6, 44, 42, 21, 5, 4, 96, 46, 146, 42, 21, 5, 5, 96, 46, 42, 21, 5, 6, 96, 46]
abbrev dktL_law_4 : List UInt8 := dkwL_law_4 ++ dktL_law_5
def dkwL_law_3 : List UInt8 := [43, 42, 21, 5, 4, 96, 46, 146, 42, 21, 5, 5, 96, 46, 42, 21, 5, 6, 96, 46, 45, 184, 0, 159]
abbrev dktL_law_3 : List UInt8 := dkwL_law_3 ++ dktL_law_4
def dkwL_law_2 : List UInt8 := [170, 0, 0, 0, 0, 0, 10, 219, 0, 0, 0, 0, 0, 0, 0, 50, 0, 0, 0, 220, 0, 0, 1, 46, 0, 0, 1, 102, 0, 0, 1, 146, 0, 0, 1, 159, 0, 0, 1, 172, 0, 0, 1, 228, 0, 0, 2, 28, 0, 0, 2, 84, 0, 0, 2, 140, 0, 0, 2, 210, 0, 0, 3, 36, 0, 0, 3, 92, 0, 0, 3, 160, 0, 0, 3, 216, 0, 0, 3, 229, 0, 0, 4, 29, 0, 0, 4, 104, 0, 0, 4, 160, 0, 0, 4, 241, 0, 0, 5, 66, 0, 0, 5, 133, 0, 0, 5, 208, 0, 0, 5, 221, 0, 0, 5, 234, 0, 0, 6, 34, 0, 0, 6, 116, 0, 0, 6, 198, 0, 0, 6, 254, 0, 0, 7, 65, 0, 0, 7, 121, 0, 0, 7, 177, 0, 0, 7, 232, 0, 0, 7, 245, 0, 0, 8, 2, 0, 0, 8, 15, 0, 0, 8, 28, 0, 0, 8, 93, 0, 0, 8, 159, 0, 0, 8, 217, 0, 0, 9, 5, 0, 0, 9, 49, 0, 0, 9, 105, 0, 0, 9, 173, 0, 0, 9, 229, 0, 0, 10, 17, 0, 0, 10, 61, 0, 0, 10, 105, 0, 0, 10, 149, 0, 0, 10, 162, 0, 0, 10, 175]
abbrev dktL_law_2 : List UInt8 := dkwL_law_2 ++ dktL_law_3
def dkwL_law_1 : List UInt8 := [58, 4, 3, 54, 5, 21, 5, 42, 190, 7, 100, 163, 10, 235, 42, 21, 5, 46, 16, 63, 126]
abbrev dktL_law_1 : List UInt8 := dkwL_law_1 ++ dktL_law_2
def dkwL_law_0 : List UInt8 := [187, 0, 8, 89, 183, 0, 155, 76, 187, 0, 156, 89, 183, 0, 158, 77, 4, 188, 11, 78, 4, 188, 7]
abbrev dktL_law_0 : List UInt8 := dkwL_law_0 ++ dktL_law_1
theorem dksL_law_0 : cL_law.data.toList.drop 0 = dktL_law_0 := by decide +kernel
theorem dksL_law_1 : cL_law.data.toList.drop 23 = dktL_law_1 := dk_seg dksL_law_0 23 rfl rfl
theorem dksL_law_2 : cL_law.data.toList.drop 44 = dktL_law_2 := dk_seg dksL_law_1 21 rfl rfl
theorem dksL_law_3 : cL_law.data.toList.drop 264 = dktL_law_3 := dk_seg dksL_law_2 220 rfl rfl
theorem dksL_law_4 : cL_law.data.toList.drop 288 = dktL_law_4 := dk_seg dksL_law_3 24 rfl rfl
theorem dksL_law_5 : cL_law.data.toList.drop 310 = dktL_law_5 := dk_seg dksL_law_4 22 rfl rfl
theorem dksL_law_6 : cL_law.data.toList.drop 334 = dktL_law_6 := dk_seg dksL_law_5 24 rfl rfl
theorem dksL_law_7 : cL_law.data.toList.drop 357 = dktL_law_7 := dk_seg dksL_law_6 23 rfl rfl
theorem dksL_law_8 : cL_law.data.toList.drop 381 = dktL_law_8 := dk_seg dksL_law_7 24 rfl rfl
theorem dksL_law_9 : cL_law.data.toList.drop 404 = dktL_law_9 := dk_seg dksL_law_8 23 rfl rfl
theorem dksL_law_10 : cL_law.data.toList.drop 428 = dktL_law_10 := dk_seg dksL_law_9 24 rfl rfl
theorem dksL_law_11 : cL_law.data.toList.drop 451 = dktL_law_11 := dk_seg dksL_law_10 23 rfl rfl
theorem dksL_law_12 : cL_law.data.toList.drop 474 = dktL_law_12 := dk_seg dksL_law_11 23 rfl rfl
theorem dksL_law_13 : cL_law.data.toList.drop 498 = dktL_law_13 := dk_seg dksL_law_12 24 rfl rfl
theorem dksL_law_14 : cL_law.data.toList.drop 520 = dktL_law_14 := dk_seg dksL_law_13 22 rfl rfl
theorem dksL_law_15 : cL_law.data.toList.drop 543 = dktL_law_15 := dk_seg dksL_law_14 23 rfl rfl
theorem dksL_law_16 : cL_law.data.toList.drop 566 = dktL_law_16 := dk_seg dksL_law_15 23 rfl rfl
theorem dksL_law_17 : cL_law.data.toList.drop 590 = dktL_law_17 := dk_seg dksL_law_16 24 rfl rfl
theorem dksL_law_18 : cL_law.data.toList.drop 613 = dktL_law_18 := dk_seg dksL_law_17 23 rfl rfl
theorem dksL_law_19 : cL_law.data.toList.drop 637 = dktL_law_19 := dk_seg dksL_law_18 24 rfl rfl
theorem dksL_law_20 : cL_law.data.toList.drop 660 = dktL_law_20 := dk_seg dksL_law_19 23 rfl rfl
theorem dksL_law_21 : cL_law.data.toList.drop 684 = dktL_law_21 := dk_seg dksL_law_20 24 rfl rfl
theorem dksL_law_22 : cL_law.data.toList.drop 708 = dktL_law_22 := dk_seg dksL_law_21 24 rfl rfl
theorem dksL_law_23 : cL_law.data.toList.drop 730 = dktL_law_23 := dk_seg dksL_law_22 22 rfl rfl
theorem dksL_law_24 : cL_law.data.toList.drop 754 = dktL_law_24 := dk_seg dksL_law_23 24 rfl rfl
theorem dksL_law_25 : cL_law.data.toList.drop 778 = dktL_law_25 := dk_seg dksL_law_24 24 rfl rfl
theorem dksL_law_26 : cL_law.data.toList.drop 801 = dktL_law_26 := dk_seg dksL_law_25 23 rfl rfl
theorem dksL_law_27 : cL_law.data.toList.drop 823 = dktL_law_27 := dk_seg dksL_law_26 22 rfl rfl
theorem dksL_law_28 : cL_law.data.toList.drop 845 = dktL_law_28 := dk_seg dksL_law_27 22 rfl rfl
theorem dksL_law_29 : cL_law.data.toList.drop 868 = dktL_law_29 := dk_seg dksL_law_28 23 rfl rfl
theorem dksL_law_30 : cL_law.data.toList.drop 892 = dktL_law_30 := dk_seg dksL_law_29 24 rfl rfl
theorem dksL_law_31 : cL_law.data.toList.drop 916 = dktL_law_31 := dk_seg dksL_law_30 24 rfl rfl
theorem dksL_law_32 : cL_law.data.toList.drop 939 = dktL_law_32 := dk_seg dksL_law_31 23 rfl rfl
theorem dksL_law_33 : cL_law.data.toList.drop 963 = dktL_law_33 := dk_seg dksL_law_32 24 rfl rfl
theorem dksL_law_34 : cL_law.data.toList.drop 987 = dktL_law_34 := dk_seg dksL_law_33 24 rfl rfl
theorem dksL_law_35 : cL_law.data.toList.drop 1010 = dktL_law_35 := dk_seg dksL_law_34 23 rfl rfl
theorem dksL_law_36 : cL_law.data.toList.drop 1033 = dktL_law_36 := dk_seg dksL_law_35 23 rfl rfl
theorem dksL_law_37 : cL_law.data.toList.drop 1056 = dktL_law_37 := dk_seg dksL_law_36 23 rfl rfl
theorem dksL_law_38 : cL_law.data.toList.drop 1079 = dktL_law_38 := dk_seg dksL_law_37 23 rfl rfl
theorem dksL_law_39 : cL_law.data.toList.drop 1103 = dktL_law_39 := dk_seg dksL_law_38 24 rfl rfl
theorem dksL_law_40 : cL_law.data.toList.drop 1127 = dktL_law_40 := dk_seg dksL_law_39 24 rfl rfl
theorem dksL_law_41 : cL_law.data.toList.drop 1151 = dktL_law_41 := dk_seg dksL_law_40 24 rfl rfl
theorem dksL_law_42 : cL_law.data.toList.drop 1174 = dktL_law_42 := dk_seg dksL_law_41 23 rfl rfl
theorem dksL_law_43 : cL_law.data.toList.drop 1198 = dktL_law_43 := dk_seg dksL_law_42 24 rfl rfl
theorem dksL_law_44 : cL_law.data.toList.drop 1220 = dktL_law_44 := dk_seg dksL_law_43 22 rfl rfl
theorem dksL_law_45 : cL_law.data.toList.drop 1244 = dktL_law_45 := dk_seg dksL_law_44 24 rfl rfl
theorem dksL_law_46 : cL_law.data.toList.drop 1268 = dktL_law_46 := dk_seg dksL_law_45 24 rfl rfl
theorem dksL_law_47 : cL_law.data.toList.drop 1292 = dktL_law_47 := dk_seg dksL_law_46 24 rfl rfl
theorem dksL_law_48 : cL_law.data.toList.drop 1316 = dktL_law_48 := dk_seg dksL_law_47 24 rfl rfl
theorem dksL_law_49 : cL_law.data.toList.drop 1340 = dktL_law_49 := dk_seg dksL_law_48 24 rfl rfl
theorem dksL_law_50 : cL_law.data.toList.drop 1364 = dktL_law_50 := dk_seg dksL_law_49 24 rfl rfl
theorem dksL_law_51 : cL_law.data.toList.drop 1387 = dktL_law_51 := dk_seg dksL_law_50 23 rfl rfl
theorem dksL_law_52 : cL_law.data.toList.drop 1411 = dktL_law_52 := dk_seg dksL_law_51 24 rfl rfl
theorem dksL_law_53 : cL_law.data.toList.drop 1433 = dktL_law_53 := dk_seg dksL_law_52 22 rfl rfl
theorem dksL_law_54 : cL_law.data.toList.drop 1457 = dktL_law_54 := dk_seg dksL_law_53 24 rfl rfl
theorem dksL_law_55 : cL_law.data.toList.drop 1481 = dktL_law_55 := dk_seg dksL_law_54 24 rfl rfl
theorem dksL_law_56 : cL_law.data.toList.drop 1505 = dktL_law_56 := dk_seg dksL_law_55 24 rfl rfl
theorem dksL_law_57 : cL_law.data.toList.drop 1529 = dktL_law_57 := dk_seg dksL_law_56 24 rfl rfl
theorem dksL_law_58 : cL_law.data.toList.drop 1553 = dktL_law_58 := dk_seg dksL_law_57 24 rfl rfl
theorem dksL_law_59 : cL_law.data.toList.drop 1577 = dktL_law_59 := dk_seg dksL_law_58 24 rfl rfl
theorem dksL_law_60 : cL_law.data.toList.drop 1601 = dktL_law_60 := dk_seg dksL_law_59 24 rfl rfl
theorem dksL_law_61 : cL_law.data.toList.drop 1625 = dktL_law_61 := dk_seg dksL_law_60 24 rfl rfl
theorem dksL_law_62 : cL_law.data.toList.drop 1648 = dktL_law_62 := dk_seg dksL_law_61 23 rfl rfl
theorem dksL_law_63 : cL_law.data.toList.drop 1671 = dktL_law_63 := dk_seg dksL_law_62 23 rfl rfl
theorem dksL_law_64 : cL_law.data.toList.drop 1693 = dktL_law_64 := dk_seg dksL_law_63 22 rfl rfl
theorem dksL_law_65 : cL_law.data.toList.drop 1717 = dktL_law_65 := dk_seg dksL_law_64 24 rfl rfl
theorem dksL_law_66 : cL_law.data.toList.drop 1741 = dktL_law_66 := dk_seg dksL_law_65 24 rfl rfl
theorem dksL_law_67 : cL_law.data.toList.drop 1765 = dktL_law_67 := dk_seg dksL_law_66 24 rfl rfl
theorem dksL_law_68 : cL_law.data.toList.drop 1789 = dktL_law_68 := dk_seg dksL_law_67 24 rfl rfl
theorem dksL_law_69 : cL_law.data.toList.drop 1813 = dktL_law_69 := dk_seg dksL_law_68 24 rfl rfl
theorem dksL_law_70 : cL_law.data.toList.drop 1836 = dktL_law_70 := dk_seg dksL_law_69 23 rfl rfl
theorem dksL_law_71 : cL_law.data.toList.drop 1860 = dktL_law_71 := dk_seg dksL_law_70 24 rfl rfl
theorem dksL_law_72 : cL_law.data.toList.drop 1884 = dktL_law_72 := dk_seg dksL_law_71 24 rfl rfl
theorem dksL_law_73 : cL_law.data.toList.drop 1908 = dktL_law_73 := dk_seg dksL_law_72 24 rfl rfl
theorem dksL_law_74 : cL_law.data.toList.drop 1932 = dktL_law_74 := dk_seg dksL_law_73 24 rfl rfl
theorem dksL_law_75 : cL_law.data.toList.drop 1954 = dktL_law_75 := dk_seg dksL_law_74 22 rfl rfl
theorem dksL_law_76 : cL_law.data.toList.drop 1977 = dktL_law_76 := dk_seg dksL_law_75 23 rfl rfl
theorem dksL_law_77 : cL_law.data.toList.drop 2001 = dktL_law_77 := dk_seg dksL_law_76 24 rfl rfl
theorem dksL_law_78 : cL_law.data.toList.drop 2024 = dktL_law_78 := dk_seg dksL_law_77 23 rfl rfl
theorem dksL_law_79 : cL_law.data.toList.drop 2048 = dktL_law_79 := dk_seg dksL_law_78 24 rfl rfl
theorem dksL_law_80 : cL_law.data.toList.drop 2072 = dktL_law_80 := dk_seg dksL_law_79 24 rfl rfl
theorem dksL_law_81 : cL_law.data.toList.drop 2095 = dktL_law_81 := dk_seg dksL_law_80 23 rfl rfl
theorem dksL_law_82 : cL_law.data.toList.drop 2119 = dktL_law_82 := dk_seg dksL_law_81 24 rfl rfl
theorem dksL_law_83 : cL_law.data.toList.drop 2143 = dktL_law_83 := dk_seg dksL_law_82 24 rfl rfl
theorem dksL_law_84 : cL_law.data.toList.drop 2167 = dktL_law_84 := dk_seg dksL_law_83 24 rfl rfl
theorem dksL_law_85 : cL_law.data.toList.drop 2191 = dktL_law_85 := dk_seg dksL_law_84 24 rfl rfl
theorem dksL_law_86 : cL_law.data.toList.drop 2215 = dktL_law_86 := dk_seg dksL_law_85 24 rfl rfl
theorem dksL_law_87 : cL_law.data.toList.drop 2238 = dktL_law_87 := dk_seg dksL_law_86 23 rfl rfl
theorem dksL_law_88 : cL_law.data.toList.drop 2260 = dktL_law_88 := dk_seg dksL_law_87 22 rfl rfl
theorem dksL_law_89 : cL_law.data.toList.drop 2284 = dktL_law_89 := dk_seg dksL_law_88 24 rfl rfl
theorem dksL_law_90 : cL_law.data.toList.drop 2306 = dktL_law_90 := dk_seg dksL_law_89 22 rfl rfl
theorem dksL_law_91 : cL_law.data.toList.drop 2328 = dktL_law_91 := dk_seg dksL_law_90 22 rfl rfl
theorem dksL_law_92 : cL_law.data.toList.drop 2350 = dktL_law_92 := dk_seg dksL_law_91 22 rfl rfl
theorem dksL_law_93 : cL_law.data.toList.drop 2372 = dktL_law_93 := dk_seg dksL_law_92 22 rfl rfl
theorem dksL_law_94 : cL_law.data.toList.drop 2394 = dktL_law_94 := dk_seg dksL_law_93 22 rfl rfl
theorem dksL_law_95 : cL_law.data.toList.drop 2417 = dktL_law_95 := dk_seg dksL_law_94 23 rfl rfl
theorem dksL_law_96 : cL_law.data.toList.drop 2441 = dktL_law_96 := dk_seg dksL_law_95 24 rfl rfl
theorem dksL_law_97 : cL_law.data.toList.drop 2465 = dktL_law_97 := dk_seg dksL_law_96 24 rfl rfl
theorem dksL_law_98 : cL_law.data.toList.drop 2488 = dktL_law_98 := dk_seg dksL_law_97 23 rfl rfl
theorem dksL_law_99 : cL_law.data.toList.drop 2512 = dktL_law_99 := dk_seg dksL_law_98 24 rfl rfl
theorem dksL_law_100 : cL_law.data.toList.drop 2536 = dktL_law_100 := dk_seg dksL_law_99 24 rfl rfl
theorem dksL_law_101 : cL_law.data.toList.drop 2559 = dktL_law_101 := dk_seg dksL_law_100 23 rfl rfl
theorem dksL_law_102 : cL_law.data.toList.drop 2582 = dktL_law_102 := dk_seg dksL_law_101 23 rfl rfl
theorem dksL_law_103 : cL_law.data.toList.drop 2606 = dktL_law_103 := dk_seg dksL_law_102 24 rfl rfl
theorem dksL_law_104 : cL_law.data.toList.drop 2629 = dktL_law_104 := dk_seg dksL_law_103 23 rfl rfl
theorem dksL_law_105 : cL_law.data.toList.drop 2653 = dktL_law_105 := dk_seg dksL_law_104 24 rfl rfl
theorem dksL_law_106 : cL_law.data.toList.drop 2676 = dktL_law_106 := dk_seg dksL_law_105 23 rfl rfl
theorem dksL_law_107 : cL_law.data.toList.drop 2700 = dktL_law_107 := dk_seg dksL_law_106 24 rfl rfl
theorem dksL_law_108 : cL_law.data.toList.drop 2723 = dktL_law_108 := dk_seg dksL_law_107 23 rfl rfl
theorem dksL_law_109 : cL_law.data.toList.drop 2745 = dktL_law_109 := dk_seg dksL_law_108 22 rfl rfl
theorem dksL_law_110 : cL_law.data.toList.drop 2767 = dktL_law_110 := dk_seg dksL_law_109 22 rfl rfl
theorem dksL_law_111 : cL_law.data.toList.drop 2790 = dktL_law_111 := dk_seg dksL_law_110 23 rfl rfl
theorem dksL_law_112 : cL_law.data.toList.drop 2814 = dktL_law_112 := dk_seg dksL_law_111 24 rfl rfl
theorem dL_law_0 : decode cL_law 0 = .ok (.new 8, 3) := dk_187 0 8 (dk_at dksL_law_0 0 rfl rfl)
theorem dL_law_3 : decode cL_law 3 = .ok (.dup, 1) := dk_89 (dk_at dksL_law_0 3 rfl rfl)
theorem dL_law_4 : decode cL_law 4 = .ok (.invokespecial 155, 3) := dk_183 0 155 (dk_at dksL_law_0 4 rfl rfl)
theorem dL_law_7 : decode cL_law 7 = .ok (.astore_n 1, 1) := dk_76 (dk_at dksL_law_0 7 rfl rfl)
theorem dL_law_8 : decode cL_law 8 = .ok (.new 156, 3) := dk_187 0 156 (dk_at dksL_law_0 8 rfl rfl)
theorem dL_law_11 : decode cL_law 11 = .ok (.dup, 1) := dk_89 (dk_at dksL_law_0 11 rfl rfl)
theorem dL_law_12 : decode cL_law 12 = .ok (.invokespecial 158, 3) := dk_183 0 158 (dk_at dksL_law_0 12 rfl rfl)
theorem dL_law_15 : decode cL_law 15 = .ok (.astore_n 2, 1) := dk_77 (dk_at dksL_law_0 15 rfl rfl)
theorem dL_law_16 : decode cL_law 16 = .ok (.iconst 1, 1) := dk_4 (dk_at dksL_law_0 16 rfl rfl)
theorem dL_law_17 : decode cL_law 17 = .ok (.newarray .long, 2) := dk_188_11 (dk_at dksL_law_0 17 rfl rfl)
theorem dL_law_19 : decode cL_law 19 = .ok (.astore_n 3, 1) := dk_78 (dk_at dksL_law_0 19 rfl rfl)
theorem dL_law_20 : decode cL_law 20 = .ok (.iconst 1, 1) := dk_4 (dk_at dksL_law_0 20 rfl rfl)
theorem dL_law_21 : decode cL_law 21 = .ok (.newarray .double, 2) := dk_188_7 (dk_at dksL_law_0 21 rfl rfl)
theorem dL_law_23 : decode cL_law 23 = .ok (.astore 4, 2) := dk_58 4 (dk_at dksL_law_1 0 rfl rfl)
theorem dL_law_25 : decode cL_law 25 = .ok (.iconst 0, 1) := dk_3 (dk_at dksL_law_1 2 rfl rfl)
theorem dL_law_26 : decode cL_law 26 = .ok (.istore 5, 2) := dk_54 5 (dk_at dksL_law_1 3 rfl rfl)
theorem dL_law_28 : decode cL_law 28 = .ok (.iload 5, 2) := dk_21 5 (dk_at dksL_law_1 5 rfl rfl)
theorem dL_law_30 : decode cL_law 30 = .ok (.aload_n 0, 1) := dk_42 (dk_at dksL_law_1 7 rfl rfl)
theorem dL_law_31 : decode cL_law 31 = .ok (.arraylength, 1) := dk_190 (dk_at dksL_law_1 8 rfl rfl)
theorem dL_law_32 : decode cL_law 32 = .ok (.iconst 4, 1) := dk_7 (dk_at dksL_law_1 9 rfl rfl)
theorem dL_law_33 : decode cL_law 33 = .ok (.isub, 1) := dk_100 (dk_at dksL_law_1 10 rfl rfl)
theorem dL_law_34 : decode cL_law 34 = .ok (.if_icmp .gt 2795, 3) := dk_163 10 235 (dk_at dksL_law_1 11 rfl rfl)
theorem dL_law_37 : decode cL_law 37 = .ok (.aload_n 0, 1) := dk_42 (dk_at dksL_law_1 14 rfl rfl)
theorem dL_law_38 : decode cL_law 38 = .ok (.iload 5, 2) := dk_21 5 (dk_at dksL_law_1 15 rfl rfl)
theorem dL_law_40 : decode cL_law 40 = .ok (.iaload, 1) := dk_46 (dk_at dksL_law_1 17 rfl rfl)
theorem dL_law_41 : decode cL_law 41 = .ok (.bipush 63, 2) := dk_16 63 (dk_at dksL_law_1 18 rfl rfl)
theorem dL_law_43 : decode cL_law 43 = .ok (.iand, 1) := dk_126 (dk_at dksL_law_1 20 rfl rfl)
theorem dL_law_44 : decode cL_law 44 = .ok (.tableswitch 2779 0 50 #[220, 302, 358, 402, 415, 428, 484, 540, 596, 652, 722, 804, 860, 928, 984, 997, 1053, 1128, 1184, 1265, 1346, 1413, 1488, 1501, 1514, 1570, 1652, 1734, 1790, 1857, 1913, 1969, 2024, 2037, 2050, 2063, 2076, 2141, 2207, 2265, 2309, 2353, 2409, 2477, 2533, 2577, 2621, 2665, 2709, 2722, 2735], 220) := by decide +kernel
theorem dL_law_264 : decode cL_law 264 = .ok (.aload_n 1, 1) := dk_43 (dk_at dksL_law_3 0 rfl rfl)
theorem dL_law_265 : decode cL_law 265 = .ok (.aload_n 0, 1) := dk_42 (dk_at dksL_law_3 1 rfl rfl)
theorem dL_law_266 : decode cL_law 266 = .ok (.iload 5, 2) := dk_21 5 (dk_at dksL_law_3 2 rfl rfl)
theorem dL_law_268 : decode cL_law 268 = .ok (.iconst 1, 1) := dk_4 (dk_at dksL_law_3 4 rfl rfl)
theorem dL_law_269 : decode cL_law 269 = .ok (.iadd, 1) := dk_96 (dk_at dksL_law_3 5 rfl rfl)
theorem dL_law_270 : decode cL_law 270 = .ok (.iaload, 1) := dk_46 (dk_at dksL_law_3 6 rfl rfl)
theorem dL_law_271 : decode cL_law 271 = .ok (.i2c, 1) := dk_146 (dk_at dksL_law_3 7 rfl rfl)
theorem dL_law_272 : decode cL_law 272 = .ok (.aload_n 0, 1) := dk_42 (dk_at dksL_law_3 8 rfl rfl)
theorem dL_law_273 : decode cL_law 273 = .ok (.iload 5, 2) := dk_21 5 (dk_at dksL_law_3 9 rfl rfl)
theorem dL_law_275 : decode cL_law 275 = .ok (.iconst 2, 1) := dk_5 (dk_at dksL_law_3 11 rfl rfl)
theorem dL_law_276 : decode cL_law 276 = .ok (.iadd, 1) := dk_96 (dk_at dksL_law_3 12 rfl rfl)
theorem dL_law_277 : decode cL_law 277 = .ok (.iaload, 1) := dk_46 (dk_at dksL_law_3 13 rfl rfl)
theorem dL_law_278 : decode cL_law 278 = .ok (.aload_n 0, 1) := dk_42 (dk_at dksL_law_3 14 rfl rfl)
theorem dL_law_279 : decode cL_law 279 = .ok (.iload 5, 2) := dk_21 5 (dk_at dksL_law_3 15 rfl rfl)
theorem dL_law_281 : decode cL_law 281 = .ok (.iconst 3, 1) := dk_6 (dk_at dksL_law_3 17 rfl rfl)
theorem dL_law_282 : decode cL_law 282 = .ok (.iadd, 1) := dk_96 (dk_at dksL_law_3 18 rfl rfl)
theorem dL_law_283 : decode cL_law 283 = .ok (.iaload, 1) := dk_46 (dk_at dksL_law_3 19 rfl rfl)
theorem dL_law_284 : decode cL_law 284 = .ok (.aload_n 3, 1) := dk_45 (dk_at dksL_law_3 20 rfl rfl)
theorem dL_law_285 : decode cL_law 285 = .ok (.invokestatic 159, 3) := dk_184 0 159 (dk_at dksL_law_3 21 rfl rfl)
theorem dL_law_288 : decode cL_law 288 = .ok (.istore 6, 2) := dk_54 6 (dk_at dksL_law_4 0 rfl rfl)
theorem dL_law_290 : decode cL_law 290 = .ok (.aload_n 2, 1) := dk_44 (dk_at dksL_law_4 2 rfl rfl)
theorem dL_law_291 : decode cL_law 291 = .ok (.aload_n 0, 1) := dk_42 (dk_at dksL_law_4 3 rfl rfl)
theorem dL_law_292 : decode cL_law 292 = .ok (.iload 5, 2) := dk_21 5 (dk_at dksL_law_4 4 rfl rfl)
theorem dL_law_294 : decode cL_law 294 = .ok (.iconst 1, 1) := dk_4 (dk_at dksL_law_4 6 rfl rfl)
theorem dL_law_295 : decode cL_law 295 = .ok (.iadd, 1) := dk_96 (dk_at dksL_law_4 7 rfl rfl)
theorem dL_law_296 : decode cL_law 296 = .ok (.iaload, 1) := dk_46 (dk_at dksL_law_4 8 rfl rfl)
theorem dL_law_297 : decode cL_law 297 = .ok (.i2c, 1) := dk_146 (dk_at dksL_law_4 9 rfl rfl)
theorem dL_law_298 : decode cL_law 298 = .ok (.aload_n 0, 1) := dk_42 (dk_at dksL_law_4 10 rfl rfl)
theorem dL_law_299 : decode cL_law 299 = .ok (.iload 5, 2) := dk_21 5 (dk_at dksL_law_4 11 rfl rfl)
theorem dL_law_301 : decode cL_law 301 = .ok (.iconst 2, 1) := dk_5 (dk_at dksL_law_4 13 rfl rfl)
theorem dL_law_302 : decode cL_law 302 = .ok (.iadd, 1) := dk_96 (dk_at dksL_law_4 14 rfl rfl)
theorem dL_law_303 : decode cL_law 303 = .ok (.iaload, 1) := dk_46 (dk_at dksL_law_4 15 rfl rfl)
theorem dL_law_304 : decode cL_law 304 = .ok (.aload_n 0, 1) := dk_42 (dk_at dksL_law_4 16 rfl rfl)
theorem dL_law_305 : decode cL_law 305 = .ok (.iload 5, 2) := dk_21 5 (dk_at dksL_law_4 17 rfl rfl)
theorem dL_law_307 : decode cL_law 307 = .ok (.iconst 3, 1) := dk_6 (dk_at dksL_law_4 19 rfl rfl)
theorem dL_law_308 : decode cL_law 308 = .ok (.iadd, 1) := dk_96 (dk_at dksL_law_4 20 rfl rfl)
theorem dL_law_309 : decode cL_law 309 = .ok (.iaload, 1) := dk_46 (dk_at dksL_law_4 21 rfl rfl)
theorem dL_law_310 : decode cL_law 310 = .ok (.invokevirtual 164, 3) := dk_182 0 164 (dk_at dksL_law_5 0 rfl rfl)
theorem dL_law_313 : decode cL_law 313 = .ok (.istore 7, 2) := dk_54 7 (dk_at dksL_law_5 3 rfl rfl)
theorem dL_law_315 : decode cL_law 315 = .ok (.aload_n 2, 1) := dk_44 (dk_at dksL_law_5 5 rfl rfl)
theorem dL_law_316 : decode cL_law 316 = .ok (.invokevirtual 165, 3) := dk_182 0 165 (dk_at dksL_law_5 6 rfl rfl)
theorem dL_law_319 : decode cL_law 319 = .ok (.iload 6, 2) := dk_21 6 (dk_at dksL_law_5 9 rfl rfl)
theorem dL_law_321 : decode cL_law 321 = .ok (.if_icmp .eq 5, 3) := dk_159 0 5 (dk_at dksL_law_5 11 rfl rfl)
theorem dL_law_324 : decode cL_law 324 = .ok (.iconst 0, 1) := dk_3 (dk_at dksL_law_5 14 rfl rfl)
theorem dL_law_325 : decode cL_law 325 = .ok (.ireturn, 1) := dk_172 (dk_at dksL_law_5 15 rfl rfl)
theorem dL_law_326 : decode cL_law 326 = .ok (.iload 6, 2) := dk_21 6 (dk_at dksL_law_5 16 rfl rfl)
theorem dL_law_328 : decode cL_law 328 = .ok (.ifCond .ne 15, 3) := dk_154 0 15 (dk_at dksL_law_5 18 rfl rfl)
theorem dL_law_331 : decode cL_law 331 = .ok (.aload_n 3, 1) := dk_45 (dk_at dksL_law_5 21 rfl rfl)
theorem dL_law_332 : decode cL_law 332 = .ok (.iconst 0, 1) := dk_3 (dk_at dksL_law_5 22 rfl rfl)
theorem dL_law_333 : decode cL_law 333 = .ok (.laload, 1) := dk_47 (dk_at dksL_law_5 23 rfl rfl)
theorem dL_law_334 : decode cL_law 334 = .ok (.iload 7, 2) := dk_21 7 (dk_at dksL_law_6 0 rfl rfl)
theorem dL_law_336 : decode cL_law 336 = .ok (.i2l, 1) := dk_133 (dk_at dksL_law_6 2 rfl rfl)
theorem dL_law_337 : decode cL_law 337 = .ok (.lcmp, 1) := dk_148 (dk_at dksL_law_6 3 rfl rfl)
theorem dL_law_338 : decode cL_law 338 = .ok (.ifCond .eq 5, 3) := dk_153 0 5 (dk_at dksL_law_6 4 rfl rfl)
theorem dL_law_341 : decode cL_law 341 = .ok (.iconst 0, 1) := dk_3 (dk_at dksL_law_6 7 rfl rfl)
theorem dL_law_342 : decode cL_law 342 = .ok (.ireturn, 1) := dk_172 (dk_at dksL_law_6 8 rfl rfl)
theorem dL_law_343 : decode cL_law 343 = .ok (.goto 2480, 3) := dk_167 9 176 (dk_at dksL_law_6 9 rfl rfl)
theorem dL_law_346 : decode cL_law 346 = .ok (.aload_n 1, 1) := dk_43 (dk_at dksL_law_6 12 rfl rfl)
theorem dL_law_347 : decode cL_law 347 = .ok (.aload_n 0, 1) := dk_42 (dk_at dksL_law_6 13 rfl rfl)
theorem dL_law_348 : decode cL_law 348 = .ok (.iload 5, 2) := dk_21 5 (dk_at dksL_law_6 14 rfl rfl)
theorem dL_law_350 : decode cL_law 350 = .ok (.iconst 1, 1) := dk_4 (dk_at dksL_law_6 16 rfl rfl)
theorem dL_law_351 : decode cL_law 351 = .ok (.iadd, 1) := dk_96 (dk_at dksL_law_6 17 rfl rfl)
theorem dL_law_352 : decode cL_law 352 = .ok (.iaload, 1) := dk_46 (dk_at dksL_law_6 18 rfl rfl)
theorem dL_law_353 : decode cL_law 353 = .ok (.aload_n 3, 1) := dk_45 (dk_at dksL_law_6 19 rfl rfl)
theorem dL_law_354 : decode cL_law 354 = .ok (.invokestatic 168, 3) := dk_184 0 168 (dk_at dksL_law_6 20 rfl rfl)
theorem dL_law_357 : decode cL_law 357 = .ok (.istore 6, 2) := dk_54 6 (dk_at dksL_law_7 0 rfl rfl)
theorem dL_law_359 : decode cL_law 359 = .ok (.aload_n 2, 1) := dk_44 (dk_at dksL_law_7 2 rfl rfl)
theorem dL_law_360 : decode cL_law 360 = .ok (.aload_n 0, 1) := dk_42 (dk_at dksL_law_7 3 rfl rfl)
theorem dL_law_361 : decode cL_law 361 = .ok (.iload 5, 2) := dk_21 5 (dk_at dksL_law_7 4 rfl rfl)
theorem dL_law_363 : decode cL_law 363 = .ok (.iconst 1, 1) := dk_4 (dk_at dksL_law_7 6 rfl rfl)
theorem dL_law_364 : decode cL_law 364 = .ok (.iadd, 1) := dk_96 (dk_at dksL_law_7 7 rfl rfl)
theorem dL_law_365 : decode cL_law 365 = .ok (.iaload, 1) := dk_46 (dk_at dksL_law_7 8 rfl rfl)
theorem dL_law_366 : decode cL_law 366 = .ok (.invokevirtual 171, 3) := dk_182 0 171 (dk_at dksL_law_7 9 rfl rfl)
theorem dL_law_369 : decode cL_law 369 = .ok (.istore 7, 2) := dk_54 7 (dk_at dksL_law_7 12 rfl rfl)
theorem dL_law_371 : decode cL_law 371 = .ok (.aload_n 2, 1) := dk_44 (dk_at dksL_law_7 14 rfl rfl)
theorem dL_law_372 : decode cL_law 372 = .ok (.invokevirtual 165, 3) := dk_182 0 165 (dk_at dksL_law_7 15 rfl rfl)
theorem dL_law_375 : decode cL_law 375 = .ok (.iload 6, 2) := dk_21 6 (dk_at dksL_law_7 18 rfl rfl)
theorem dL_law_377 : decode cL_law 377 = .ok (.if_icmp .eq 5, 3) := dk_159 0 5 (dk_at dksL_law_7 20 rfl rfl)
theorem dL_law_380 : decode cL_law 380 = .ok (.iconst 0, 1) := dk_3 (dk_at dksL_law_7 23 rfl rfl)
theorem dL_law_381 : decode cL_law 381 = .ok (.ireturn, 1) := dk_172 (dk_at dksL_law_8 0 rfl rfl)
theorem dL_law_382 : decode cL_law 382 = .ok (.iload 6, 2) := dk_21 6 (dk_at dksL_law_8 1 rfl rfl)
theorem dL_law_384 : decode cL_law 384 = .ok (.ifCond .ne 15, 3) := dk_154 0 15 (dk_at dksL_law_8 3 rfl rfl)
theorem dL_law_387 : decode cL_law 387 = .ok (.aload_n 3, 1) := dk_45 (dk_at dksL_law_8 6 rfl rfl)
theorem dL_law_388 : decode cL_law 388 = .ok (.iconst 0, 1) := dk_3 (dk_at dksL_law_8 7 rfl rfl)
theorem dL_law_389 : decode cL_law 389 = .ok (.laload, 1) := dk_47 (dk_at dksL_law_8 8 rfl rfl)
theorem dL_law_390 : decode cL_law 390 = .ok (.iload 7, 2) := dk_21 7 (dk_at dksL_law_8 9 rfl rfl)
theorem dL_law_392 : decode cL_law 392 = .ok (.i2l, 1) := dk_133 (dk_at dksL_law_8 11 rfl rfl)
theorem dL_law_393 : decode cL_law 393 = .ok (.lcmp, 1) := dk_148 (dk_at dksL_law_8 12 rfl rfl)
theorem dL_law_394 : decode cL_law 394 = .ok (.ifCond .eq 5, 3) := dk_153 0 5 (dk_at dksL_law_8 13 rfl rfl)
theorem dL_law_397 : decode cL_law 397 = .ok (.iconst 0, 1) := dk_3 (dk_at dksL_law_8 16 rfl rfl)
theorem dL_law_398 : decode cL_law 398 = .ok (.ireturn, 1) := dk_172 (dk_at dksL_law_8 17 rfl rfl)
theorem dL_law_399 : decode cL_law 399 = .ok (.goto 2424, 3) := dk_167 9 120 (dk_at dksL_law_8 18 rfl rfl)
theorem dL_law_402 : decode cL_law 402 = .ok (.aload_n 1, 1) := dk_43 (dk_at dksL_law_8 21 rfl rfl)
theorem dL_law_403 : decode cL_law 403 = .ok (.aload_n 3, 1) := dk_45 (dk_at dksL_law_8 22 rfl rfl)
theorem dL_law_404 : decode cL_law 404 = .ok (.invokestatic 172, 3) := dk_184 0 172 (dk_at dksL_law_9 0 rfl rfl)
theorem dL_law_407 : decode cL_law 407 = .ok (.istore 6, 2) := dk_54 6 (dk_at dksL_law_9 3 rfl rfl)
theorem dL_law_409 : decode cL_law 409 = .ok (.aload_n 2, 1) := dk_44 (dk_at dksL_law_9 5 rfl rfl)
theorem dL_law_410 : decode cL_law 410 = .ok (.invokevirtual 175, 3) := dk_182 0 175 (dk_at dksL_law_9 6 rfl rfl)
theorem dL_law_413 : decode cL_law 413 = .ok (.istore 7, 2) := dk_54 7 (dk_at dksL_law_9 9 rfl rfl)
theorem dL_law_415 : decode cL_law 415 = .ok (.aload_n 2, 1) := dk_44 (dk_at dksL_law_9 11 rfl rfl)
theorem dL_law_416 : decode cL_law 416 = .ok (.invokevirtual 165, 3) := dk_182 0 165 (dk_at dksL_law_9 12 rfl rfl)
theorem dL_law_419 : decode cL_law 419 = .ok (.iload 6, 2) := dk_21 6 (dk_at dksL_law_9 15 rfl rfl)
theorem dL_law_421 : decode cL_law 421 = .ok (.if_icmp .eq 5, 3) := dk_159 0 5 (dk_at dksL_law_9 17 rfl rfl)
theorem dL_law_424 : decode cL_law 424 = .ok (.iconst 0, 1) := dk_3 (dk_at dksL_law_9 20 rfl rfl)
theorem dL_law_425 : decode cL_law 425 = .ok (.ireturn, 1) := dk_172 (dk_at dksL_law_9 21 rfl rfl)
theorem dL_law_426 : decode cL_law 426 = .ok (.iload 6, 2) := dk_21 6 (dk_at dksL_law_9 22 rfl rfl)
theorem dL_law_428 : decode cL_law 428 = .ok (.ifCond .ne 15, 3) := dk_154 0 15 (dk_at dksL_law_10 0 rfl rfl)
theorem dL_law_431 : decode cL_law 431 = .ok (.aload_n 3, 1) := dk_45 (dk_at dksL_law_10 3 rfl rfl)
theorem dL_law_432 : decode cL_law 432 = .ok (.iconst 0, 1) := dk_3 (dk_at dksL_law_10 4 rfl rfl)
theorem dL_law_433 : decode cL_law 433 = .ok (.laload, 1) := dk_47 (dk_at dksL_law_10 5 rfl rfl)
theorem dL_law_434 : decode cL_law 434 = .ok (.iload 7, 2) := dk_21 7 (dk_at dksL_law_10 6 rfl rfl)
theorem dL_law_436 : decode cL_law 436 = .ok (.i2l, 1) := dk_133 (dk_at dksL_law_10 8 rfl rfl)
theorem dL_law_437 : decode cL_law 437 = .ok (.lcmp, 1) := dk_148 (dk_at dksL_law_10 9 rfl rfl)
theorem dL_law_438 : decode cL_law 438 = .ok (.ifCond .eq 5, 3) := dk_153 0 5 (dk_at dksL_law_10 10 rfl rfl)
theorem dL_law_441 : decode cL_law 441 = .ok (.iconst 0, 1) := dk_3 (dk_at dksL_law_10 13 rfl rfl)
theorem dL_law_442 : decode cL_law 442 = .ok (.ireturn, 1) := dk_172 (dk_at dksL_law_10 14 rfl rfl)
theorem dL_law_443 : decode cL_law 443 = .ok (.goto 2380, 3) := dk_167 9 76 (dk_at dksL_law_10 15 rfl rfl)
theorem dL_law_446 : decode cL_law 446 = .ok (.aload_n 1, 1) := dk_43 (dk_at dksL_law_10 18 rfl rfl)
theorem dL_law_447 : decode cL_law 447 = .ok (.invokevirtual 176, 3) := dk_182 0 176 (dk_at dksL_law_10 19 rfl rfl)
theorem dL_law_450 : decode cL_law 450 = .ok (.aload_n 2, 1) := dk_44 (dk_at dksL_law_10 22 rfl rfl)
theorem dL_law_451 : decode cL_law 451 = .ok (.invokevirtual 179, 3) := dk_182 0 179 (dk_at dksL_law_11 0 rfl rfl)
theorem dL_law_454 : decode cL_law 454 = .ok (.if_icmp .eq 2369, 3) := dk_159 9 65 (dk_at dksL_law_11 3 rfl rfl)
theorem dL_law_457 : decode cL_law 457 = .ok (.iconst 0, 1) := dk_3 (dk_at dksL_law_11 6 rfl rfl)
theorem dL_law_458 : decode cL_law 458 = .ok (.ireturn, 1) := dk_172 (dk_at dksL_law_11 7 rfl rfl)
theorem dL_law_459 : decode cL_law 459 = .ok (.aload_n 1, 1) := dk_43 (dk_at dksL_law_11 8 rfl rfl)
theorem dL_law_460 : decode cL_law 460 = .ok (.invokevirtual 180, 3) := dk_182 0 180 (dk_at dksL_law_11 9 rfl rfl)
theorem dL_law_463 : decode cL_law 463 = .ok (.aload_n 2, 1) := dk_44 (dk_at dksL_law_11 12 rfl rfl)
theorem dL_law_464 : decode cL_law 464 = .ok (.invokevirtual 183, 3) := dk_182 0 183 (dk_at dksL_law_11 13 rfl rfl)
theorem dL_law_467 : decode cL_law 467 = .ok (.if_icmp .eq 2356, 3) := dk_159 9 52 (dk_at dksL_law_11 16 rfl rfl)
theorem dL_law_470 : decode cL_law 470 = .ok (.iconst 0, 1) := dk_3 (dk_at dksL_law_11 19 rfl rfl)
theorem dL_law_471 : decode cL_law 471 = .ok (.ireturn, 1) := dk_172 (dk_at dksL_law_11 20 rfl rfl)
theorem dL_law_472 : decode cL_law 472 = .ok (.aload_n 1, 1) := dk_43 (dk_at dksL_law_11 21 rfl rfl)
theorem dL_law_473 : decode cL_law 473 = .ok (.aload_n 0, 1) := dk_42 (dk_at dksL_law_11 22 rfl rfl)
theorem dL_law_474 : decode cL_law 474 = .ok (.iload 5, 2) := dk_21 5 (dk_at dksL_law_12 0 rfl rfl)
theorem dL_law_476 : decode cL_law 476 = .ok (.iconst 1, 1) := dk_4 (dk_at dksL_law_12 2 rfl rfl)
theorem dL_law_477 : decode cL_law 477 = .ok (.iadd, 1) := dk_96 (dk_at dksL_law_12 3 rfl rfl)
theorem dL_law_478 : decode cL_law 478 = .ok (.iaload, 1) := dk_46 (dk_at dksL_law_12 4 rfl rfl)
theorem dL_law_479 : decode cL_law 479 = .ok (.aload_n 3, 1) := dk_45 (dk_at dksL_law_12 5 rfl rfl)
theorem dL_law_480 : decode cL_law 480 = .ok (.invokestatic 184, 3) := dk_184 0 184 (dk_at dksL_law_12 6 rfl rfl)
theorem dL_law_483 : decode cL_law 483 = .ok (.istore 6, 2) := dk_54 6 (dk_at dksL_law_12 9 rfl rfl)
theorem dL_law_485 : decode cL_law 485 = .ok (.aload_n 2, 1) := dk_44 (dk_at dksL_law_12 11 rfl rfl)
theorem dL_law_486 : decode cL_law 486 = .ok (.aload_n 0, 1) := dk_42 (dk_at dksL_law_12 12 rfl rfl)
theorem dL_law_487 : decode cL_law 487 = .ok (.iload 5, 2) := dk_21 5 (dk_at dksL_law_12 13 rfl rfl)
theorem dL_law_489 : decode cL_law 489 = .ok (.iconst 1, 1) := dk_4 (dk_at dksL_law_12 15 rfl rfl)
theorem dL_law_490 : decode cL_law 490 = .ok (.iadd, 1) := dk_96 (dk_at dksL_law_12 16 rfl rfl)
theorem dL_law_491 : decode cL_law 491 = .ok (.iaload, 1) := dk_46 (dk_at dksL_law_12 17 rfl rfl)
theorem dL_law_492 : decode cL_law 492 = .ok (.invokevirtual 186, 3) := dk_182 0 186 (dk_at dksL_law_12 18 rfl rfl)
theorem dL_law_495 : decode cL_law 495 = .ok (.istore 7, 2) := dk_54 7 (dk_at dksL_law_12 21 rfl rfl)
theorem dL_law_497 : decode cL_law 497 = .ok (.aload_n 2, 1) := dk_44 (dk_at dksL_law_12 23 rfl rfl)
theorem dL_law_498 : decode cL_law 498 = .ok (.invokevirtual 165, 3) := dk_182 0 165 (dk_at dksL_law_13 0 rfl rfl)
theorem dL_law_501 : decode cL_law 501 = .ok (.iload 6, 2) := dk_21 6 (dk_at dksL_law_13 3 rfl rfl)
theorem dL_law_503 : decode cL_law 503 = .ok (.if_icmp .eq 5, 3) := dk_159 0 5 (dk_at dksL_law_13 5 rfl rfl)
theorem dL_law_506 : decode cL_law 506 = .ok (.iconst 0, 1) := dk_3 (dk_at dksL_law_13 8 rfl rfl)
theorem dL_law_507 : decode cL_law 507 = .ok (.ireturn, 1) := dk_172 (dk_at dksL_law_13 9 rfl rfl)
theorem dL_law_508 : decode cL_law 508 = .ok (.iload 6, 2) := dk_21 6 (dk_at dksL_law_13 10 rfl rfl)
theorem dL_law_510 : decode cL_law 510 = .ok (.ifCond .ne 15, 3) := dk_154 0 15 (dk_at dksL_law_13 12 rfl rfl)
theorem dL_law_513 : decode cL_law 513 = .ok (.aload_n 3, 1) := dk_45 (dk_at dksL_law_13 15 rfl rfl)
theorem dL_law_514 : decode cL_law 514 = .ok (.iconst 0, 1) := dk_3 (dk_at dksL_law_13 16 rfl rfl)
theorem dL_law_515 : decode cL_law 515 = .ok (.laload, 1) := dk_47 (dk_at dksL_law_13 17 rfl rfl)
theorem dL_law_516 : decode cL_law 516 = .ok (.iload 7, 2) := dk_21 7 (dk_at dksL_law_13 18 rfl rfl)
theorem dL_law_518 : decode cL_law 518 = .ok (.i2l, 1) := dk_133 (dk_at dksL_law_13 20 rfl rfl)
theorem dL_law_519 : decode cL_law 519 = .ok (.lcmp, 1) := dk_148 (dk_at dksL_law_13 21 rfl rfl)
theorem dL_law_520 : decode cL_law 520 = .ok (.ifCond .eq 5, 3) := dk_153 0 5 (dk_at dksL_law_14 0 rfl rfl)
theorem dL_law_523 : decode cL_law 523 = .ok (.iconst 0, 1) := dk_3 (dk_at dksL_law_14 3 rfl rfl)
theorem dL_law_524 : decode cL_law 524 = .ok (.ireturn, 1) := dk_172 (dk_at dksL_law_14 4 rfl rfl)
theorem dL_law_525 : decode cL_law 525 = .ok (.goto 2298, 3) := dk_167 8 250 (dk_at dksL_law_14 5 rfl rfl)
theorem dL_law_528 : decode cL_law 528 = .ok (.aload_n 1, 1) := dk_43 (dk_at dksL_law_14 8 rfl rfl)
theorem dL_law_529 : decode cL_law 529 = .ok (.aload_n 0, 1) := dk_42 (dk_at dksL_law_14 9 rfl rfl)
theorem dL_law_530 : decode cL_law 530 = .ok (.iload 5, 2) := dk_21 5 (dk_at dksL_law_14 10 rfl rfl)
theorem dL_law_532 : decode cL_law 532 = .ok (.iconst 1, 1) := dk_4 (dk_at dksL_law_14 12 rfl rfl)
theorem dL_law_533 : decode cL_law 533 = .ok (.iadd, 1) := dk_96 (dk_at dksL_law_14 13 rfl rfl)
theorem dL_law_534 : decode cL_law 534 = .ok (.iaload, 1) := dk_46 (dk_at dksL_law_14 14 rfl rfl)
theorem dL_law_535 : decode cL_law 535 = .ok (.aload_n 3, 1) := dk_45 (dk_at dksL_law_14 15 rfl rfl)
theorem dL_law_536 : decode cL_law 536 = .ok (.invokestatic 187, 3) := dk_184 0 187 (dk_at dksL_law_14 16 rfl rfl)
theorem dL_law_539 : decode cL_law 539 = .ok (.istore 6, 2) := dk_54 6 (dk_at dksL_law_14 19 rfl rfl)
theorem dL_law_541 : decode cL_law 541 = .ok (.aload_n 2, 1) := dk_44 (dk_at dksL_law_14 21 rfl rfl)
theorem dL_law_542 : decode cL_law 542 = .ok (.aload_n 0, 1) := dk_42 (dk_at dksL_law_14 22 rfl rfl)
theorem dL_law_543 : decode cL_law 543 = .ok (.iload 5, 2) := dk_21 5 (dk_at dksL_law_15 0 rfl rfl)
theorem dL_law_545 : decode cL_law 545 = .ok (.iconst 1, 1) := dk_4 (dk_at dksL_law_15 2 rfl rfl)
theorem dL_law_546 : decode cL_law 546 = .ok (.iadd, 1) := dk_96 (dk_at dksL_law_15 3 rfl rfl)
theorem dL_law_547 : decode cL_law 547 = .ok (.iaload, 1) := dk_46 (dk_at dksL_law_15 4 rfl rfl)
theorem dL_law_548 : decode cL_law 548 = .ok (.invokevirtual 189, 3) := dk_182 0 189 (dk_at dksL_law_15 5 rfl rfl)
theorem dL_law_551 : decode cL_law 551 = .ok (.istore 7, 2) := dk_54 7 (dk_at dksL_law_15 8 rfl rfl)
theorem dL_law_553 : decode cL_law 553 = .ok (.aload_n 2, 1) := dk_44 (dk_at dksL_law_15 10 rfl rfl)
theorem dL_law_554 : decode cL_law 554 = .ok (.invokevirtual 165, 3) := dk_182 0 165 (dk_at dksL_law_15 11 rfl rfl)
theorem dL_law_557 : decode cL_law 557 = .ok (.iload 6, 2) := dk_21 6 (dk_at dksL_law_15 14 rfl rfl)
theorem dL_law_559 : decode cL_law 559 = .ok (.if_icmp .eq 5, 3) := dk_159 0 5 (dk_at dksL_law_15 16 rfl rfl)
theorem dL_law_562 : decode cL_law 562 = .ok (.iconst 0, 1) := dk_3 (dk_at dksL_law_15 19 rfl rfl)
theorem dL_law_563 : decode cL_law 563 = .ok (.ireturn, 1) := dk_172 (dk_at dksL_law_15 20 rfl rfl)
theorem dL_law_564 : decode cL_law 564 = .ok (.iload 6, 2) := dk_21 6 (dk_at dksL_law_15 21 rfl rfl)
theorem dL_law_566 : decode cL_law 566 = .ok (.ifCond .ne 15, 3) := dk_154 0 15 (dk_at dksL_law_16 0 rfl rfl)
theorem dL_law_569 : decode cL_law 569 = .ok (.aload_n 3, 1) := dk_45 (dk_at dksL_law_16 3 rfl rfl)
theorem dL_law_570 : decode cL_law 570 = .ok (.iconst 0, 1) := dk_3 (dk_at dksL_law_16 4 rfl rfl)
theorem dL_law_571 : decode cL_law 571 = .ok (.laload, 1) := dk_47 (dk_at dksL_law_16 5 rfl rfl)
theorem dL_law_572 : decode cL_law 572 = .ok (.iload 7, 2) := dk_21 7 (dk_at dksL_law_16 6 rfl rfl)
theorem dL_law_574 : decode cL_law 574 = .ok (.i2l, 1) := dk_133 (dk_at dksL_law_16 8 rfl rfl)
theorem dL_law_575 : decode cL_law 575 = .ok (.lcmp, 1) := dk_148 (dk_at dksL_law_16 9 rfl rfl)
theorem dL_law_576 : decode cL_law 576 = .ok (.ifCond .eq 5, 3) := dk_153 0 5 (dk_at dksL_law_16 10 rfl rfl)
theorem dL_law_579 : decode cL_law 579 = .ok (.iconst 0, 1) := dk_3 (dk_at dksL_law_16 13 rfl rfl)
theorem dL_law_580 : decode cL_law 580 = .ok (.ireturn, 1) := dk_172 (dk_at dksL_law_16 14 rfl rfl)
theorem dL_law_581 : decode cL_law 581 = .ok (.goto 2242, 3) := dk_167 8 194 (dk_at dksL_law_16 15 rfl rfl)
theorem dL_law_584 : decode cL_law 584 = .ok (.aload_n 1, 1) := dk_43 (dk_at dksL_law_16 18 rfl rfl)
theorem dL_law_585 : decode cL_law 585 = .ok (.aload_n 0, 1) := dk_42 (dk_at dksL_law_16 19 rfl rfl)
theorem dL_law_586 : decode cL_law 586 = .ok (.iload 5, 2) := dk_21 5 (dk_at dksL_law_16 20 rfl rfl)
theorem dL_law_588 : decode cL_law 588 = .ok (.iconst 1, 1) := dk_4 (dk_at dksL_law_16 22 rfl rfl)
theorem dL_law_589 : decode cL_law 589 = .ok (.iadd, 1) := dk_96 (dk_at dksL_law_16 23 rfl rfl)
theorem dL_law_590 : decode cL_law 590 = .ok (.iaload, 1) := dk_46 (dk_at dksL_law_17 0 rfl rfl)
theorem dL_law_591 : decode cL_law 591 = .ok (.aload_n 3, 1) := dk_45 (dk_at dksL_law_17 1 rfl rfl)
theorem dL_law_592 : decode cL_law 592 = .ok (.invokestatic 190, 3) := dk_184 0 190 (dk_at dksL_law_17 2 rfl rfl)
theorem dL_law_595 : decode cL_law 595 = .ok (.istore 6, 2) := dk_54 6 (dk_at dksL_law_17 5 rfl rfl)
theorem dL_law_597 : decode cL_law 597 = .ok (.aload_n 2, 1) := dk_44 (dk_at dksL_law_17 7 rfl rfl)
theorem dL_law_598 : decode cL_law 598 = .ok (.aload_n 0, 1) := dk_42 (dk_at dksL_law_17 8 rfl rfl)
theorem dL_law_599 : decode cL_law 599 = .ok (.iload 5, 2) := dk_21 5 (dk_at dksL_law_17 9 rfl rfl)
theorem dL_law_601 : decode cL_law 601 = .ok (.iconst 1, 1) := dk_4 (dk_at dksL_law_17 11 rfl rfl)
theorem dL_law_602 : decode cL_law 602 = .ok (.iadd, 1) := dk_96 (dk_at dksL_law_17 12 rfl rfl)
theorem dL_law_603 : decode cL_law 603 = .ok (.iaload, 1) := dk_46 (dk_at dksL_law_17 13 rfl rfl)
theorem dL_law_604 : decode cL_law 604 = .ok (.invokevirtual 192, 3) := dk_182 0 192 (dk_at dksL_law_17 14 rfl rfl)
theorem dL_law_607 : decode cL_law 607 = .ok (.istore 7, 2) := dk_54 7 (dk_at dksL_law_17 17 rfl rfl)
theorem dL_law_609 : decode cL_law 609 = .ok (.aload_n 2, 1) := dk_44 (dk_at dksL_law_17 19 rfl rfl)
theorem dL_law_610 : decode cL_law 610 = .ok (.invokevirtual 165, 3) := dk_182 0 165 (dk_at dksL_law_17 20 rfl rfl)
theorem dL_law_613 : decode cL_law 613 = .ok (.iload 6, 2) := dk_21 6 (dk_at dksL_law_18 0 rfl rfl)
theorem dL_law_615 : decode cL_law 615 = .ok (.if_icmp .eq 5, 3) := dk_159 0 5 (dk_at dksL_law_18 2 rfl rfl)
theorem dL_law_618 : decode cL_law 618 = .ok (.iconst 0, 1) := dk_3 (dk_at dksL_law_18 5 rfl rfl)
theorem dL_law_619 : decode cL_law 619 = .ok (.ireturn, 1) := dk_172 (dk_at dksL_law_18 6 rfl rfl)
theorem dL_law_620 : decode cL_law 620 = .ok (.iload 6, 2) := dk_21 6 (dk_at dksL_law_18 7 rfl rfl)
theorem dL_law_622 : decode cL_law 622 = .ok (.ifCond .ne 15, 3) := dk_154 0 15 (dk_at dksL_law_18 9 rfl rfl)
theorem dL_law_625 : decode cL_law 625 = .ok (.aload_n 3, 1) := dk_45 (dk_at dksL_law_18 12 rfl rfl)
theorem dL_law_626 : decode cL_law 626 = .ok (.iconst 0, 1) := dk_3 (dk_at dksL_law_18 13 rfl rfl)
theorem dL_law_627 : decode cL_law 627 = .ok (.laload, 1) := dk_47 (dk_at dksL_law_18 14 rfl rfl)
theorem dL_law_628 : decode cL_law 628 = .ok (.iload 7, 2) := dk_21 7 (dk_at dksL_law_18 15 rfl rfl)
theorem dL_law_630 : decode cL_law 630 = .ok (.i2l, 1) := dk_133 (dk_at dksL_law_18 17 rfl rfl)
theorem dL_law_631 : decode cL_law 631 = .ok (.lcmp, 1) := dk_148 (dk_at dksL_law_18 18 rfl rfl)
theorem dL_law_632 : decode cL_law 632 = .ok (.ifCond .eq 5, 3) := dk_153 0 5 (dk_at dksL_law_18 19 rfl rfl)
theorem dL_law_635 : decode cL_law 635 = .ok (.iconst 0, 1) := dk_3 (dk_at dksL_law_18 22 rfl rfl)
theorem dL_law_636 : decode cL_law 636 = .ok (.ireturn, 1) := dk_172 (dk_at dksL_law_18 23 rfl rfl)
theorem dL_law_637 : decode cL_law 637 = .ok (.goto 2186, 3) := dk_167 8 138 (dk_at dksL_law_19 0 rfl rfl)
theorem dL_law_640 : decode cL_law 640 = .ok (.aload_n 1, 1) := dk_43 (dk_at dksL_law_19 3 rfl rfl)
theorem dL_law_641 : decode cL_law 641 = .ok (.aload_n 0, 1) := dk_42 (dk_at dksL_law_19 4 rfl rfl)
theorem dL_law_642 : decode cL_law 642 = .ok (.iload 5, 2) := dk_21 5 (dk_at dksL_law_19 5 rfl rfl)
theorem dL_law_644 : decode cL_law 644 = .ok (.iconst 1, 1) := dk_4 (dk_at dksL_law_19 7 rfl rfl)
theorem dL_law_645 : decode cL_law 645 = .ok (.iadd, 1) := dk_96 (dk_at dksL_law_19 8 rfl rfl)
theorem dL_law_646 : decode cL_law 646 = .ok (.iaload, 1) := dk_46 (dk_at dksL_law_19 9 rfl rfl)
theorem dL_law_647 : decode cL_law 647 = .ok (.aload_n 3, 1) := dk_45 (dk_at dksL_law_19 10 rfl rfl)
theorem dL_law_648 : decode cL_law 648 = .ok (.invokestatic 193, 3) := dk_184 0 193 (dk_at dksL_law_19 11 rfl rfl)
theorem dL_law_651 : decode cL_law 651 = .ok (.istore 6, 2) := dk_54 6 (dk_at dksL_law_19 14 rfl rfl)
theorem dL_law_653 : decode cL_law 653 = .ok (.aload_n 2, 1) := dk_44 (dk_at dksL_law_19 16 rfl rfl)
theorem dL_law_654 : decode cL_law 654 = .ok (.aload_n 0, 1) := dk_42 (dk_at dksL_law_19 17 rfl rfl)
theorem dL_law_655 : decode cL_law 655 = .ok (.iload 5, 2) := dk_21 5 (dk_at dksL_law_19 18 rfl rfl)
theorem dL_law_657 : decode cL_law 657 = .ok (.iconst 1, 1) := dk_4 (dk_at dksL_law_19 20 rfl rfl)
theorem dL_law_658 : decode cL_law 658 = .ok (.iadd, 1) := dk_96 (dk_at dksL_law_19 21 rfl rfl)
theorem dL_law_659 : decode cL_law 659 = .ok (.iaload, 1) := dk_46 (dk_at dksL_law_19 22 rfl rfl)
theorem dL_law_660 : decode cL_law 660 = .ok (.invokevirtual 195, 3) := dk_182 0 195 (dk_at dksL_law_20 0 rfl rfl)
theorem dL_law_663 : decode cL_law 663 = .ok (.istore 7, 2) := dk_54 7 (dk_at dksL_law_20 3 rfl rfl)
theorem dL_law_665 : decode cL_law 665 = .ok (.aload_n 2, 1) := dk_44 (dk_at dksL_law_20 5 rfl rfl)
theorem dL_law_666 : decode cL_law 666 = .ok (.invokevirtual 165, 3) := dk_182 0 165 (dk_at dksL_law_20 6 rfl rfl)
theorem dL_law_669 : decode cL_law 669 = .ok (.iload 6, 2) := dk_21 6 (dk_at dksL_law_20 9 rfl rfl)
theorem dL_law_671 : decode cL_law 671 = .ok (.if_icmp .eq 5, 3) := dk_159 0 5 (dk_at dksL_law_20 11 rfl rfl)
theorem dL_law_674 : decode cL_law 674 = .ok (.iconst 0, 1) := dk_3 (dk_at dksL_law_20 14 rfl rfl)
theorem dL_law_675 : decode cL_law 675 = .ok (.ireturn, 1) := dk_172 (dk_at dksL_law_20 15 rfl rfl)
theorem dL_law_676 : decode cL_law 676 = .ok (.iload 6, 2) := dk_21 6 (dk_at dksL_law_20 16 rfl rfl)
theorem dL_law_678 : decode cL_law 678 = .ok (.ifCond .ne 15, 3) := dk_154 0 15 (dk_at dksL_law_20 18 rfl rfl)
theorem dL_law_681 : decode cL_law 681 = .ok (.aload_n 3, 1) := dk_45 (dk_at dksL_law_20 21 rfl rfl)
theorem dL_law_682 : decode cL_law 682 = .ok (.iconst 0, 1) := dk_3 (dk_at dksL_law_20 22 rfl rfl)
theorem dL_law_683 : decode cL_law 683 = .ok (.laload, 1) := dk_47 (dk_at dksL_law_20 23 rfl rfl)
theorem dL_law_684 : decode cL_law 684 = .ok (.iload 7, 2) := dk_21 7 (dk_at dksL_law_21 0 rfl rfl)
theorem dL_law_686 : decode cL_law 686 = .ok (.i2l, 1) := dk_133 (dk_at dksL_law_21 2 rfl rfl)
theorem dL_law_687 : decode cL_law 687 = .ok (.lcmp, 1) := dk_148 (dk_at dksL_law_21 3 rfl rfl)
theorem dL_law_688 : decode cL_law 688 = .ok (.ifCond .eq 5, 3) := dk_153 0 5 (dk_at dksL_law_21 4 rfl rfl)
theorem dL_law_691 : decode cL_law 691 = .ok (.iconst 0, 1) := dk_3 (dk_at dksL_law_21 7 rfl rfl)
theorem dL_law_692 : decode cL_law 692 = .ok (.ireturn, 1) := dk_172 (dk_at dksL_law_21 8 rfl rfl)
theorem dL_law_693 : decode cL_law 693 = .ok (.goto 2130, 3) := dk_167 8 82 (dk_at dksL_law_21 9 rfl rfl)
theorem dL_law_696 : decode cL_law 696 = .ok (.aload_n 1, 1) := dk_43 (dk_at dksL_law_21 12 rfl rfl)
theorem dL_law_697 : decode cL_law 697 = .ok (.aload_n 0, 1) := dk_42 (dk_at dksL_law_21 13 rfl rfl)
theorem dL_law_698 : decode cL_law 698 = .ok (.iload 5, 2) := dk_21 5 (dk_at dksL_law_21 14 rfl rfl)
theorem dL_law_700 : decode cL_law 700 = .ok (.iconst 1, 1) := dk_4 (dk_at dksL_law_21 16 rfl rfl)
theorem dL_law_701 : decode cL_law 701 = .ok (.iadd, 1) := dk_96 (dk_at dksL_law_21 17 rfl rfl)
theorem dL_law_702 : decode cL_law 702 = .ok (.iaload, 1) := dk_46 (dk_at dksL_law_21 18 rfl rfl)
theorem dL_law_703 : decode cL_law 703 = .ok (.i2c, 1) := dk_146 (dk_at dksL_law_21 19 rfl rfl)
theorem dL_law_704 : decode cL_law 704 = .ok (.aload_n 0, 1) := dk_42 (dk_at dksL_law_21 20 rfl rfl)
theorem dL_law_705 : decode cL_law 705 = .ok (.iload 5, 2) := dk_21 5 (dk_at dksL_law_21 21 rfl rfl)
theorem dL_law_707 : decode cL_law 707 = .ok (.iconst 2, 1) := dk_5 (dk_at dksL_law_21 23 rfl rfl)
theorem dL_law_708 : decode cL_law 708 = .ok (.iadd, 1) := dk_96 (dk_at dksL_law_22 0 rfl rfl)
theorem dL_law_709 : decode cL_law 709 = .ok (.iaload, 1) := dk_46 (dk_at dksL_law_22 1 rfl rfl)
theorem dL_law_710 : decode cL_law 710 = .ok (.aload_n 3, 1) := dk_45 (dk_at dksL_law_22 2 rfl rfl)
theorem dL_law_711 : decode cL_law 711 = .ok (.invokestatic 196, 3) := dk_184 0 196 (dk_at dksL_law_22 3 rfl rfl)
theorem dL_law_714 : decode cL_law 714 = .ok (.istore 6, 2) := dk_54 6 (dk_at dksL_law_22 6 rfl rfl)
theorem dL_law_716 : decode cL_law 716 = .ok (.aload_n 2, 1) := dk_44 (dk_at dksL_law_22 8 rfl rfl)
theorem dL_law_717 : decode cL_law 717 = .ok (.aload_n 0, 1) := dk_42 (dk_at dksL_law_22 9 rfl rfl)
theorem dL_law_718 : decode cL_law 718 = .ok (.iload 5, 2) := dk_21 5 (dk_at dksL_law_22 10 rfl rfl)
theorem dL_law_720 : decode cL_law 720 = .ok (.iconst 1, 1) := dk_4 (dk_at dksL_law_22 12 rfl rfl)
theorem dL_law_721 : decode cL_law 721 = .ok (.iadd, 1) := dk_96 (dk_at dksL_law_22 13 rfl rfl)
theorem dL_law_722 : decode cL_law 722 = .ok (.iaload, 1) := dk_46 (dk_at dksL_law_22 14 rfl rfl)
theorem dL_law_723 : decode cL_law 723 = .ok (.i2c, 1) := dk_146 (dk_at dksL_law_22 15 rfl rfl)
theorem dL_law_724 : decode cL_law 724 = .ok (.aload_n 0, 1) := dk_42 (dk_at dksL_law_22 16 rfl rfl)
theorem dL_law_725 : decode cL_law 725 = .ok (.iload 5, 2) := dk_21 5 (dk_at dksL_law_22 17 rfl rfl)
theorem dL_law_727 : decode cL_law 727 = .ok (.iconst 2, 1) := dk_5 (dk_at dksL_law_22 19 rfl rfl)
theorem dL_law_728 : decode cL_law 728 = .ok (.iadd, 1) := dk_96 (dk_at dksL_law_22 20 rfl rfl)
theorem dL_law_729 : decode cL_law 729 = .ok (.iaload, 1) := dk_46 (dk_at dksL_law_22 21 rfl rfl)
theorem dL_law_730 : decode cL_law 730 = .ok (.invokevirtual 199, 3) := dk_182 0 199 (dk_at dksL_law_23 0 rfl rfl)
theorem dL_law_733 : decode cL_law 733 = .ok (.istore 7, 2) := dk_54 7 (dk_at dksL_law_23 3 rfl rfl)
theorem dL_law_735 : decode cL_law 735 = .ok (.aload_n 2, 1) := dk_44 (dk_at dksL_law_23 5 rfl rfl)
theorem dL_law_736 : decode cL_law 736 = .ok (.invokevirtual 165, 3) := dk_182 0 165 (dk_at dksL_law_23 6 rfl rfl)
theorem dL_law_739 : decode cL_law 739 = .ok (.iload 6, 2) := dk_21 6 (dk_at dksL_law_23 9 rfl rfl)
theorem dL_law_741 : decode cL_law 741 = .ok (.if_icmp .eq 5, 3) := dk_159 0 5 (dk_at dksL_law_23 11 rfl rfl)
theorem dL_law_744 : decode cL_law 744 = .ok (.iconst 0, 1) := dk_3 (dk_at dksL_law_23 14 rfl rfl)
theorem dL_law_745 : decode cL_law 745 = .ok (.ireturn, 1) := dk_172 (dk_at dksL_law_23 15 rfl rfl)
theorem dL_law_746 : decode cL_law 746 = .ok (.iload 6, 2) := dk_21 6 (dk_at dksL_law_23 16 rfl rfl)
theorem dL_law_748 : decode cL_law 748 = .ok (.ifCond .ne 15, 3) := dk_154 0 15 (dk_at dksL_law_23 18 rfl rfl)
theorem dL_law_751 : decode cL_law 751 = .ok (.aload_n 3, 1) := dk_45 (dk_at dksL_law_23 21 rfl rfl)
theorem dL_law_752 : decode cL_law 752 = .ok (.iconst 0, 1) := dk_3 (dk_at dksL_law_23 22 rfl rfl)
theorem dL_law_753 : decode cL_law 753 = .ok (.laload, 1) := dk_47 (dk_at dksL_law_23 23 rfl rfl)
theorem dL_law_754 : decode cL_law 754 = .ok (.iload 7, 2) := dk_21 7 (dk_at dksL_law_24 0 rfl rfl)
theorem dL_law_756 : decode cL_law 756 = .ok (.i2l, 1) := dk_133 (dk_at dksL_law_24 2 rfl rfl)
theorem dL_law_757 : decode cL_law 757 = .ok (.lcmp, 1) := dk_148 (dk_at dksL_law_24 3 rfl rfl)
theorem dL_law_758 : decode cL_law 758 = .ok (.ifCond .eq 5, 3) := dk_153 0 5 (dk_at dksL_law_24 4 rfl rfl)
theorem dL_law_761 : decode cL_law 761 = .ok (.iconst 0, 1) := dk_3 (dk_at dksL_law_24 7 rfl rfl)
theorem dL_law_762 : decode cL_law 762 = .ok (.ireturn, 1) := dk_172 (dk_at dksL_law_24 8 rfl rfl)
theorem dL_law_763 : decode cL_law 763 = .ok (.goto 2060, 3) := dk_167 8 12 (dk_at dksL_law_24 9 rfl rfl)
theorem dL_law_766 : decode cL_law 766 = .ok (.aload_n 1, 1) := dk_43 (dk_at dksL_law_24 12 rfl rfl)
theorem dL_law_767 : decode cL_law 767 = .ok (.aload_n 0, 1) := dk_42 (dk_at dksL_law_24 13 rfl rfl)
theorem dL_law_768 : decode cL_law 768 = .ok (.iload 5, 2) := dk_21 5 (dk_at dksL_law_24 14 rfl rfl)
theorem dL_law_770 : decode cL_law 770 = .ok (.iconst 1, 1) := dk_4 (dk_at dksL_law_24 16 rfl rfl)
theorem dL_law_771 : decode cL_law 771 = .ok (.iadd, 1) := dk_96 (dk_at dksL_law_24 17 rfl rfl)
theorem dL_law_772 : decode cL_law 772 = .ok (.iaload, 1) := dk_46 (dk_at dksL_law_24 18 rfl rfl)
theorem dL_law_773 : decode cL_law 773 = .ok (.i2c, 1) := dk_146 (dk_at dksL_law_24 19 rfl rfl)
theorem dL_law_774 : decode cL_law 774 = .ok (.aload_n 0, 1) := dk_42 (dk_at dksL_law_24 20 rfl rfl)
theorem dL_law_775 : decode cL_law 775 = .ok (.iload 5, 2) := dk_21 5 (dk_at dksL_law_24 21 rfl rfl)
theorem dL_law_777 : decode cL_law 777 = .ok (.iconst 2, 1) := dk_5 (dk_at dksL_law_24 23 rfl rfl)
theorem dL_law_778 : decode cL_law 778 = .ok (.iadd, 1) := dk_96 (dk_at dksL_law_25 0 rfl rfl)
theorem dL_law_779 : decode cL_law 779 = .ok (.iaload, 1) := dk_46 (dk_at dksL_law_25 1 rfl rfl)
theorem dL_law_780 : decode cL_law 780 = .ok (.aload_n 0, 1) := dk_42 (dk_at dksL_law_25 2 rfl rfl)
theorem dL_law_781 : decode cL_law 781 = .ok (.iload 5, 2) := dk_21 5 (dk_at dksL_law_25 3 rfl rfl)
theorem dL_law_783 : decode cL_law 783 = .ok (.iconst 3, 1) := dk_6 (dk_at dksL_law_25 5 rfl rfl)
theorem dL_law_784 : decode cL_law 784 = .ok (.iadd, 1) := dk_96 (dk_at dksL_law_25 6 rfl rfl)
theorem dL_law_785 : decode cL_law 785 = .ok (.iaload, 1) := dk_46 (dk_at dksL_law_25 7 rfl rfl)
theorem dL_law_786 : decode cL_law 786 = .ok (.aload_n 3, 1) := dk_45 (dk_at dksL_law_25 8 rfl rfl)
theorem dL_law_787 : decode cL_law 787 = .ok (.invokestatic 200, 3) := dk_184 0 200 (dk_at dksL_law_25 9 rfl rfl)
theorem dL_law_790 : decode cL_law 790 = .ok (.istore 6, 2) := dk_54 6 (dk_at dksL_law_25 12 rfl rfl)
theorem dL_law_792 : decode cL_law 792 = .ok (.aload_n 2, 1) := dk_44 (dk_at dksL_law_25 14 rfl rfl)
theorem dL_law_793 : decode cL_law 793 = .ok (.aload_n 0, 1) := dk_42 (dk_at dksL_law_25 15 rfl rfl)
theorem dL_law_794 : decode cL_law 794 = .ok (.iload 5, 2) := dk_21 5 (dk_at dksL_law_25 16 rfl rfl)
theorem dL_law_796 : decode cL_law 796 = .ok (.iconst 1, 1) := dk_4 (dk_at dksL_law_25 18 rfl rfl)
theorem dL_law_797 : decode cL_law 797 = .ok (.iadd, 1) := dk_96 (dk_at dksL_law_25 19 rfl rfl)
theorem dL_law_798 : decode cL_law 798 = .ok (.iaload, 1) := dk_46 (dk_at dksL_law_25 20 rfl rfl)
theorem dL_law_799 : decode cL_law 799 = .ok (.i2c, 1) := dk_146 (dk_at dksL_law_25 21 rfl rfl)
theorem dL_law_800 : decode cL_law 800 = .ok (.aload_n 0, 1) := dk_42 (dk_at dksL_law_25 22 rfl rfl)
theorem dL_law_801 : decode cL_law 801 = .ok (.iload 5, 2) := dk_21 5 (dk_at dksL_law_26 0 rfl rfl)
theorem dL_law_803 : decode cL_law 803 = .ok (.iconst 2, 1) := dk_5 (dk_at dksL_law_26 2 rfl rfl)
theorem dL_law_804 : decode cL_law 804 = .ok (.iadd, 1) := dk_96 (dk_at dksL_law_26 3 rfl rfl)
theorem dL_law_805 : decode cL_law 805 = .ok (.iaload, 1) := dk_46 (dk_at dksL_law_26 4 rfl rfl)
theorem dL_law_806 : decode cL_law 806 = .ok (.aload_n 0, 1) := dk_42 (dk_at dksL_law_26 5 rfl rfl)
theorem dL_law_807 : decode cL_law 807 = .ok (.iload 5, 2) := dk_21 5 (dk_at dksL_law_26 6 rfl rfl)
theorem dL_law_809 : decode cL_law 809 = .ok (.iconst 3, 1) := dk_6 (dk_at dksL_law_26 8 rfl rfl)
theorem dL_law_810 : decode cL_law 810 = .ok (.iadd, 1) := dk_96 (dk_at dksL_law_26 9 rfl rfl)
theorem dL_law_811 : decode cL_law 811 = .ok (.iaload, 1) := dk_46 (dk_at dksL_law_26 10 rfl rfl)
theorem dL_law_812 : decode cL_law 812 = .ok (.invokevirtual 202, 3) := dk_182 0 202 (dk_at dksL_law_26 11 rfl rfl)
theorem dL_law_815 : decode cL_law 815 = .ok (.istore 7, 2) := dk_54 7 (dk_at dksL_law_26 14 rfl rfl)
theorem dL_law_817 : decode cL_law 817 = .ok (.aload_n 2, 1) := dk_44 (dk_at dksL_law_26 16 rfl rfl)
theorem dL_law_818 : decode cL_law 818 = .ok (.invokevirtual 165, 3) := dk_182 0 165 (dk_at dksL_law_26 17 rfl rfl)
theorem dL_law_821 : decode cL_law 821 = .ok (.iload 6, 2) := dk_21 6 (dk_at dksL_law_26 20 rfl rfl)
theorem dL_law_823 : decode cL_law 823 = .ok (.if_icmp .eq 5, 3) := dk_159 0 5 (dk_at dksL_law_27 0 rfl rfl)
theorem dL_law_826 : decode cL_law 826 = .ok (.iconst 0, 1) := dk_3 (dk_at dksL_law_27 3 rfl rfl)
theorem dL_law_827 : decode cL_law 827 = .ok (.ireturn, 1) := dk_172 (dk_at dksL_law_27 4 rfl rfl)
theorem dL_law_828 : decode cL_law 828 = .ok (.iload 6, 2) := dk_21 6 (dk_at dksL_law_27 5 rfl rfl)
theorem dL_law_830 : decode cL_law 830 = .ok (.ifCond .ne 15, 3) := dk_154 0 15 (dk_at dksL_law_27 7 rfl rfl)
theorem dL_law_833 : decode cL_law 833 = .ok (.aload_n 3, 1) := dk_45 (dk_at dksL_law_27 10 rfl rfl)
theorem dL_law_834 : decode cL_law 834 = .ok (.iconst 0, 1) := dk_3 (dk_at dksL_law_27 11 rfl rfl)
theorem dL_law_835 : decode cL_law 835 = .ok (.laload, 1) := dk_47 (dk_at dksL_law_27 12 rfl rfl)
theorem dL_law_836 : decode cL_law 836 = .ok (.iload 7, 2) := dk_21 7 (dk_at dksL_law_27 13 rfl rfl)
theorem dL_law_838 : decode cL_law 838 = .ok (.i2l, 1) := dk_133 (dk_at dksL_law_27 15 rfl rfl)
theorem dL_law_839 : decode cL_law 839 = .ok (.lcmp, 1) := dk_148 (dk_at dksL_law_27 16 rfl rfl)
theorem dL_law_840 : decode cL_law 840 = .ok (.ifCond .eq 5, 3) := dk_153 0 5 (dk_at dksL_law_27 17 rfl rfl)
theorem dL_law_843 : decode cL_law 843 = .ok (.iconst 0, 1) := dk_3 (dk_at dksL_law_27 20 rfl rfl)
theorem dL_law_844 : decode cL_law 844 = .ok (.ireturn, 1) := dk_172 (dk_at dksL_law_27 21 rfl rfl)
theorem dL_law_845 : decode cL_law 845 = .ok (.goto 1978, 3) := dk_167 7 186 (dk_at dksL_law_28 0 rfl rfl)
theorem dL_law_848 : decode cL_law 848 = .ok (.aload_n 1, 1) := dk_43 (dk_at dksL_law_28 3 rfl rfl)
theorem dL_law_849 : decode cL_law 849 = .ok (.aload_n 0, 1) := dk_42 (dk_at dksL_law_28 4 rfl rfl)
theorem dL_law_850 : decode cL_law 850 = .ok (.iload 5, 2) := dk_21 5 (dk_at dksL_law_28 5 rfl rfl)
theorem dL_law_852 : decode cL_law 852 = .ok (.iconst 1, 1) := dk_4 (dk_at dksL_law_28 7 rfl rfl)
theorem dL_law_853 : decode cL_law 853 = .ok (.iadd, 1) := dk_96 (dk_at dksL_law_28 8 rfl rfl)
theorem dL_law_854 : decode cL_law 854 = .ok (.iaload, 1) := dk_46 (dk_at dksL_law_28 9 rfl rfl)
theorem dL_law_855 : decode cL_law 855 = .ok (.aload_n 3, 1) := dk_45 (dk_at dksL_law_28 10 rfl rfl)
theorem dL_law_856 : decode cL_law 856 = .ok (.invokestatic 203, 3) := dk_184 0 203 (dk_at dksL_law_28 11 rfl rfl)
theorem dL_law_859 : decode cL_law 859 = .ok (.istore 6, 2) := dk_54 6 (dk_at dksL_law_28 14 rfl rfl)
theorem dL_law_861 : decode cL_law 861 = .ok (.aload_n 2, 1) := dk_44 (dk_at dksL_law_28 16 rfl rfl)
theorem dL_law_862 : decode cL_law 862 = .ok (.aload_n 0, 1) := dk_42 (dk_at dksL_law_28 17 rfl rfl)
theorem dL_law_863 : decode cL_law 863 = .ok (.iload 5, 2) := dk_21 5 (dk_at dksL_law_28 18 rfl rfl)
theorem dL_law_865 : decode cL_law 865 = .ok (.iconst 1, 1) := dk_4 (dk_at dksL_law_28 20 rfl rfl)
theorem dL_law_866 : decode cL_law 866 = .ok (.iadd, 1) := dk_96 (dk_at dksL_law_28 21 rfl rfl)
theorem dL_law_867 : decode cL_law 867 = .ok (.iaload, 1) := dk_46 (dk_at dksL_law_28 22 rfl rfl)
theorem dL_law_868 : decode cL_law 868 = .ok (.invokevirtual 205, 3) := dk_182 0 205 (dk_at dksL_law_29 0 rfl rfl)
theorem dL_law_871 : decode cL_law 871 = .ok (.istore 7, 2) := dk_54 7 (dk_at dksL_law_29 3 rfl rfl)
theorem dL_law_873 : decode cL_law 873 = .ok (.aload_n 2, 1) := dk_44 (dk_at dksL_law_29 5 rfl rfl)
theorem dL_law_874 : decode cL_law 874 = .ok (.invokevirtual 165, 3) := dk_182 0 165 (dk_at dksL_law_29 6 rfl rfl)
theorem dL_law_877 : decode cL_law 877 = .ok (.iload 6, 2) := dk_21 6 (dk_at dksL_law_29 9 rfl rfl)
theorem dL_law_879 : decode cL_law 879 = .ok (.if_icmp .eq 5, 3) := dk_159 0 5 (dk_at dksL_law_29 11 rfl rfl)
theorem dL_law_882 : decode cL_law 882 = .ok (.iconst 0, 1) := dk_3 (dk_at dksL_law_29 14 rfl rfl)
theorem dL_law_883 : decode cL_law 883 = .ok (.ireturn, 1) := dk_172 (dk_at dksL_law_29 15 rfl rfl)
theorem dL_law_884 : decode cL_law 884 = .ok (.iload 6, 2) := dk_21 6 (dk_at dksL_law_29 16 rfl rfl)
theorem dL_law_886 : decode cL_law 886 = .ok (.ifCond .ne 15, 3) := dk_154 0 15 (dk_at dksL_law_29 18 rfl rfl)
theorem dL_law_889 : decode cL_law 889 = .ok (.aload_n 3, 1) := dk_45 (dk_at dksL_law_29 21 rfl rfl)
theorem dL_law_890 : decode cL_law 890 = .ok (.iconst 0, 1) := dk_3 (dk_at dksL_law_29 22 rfl rfl)
theorem dL_law_891 : decode cL_law 891 = .ok (.laload, 1) := dk_47 (dk_at dksL_law_29 23 rfl rfl)
theorem dL_law_892 : decode cL_law 892 = .ok (.iload 7, 2) := dk_21 7 (dk_at dksL_law_30 0 rfl rfl)
theorem dL_law_894 : decode cL_law 894 = .ok (.i2l, 1) := dk_133 (dk_at dksL_law_30 2 rfl rfl)
theorem dL_law_895 : decode cL_law 895 = .ok (.lcmp, 1) := dk_148 (dk_at dksL_law_30 3 rfl rfl)
theorem dL_law_896 : decode cL_law 896 = .ok (.ifCond .eq 5, 3) := dk_153 0 5 (dk_at dksL_law_30 4 rfl rfl)
theorem dL_law_899 : decode cL_law 899 = .ok (.iconst 0, 1) := dk_3 (dk_at dksL_law_30 7 rfl rfl)
theorem dL_law_900 : decode cL_law 900 = .ok (.ireturn, 1) := dk_172 (dk_at dksL_law_30 8 rfl rfl)
theorem dL_law_901 : decode cL_law 901 = .ok (.goto 1922, 3) := dk_167 7 130 (dk_at dksL_law_30 9 rfl rfl)
theorem dL_law_904 : decode cL_law 904 = .ok (.aload_n 1, 1) := dk_43 (dk_at dksL_law_30 12 rfl rfl)
theorem dL_law_905 : decode cL_law 905 = .ok (.aload_n 0, 1) := dk_42 (dk_at dksL_law_30 13 rfl rfl)
theorem dL_law_906 : decode cL_law 906 = .ok (.iload 5, 2) := dk_21 5 (dk_at dksL_law_30 14 rfl rfl)
theorem dL_law_908 : decode cL_law 908 = .ok (.iconst 1, 1) := dk_4 (dk_at dksL_law_30 16 rfl rfl)
theorem dL_law_909 : decode cL_law 909 = .ok (.iadd, 1) := dk_96 (dk_at dksL_law_30 17 rfl rfl)
theorem dL_law_910 : decode cL_law 910 = .ok (.iaload, 1) := dk_46 (dk_at dksL_law_30 18 rfl rfl)
theorem dL_law_911 : decode cL_law 911 = .ok (.aload_n 0, 1) := dk_42 (dk_at dksL_law_30 19 rfl rfl)
theorem dL_law_912 : decode cL_law 912 = .ok (.iload 5, 2) := dk_21 5 (dk_at dksL_law_30 20 rfl rfl)
theorem dL_law_914 : decode cL_law 914 = .ok (.iconst 2, 1) := dk_5 (dk_at dksL_law_30 22 rfl rfl)
theorem dL_law_915 : decode cL_law 915 = .ok (.iadd, 1) := dk_96 (dk_at dksL_law_30 23 rfl rfl)
theorem dL_law_916 : decode cL_law 916 = .ok (.iaload, 1) := dk_46 (dk_at dksL_law_31 0 rfl rfl)
theorem dL_law_917 : decode cL_law 917 = .ok (.aload_n 3, 1) := dk_45 (dk_at dksL_law_31 1 rfl rfl)
theorem dL_law_918 : decode cL_law 918 = .ok (.invokestatic 206, 3) := dk_184 0 206 (dk_at dksL_law_31 2 rfl rfl)
theorem dL_law_921 : decode cL_law 921 = .ok (.istore 6, 2) := dk_54 6 (dk_at dksL_law_31 5 rfl rfl)
theorem dL_law_923 : decode cL_law 923 = .ok (.aload_n 2, 1) := dk_44 (dk_at dksL_law_31 7 rfl rfl)
theorem dL_law_924 : decode cL_law 924 = .ok (.aload_n 0, 1) := dk_42 (dk_at dksL_law_31 8 rfl rfl)
theorem dL_law_925 : decode cL_law 925 = .ok (.iload 5, 2) := dk_21 5 (dk_at dksL_law_31 9 rfl rfl)
theorem dL_law_927 : decode cL_law 927 = .ok (.iconst 1, 1) := dk_4 (dk_at dksL_law_31 11 rfl rfl)
theorem dL_law_928 : decode cL_law 928 = .ok (.iadd, 1) := dk_96 (dk_at dksL_law_31 12 rfl rfl)
theorem dL_law_929 : decode cL_law 929 = .ok (.iaload, 1) := dk_46 (dk_at dksL_law_31 13 rfl rfl)
theorem dL_law_930 : decode cL_law 930 = .ok (.aload_n 0, 1) := dk_42 (dk_at dksL_law_31 14 rfl rfl)
theorem dL_law_931 : decode cL_law 931 = .ok (.iload 5, 2) := dk_21 5 (dk_at dksL_law_31 15 rfl rfl)
theorem dL_law_933 : decode cL_law 933 = .ok (.iconst 2, 1) := dk_5 (dk_at dksL_law_31 17 rfl rfl)
theorem dL_law_934 : decode cL_law 934 = .ok (.iadd, 1) := dk_96 (dk_at dksL_law_31 18 rfl rfl)
theorem dL_law_935 : decode cL_law 935 = .ok (.iaload, 1) := dk_46 (dk_at dksL_law_31 19 rfl rfl)
theorem dL_law_936 : decode cL_law 936 = .ok (.invokevirtual 209, 3) := dk_182 0 209 (dk_at dksL_law_31 20 rfl rfl)
theorem dL_law_939 : decode cL_law 939 = .ok (.istore 7, 2) := dk_54 7 (dk_at dksL_law_32 0 rfl rfl)
theorem dL_law_941 : decode cL_law 941 = .ok (.aload_n 2, 1) := dk_44 (dk_at dksL_law_32 2 rfl rfl)
theorem dL_law_942 : decode cL_law 942 = .ok (.invokevirtual 165, 3) := dk_182 0 165 (dk_at dksL_law_32 3 rfl rfl)
theorem dL_law_945 : decode cL_law 945 = .ok (.iload 6, 2) := dk_21 6 (dk_at dksL_law_32 6 rfl rfl)
theorem dL_law_947 : decode cL_law 947 = .ok (.if_icmp .eq 5, 3) := dk_159 0 5 (dk_at dksL_law_32 8 rfl rfl)
theorem dL_law_950 : decode cL_law 950 = .ok (.iconst 0, 1) := dk_3 (dk_at dksL_law_32 11 rfl rfl)
theorem dL_law_951 : decode cL_law 951 = .ok (.ireturn, 1) := dk_172 (dk_at dksL_law_32 12 rfl rfl)
theorem dL_law_952 : decode cL_law 952 = .ok (.iload 6, 2) := dk_21 6 (dk_at dksL_law_32 13 rfl rfl)
theorem dL_law_954 : decode cL_law 954 = .ok (.ifCond .ne 15, 3) := dk_154 0 15 (dk_at dksL_law_32 15 rfl rfl)
theorem dL_law_957 : decode cL_law 957 = .ok (.aload_n 3, 1) := dk_45 (dk_at dksL_law_32 18 rfl rfl)
theorem dL_law_958 : decode cL_law 958 = .ok (.iconst 0, 1) := dk_3 (dk_at dksL_law_32 19 rfl rfl)
theorem dL_law_959 : decode cL_law 959 = .ok (.laload, 1) := dk_47 (dk_at dksL_law_32 20 rfl rfl)
theorem dL_law_960 : decode cL_law 960 = .ok (.iload 7, 2) := dk_21 7 (dk_at dksL_law_32 21 rfl rfl)
theorem dL_law_962 : decode cL_law 962 = .ok (.i2l, 1) := dk_133 (dk_at dksL_law_32 23 rfl rfl)
theorem dL_law_963 : decode cL_law 963 = .ok (.lcmp, 1) := dk_148 (dk_at dksL_law_33 0 rfl rfl)
theorem dL_law_964 : decode cL_law 964 = .ok (.ifCond .eq 5, 3) := dk_153 0 5 (dk_at dksL_law_33 1 rfl rfl)
theorem dL_law_967 : decode cL_law 967 = .ok (.iconst 0, 1) := dk_3 (dk_at dksL_law_33 4 rfl rfl)
theorem dL_law_968 : decode cL_law 968 = .ok (.ireturn, 1) := dk_172 (dk_at dksL_law_33 5 rfl rfl)
theorem dL_law_969 : decode cL_law 969 = .ok (.goto 1854, 3) := dk_167 7 62 (dk_at dksL_law_33 6 rfl rfl)
theorem dL_law_972 : decode cL_law 972 = .ok (.aload_n 1, 1) := dk_43 (dk_at dksL_law_33 9 rfl rfl)
theorem dL_law_973 : decode cL_law 973 = .ok (.aload_n 0, 1) := dk_42 (dk_at dksL_law_33 10 rfl rfl)
theorem dL_law_974 : decode cL_law 974 = .ok (.iload 5, 2) := dk_21 5 (dk_at dksL_law_33 11 rfl rfl)
theorem dL_law_976 : decode cL_law 976 = .ok (.iconst 1, 1) := dk_4 (dk_at dksL_law_33 13 rfl rfl)
theorem dL_law_977 : decode cL_law 977 = .ok (.iadd, 1) := dk_96 (dk_at dksL_law_33 14 rfl rfl)
theorem dL_law_978 : decode cL_law 978 = .ok (.iaload, 1) := dk_46 (dk_at dksL_law_33 15 rfl rfl)
theorem dL_law_979 : decode cL_law 979 = .ok (.aload_n 3, 1) := dk_45 (dk_at dksL_law_33 16 rfl rfl)
theorem dL_law_980 : decode cL_law 980 = .ok (.invokestatic 210, 3) := dk_184 0 210 (dk_at dksL_law_33 17 rfl rfl)
theorem dL_law_983 : decode cL_law 983 = .ok (.istore 6, 2) := dk_54 6 (dk_at dksL_law_33 20 rfl rfl)
theorem dL_law_985 : decode cL_law 985 = .ok (.aload_n 2, 1) := dk_44 (dk_at dksL_law_33 22 rfl rfl)
theorem dL_law_986 : decode cL_law 986 = .ok (.aload_n 0, 1) := dk_42 (dk_at dksL_law_33 23 rfl rfl)
theorem dL_law_987 : decode cL_law 987 = .ok (.iload 5, 2) := dk_21 5 (dk_at dksL_law_34 0 rfl rfl)
theorem dL_law_989 : decode cL_law 989 = .ok (.iconst 1, 1) := dk_4 (dk_at dksL_law_34 2 rfl rfl)
theorem dL_law_990 : decode cL_law 990 = .ok (.iadd, 1) := dk_96 (dk_at dksL_law_34 3 rfl rfl)
theorem dL_law_991 : decode cL_law 991 = .ok (.iaload, 1) := dk_46 (dk_at dksL_law_34 4 rfl rfl)
theorem dL_law_992 : decode cL_law 992 = .ok (.invokevirtual 212, 3) := dk_182 0 212 (dk_at dksL_law_34 5 rfl rfl)
theorem dL_law_995 : decode cL_law 995 = .ok (.istore 7, 2) := dk_54 7 (dk_at dksL_law_34 8 rfl rfl)
theorem dL_law_997 : decode cL_law 997 = .ok (.aload_n 2, 1) := dk_44 (dk_at dksL_law_34 10 rfl rfl)
theorem dL_law_998 : decode cL_law 998 = .ok (.invokevirtual 165, 3) := dk_182 0 165 (dk_at dksL_law_34 11 rfl rfl)
theorem dL_law_1001 : decode cL_law 1001 = .ok (.iload 6, 2) := dk_21 6 (dk_at dksL_law_34 14 rfl rfl)
theorem dL_law_1003 : decode cL_law 1003 = .ok (.if_icmp .eq 5, 3) := dk_159 0 5 (dk_at dksL_law_34 16 rfl rfl)
theorem dL_law_1006 : decode cL_law 1006 = .ok (.iconst 0, 1) := dk_3 (dk_at dksL_law_34 19 rfl rfl)
theorem dL_law_1007 : decode cL_law 1007 = .ok (.ireturn, 1) := dk_172 (dk_at dksL_law_34 20 rfl rfl)
theorem dL_law_1008 : decode cL_law 1008 = .ok (.iload 6, 2) := dk_21 6 (dk_at dksL_law_34 21 rfl rfl)
theorem dL_law_1010 : decode cL_law 1010 = .ok (.ifCond .ne 15, 3) := dk_154 0 15 (dk_at dksL_law_35 0 rfl rfl)
theorem dL_law_1013 : decode cL_law 1013 = .ok (.aload_n 3, 1) := dk_45 (dk_at dksL_law_35 3 rfl rfl)
theorem dL_law_1014 : decode cL_law 1014 = .ok (.iconst 0, 1) := dk_3 (dk_at dksL_law_35 4 rfl rfl)
theorem dL_law_1015 : decode cL_law 1015 = .ok (.laload, 1) := dk_47 (dk_at dksL_law_35 5 rfl rfl)
theorem dL_law_1016 : decode cL_law 1016 = .ok (.iload 7, 2) := dk_21 7 (dk_at dksL_law_35 6 rfl rfl)
theorem dL_law_1018 : decode cL_law 1018 = .ok (.i2l, 1) := dk_133 (dk_at dksL_law_35 8 rfl rfl)
theorem dL_law_1019 : decode cL_law 1019 = .ok (.lcmp, 1) := dk_148 (dk_at dksL_law_35 9 rfl rfl)
theorem dL_law_1020 : decode cL_law 1020 = .ok (.ifCond .eq 5, 3) := dk_153 0 5 (dk_at dksL_law_35 10 rfl rfl)
theorem dL_law_1023 : decode cL_law 1023 = .ok (.iconst 0, 1) := dk_3 (dk_at dksL_law_35 13 rfl rfl)
theorem dL_law_1024 : decode cL_law 1024 = .ok (.ireturn, 1) := dk_172 (dk_at dksL_law_35 14 rfl rfl)
theorem dL_law_1025 : decode cL_law 1025 = .ok (.goto 1798, 3) := dk_167 7 6 (dk_at dksL_law_35 15 rfl rfl)
theorem dL_law_1028 : decode cL_law 1028 = .ok (.aload_n 1, 1) := dk_43 (dk_at dksL_law_35 18 rfl rfl)
theorem dL_law_1029 : decode cL_law 1029 = .ok (.invokevirtual 213, 3) := dk_182 0 213 (dk_at dksL_law_35 19 rfl rfl)
theorem dL_law_1032 : decode cL_law 1032 = .ok (.aload_n 2, 1) := dk_44 (dk_at dksL_law_35 22 rfl rfl)
theorem dL_law_1033 : decode cL_law 1033 = .ok (.invokevirtual 216, 3) := dk_182 0 216 (dk_at dksL_law_36 0 rfl rfl)
theorem dL_law_1036 : decode cL_law 1036 = .ok (.if_icmp .eq 1787, 3) := dk_159 6 251 (dk_at dksL_law_36 3 rfl rfl)
theorem dL_law_1039 : decode cL_law 1039 = .ok (.iconst 0, 1) := dk_3 (dk_at dksL_law_36 6 rfl rfl)
theorem dL_law_1040 : decode cL_law 1040 = .ok (.ireturn, 1) := dk_172 (dk_at dksL_law_36 7 rfl rfl)
theorem dL_law_1041 : decode cL_law 1041 = .ok (.aload_n 1, 1) := dk_43 (dk_at dksL_law_36 8 rfl rfl)
theorem dL_law_1042 : decode cL_law 1042 = .ok (.aload_n 0, 1) := dk_42 (dk_at dksL_law_36 9 rfl rfl)
theorem dL_law_1043 : decode cL_law 1043 = .ok (.iload 5, 2) := dk_21 5 (dk_at dksL_law_36 10 rfl rfl)
theorem dL_law_1045 : decode cL_law 1045 = .ok (.iconst 1, 1) := dk_4 (dk_at dksL_law_36 12 rfl rfl)
theorem dL_law_1046 : decode cL_law 1046 = .ok (.iadd, 1) := dk_96 (dk_at dksL_law_36 13 rfl rfl)
theorem dL_law_1047 : decode cL_law 1047 = .ok (.iaload, 1) := dk_46 (dk_at dksL_law_36 14 rfl rfl)
theorem dL_law_1048 : decode cL_law 1048 = .ok (.aload_n 3, 1) := dk_45 (dk_at dksL_law_36 15 rfl rfl)
theorem dL_law_1049 : decode cL_law 1049 = .ok (.invokestatic 217, 3) := dk_184 0 217 (dk_at dksL_law_36 16 rfl rfl)
theorem dL_law_1052 : decode cL_law 1052 = .ok (.istore 6, 2) := dk_54 6 (dk_at dksL_law_36 19 rfl rfl)
theorem dL_law_1054 : decode cL_law 1054 = .ok (.aload_n 2, 1) := dk_44 (dk_at dksL_law_36 21 rfl rfl)
theorem dL_law_1055 : decode cL_law 1055 = .ok (.aload_n 0, 1) := dk_42 (dk_at dksL_law_36 22 rfl rfl)
theorem dL_law_1056 : decode cL_law 1056 = .ok (.iload 5, 2) := dk_21 5 (dk_at dksL_law_37 0 rfl rfl)
theorem dL_law_1058 : decode cL_law 1058 = .ok (.iconst 1, 1) := dk_4 (dk_at dksL_law_37 2 rfl rfl)
theorem dL_law_1059 : decode cL_law 1059 = .ok (.iadd, 1) := dk_96 (dk_at dksL_law_37 3 rfl rfl)
theorem dL_law_1060 : decode cL_law 1060 = .ok (.iaload, 1) := dk_46 (dk_at dksL_law_37 4 rfl rfl)
theorem dL_law_1061 : decode cL_law 1061 = .ok (.invokevirtual 219, 3) := dk_182 0 219 (dk_at dksL_law_37 5 rfl rfl)
theorem dL_law_1064 : decode cL_law 1064 = .ok (.istore 7, 2) := dk_54 7 (dk_at dksL_law_37 8 rfl rfl)
theorem dL_law_1066 : decode cL_law 1066 = .ok (.aload_n 2, 1) := dk_44 (dk_at dksL_law_37 10 rfl rfl)
theorem dL_law_1067 : decode cL_law 1067 = .ok (.invokevirtual 165, 3) := dk_182 0 165 (dk_at dksL_law_37 11 rfl rfl)
theorem dL_law_1070 : decode cL_law 1070 = .ok (.iload 6, 2) := dk_21 6 (dk_at dksL_law_37 14 rfl rfl)
theorem dL_law_1072 : decode cL_law 1072 = .ok (.if_icmp .eq 5, 3) := dk_159 0 5 (dk_at dksL_law_37 16 rfl rfl)
theorem dL_law_1075 : decode cL_law 1075 = .ok (.iconst 0, 1) := dk_3 (dk_at dksL_law_37 19 rfl rfl)
theorem dL_law_1076 : decode cL_law 1076 = .ok (.ireturn, 1) := dk_172 (dk_at dksL_law_37 20 rfl rfl)
theorem dL_law_1077 : decode cL_law 1077 = .ok (.iload 6, 2) := dk_21 6 (dk_at dksL_law_37 21 rfl rfl)
theorem dL_law_1079 : decode cL_law 1079 = .ok (.ifCond .ne 15, 3) := dk_154 0 15 (dk_at dksL_law_38 0 rfl rfl)
theorem dL_law_1082 : decode cL_law 1082 = .ok (.aload_n 3, 1) := dk_45 (dk_at dksL_law_38 3 rfl rfl)
theorem dL_law_1083 : decode cL_law 1083 = .ok (.iconst 0, 1) := dk_3 (dk_at dksL_law_38 4 rfl rfl)
theorem dL_law_1084 : decode cL_law 1084 = .ok (.laload, 1) := dk_47 (dk_at dksL_law_38 5 rfl rfl)
theorem dL_law_1085 : decode cL_law 1085 = .ok (.iload 7, 2) := dk_21 7 (dk_at dksL_law_38 6 rfl rfl)
theorem dL_law_1087 : decode cL_law 1087 = .ok (.i2l, 1) := dk_133 (dk_at dksL_law_38 8 rfl rfl)
theorem dL_law_1088 : decode cL_law 1088 = .ok (.lcmp, 1) := dk_148 (dk_at dksL_law_38 9 rfl rfl)
theorem dL_law_1089 : decode cL_law 1089 = .ok (.ifCond .eq 5, 3) := dk_153 0 5 (dk_at dksL_law_38 10 rfl rfl)
theorem dL_law_1092 : decode cL_law 1092 = .ok (.iconst 0, 1) := dk_3 (dk_at dksL_law_38 13 rfl rfl)
theorem dL_law_1093 : decode cL_law 1093 = .ok (.ireturn, 1) := dk_172 (dk_at dksL_law_38 14 rfl rfl)
theorem dL_law_1094 : decode cL_law 1094 = .ok (.goto 1729, 3) := dk_167 6 193 (dk_at dksL_law_38 15 rfl rfl)
theorem dL_law_1097 : decode cL_law 1097 = .ok (.aload_n 1, 1) := dk_43 (dk_at dksL_law_38 18 rfl rfl)
theorem dL_law_1098 : decode cL_law 1098 = .ok (.aload_n 0, 1) := dk_42 (dk_at dksL_law_38 19 rfl rfl)
theorem dL_law_1099 : decode cL_law 1099 = .ok (.iload 5, 2) := dk_21 5 (dk_at dksL_law_38 20 rfl rfl)
theorem dL_law_1101 : decode cL_law 1101 = .ok (.iconst 1, 1) := dk_4 (dk_at dksL_law_38 22 rfl rfl)
theorem dL_law_1102 : decode cL_law 1102 = .ok (.iadd, 1) := dk_96 (dk_at dksL_law_38 23 rfl rfl)
theorem dL_law_1103 : decode cL_law 1103 = .ok (.iaload, 1) := dk_46 (dk_at dksL_law_39 0 rfl rfl)
theorem dL_law_1104 : decode cL_law 1104 = .ok (.aload_n 0, 1) := dk_42 (dk_at dksL_law_39 1 rfl rfl)
theorem dL_law_1105 : decode cL_law 1105 = .ok (.iload 5, 2) := dk_21 5 (dk_at dksL_law_39 2 rfl rfl)
theorem dL_law_1107 : decode cL_law 1107 = .ok (.iconst 2, 1) := dk_5 (dk_at dksL_law_39 4 rfl rfl)
theorem dL_law_1108 : decode cL_law 1108 = .ok (.iadd, 1) := dk_96 (dk_at dksL_law_39 5 rfl rfl)
theorem dL_law_1109 : decode cL_law 1109 = .ok (.iaload, 1) := dk_46 (dk_at dksL_law_39 6 rfl rfl)
theorem dL_law_1110 : decode cL_law 1110 = .ok (.aload_n 3, 1) := dk_45 (dk_at dksL_law_39 7 rfl rfl)
theorem dL_law_1111 : decode cL_law 1111 = .ok (.invokestatic 220, 3) := dk_184 0 220 (dk_at dksL_law_39 8 rfl rfl)
theorem dL_law_1114 : decode cL_law 1114 = .ok (.istore 6, 2) := dk_54 6 (dk_at dksL_law_39 11 rfl rfl)
theorem dL_law_1116 : decode cL_law 1116 = .ok (.aload_n 2, 1) := dk_44 (dk_at dksL_law_39 13 rfl rfl)
theorem dL_law_1117 : decode cL_law 1117 = .ok (.aload_n 0, 1) := dk_42 (dk_at dksL_law_39 14 rfl rfl)
theorem dL_law_1118 : decode cL_law 1118 = .ok (.iload 5, 2) := dk_21 5 (dk_at dksL_law_39 15 rfl rfl)
theorem dL_law_1120 : decode cL_law 1120 = .ok (.iconst 1, 1) := dk_4 (dk_at dksL_law_39 17 rfl rfl)
theorem dL_law_1121 : decode cL_law 1121 = .ok (.iadd, 1) := dk_96 (dk_at dksL_law_39 18 rfl rfl)
theorem dL_law_1122 : decode cL_law 1122 = .ok (.iaload, 1) := dk_46 (dk_at dksL_law_39 19 rfl rfl)
theorem dL_law_1123 : decode cL_law 1123 = .ok (.aload_n 0, 1) := dk_42 (dk_at dksL_law_39 20 rfl rfl)
theorem dL_law_1124 : decode cL_law 1124 = .ok (.iload 5, 2) := dk_21 5 (dk_at dksL_law_39 21 rfl rfl)
theorem dL_law_1126 : decode cL_law 1126 = .ok (.iconst 2, 1) := dk_5 (dk_at dksL_law_39 23 rfl rfl)
theorem dL_law_1127 : decode cL_law 1127 = .ok (.iadd, 1) := dk_96 (dk_at dksL_law_40 0 rfl rfl)
theorem dL_law_1128 : decode cL_law 1128 = .ok (.iaload, 1) := dk_46 (dk_at dksL_law_40 1 rfl rfl)
theorem dL_law_1129 : decode cL_law 1129 = .ok (.invokevirtual 222, 3) := dk_182 0 222 (dk_at dksL_law_40 2 rfl rfl)
theorem dL_law_1132 : decode cL_law 1132 = .ok (.istore 7, 2) := dk_54 7 (dk_at dksL_law_40 5 rfl rfl)
theorem dL_law_1134 : decode cL_law 1134 = .ok (.aload_n 2, 1) := dk_44 (dk_at dksL_law_40 7 rfl rfl)
theorem dL_law_1135 : decode cL_law 1135 = .ok (.invokevirtual 165, 3) := dk_182 0 165 (dk_at dksL_law_40 8 rfl rfl)
theorem dL_law_1138 : decode cL_law 1138 = .ok (.iload 6, 2) := dk_21 6 (dk_at dksL_law_40 11 rfl rfl)
theorem dL_law_1140 : decode cL_law 1140 = .ok (.if_icmp .eq 5, 3) := dk_159 0 5 (dk_at dksL_law_40 13 rfl rfl)
theorem dL_law_1143 : decode cL_law 1143 = .ok (.iconst 0, 1) := dk_3 (dk_at dksL_law_40 16 rfl rfl)
theorem dL_law_1144 : decode cL_law 1144 = .ok (.ireturn, 1) := dk_172 (dk_at dksL_law_40 17 rfl rfl)
theorem dL_law_1145 : decode cL_law 1145 = .ok (.iload 6, 2) := dk_21 6 (dk_at dksL_law_40 18 rfl rfl)
theorem dL_law_1147 : decode cL_law 1147 = .ok (.ifCond .ne 22, 3) := dk_154 0 22 (dk_at dksL_law_40 20 rfl rfl)
theorem dL_law_1150 : decode cL_law 1150 = .ok (.aload_n 3, 1) := dk_45 (dk_at dksL_law_40 23 rfl rfl)
theorem dL_law_1151 : decode cL_law 1151 = .ok (.iconst 0, 1) := dk_3 (dk_at dksL_law_41 0 rfl rfl)
theorem dL_law_1152 : decode cL_law 1152 = .ok (.laload, 1) := dk_47 (dk_at dksL_law_41 1 rfl rfl)
theorem dL_law_1153 : decode cL_law 1153 = .ok (.iload 7, 2) := dk_21 7 (dk_at dksL_law_41 2 rfl rfl)
theorem dL_law_1155 : decode cL_law 1155 = .ok (.ifCond .eq 7, 3) := dk_153 0 7 (dk_at dksL_law_41 4 rfl rfl)
theorem dL_law_1158 : decode cL_law 1158 = .ok (.lconst 1, 1) := dk_10 (dk_at dksL_law_41 7 rfl rfl)
theorem dL_law_1159 : decode cL_law 1159 = .ok (.goto 4, 3) := dk_167 0 4 (dk_at dksL_law_41 8 rfl rfl)
theorem dL_law_1162 : decode cL_law 1162 = .ok (.lconst 0, 1) := dk_9 (dk_at dksL_law_41 11 rfl rfl)
theorem dL_law_1163 : decode cL_law 1163 = .ok (.lcmp, 1) := dk_148 (dk_at dksL_law_41 12 rfl rfl)
theorem dL_law_1164 : decode cL_law 1164 = .ok (.ifCond .eq 5, 3) := dk_153 0 5 (dk_at dksL_law_41 13 rfl rfl)
theorem dL_law_1167 : decode cL_law 1167 = .ok (.iconst 0, 1) := dk_3 (dk_at dksL_law_41 16 rfl rfl)
theorem dL_law_1168 : decode cL_law 1168 = .ok (.ireturn, 1) := dk_172 (dk_at dksL_law_41 17 rfl rfl)
theorem dL_law_1169 : decode cL_law 1169 = .ok (.goto 1654, 3) := dk_167 6 118 (dk_at dksL_law_41 18 rfl rfl)
theorem dL_law_1172 : decode cL_law 1172 = .ok (.aload_n 1, 1) := dk_43 (dk_at dksL_law_41 21 rfl rfl)
theorem dL_law_1173 : decode cL_law 1173 = .ok (.aload_n 0, 1) := dk_42 (dk_at dksL_law_41 22 rfl rfl)
theorem dL_law_1174 : decode cL_law 1174 = .ok (.iload 5, 2) := dk_21 5 (dk_at dksL_law_42 0 rfl rfl)
theorem dL_law_1176 : decode cL_law 1176 = .ok (.iconst 1, 1) := dk_4 (dk_at dksL_law_42 2 rfl rfl)
theorem dL_law_1177 : decode cL_law 1177 = .ok (.iadd, 1) := dk_96 (dk_at dksL_law_42 3 rfl rfl)
theorem dL_law_1178 : decode cL_law 1178 = .ok (.iaload, 1) := dk_46 (dk_at dksL_law_42 4 rfl rfl)
theorem dL_law_1179 : decode cL_law 1179 = .ok (.aload_n 3, 1) := dk_45 (dk_at dksL_law_42 5 rfl rfl)
theorem dL_law_1180 : decode cL_law 1180 = .ok (.invokestatic 223, 3) := dk_184 0 223 (dk_at dksL_law_42 6 rfl rfl)
theorem dL_law_1183 : decode cL_law 1183 = .ok (.istore 6, 2) := dk_54 6 (dk_at dksL_law_42 9 rfl rfl)
theorem dL_law_1185 : decode cL_law 1185 = .ok (.aload_n 2, 1) := dk_44 (dk_at dksL_law_42 11 rfl rfl)
theorem dL_law_1186 : decode cL_law 1186 = .ok (.aload_n 0, 1) := dk_42 (dk_at dksL_law_42 12 rfl rfl)
theorem dL_law_1187 : decode cL_law 1187 = .ok (.iload 5, 2) := dk_21 5 (dk_at dksL_law_42 13 rfl rfl)
theorem dL_law_1189 : decode cL_law 1189 = .ok (.iconst 1, 1) := dk_4 (dk_at dksL_law_42 15 rfl rfl)
theorem dL_law_1190 : decode cL_law 1190 = .ok (.iadd, 1) := dk_96 (dk_at dksL_law_42 16 rfl rfl)
theorem dL_law_1191 : decode cL_law 1191 = .ok (.iaload, 1) := dk_46 (dk_at dksL_law_42 17 rfl rfl)
theorem dL_law_1192 : decode cL_law 1192 = .ok (.invokevirtual 225, 3) := dk_182 0 225 (dk_at dksL_law_42 18 rfl rfl)
theorem dL_law_1195 : decode cL_law 1195 = .ok (.istore 7, 2) := dk_54 7 (dk_at dksL_law_42 21 rfl rfl)
theorem dL_law_1197 : decode cL_law 1197 = .ok (.aload_n 2, 1) := dk_44 (dk_at dksL_law_42 23 rfl rfl)
theorem dL_law_1198 : decode cL_law 1198 = .ok (.invokevirtual 165, 3) := dk_182 0 165 (dk_at dksL_law_43 0 rfl rfl)
theorem dL_law_1201 : decode cL_law 1201 = .ok (.iload 6, 2) := dk_21 6 (dk_at dksL_law_43 3 rfl rfl)
theorem dL_law_1203 : decode cL_law 1203 = .ok (.if_icmp .eq 5, 3) := dk_159 0 5 (dk_at dksL_law_43 5 rfl rfl)
theorem dL_law_1206 : decode cL_law 1206 = .ok (.iconst 0, 1) := dk_3 (dk_at dksL_law_43 8 rfl rfl)
theorem dL_law_1207 : decode cL_law 1207 = .ok (.ireturn, 1) := dk_172 (dk_at dksL_law_43 9 rfl rfl)
theorem dL_law_1208 : decode cL_law 1208 = .ok (.iload 6, 2) := dk_21 6 (dk_at dksL_law_43 10 rfl rfl)
theorem dL_law_1210 : decode cL_law 1210 = .ok (.ifCond .ne 15, 3) := dk_154 0 15 (dk_at dksL_law_43 12 rfl rfl)
theorem dL_law_1213 : decode cL_law 1213 = .ok (.aload_n 3, 1) := dk_45 (dk_at dksL_law_43 15 rfl rfl)
theorem dL_law_1214 : decode cL_law 1214 = .ok (.iconst 0, 1) := dk_3 (dk_at dksL_law_43 16 rfl rfl)
theorem dL_law_1215 : decode cL_law 1215 = .ok (.laload, 1) := dk_47 (dk_at dksL_law_43 17 rfl rfl)
theorem dL_law_1216 : decode cL_law 1216 = .ok (.iload 7, 2) := dk_21 7 (dk_at dksL_law_43 18 rfl rfl)
theorem dL_law_1218 : decode cL_law 1218 = .ok (.i2l, 1) := dk_133 (dk_at dksL_law_43 20 rfl rfl)
theorem dL_law_1219 : decode cL_law 1219 = .ok (.lcmp, 1) := dk_148 (dk_at dksL_law_43 21 rfl rfl)
theorem dL_law_1220 : decode cL_law 1220 = .ok (.ifCond .eq 5, 3) := dk_153 0 5 (dk_at dksL_law_44 0 rfl rfl)
theorem dL_law_1223 : decode cL_law 1223 = .ok (.iconst 0, 1) := dk_3 (dk_at dksL_law_44 3 rfl rfl)
theorem dL_law_1224 : decode cL_law 1224 = .ok (.ireturn, 1) := dk_172 (dk_at dksL_law_44 4 rfl rfl)
theorem dL_law_1225 : decode cL_law 1225 = .ok (.goto 1598, 3) := dk_167 6 62 (dk_at dksL_law_44 5 rfl rfl)
theorem dL_law_1228 : decode cL_law 1228 = .ok (.aload_n 1, 1) := dk_43 (dk_at dksL_law_44 8 rfl rfl)
theorem dL_law_1229 : decode cL_law 1229 = .ok (.aload_n 0, 1) := dk_42 (dk_at dksL_law_44 9 rfl rfl)
theorem dL_law_1230 : decode cL_law 1230 = .ok (.iload 5, 2) := dk_21 5 (dk_at dksL_law_44 10 rfl rfl)
theorem dL_law_1232 : decode cL_law 1232 = .ok (.iconst 1, 1) := dk_4 (dk_at dksL_law_44 12 rfl rfl)
theorem dL_law_1233 : decode cL_law 1233 = .ok (.iadd, 1) := dk_96 (dk_at dksL_law_44 13 rfl rfl)
theorem dL_law_1234 : decode cL_law 1234 = .ok (.iaload, 1) := dk_46 (dk_at dksL_law_44 14 rfl rfl)
theorem dL_law_1235 : decode cL_law 1235 = .ok (.aload_n 0, 1) := dk_42 (dk_at dksL_law_44 15 rfl rfl)
theorem dL_law_1236 : decode cL_law 1236 = .ok (.iload 5, 2) := dk_21 5 (dk_at dksL_law_44 16 rfl rfl)
theorem dL_law_1238 : decode cL_law 1238 = .ok (.iconst 2, 1) := dk_5 (dk_at dksL_law_44 18 rfl rfl)
theorem dL_law_1239 : decode cL_law 1239 = .ok (.iadd, 1) := dk_96 (dk_at dksL_law_44 19 rfl rfl)
theorem dL_law_1240 : decode cL_law 1240 = .ok (.iaload, 1) := dk_46 (dk_at dksL_law_44 20 rfl rfl)
theorem dL_law_1241 : decode cL_law 1241 = .ok (.aload_n 0, 1) := dk_42 (dk_at dksL_law_44 21 rfl rfl)
theorem dL_law_1242 : decode cL_law 1242 = .ok (.iload 5, 2) := dk_21 5 (dk_at dksL_law_44 22 rfl rfl)
theorem dL_law_1244 : decode cL_law 1244 = .ok (.iconst 3, 1) := dk_6 (dk_at dksL_law_45 0 rfl rfl)
theorem dL_law_1245 : decode cL_law 1245 = .ok (.iadd, 1) := dk_96 (dk_at dksL_law_45 1 rfl rfl)
theorem dL_law_1246 : decode cL_law 1246 = .ok (.iaload, 1) := dk_46 (dk_at dksL_law_45 2 rfl rfl)
theorem dL_law_1247 : decode cL_law 1247 = .ok (.i2c, 1) := dk_146 (dk_at dksL_law_45 3 rfl rfl)
theorem dL_law_1248 : decode cL_law 1248 = .ok (.aload_n 3, 1) := dk_45 (dk_at dksL_law_45 4 rfl rfl)
theorem dL_law_1249 : decode cL_law 1249 = .ok (.invokestatic 226, 3) := dk_184 0 226 (dk_at dksL_law_45 5 rfl rfl)
theorem dL_law_1252 : decode cL_law 1252 = .ok (.istore 6, 2) := dk_54 6 (dk_at dksL_law_45 8 rfl rfl)
theorem dL_law_1254 : decode cL_law 1254 = .ok (.aload_n 2, 1) := dk_44 (dk_at dksL_law_45 10 rfl rfl)
theorem dL_law_1255 : decode cL_law 1255 = .ok (.aload_n 0, 1) := dk_42 (dk_at dksL_law_45 11 rfl rfl)
theorem dL_law_1256 : decode cL_law 1256 = .ok (.iload 5, 2) := dk_21 5 (dk_at dksL_law_45 12 rfl rfl)
theorem dL_law_1258 : decode cL_law 1258 = .ok (.iconst 1, 1) := dk_4 (dk_at dksL_law_45 14 rfl rfl)
theorem dL_law_1259 : decode cL_law 1259 = .ok (.iadd, 1) := dk_96 (dk_at dksL_law_45 15 rfl rfl)
theorem dL_law_1260 : decode cL_law 1260 = .ok (.iaload, 1) := dk_46 (dk_at dksL_law_45 16 rfl rfl)
theorem dL_law_1261 : decode cL_law 1261 = .ok (.aload_n 0, 1) := dk_42 (dk_at dksL_law_45 17 rfl rfl)
theorem dL_law_1262 : decode cL_law 1262 = .ok (.iload 5, 2) := dk_21 5 (dk_at dksL_law_45 18 rfl rfl)
theorem dL_law_1264 : decode cL_law 1264 = .ok (.iconst 2, 1) := dk_5 (dk_at dksL_law_45 20 rfl rfl)
theorem dL_law_1265 : decode cL_law 1265 = .ok (.iadd, 1) := dk_96 (dk_at dksL_law_45 21 rfl rfl)
theorem dL_law_1266 : decode cL_law 1266 = .ok (.iaload, 1) := dk_46 (dk_at dksL_law_45 22 rfl rfl)
theorem dL_law_1267 : decode cL_law 1267 = .ok (.aload_n 0, 1) := dk_42 (dk_at dksL_law_45 23 rfl rfl)
theorem dL_law_1268 : decode cL_law 1268 = .ok (.iload 5, 2) := dk_21 5 (dk_at dksL_law_46 0 rfl rfl)
theorem dL_law_1270 : decode cL_law 1270 = .ok (.iconst 3, 1) := dk_6 (dk_at dksL_law_46 2 rfl rfl)
theorem dL_law_1271 : decode cL_law 1271 = .ok (.iadd, 1) := dk_96 (dk_at dksL_law_46 3 rfl rfl)
theorem dL_law_1272 : decode cL_law 1272 = .ok (.iaload, 1) := dk_46 (dk_at dksL_law_46 4 rfl rfl)
theorem dL_law_1273 : decode cL_law 1273 = .ok (.i2c, 1) := dk_146 (dk_at dksL_law_46 5 rfl rfl)
theorem dL_law_1274 : decode cL_law 1274 = .ok (.invokevirtual 229, 3) := dk_182 0 229 (dk_at dksL_law_46 6 rfl rfl)
theorem dL_law_1277 : decode cL_law 1277 = .ok (.lstore 7, 2) := dk_55 7 (dk_at dksL_law_46 9 rfl rfl)
theorem dL_law_1279 : decode cL_law 1279 = .ok (.aload_n 2, 1) := dk_44 (dk_at dksL_law_46 11 rfl rfl)
theorem dL_law_1280 : decode cL_law 1280 = .ok (.invokevirtual 165, 3) := dk_182 0 165 (dk_at dksL_law_46 12 rfl rfl)
theorem dL_law_1283 : decode cL_law 1283 = .ok (.iload 6, 2) := dk_21 6 (dk_at dksL_law_46 15 rfl rfl)
theorem dL_law_1285 : decode cL_law 1285 = .ok (.if_icmp .eq 5, 3) := dk_159 0 5 (dk_at dksL_law_46 17 rfl rfl)
theorem dL_law_1288 : decode cL_law 1288 = .ok (.iconst 0, 1) := dk_3 (dk_at dksL_law_46 20 rfl rfl)
theorem dL_law_1289 : decode cL_law 1289 = .ok (.ireturn, 1) := dk_172 (dk_at dksL_law_46 21 rfl rfl)
theorem dL_law_1290 : decode cL_law 1290 = .ok (.iload 6, 2) := dk_21 6 (dk_at dksL_law_46 22 rfl rfl)
theorem dL_law_1292 : decode cL_law 1292 = .ok (.ifCond .ne 14, 3) := dk_154 0 14 (dk_at dksL_law_47 0 rfl rfl)
theorem dL_law_1295 : decode cL_law 1295 = .ok (.aload_n 3, 1) := dk_45 (dk_at dksL_law_47 3 rfl rfl)
theorem dL_law_1296 : decode cL_law 1296 = .ok (.iconst 0, 1) := dk_3 (dk_at dksL_law_47 4 rfl rfl)
theorem dL_law_1297 : decode cL_law 1297 = .ok (.laload, 1) := dk_47 (dk_at dksL_law_47 5 rfl rfl)
theorem dL_law_1298 : decode cL_law 1298 = .ok (.lload 7, 2) := dk_22 7 (dk_at dksL_law_47 6 rfl rfl)
theorem dL_law_1300 : decode cL_law 1300 = .ok (.lcmp, 1) := dk_148 (dk_at dksL_law_47 8 rfl rfl)
theorem dL_law_1301 : decode cL_law 1301 = .ok (.ifCond .eq 5, 3) := dk_153 0 5 (dk_at dksL_law_47 9 rfl rfl)
theorem dL_law_1304 : decode cL_law 1304 = .ok (.iconst 0, 1) := dk_3 (dk_at dksL_law_47 12 rfl rfl)
theorem dL_law_1305 : decode cL_law 1305 = .ok (.ireturn, 1) := dk_172 (dk_at dksL_law_47 13 rfl rfl)
theorem dL_law_1306 : decode cL_law 1306 = .ok (.goto 1517, 3) := dk_167 5 237 (dk_at dksL_law_47 14 rfl rfl)
theorem dL_law_1309 : decode cL_law 1309 = .ok (.aload_n 1, 1) := dk_43 (dk_at dksL_law_47 17 rfl rfl)
theorem dL_law_1310 : decode cL_law 1310 = .ok (.aload_n 0, 1) := dk_42 (dk_at dksL_law_47 18 rfl rfl)
theorem dL_law_1311 : decode cL_law 1311 = .ok (.iload 5, 2) := dk_21 5 (dk_at dksL_law_47 19 rfl rfl)
theorem dL_law_1313 : decode cL_law 1313 = .ok (.iconst 1, 1) := dk_4 (dk_at dksL_law_47 21 rfl rfl)
theorem dL_law_1314 : decode cL_law 1314 = .ok (.iadd, 1) := dk_96 (dk_at dksL_law_47 22 rfl rfl)
theorem dL_law_1315 : decode cL_law 1315 = .ok (.iaload, 1) := dk_46 (dk_at dksL_law_47 23 rfl rfl)
theorem dL_law_1316 : decode cL_law 1316 = .ok (.aload_n 0, 1) := dk_42 (dk_at dksL_law_48 0 rfl rfl)
theorem dL_law_1317 : decode cL_law 1317 = .ok (.iload 5, 2) := dk_21 5 (dk_at dksL_law_48 1 rfl rfl)
theorem dL_law_1319 : decode cL_law 1319 = .ok (.iconst 2, 1) := dk_5 (dk_at dksL_law_48 3 rfl rfl)
theorem dL_law_1320 : decode cL_law 1320 = .ok (.iadd, 1) := dk_96 (dk_at dksL_law_48 4 rfl rfl)
theorem dL_law_1321 : decode cL_law 1321 = .ok (.iaload, 1) := dk_46 (dk_at dksL_law_48 5 rfl rfl)
theorem dL_law_1322 : decode cL_law 1322 = .ok (.aload_n 0, 1) := dk_42 (dk_at dksL_law_48 6 rfl rfl)
theorem dL_law_1323 : decode cL_law 1323 = .ok (.iload 5, 2) := dk_21 5 (dk_at dksL_law_48 7 rfl rfl)
theorem dL_law_1325 : decode cL_law 1325 = .ok (.iconst 3, 1) := dk_6 (dk_at dksL_law_48 9 rfl rfl)
theorem dL_law_1326 : decode cL_law 1326 = .ok (.iadd, 1) := dk_96 (dk_at dksL_law_48 10 rfl rfl)
theorem dL_law_1327 : decode cL_law 1327 = .ok (.iaload, 1) := dk_46 (dk_at dksL_law_48 11 rfl rfl)
theorem dL_law_1328 : decode cL_law 1328 = .ok (.i2c, 1) := dk_146 (dk_at dksL_law_48 12 rfl rfl)
theorem dL_law_1329 : decode cL_law 1329 = .ok (.aload_n 3, 1) := dk_45 (dk_at dksL_law_48 13 rfl rfl)
theorem dL_law_1330 : decode cL_law 1330 = .ok (.invokestatic 230, 3) := dk_184 0 230 (dk_at dksL_law_48 14 rfl rfl)
theorem dL_law_1333 : decode cL_law 1333 = .ok (.istore 6, 2) := dk_54 6 (dk_at dksL_law_48 17 rfl rfl)
theorem dL_law_1335 : decode cL_law 1335 = .ok (.aload_n 2, 1) := dk_44 (dk_at dksL_law_48 19 rfl rfl)
theorem dL_law_1336 : decode cL_law 1336 = .ok (.aload_n 0, 1) := dk_42 (dk_at dksL_law_48 20 rfl rfl)
theorem dL_law_1337 : decode cL_law 1337 = .ok (.iload 5, 2) := dk_21 5 (dk_at dksL_law_48 21 rfl rfl)
theorem dL_law_1339 : decode cL_law 1339 = .ok (.iconst 1, 1) := dk_4 (dk_at dksL_law_48 23 rfl rfl)
theorem dL_law_1340 : decode cL_law 1340 = .ok (.iadd, 1) := dk_96 (dk_at dksL_law_49 0 rfl rfl)
theorem dL_law_1341 : decode cL_law 1341 = .ok (.iaload, 1) := dk_46 (dk_at dksL_law_49 1 rfl rfl)
theorem dL_law_1342 : decode cL_law 1342 = .ok (.aload_n 0, 1) := dk_42 (dk_at dksL_law_49 2 rfl rfl)
theorem dL_law_1343 : decode cL_law 1343 = .ok (.iload 5, 2) := dk_21 5 (dk_at dksL_law_49 3 rfl rfl)
theorem dL_law_1345 : decode cL_law 1345 = .ok (.iconst 2, 1) := dk_5 (dk_at dksL_law_49 5 rfl rfl)
theorem dL_law_1346 : decode cL_law 1346 = .ok (.iadd, 1) := dk_96 (dk_at dksL_law_49 6 rfl rfl)
theorem dL_law_1347 : decode cL_law 1347 = .ok (.iaload, 1) := dk_46 (dk_at dksL_law_49 7 rfl rfl)
theorem dL_law_1348 : decode cL_law 1348 = .ok (.aload_n 0, 1) := dk_42 (dk_at dksL_law_49 8 rfl rfl)
theorem dL_law_1349 : decode cL_law 1349 = .ok (.iload 5, 2) := dk_21 5 (dk_at dksL_law_49 9 rfl rfl)
theorem dL_law_1351 : decode cL_law 1351 = .ok (.iconst 3, 1) := dk_6 (dk_at dksL_law_49 11 rfl rfl)
theorem dL_law_1352 : decode cL_law 1352 = .ok (.iadd, 1) := dk_96 (dk_at dksL_law_49 12 rfl rfl)
theorem dL_law_1353 : decode cL_law 1353 = .ok (.iaload, 1) := dk_46 (dk_at dksL_law_49 13 rfl rfl)
theorem dL_law_1354 : decode cL_law 1354 = .ok (.i2c, 1) := dk_146 (dk_at dksL_law_49 14 rfl rfl)
theorem dL_law_1355 : decode cL_law 1355 = .ok (.invokevirtual 232, 3) := dk_182 0 232 (dk_at dksL_law_49 15 rfl rfl)
theorem dL_law_1358 : decode cL_law 1358 = .ok (.lstore 7, 2) := dk_55 7 (dk_at dksL_law_49 18 rfl rfl)
theorem dL_law_1360 : decode cL_law 1360 = .ok (.aload_n 2, 1) := dk_44 (dk_at dksL_law_49 20 rfl rfl)
theorem dL_law_1361 : decode cL_law 1361 = .ok (.invokevirtual 165, 3) := dk_182 0 165 (dk_at dksL_law_49 21 rfl rfl)
theorem dL_law_1364 : decode cL_law 1364 = .ok (.iload 6, 2) := dk_21 6 (dk_at dksL_law_50 0 rfl rfl)
theorem dL_law_1366 : decode cL_law 1366 = .ok (.if_icmp .eq 5, 3) := dk_159 0 5 (dk_at dksL_law_50 2 rfl rfl)
theorem dL_law_1369 : decode cL_law 1369 = .ok (.iconst 0, 1) := dk_3 (dk_at dksL_law_50 5 rfl rfl)
theorem dL_law_1370 : decode cL_law 1370 = .ok (.ireturn, 1) := dk_172 (dk_at dksL_law_50 6 rfl rfl)
theorem dL_law_1371 : decode cL_law 1371 = .ok (.iload 6, 2) := dk_21 6 (dk_at dksL_law_50 7 rfl rfl)
theorem dL_law_1373 : decode cL_law 1373 = .ok (.ifCond .ne 14, 3) := dk_154 0 14 (dk_at dksL_law_50 9 rfl rfl)
theorem dL_law_1376 : decode cL_law 1376 = .ok (.aload_n 3, 1) := dk_45 (dk_at dksL_law_50 12 rfl rfl)
theorem dL_law_1377 : decode cL_law 1377 = .ok (.iconst 0, 1) := dk_3 (dk_at dksL_law_50 13 rfl rfl)
theorem dL_law_1378 : decode cL_law 1378 = .ok (.laload, 1) := dk_47 (dk_at dksL_law_50 14 rfl rfl)
theorem dL_law_1379 : decode cL_law 1379 = .ok (.lload 7, 2) := dk_22 7 (dk_at dksL_law_50 15 rfl rfl)
theorem dL_law_1381 : decode cL_law 1381 = .ok (.lcmp, 1) := dk_148 (dk_at dksL_law_50 17 rfl rfl)
theorem dL_law_1382 : decode cL_law 1382 = .ok (.ifCond .eq 5, 3) := dk_153 0 5 (dk_at dksL_law_50 18 rfl rfl)
theorem dL_law_1385 : decode cL_law 1385 = .ok (.iconst 0, 1) := dk_3 (dk_at dksL_law_50 21 rfl rfl)
theorem dL_law_1386 : decode cL_law 1386 = .ok (.ireturn, 1) := dk_172 (dk_at dksL_law_50 22 rfl rfl)
theorem dL_law_1387 : decode cL_law 1387 = .ok (.goto 1436, 3) := dk_167 5 156 (dk_at dksL_law_51 0 rfl rfl)
theorem dL_law_1390 : decode cL_law 1390 = .ok (.aload_n 1, 1) := dk_43 (dk_at dksL_law_51 3 rfl rfl)
theorem dL_law_1391 : decode cL_law 1391 = .ok (.aload_n 0, 1) := dk_42 (dk_at dksL_law_51 4 rfl rfl)
theorem dL_law_1392 : decode cL_law 1392 = .ok (.iload 5, 2) := dk_21 5 (dk_at dksL_law_51 5 rfl rfl)
theorem dL_law_1394 : decode cL_law 1394 = .ok (.iconst 1, 1) := dk_4 (dk_at dksL_law_51 7 rfl rfl)
theorem dL_law_1395 : decode cL_law 1395 = .ok (.iadd, 1) := dk_96 (dk_at dksL_law_51 8 rfl rfl)
theorem dL_law_1396 : decode cL_law 1396 = .ok (.iaload, 1) := dk_46 (dk_at dksL_law_51 9 rfl rfl)
theorem dL_law_1397 : decode cL_law 1397 = .ok (.aload_n 0, 1) := dk_42 (dk_at dksL_law_51 10 rfl rfl)
theorem dL_law_1398 : decode cL_law 1398 = .ok (.iload 5, 2) := dk_21 5 (dk_at dksL_law_51 11 rfl rfl)
theorem dL_law_1400 : decode cL_law 1400 = .ok (.iconst 2, 1) := dk_5 (dk_at dksL_law_51 13 rfl rfl)
theorem dL_law_1401 : decode cL_law 1401 = .ok (.iadd, 1) := dk_96 (dk_at dksL_law_51 14 rfl rfl)
theorem dL_law_1402 : decode cL_law 1402 = .ok (.iaload, 1) := dk_46 (dk_at dksL_law_51 15 rfl rfl)
theorem dL_law_1403 : decode cL_law 1403 = .ok (.aload_n 3, 1) := dk_45 (dk_at dksL_law_51 16 rfl rfl)
theorem dL_law_1404 : decode cL_law 1404 = .ok (.invokestatic 233, 3) := dk_184 0 233 (dk_at dksL_law_51 17 rfl rfl)
theorem dL_law_1407 : decode cL_law 1407 = .ok (.istore 6, 2) := dk_54 6 (dk_at dksL_law_51 20 rfl rfl)
theorem dL_law_1409 : decode cL_law 1409 = .ok (.aload_n 2, 1) := dk_44 (dk_at dksL_law_51 22 rfl rfl)
theorem dL_law_1410 : decode cL_law 1410 = .ok (.aload_n 0, 1) := dk_42 (dk_at dksL_law_51 23 rfl rfl)
theorem dL_law_1411 : decode cL_law 1411 = .ok (.iload 5, 2) := dk_21 5 (dk_at dksL_law_52 0 rfl rfl)
theorem dL_law_1413 : decode cL_law 1413 = .ok (.iconst 1, 1) := dk_4 (dk_at dksL_law_52 2 rfl rfl)
theorem dL_law_1414 : decode cL_law 1414 = .ok (.iadd, 1) := dk_96 (dk_at dksL_law_52 3 rfl rfl)
theorem dL_law_1415 : decode cL_law 1415 = .ok (.iaload, 1) := dk_46 (dk_at dksL_law_52 4 rfl rfl)
theorem dL_law_1416 : decode cL_law 1416 = .ok (.aload_n 0, 1) := dk_42 (dk_at dksL_law_52 5 rfl rfl)
theorem dL_law_1417 : decode cL_law 1417 = .ok (.iload 5, 2) := dk_21 5 (dk_at dksL_law_52 6 rfl rfl)
theorem dL_law_1419 : decode cL_law 1419 = .ok (.iconst 2, 1) := dk_5 (dk_at dksL_law_52 8 rfl rfl)
theorem dL_law_1420 : decode cL_law 1420 = .ok (.iadd, 1) := dk_96 (dk_at dksL_law_52 9 rfl rfl)
theorem dL_law_1421 : decode cL_law 1421 = .ok (.iaload, 1) := dk_46 (dk_at dksL_law_52 10 rfl rfl)
theorem dL_law_1422 : decode cL_law 1422 = .ok (.invokevirtual 235, 3) := dk_182 0 235 (dk_at dksL_law_52 11 rfl rfl)
theorem dL_law_1425 : decode cL_law 1425 = .ok (.lstore 7, 2) := dk_55 7 (dk_at dksL_law_52 14 rfl rfl)
theorem dL_law_1427 : decode cL_law 1427 = .ok (.aload_n 2, 1) := dk_44 (dk_at dksL_law_52 16 rfl rfl)
theorem dL_law_1428 : decode cL_law 1428 = .ok (.invokevirtual 165, 3) := dk_182 0 165 (dk_at dksL_law_52 17 rfl rfl)
theorem dL_law_1431 : decode cL_law 1431 = .ok (.iload 6, 2) := dk_21 6 (dk_at dksL_law_52 20 rfl rfl)
theorem dL_law_1433 : decode cL_law 1433 = .ok (.if_icmp .eq 5, 3) := dk_159 0 5 (dk_at dksL_law_53 0 rfl rfl)
theorem dL_law_1436 : decode cL_law 1436 = .ok (.iconst 0, 1) := dk_3 (dk_at dksL_law_53 3 rfl rfl)
theorem dL_law_1437 : decode cL_law 1437 = .ok (.ireturn, 1) := dk_172 (dk_at dksL_law_53 4 rfl rfl)
theorem dL_law_1438 : decode cL_law 1438 = .ok (.iload 6, 2) := dk_21 6 (dk_at dksL_law_53 5 rfl rfl)
theorem dL_law_1440 : decode cL_law 1440 = .ok (.ifCond .ne 14, 3) := dk_154 0 14 (dk_at dksL_law_53 7 rfl rfl)
theorem dL_law_1443 : decode cL_law 1443 = .ok (.aload_n 3, 1) := dk_45 (dk_at dksL_law_53 10 rfl rfl)
theorem dL_law_1444 : decode cL_law 1444 = .ok (.iconst 0, 1) := dk_3 (dk_at dksL_law_53 11 rfl rfl)
theorem dL_law_1445 : decode cL_law 1445 = .ok (.laload, 1) := dk_47 (dk_at dksL_law_53 12 rfl rfl)
theorem dL_law_1446 : decode cL_law 1446 = .ok (.lload 7, 2) := dk_22 7 (dk_at dksL_law_53 13 rfl rfl)
theorem dL_law_1448 : decode cL_law 1448 = .ok (.lcmp, 1) := dk_148 (dk_at dksL_law_53 15 rfl rfl)
theorem dL_law_1449 : decode cL_law 1449 = .ok (.ifCond .eq 5, 3) := dk_153 0 5 (dk_at dksL_law_53 16 rfl rfl)
theorem dL_law_1452 : decode cL_law 1452 = .ok (.iconst 0, 1) := dk_3 (dk_at dksL_law_53 19 rfl rfl)
theorem dL_law_1453 : decode cL_law 1453 = .ok (.ireturn, 1) := dk_172 (dk_at dksL_law_53 20 rfl rfl)
theorem dL_law_1454 : decode cL_law 1454 = .ok (.goto 1369, 3) := dk_167 5 89 (dk_at dksL_law_53 21 rfl rfl)
theorem dL_law_1457 : decode cL_law 1457 = .ok (.aload_n 1, 1) := dk_43 (dk_at dksL_law_54 0 rfl rfl)
theorem dL_law_1458 : decode cL_law 1458 = .ok (.aload_n 0, 1) := dk_42 (dk_at dksL_law_54 1 rfl rfl)
theorem dL_law_1459 : decode cL_law 1459 = .ok (.iload 5, 2) := dk_21 5 (dk_at dksL_law_54 2 rfl rfl)
theorem dL_law_1461 : decode cL_law 1461 = .ok (.iconst 1, 1) := dk_4 (dk_at dksL_law_54 4 rfl rfl)
theorem dL_law_1462 : decode cL_law 1462 = .ok (.iadd, 1) := dk_96 (dk_at dksL_law_54 5 rfl rfl)
theorem dL_law_1463 : decode cL_law 1463 = .ok (.iaload, 1) := dk_46 (dk_at dksL_law_54 6 rfl rfl)
theorem dL_law_1464 : decode cL_law 1464 = .ok (.aload_n 0, 1) := dk_42 (dk_at dksL_law_54 7 rfl rfl)
theorem dL_law_1465 : decode cL_law 1465 = .ok (.iload 5, 2) := dk_21 5 (dk_at dksL_law_54 8 rfl rfl)
theorem dL_law_1467 : decode cL_law 1467 = .ok (.iconst 2, 1) := dk_5 (dk_at dksL_law_54 10 rfl rfl)
theorem dL_law_1468 : decode cL_law 1468 = .ok (.iadd, 1) := dk_96 (dk_at dksL_law_54 11 rfl rfl)
theorem dL_law_1469 : decode cL_law 1469 = .ok (.iaload, 1) := dk_46 (dk_at dksL_law_54 12 rfl rfl)
theorem dL_law_1470 : decode cL_law 1470 = .ok (.aload_n 3, 1) := dk_45 (dk_at dksL_law_54 13 rfl rfl)
theorem dL_law_1471 : decode cL_law 1471 = .ok (.invokestatic 236, 3) := dk_184 0 236 (dk_at dksL_law_54 14 rfl rfl)
theorem dL_law_1474 : decode cL_law 1474 = .ok (.istore 6, 2) := dk_54 6 (dk_at dksL_law_54 17 rfl rfl)
theorem dL_law_1476 : decode cL_law 1476 = .ok (.aload_n 2, 1) := dk_44 (dk_at dksL_law_54 19 rfl rfl)
theorem dL_law_1477 : decode cL_law 1477 = .ok (.aload_n 0, 1) := dk_42 (dk_at dksL_law_54 20 rfl rfl)
theorem dL_law_1478 : decode cL_law 1478 = .ok (.iload 5, 2) := dk_21 5 (dk_at dksL_law_54 21 rfl rfl)
theorem dL_law_1480 : decode cL_law 1480 = .ok (.iconst 1, 1) := dk_4 (dk_at dksL_law_54 23 rfl rfl)
theorem dL_law_1481 : decode cL_law 1481 = .ok (.iadd, 1) := dk_96 (dk_at dksL_law_55 0 rfl rfl)
theorem dL_law_1482 : decode cL_law 1482 = .ok (.iaload, 1) := dk_46 (dk_at dksL_law_55 1 rfl rfl)
theorem dL_law_1483 : decode cL_law 1483 = .ok (.aload_n 0, 1) := dk_42 (dk_at dksL_law_55 2 rfl rfl)
theorem dL_law_1484 : decode cL_law 1484 = .ok (.iload 5, 2) := dk_21 5 (dk_at dksL_law_55 3 rfl rfl)
theorem dL_law_1486 : decode cL_law 1486 = .ok (.iconst 2, 1) := dk_5 (dk_at dksL_law_55 5 rfl rfl)
theorem dL_law_1487 : decode cL_law 1487 = .ok (.iadd, 1) := dk_96 (dk_at dksL_law_55 6 rfl rfl)
theorem dL_law_1488 : decode cL_law 1488 = .ok (.iaload, 1) := dk_46 (dk_at dksL_law_55 7 rfl rfl)
theorem dL_law_1489 : decode cL_law 1489 = .ok (.invokevirtual 238, 3) := dk_182 0 238 (dk_at dksL_law_55 8 rfl rfl)
theorem dL_law_1492 : decode cL_law 1492 = .ok (.istore 7, 2) := dk_54 7 (dk_at dksL_law_55 11 rfl rfl)
theorem dL_law_1494 : decode cL_law 1494 = .ok (.aload_n 2, 1) := dk_44 (dk_at dksL_law_55 13 rfl rfl)
theorem dL_law_1495 : decode cL_law 1495 = .ok (.invokevirtual 165, 3) := dk_182 0 165 (dk_at dksL_law_55 14 rfl rfl)
theorem dL_law_1498 : decode cL_law 1498 = .ok (.iload 6, 2) := dk_21 6 (dk_at dksL_law_55 17 rfl rfl)
theorem dL_law_1500 : decode cL_law 1500 = .ok (.if_icmp .eq 5, 3) := dk_159 0 5 (dk_at dksL_law_55 19 rfl rfl)
theorem dL_law_1503 : decode cL_law 1503 = .ok (.iconst 0, 1) := dk_3 (dk_at dksL_law_55 22 rfl rfl)
theorem dL_law_1504 : decode cL_law 1504 = .ok (.ireturn, 1) := dk_172 (dk_at dksL_law_55 23 rfl rfl)
theorem dL_law_1505 : decode cL_law 1505 = .ok (.iload 6, 2) := dk_21 6 (dk_at dksL_law_56 0 rfl rfl)
theorem dL_law_1507 : decode cL_law 1507 = .ok (.ifCond .ne 22, 3) := dk_154 0 22 (dk_at dksL_law_56 2 rfl rfl)
theorem dL_law_1510 : decode cL_law 1510 = .ok (.aload_n 3, 1) := dk_45 (dk_at dksL_law_56 5 rfl rfl)
theorem dL_law_1511 : decode cL_law 1511 = .ok (.iconst 0, 1) := dk_3 (dk_at dksL_law_56 6 rfl rfl)
theorem dL_law_1512 : decode cL_law 1512 = .ok (.laload, 1) := dk_47 (dk_at dksL_law_56 7 rfl rfl)
theorem dL_law_1513 : decode cL_law 1513 = .ok (.iload 7, 2) := dk_21 7 (dk_at dksL_law_56 8 rfl rfl)
theorem dL_law_1515 : decode cL_law 1515 = .ok (.ifCond .eq 7, 3) := dk_153 0 7 (dk_at dksL_law_56 10 rfl rfl)
theorem dL_law_1518 : decode cL_law 1518 = .ok (.lconst 1, 1) := dk_10 (dk_at dksL_law_56 13 rfl rfl)
theorem dL_law_1519 : decode cL_law 1519 = .ok (.goto 4, 3) := dk_167 0 4 (dk_at dksL_law_56 14 rfl rfl)
theorem dL_law_1522 : decode cL_law 1522 = .ok (.lconst 0, 1) := dk_9 (dk_at dksL_law_56 17 rfl rfl)
theorem dL_law_1523 : decode cL_law 1523 = .ok (.lcmp, 1) := dk_148 (dk_at dksL_law_56 18 rfl rfl)
theorem dL_law_1524 : decode cL_law 1524 = .ok (.ifCond .eq 5, 3) := dk_153 0 5 (dk_at dksL_law_56 19 rfl rfl)
theorem dL_law_1527 : decode cL_law 1527 = .ok (.iconst 0, 1) := dk_3 (dk_at dksL_law_56 22 rfl rfl)
theorem dL_law_1528 : decode cL_law 1528 = .ok (.ireturn, 1) := dk_172 (dk_at dksL_law_56 23 rfl rfl)
theorem dL_law_1529 : decode cL_law 1529 = .ok (.goto 1294, 3) := dk_167 5 14 (dk_at dksL_law_57 0 rfl rfl)
theorem dL_law_1532 : decode cL_law 1532 = .ok (.aload_n 1, 1) := dk_43 (dk_at dksL_law_57 3 rfl rfl)
theorem dL_law_1533 : decode cL_law 1533 = .ok (.invokevirtual 239, 3) := dk_182 0 239 (dk_at dksL_law_57 4 rfl rfl)
theorem dL_law_1536 : decode cL_law 1536 = .ok (.aload_n 2, 1) := dk_44 (dk_at dksL_law_57 7 rfl rfl)
theorem dL_law_1537 : decode cL_law 1537 = .ok (.invokevirtual 242, 3) := dk_182 0 242 (dk_at dksL_law_57 8 rfl rfl)
theorem dL_law_1540 : decode cL_law 1540 = .ok (.if_icmp .eq 1283, 3) := dk_159 5 3 (dk_at dksL_law_57 11 rfl rfl)
theorem dL_law_1543 : decode cL_law 1543 = .ok (.iconst 0, 1) := dk_3 (dk_at dksL_law_57 14 rfl rfl)
theorem dL_law_1544 : decode cL_law 1544 = .ok (.ireturn, 1) := dk_172 (dk_at dksL_law_57 15 rfl rfl)
theorem dL_law_1545 : decode cL_law 1545 = .ok (.aload_n 1, 1) := dk_43 (dk_at dksL_law_57 16 rfl rfl)
theorem dL_law_1546 : decode cL_law 1546 = .ok (.invokevirtual 243, 3) := dk_182 0 243 (dk_at dksL_law_57 17 rfl rfl)
theorem dL_law_1549 : decode cL_law 1549 = .ok (.aload_n 2, 1) := dk_44 (dk_at dksL_law_57 20 rfl rfl)
theorem dL_law_1550 : decode cL_law 1550 = .ok (.invokevirtual 246, 3) := dk_182 0 246 (dk_at dksL_law_57 21 rfl rfl)
theorem dL_law_1553 : decode cL_law 1553 = .ok (.if_icmp .eq 1270, 3) := dk_159 4 246 (dk_at dksL_law_58 0 rfl rfl)
theorem dL_law_1556 : decode cL_law 1556 = .ok (.iconst 0, 1) := dk_3 (dk_at dksL_law_58 3 rfl rfl)
theorem dL_law_1557 : decode cL_law 1557 = .ok (.ireturn, 1) := dk_172 (dk_at dksL_law_58 4 rfl rfl)
theorem dL_law_1558 : decode cL_law 1558 = .ok (.aload_n 1, 1) := dk_43 (dk_at dksL_law_58 5 rfl rfl)
theorem dL_law_1559 : decode cL_law 1559 = .ok (.aload_n 0, 1) := dk_42 (dk_at dksL_law_58 6 rfl rfl)
theorem dL_law_1560 : decode cL_law 1560 = .ok (.iload 5, 2) := dk_21 5 (dk_at dksL_law_58 7 rfl rfl)
theorem dL_law_1562 : decode cL_law 1562 = .ok (.iconst 1, 1) := dk_4 (dk_at dksL_law_58 9 rfl rfl)
theorem dL_law_1563 : decode cL_law 1563 = .ok (.iadd, 1) := dk_96 (dk_at dksL_law_58 10 rfl rfl)
theorem dL_law_1564 : decode cL_law 1564 = .ok (.iaload, 1) := dk_46 (dk_at dksL_law_58 11 rfl rfl)
theorem dL_law_1565 : decode cL_law 1565 = .ok (.aload_n 3, 1) := dk_45 (dk_at dksL_law_58 12 rfl rfl)
theorem dL_law_1566 : decode cL_law 1566 = .ok (.invokestatic 247, 3) := dk_184 0 247 (dk_at dksL_law_58 13 rfl rfl)
theorem dL_law_1569 : decode cL_law 1569 = .ok (.istore 6, 2) := dk_54 6 (dk_at dksL_law_58 16 rfl rfl)
theorem dL_law_1571 : decode cL_law 1571 = .ok (.aload_n 2, 1) := dk_44 (dk_at dksL_law_58 18 rfl rfl)
theorem dL_law_1572 : decode cL_law 1572 = .ok (.aload_n 0, 1) := dk_42 (dk_at dksL_law_58 19 rfl rfl)
theorem dL_law_1573 : decode cL_law 1573 = .ok (.iload 5, 2) := dk_21 5 (dk_at dksL_law_58 20 rfl rfl)
theorem dL_law_1575 : decode cL_law 1575 = .ok (.iconst 1, 1) := dk_4 (dk_at dksL_law_58 22 rfl rfl)
theorem dL_law_1576 : decode cL_law 1576 = .ok (.iadd, 1) := dk_96 (dk_at dksL_law_58 23 rfl rfl)
theorem dL_law_1577 : decode cL_law 1577 = .ok (.iaload, 1) := dk_46 (dk_at dksL_law_59 0 rfl rfl)
theorem dL_law_1578 : decode cL_law 1578 = .ok (.invokevirtual 249, 3) := dk_182 0 249 (dk_at dksL_law_59 1 rfl rfl)
theorem dL_law_1581 : decode cL_law 1581 = .ok (.istore 7, 2) := dk_54 7 (dk_at dksL_law_59 4 rfl rfl)
theorem dL_law_1583 : decode cL_law 1583 = .ok (.aload_n 2, 1) := dk_44 (dk_at dksL_law_59 6 rfl rfl)
theorem dL_law_1584 : decode cL_law 1584 = .ok (.invokevirtual 165, 3) := dk_182 0 165 (dk_at dksL_law_59 7 rfl rfl)
theorem dL_law_1587 : decode cL_law 1587 = .ok (.iload 6, 2) := dk_21 6 (dk_at dksL_law_59 10 rfl rfl)
theorem dL_law_1589 : decode cL_law 1589 = .ok (.if_icmp .eq 5, 3) := dk_159 0 5 (dk_at dksL_law_59 12 rfl rfl)
theorem dL_law_1592 : decode cL_law 1592 = .ok (.iconst 0, 1) := dk_3 (dk_at dksL_law_59 15 rfl rfl)
theorem dL_law_1593 : decode cL_law 1593 = .ok (.ireturn, 1) := dk_172 (dk_at dksL_law_59 16 rfl rfl)
theorem dL_law_1594 : decode cL_law 1594 = .ok (.iload 6, 2) := dk_21 6 (dk_at dksL_law_59 17 rfl rfl)
theorem dL_law_1596 : decode cL_law 1596 = .ok (.ifCond .ne 15, 3) := dk_154 0 15 (dk_at dksL_law_59 19 rfl rfl)
theorem dL_law_1599 : decode cL_law 1599 = .ok (.aload_n 3, 1) := dk_45 (dk_at dksL_law_59 22 rfl rfl)
theorem dL_law_1600 : decode cL_law 1600 = .ok (.iconst 0, 1) := dk_3 (dk_at dksL_law_59 23 rfl rfl)
theorem dL_law_1601 : decode cL_law 1601 = .ok (.laload, 1) := dk_47 (dk_at dksL_law_60 0 rfl rfl)
theorem dL_law_1602 : decode cL_law 1602 = .ok (.iload 7, 2) := dk_21 7 (dk_at dksL_law_60 1 rfl rfl)
theorem dL_law_1604 : decode cL_law 1604 = .ok (.i2l, 1) := dk_133 (dk_at dksL_law_60 3 rfl rfl)
theorem dL_law_1605 : decode cL_law 1605 = .ok (.lcmp, 1) := dk_148 (dk_at dksL_law_60 4 rfl rfl)
theorem dL_law_1606 : decode cL_law 1606 = .ok (.ifCond .eq 5, 3) := dk_153 0 5 (dk_at dksL_law_60 5 rfl rfl)
theorem dL_law_1609 : decode cL_law 1609 = .ok (.iconst 0, 1) := dk_3 (dk_at dksL_law_60 8 rfl rfl)
theorem dL_law_1610 : decode cL_law 1610 = .ok (.ireturn, 1) := dk_172 (dk_at dksL_law_60 9 rfl rfl)
theorem dL_law_1611 : decode cL_law 1611 = .ok (.goto 1212, 3) := dk_167 4 188 (dk_at dksL_law_60 10 rfl rfl)
theorem dL_law_1614 : decode cL_law 1614 = .ok (.aload_n 1, 1) := dk_43 (dk_at dksL_law_60 13 rfl rfl)
theorem dL_law_1615 : decode cL_law 1615 = .ok (.aload_n 0, 1) := dk_42 (dk_at dksL_law_60 14 rfl rfl)
theorem dL_law_1616 : decode cL_law 1616 = .ok (.iload 5, 2) := dk_21 5 (dk_at dksL_law_60 15 rfl rfl)
theorem dL_law_1618 : decode cL_law 1618 = .ok (.iconst 1, 1) := dk_4 (dk_at dksL_law_60 17 rfl rfl)
theorem dL_law_1619 : decode cL_law 1619 = .ok (.iadd, 1) := dk_96 (dk_at dksL_law_60 18 rfl rfl)
theorem dL_law_1620 : decode cL_law 1620 = .ok (.iaload, 1) := dk_46 (dk_at dksL_law_60 19 rfl rfl)
theorem dL_law_1621 : decode cL_law 1621 = .ok (.aload_n 0, 1) := dk_42 (dk_at dksL_law_60 20 rfl rfl)
theorem dL_law_1622 : decode cL_law 1622 = .ok (.iload 5, 2) := dk_21 5 (dk_at dksL_law_60 21 rfl rfl)
theorem dL_law_1624 : decode cL_law 1624 = .ok (.iconst 2, 1) := dk_5 (dk_at dksL_law_60 23 rfl rfl)
theorem dL_law_1625 : decode cL_law 1625 = .ok (.iadd, 1) := dk_96 (dk_at dksL_law_61 0 rfl rfl)
theorem dL_law_1626 : decode cL_law 1626 = .ok (.iaload, 1) := dk_46 (dk_at dksL_law_61 1 rfl rfl)
theorem dL_law_1627 : decode cL_law 1627 = .ok (.aload_n 0, 1) := dk_42 (dk_at dksL_law_61 2 rfl rfl)
theorem dL_law_1628 : decode cL_law 1628 = .ok (.iload 5, 2) := dk_21 5 (dk_at dksL_law_61 3 rfl rfl)
theorem dL_law_1630 : decode cL_law 1630 = .ok (.iconst 3, 1) := dk_6 (dk_at dksL_law_61 5 rfl rfl)
theorem dL_law_1631 : decode cL_law 1631 = .ok (.iadd, 1) := dk_96 (dk_at dksL_law_61 6 rfl rfl)
theorem dL_law_1632 : decode cL_law 1632 = .ok (.iaload, 1) := dk_46 (dk_at dksL_law_61 7 rfl rfl)
theorem dL_law_1633 : decode cL_law 1633 = .ok (.i2c, 1) := dk_146 (dk_at dksL_law_61 8 rfl rfl)
theorem dL_law_1634 : decode cL_law 1634 = .ok (.aload_n 3, 1) := dk_45 (dk_at dksL_law_61 9 rfl rfl)
theorem dL_law_1635 : decode cL_law 1635 = .ok (.invokestatic 250, 3) := dk_184 0 250 (dk_at dksL_law_61 10 rfl rfl)
theorem dL_law_1638 : decode cL_law 1638 = .ok (.istore 6, 2) := dk_54 6 (dk_at dksL_law_61 13 rfl rfl)
theorem dL_law_1640 : decode cL_law 1640 = .ok (.aload_n 2, 1) := dk_44 (dk_at dksL_law_61 15 rfl rfl)
theorem dL_law_1641 : decode cL_law 1641 = .ok (.aload_n 0, 1) := dk_42 (dk_at dksL_law_61 16 rfl rfl)
theorem dL_law_1642 : decode cL_law 1642 = .ok (.iload 5, 2) := dk_21 5 (dk_at dksL_law_61 17 rfl rfl)
theorem dL_law_1644 : decode cL_law 1644 = .ok (.iconst 1, 1) := dk_4 (dk_at dksL_law_61 19 rfl rfl)
theorem dL_law_1645 : decode cL_law 1645 = .ok (.iadd, 1) := dk_96 (dk_at dksL_law_61 20 rfl rfl)
theorem dL_law_1646 : decode cL_law 1646 = .ok (.iaload, 1) := dk_46 (dk_at dksL_law_61 21 rfl rfl)
theorem dL_law_1647 : decode cL_law 1647 = .ok (.aload_n 0, 1) := dk_42 (dk_at dksL_law_61 22 rfl rfl)
theorem dL_law_1648 : decode cL_law 1648 = .ok (.iload 5, 2) := dk_21 5 (dk_at dksL_law_62 0 rfl rfl)
theorem dL_law_1650 : decode cL_law 1650 = .ok (.iconst 2, 1) := dk_5 (dk_at dksL_law_62 2 rfl rfl)
theorem dL_law_1651 : decode cL_law 1651 = .ok (.iadd, 1) := dk_96 (dk_at dksL_law_62 3 rfl rfl)
theorem dL_law_1652 : decode cL_law 1652 = .ok (.iaload, 1) := dk_46 (dk_at dksL_law_62 4 rfl rfl)
theorem dL_law_1653 : decode cL_law 1653 = .ok (.aload_n 0, 1) := dk_42 (dk_at dksL_law_62 5 rfl rfl)
theorem dL_law_1654 : decode cL_law 1654 = .ok (.iload 5, 2) := dk_21 5 (dk_at dksL_law_62 6 rfl rfl)
theorem dL_law_1656 : decode cL_law 1656 = .ok (.iconst 3, 1) := dk_6 (dk_at dksL_law_62 8 rfl rfl)
theorem dL_law_1657 : decode cL_law 1657 = .ok (.iadd, 1) := dk_96 (dk_at dksL_law_62 9 rfl rfl)
theorem dL_law_1658 : decode cL_law 1658 = .ok (.iaload, 1) := dk_46 (dk_at dksL_law_62 10 rfl rfl)
theorem dL_law_1659 : decode cL_law 1659 = .ok (.i2c, 1) := dk_146 (dk_at dksL_law_62 11 rfl rfl)
theorem dL_law_1660 : decode cL_law 1660 = .ok (.invokevirtual 252, 3) := dk_182 0 252 (dk_at dksL_law_62 12 rfl rfl)
theorem dL_law_1663 : decode cL_law 1663 = .ok (.istore 7, 2) := dk_54 7 (dk_at dksL_law_62 15 rfl rfl)
theorem dL_law_1665 : decode cL_law 1665 = .ok (.aload_n 2, 1) := dk_44 (dk_at dksL_law_62 17 rfl rfl)
theorem dL_law_1666 : decode cL_law 1666 = .ok (.invokevirtual 165, 3) := dk_182 0 165 (dk_at dksL_law_62 18 rfl rfl)
theorem dL_law_1669 : decode cL_law 1669 = .ok (.iload 6, 2) := dk_21 6 (dk_at dksL_law_62 21 rfl rfl)
theorem dL_law_1671 : decode cL_law 1671 = .ok (.if_icmp .eq 5, 3) := dk_159 0 5 (dk_at dksL_law_63 0 rfl rfl)
theorem dL_law_1674 : decode cL_law 1674 = .ok (.iconst 0, 1) := dk_3 (dk_at dksL_law_63 3 rfl rfl)
theorem dL_law_1675 : decode cL_law 1675 = .ok (.ireturn, 1) := dk_172 (dk_at dksL_law_63 4 rfl rfl)
theorem dL_law_1676 : decode cL_law 1676 = .ok (.iload 6, 2) := dk_21 6 (dk_at dksL_law_63 5 rfl rfl)
theorem dL_law_1678 : decode cL_law 1678 = .ok (.ifCond .ne 15, 3) := dk_154 0 15 (dk_at dksL_law_63 7 rfl rfl)
theorem dL_law_1681 : decode cL_law 1681 = .ok (.aload_n 3, 1) := dk_45 (dk_at dksL_law_63 10 rfl rfl)
theorem dL_law_1682 : decode cL_law 1682 = .ok (.iconst 0, 1) := dk_3 (dk_at dksL_law_63 11 rfl rfl)
theorem dL_law_1683 : decode cL_law 1683 = .ok (.laload, 1) := dk_47 (dk_at dksL_law_63 12 rfl rfl)
theorem dL_law_1684 : decode cL_law 1684 = .ok (.iload 7, 2) := dk_21 7 (dk_at dksL_law_63 13 rfl rfl)
theorem dL_law_1686 : decode cL_law 1686 = .ok (.i2l, 1) := dk_133 (dk_at dksL_law_63 15 rfl rfl)
theorem dL_law_1687 : decode cL_law 1687 = .ok (.lcmp, 1) := dk_148 (dk_at dksL_law_63 16 rfl rfl)
theorem dL_law_1688 : decode cL_law 1688 = .ok (.ifCond .eq 5, 3) := dk_153 0 5 (dk_at dksL_law_63 17 rfl rfl)
theorem dL_law_1691 : decode cL_law 1691 = .ok (.iconst 0, 1) := dk_3 (dk_at dksL_law_63 20 rfl rfl)
theorem dL_law_1692 : decode cL_law 1692 = .ok (.ireturn, 1) := dk_172 (dk_at dksL_law_63 21 rfl rfl)
theorem dL_law_1693 : decode cL_law 1693 = .ok (.goto 1130, 3) := dk_167 4 106 (dk_at dksL_law_64 0 rfl rfl)
theorem dL_law_1696 : decode cL_law 1696 = .ok (.aload_n 1, 1) := dk_43 (dk_at dksL_law_64 3 rfl rfl)
theorem dL_law_1697 : decode cL_law 1697 = .ok (.aload_n 0, 1) := dk_42 (dk_at dksL_law_64 4 rfl rfl)
theorem dL_law_1698 : decode cL_law 1698 = .ok (.iload 5, 2) := dk_21 5 (dk_at dksL_law_64 5 rfl rfl)
theorem dL_law_1700 : decode cL_law 1700 = .ok (.iconst 1, 1) := dk_4 (dk_at dksL_law_64 7 rfl rfl)
theorem dL_law_1701 : decode cL_law 1701 = .ok (.iadd, 1) := dk_96 (dk_at dksL_law_64 8 rfl rfl)
theorem dL_law_1702 : decode cL_law 1702 = .ok (.iaload, 1) := dk_46 (dk_at dksL_law_64 9 rfl rfl)
theorem dL_law_1703 : decode cL_law 1703 = .ok (.aload_n 0, 1) := dk_42 (dk_at dksL_law_64 10 rfl rfl)
theorem dL_law_1704 : decode cL_law 1704 = .ok (.iload 5, 2) := dk_21 5 (dk_at dksL_law_64 11 rfl rfl)
theorem dL_law_1706 : decode cL_law 1706 = .ok (.iconst 2, 1) := dk_5 (dk_at dksL_law_64 13 rfl rfl)
theorem dL_law_1707 : decode cL_law 1707 = .ok (.iadd, 1) := dk_96 (dk_at dksL_law_64 14 rfl rfl)
theorem dL_law_1708 : decode cL_law 1708 = .ok (.iaload, 1) := dk_46 (dk_at dksL_law_64 15 rfl rfl)
theorem dL_law_1709 : decode cL_law 1709 = .ok (.aload_n 0, 1) := dk_42 (dk_at dksL_law_64 16 rfl rfl)
theorem dL_law_1710 : decode cL_law 1710 = .ok (.iload 5, 2) := dk_21 5 (dk_at dksL_law_64 17 rfl rfl)
theorem dL_law_1712 : decode cL_law 1712 = .ok (.iconst 3, 1) := dk_6 (dk_at dksL_law_64 19 rfl rfl)
theorem dL_law_1713 : decode cL_law 1713 = .ok (.iadd, 1) := dk_96 (dk_at dksL_law_64 20 rfl rfl)
theorem dL_law_1714 : decode cL_law 1714 = .ok (.iaload, 1) := dk_46 (dk_at dksL_law_64 21 rfl rfl)
theorem dL_law_1715 : decode cL_law 1715 = .ok (.i2c, 1) := dk_146 (dk_at dksL_law_64 22 rfl rfl)
theorem dL_law_1716 : decode cL_law 1716 = .ok (.aload_n 3, 1) := dk_45 (dk_at dksL_law_64 23 rfl rfl)
theorem dL_law_1717 : decode cL_law 1717 = .ok (.invokestatic 253, 3) := dk_184 0 253 (dk_at dksL_law_65 0 rfl rfl)
theorem dL_law_1720 : decode cL_law 1720 = .ok (.istore 6, 2) := dk_54 6 (dk_at dksL_law_65 3 rfl rfl)
theorem dL_law_1722 : decode cL_law 1722 = .ok (.aload_n 2, 1) := dk_44 (dk_at dksL_law_65 5 rfl rfl)
theorem dL_law_1723 : decode cL_law 1723 = .ok (.aload_n 0, 1) := dk_42 (dk_at dksL_law_65 6 rfl rfl)
theorem dL_law_1724 : decode cL_law 1724 = .ok (.iload 5, 2) := dk_21 5 (dk_at dksL_law_65 7 rfl rfl)
theorem dL_law_1726 : decode cL_law 1726 = .ok (.iconst 1, 1) := dk_4 (dk_at dksL_law_65 9 rfl rfl)
theorem dL_law_1727 : decode cL_law 1727 = .ok (.iadd, 1) := dk_96 (dk_at dksL_law_65 10 rfl rfl)
theorem dL_law_1728 : decode cL_law 1728 = .ok (.iaload, 1) := dk_46 (dk_at dksL_law_65 11 rfl rfl)
theorem dL_law_1729 : decode cL_law 1729 = .ok (.aload_n 0, 1) := dk_42 (dk_at dksL_law_65 12 rfl rfl)
theorem dL_law_1730 : decode cL_law 1730 = .ok (.iload 5, 2) := dk_21 5 (dk_at dksL_law_65 13 rfl rfl)
theorem dL_law_1732 : decode cL_law 1732 = .ok (.iconst 2, 1) := dk_5 (dk_at dksL_law_65 15 rfl rfl)
theorem dL_law_1733 : decode cL_law 1733 = .ok (.iadd, 1) := dk_96 (dk_at dksL_law_65 16 rfl rfl)
theorem dL_law_1734 : decode cL_law 1734 = .ok (.iaload, 1) := dk_46 (dk_at dksL_law_65 17 rfl rfl)
theorem dL_law_1735 : decode cL_law 1735 = .ok (.aload_n 0, 1) := dk_42 (dk_at dksL_law_65 18 rfl rfl)
theorem dL_law_1736 : decode cL_law 1736 = .ok (.iload 5, 2) := dk_21 5 (dk_at dksL_law_65 19 rfl rfl)
theorem dL_law_1738 : decode cL_law 1738 = .ok (.iconst 3, 1) := dk_6 (dk_at dksL_law_65 21 rfl rfl)
theorem dL_law_1739 : decode cL_law 1739 = .ok (.iadd, 1) := dk_96 (dk_at dksL_law_65 22 rfl rfl)
theorem dL_law_1740 : decode cL_law 1740 = .ok (.iaload, 1) := dk_46 (dk_at dksL_law_65 23 rfl rfl)
theorem dL_law_1741 : decode cL_law 1741 = .ok (.i2c, 1) := dk_146 (dk_at dksL_law_66 0 rfl rfl)
theorem dL_law_1742 : decode cL_law 1742 = .ok (.invokevirtual 255, 3) := dk_182 0 255 (dk_at dksL_law_66 1 rfl rfl)
theorem dL_law_1745 : decode cL_law 1745 = .ok (.istore 7, 2) := dk_54 7 (dk_at dksL_law_66 4 rfl rfl)
theorem dL_law_1747 : decode cL_law 1747 = .ok (.aload_n 2, 1) := dk_44 (dk_at dksL_law_66 6 rfl rfl)
theorem dL_law_1748 : decode cL_law 1748 = .ok (.invokevirtual 165, 3) := dk_182 0 165 (dk_at dksL_law_66 7 rfl rfl)
theorem dL_law_1751 : decode cL_law 1751 = .ok (.iload 6, 2) := dk_21 6 (dk_at dksL_law_66 10 rfl rfl)
theorem dL_law_1753 : decode cL_law 1753 = .ok (.if_icmp .eq 5, 3) := dk_159 0 5 (dk_at dksL_law_66 12 rfl rfl)
theorem dL_law_1756 : decode cL_law 1756 = .ok (.iconst 0, 1) := dk_3 (dk_at dksL_law_66 15 rfl rfl)
theorem dL_law_1757 : decode cL_law 1757 = .ok (.ireturn, 1) := dk_172 (dk_at dksL_law_66 16 rfl rfl)
theorem dL_law_1758 : decode cL_law 1758 = .ok (.iload 6, 2) := dk_21 6 (dk_at dksL_law_66 17 rfl rfl)
theorem dL_law_1760 : decode cL_law 1760 = .ok (.ifCond .ne 15, 3) := dk_154 0 15 (dk_at dksL_law_66 19 rfl rfl)
theorem dL_law_1763 : decode cL_law 1763 = .ok (.aload_n 3, 1) := dk_45 (dk_at dksL_law_66 22 rfl rfl)
theorem dL_law_1764 : decode cL_law 1764 = .ok (.iconst 0, 1) := dk_3 (dk_at dksL_law_66 23 rfl rfl)
theorem dL_law_1765 : decode cL_law 1765 = .ok (.laload, 1) := dk_47 (dk_at dksL_law_67 0 rfl rfl)
theorem dL_law_1766 : decode cL_law 1766 = .ok (.iload 7, 2) := dk_21 7 (dk_at dksL_law_67 1 rfl rfl)
theorem dL_law_1768 : decode cL_law 1768 = .ok (.i2l, 1) := dk_133 (dk_at dksL_law_67 3 rfl rfl)
theorem dL_law_1769 : decode cL_law 1769 = .ok (.lcmp, 1) := dk_148 (dk_at dksL_law_67 4 rfl rfl)
theorem dL_law_1770 : decode cL_law 1770 = .ok (.ifCond .eq 5, 3) := dk_153 0 5 (dk_at dksL_law_67 5 rfl rfl)
theorem dL_law_1773 : decode cL_law 1773 = .ok (.iconst 0, 1) := dk_3 (dk_at dksL_law_67 8 rfl rfl)
theorem dL_law_1774 : decode cL_law 1774 = .ok (.ireturn, 1) := dk_172 (dk_at dksL_law_67 9 rfl rfl)
theorem dL_law_1775 : decode cL_law 1775 = .ok (.goto 1048, 3) := dk_167 4 24 (dk_at dksL_law_67 10 rfl rfl)
theorem dL_law_1778 : decode cL_law 1778 = .ok (.aload_n 1, 1) := dk_43 (dk_at dksL_law_67 13 rfl rfl)
theorem dL_law_1779 : decode cL_law 1779 = .ok (.aload_n 0, 1) := dk_42 (dk_at dksL_law_67 14 rfl rfl)
theorem dL_law_1780 : decode cL_law 1780 = .ok (.iload 5, 2) := dk_21 5 (dk_at dksL_law_67 15 rfl rfl)
theorem dL_law_1782 : decode cL_law 1782 = .ok (.iconst 1, 1) := dk_4 (dk_at dksL_law_67 17 rfl rfl)
theorem dL_law_1783 : decode cL_law 1783 = .ok (.iadd, 1) := dk_96 (dk_at dksL_law_67 18 rfl rfl)
theorem dL_law_1784 : decode cL_law 1784 = .ok (.iaload, 1) := dk_46 (dk_at dksL_law_67 19 rfl rfl)
theorem dL_law_1785 : decode cL_law 1785 = .ok (.aload_n 3, 1) := dk_45 (dk_at dksL_law_67 20 rfl rfl)
theorem dL_law_1786 : decode cL_law 1786 = .ok (.invokestatic 256, 3) := dk_184 1 0 (dk_at dksL_law_67 21 rfl rfl)
theorem dL_law_1789 : decode cL_law 1789 = .ok (.istore 6, 2) := dk_54 6 (dk_at dksL_law_68 0 rfl rfl)
theorem dL_law_1791 : decode cL_law 1791 = .ok (.aload_n 2, 1) := dk_44 (dk_at dksL_law_68 2 rfl rfl)
theorem dL_law_1792 : decode cL_law 1792 = .ok (.aload_n 0, 1) := dk_42 (dk_at dksL_law_68 3 rfl rfl)
theorem dL_law_1793 : decode cL_law 1793 = .ok (.iload 5, 2) := dk_21 5 (dk_at dksL_law_68 4 rfl rfl)
theorem dL_law_1795 : decode cL_law 1795 = .ok (.iconst 1, 1) := dk_4 (dk_at dksL_law_68 6 rfl rfl)
theorem dL_law_1796 : decode cL_law 1796 = .ok (.iadd, 1) := dk_96 (dk_at dksL_law_68 7 rfl rfl)
theorem dL_law_1797 : decode cL_law 1797 = .ok (.iaload, 1) := dk_46 (dk_at dksL_law_68 8 rfl rfl)
theorem dL_law_1798 : decode cL_law 1798 = .ok (.invokevirtual 258, 3) := dk_182 1 2 (dk_at dksL_law_68 9 rfl rfl)
theorem dL_law_1801 : decode cL_law 1801 = .ok (.istore 7, 2) := dk_54 7 (dk_at dksL_law_68 12 rfl rfl)
theorem dL_law_1803 : decode cL_law 1803 = .ok (.aload_n 2, 1) := dk_44 (dk_at dksL_law_68 14 rfl rfl)
theorem dL_law_1804 : decode cL_law 1804 = .ok (.invokevirtual 165, 3) := dk_182 0 165 (dk_at dksL_law_68 15 rfl rfl)
theorem dL_law_1807 : decode cL_law 1807 = .ok (.iload 6, 2) := dk_21 6 (dk_at dksL_law_68 18 rfl rfl)
theorem dL_law_1809 : decode cL_law 1809 = .ok (.if_icmp .eq 5, 3) := dk_159 0 5 (dk_at dksL_law_68 20 rfl rfl)
theorem dL_law_1812 : decode cL_law 1812 = .ok (.iconst 0, 1) := dk_3 (dk_at dksL_law_68 23 rfl rfl)
theorem dL_law_1813 : decode cL_law 1813 = .ok (.ireturn, 1) := dk_172 (dk_at dksL_law_69 0 rfl rfl)
theorem dL_law_1814 : decode cL_law 1814 = .ok (.iload 6, 2) := dk_21 6 (dk_at dksL_law_69 1 rfl rfl)
theorem dL_law_1816 : decode cL_law 1816 = .ok (.ifCond .ne 15, 3) := dk_154 0 15 (dk_at dksL_law_69 3 rfl rfl)
theorem dL_law_1819 : decode cL_law 1819 = .ok (.aload_n 3, 1) := dk_45 (dk_at dksL_law_69 6 rfl rfl)
theorem dL_law_1820 : decode cL_law 1820 = .ok (.iconst 0, 1) := dk_3 (dk_at dksL_law_69 7 rfl rfl)
theorem dL_law_1821 : decode cL_law 1821 = .ok (.laload, 1) := dk_47 (dk_at dksL_law_69 8 rfl rfl)
theorem dL_law_1822 : decode cL_law 1822 = .ok (.iload 7, 2) := dk_21 7 (dk_at dksL_law_69 9 rfl rfl)
theorem dL_law_1824 : decode cL_law 1824 = .ok (.i2l, 1) := dk_133 (dk_at dksL_law_69 11 rfl rfl)
theorem dL_law_1825 : decode cL_law 1825 = .ok (.lcmp, 1) := dk_148 (dk_at dksL_law_69 12 rfl rfl)
theorem dL_law_1826 : decode cL_law 1826 = .ok (.ifCond .eq 5, 3) := dk_153 0 5 (dk_at dksL_law_69 13 rfl rfl)
theorem dL_law_1829 : decode cL_law 1829 = .ok (.iconst 0, 1) := dk_3 (dk_at dksL_law_69 16 rfl rfl)
theorem dL_law_1830 : decode cL_law 1830 = .ok (.ireturn, 1) := dk_172 (dk_at dksL_law_69 17 rfl rfl)
theorem dL_law_1831 : decode cL_law 1831 = .ok (.goto 992, 3) := dk_167 3 224 (dk_at dksL_law_69 18 rfl rfl)
theorem dL_law_1834 : decode cL_law 1834 = .ok (.aload_n 1, 1) := dk_43 (dk_at dksL_law_69 21 rfl rfl)
theorem dL_law_1835 : decode cL_law 1835 = .ok (.aload_n 0, 1) := dk_42 (dk_at dksL_law_69 22 rfl rfl)
theorem dL_law_1836 : decode cL_law 1836 = .ok (.iload 5, 2) := dk_21 5 (dk_at dksL_law_70 0 rfl rfl)
theorem dL_law_1838 : decode cL_law 1838 = .ok (.iconst 1, 1) := dk_4 (dk_at dksL_law_70 2 rfl rfl)
theorem dL_law_1839 : decode cL_law 1839 = .ok (.iadd, 1) := dk_96 (dk_at dksL_law_70 3 rfl rfl)
theorem dL_law_1840 : decode cL_law 1840 = .ok (.iaload, 1) := dk_46 (dk_at dksL_law_70 4 rfl rfl)
theorem dL_law_1841 : decode cL_law 1841 = .ok (.aload_n 0, 1) := dk_42 (dk_at dksL_law_70 5 rfl rfl)
theorem dL_law_1842 : decode cL_law 1842 = .ok (.iload 5, 2) := dk_21 5 (dk_at dksL_law_70 6 rfl rfl)
theorem dL_law_1844 : decode cL_law 1844 = .ok (.iconst 2, 1) := dk_5 (dk_at dksL_law_70 8 rfl rfl)
theorem dL_law_1845 : decode cL_law 1845 = .ok (.iadd, 1) := dk_96 (dk_at dksL_law_70 9 rfl rfl)
theorem dL_law_1846 : decode cL_law 1846 = .ok (.iaload, 1) := dk_46 (dk_at dksL_law_70 10 rfl rfl)
theorem dL_law_1847 : decode cL_law 1847 = .ok (.aload_n 3, 1) := dk_45 (dk_at dksL_law_70 11 rfl rfl)
theorem dL_law_1848 : decode cL_law 1848 = .ok (.invokestatic 259, 3) := dk_184 1 3 (dk_at dksL_law_70 12 rfl rfl)
theorem dL_law_1851 : decode cL_law 1851 = .ok (.istore 6, 2) := dk_54 6 (dk_at dksL_law_70 15 rfl rfl)
theorem dL_law_1853 : decode cL_law 1853 = .ok (.aload_n 2, 1) := dk_44 (dk_at dksL_law_70 17 rfl rfl)
theorem dL_law_1854 : decode cL_law 1854 = .ok (.aload_n 0, 1) := dk_42 (dk_at dksL_law_70 18 rfl rfl)
theorem dL_law_1855 : decode cL_law 1855 = .ok (.iload 5, 2) := dk_21 5 (dk_at dksL_law_70 19 rfl rfl)
theorem dL_law_1857 : decode cL_law 1857 = .ok (.iconst 1, 1) := dk_4 (dk_at dksL_law_70 21 rfl rfl)
theorem dL_law_1858 : decode cL_law 1858 = .ok (.iadd, 1) := dk_96 (dk_at dksL_law_70 22 rfl rfl)
theorem dL_law_1859 : decode cL_law 1859 = .ok (.iaload, 1) := dk_46 (dk_at dksL_law_70 23 rfl rfl)
theorem dL_law_1860 : decode cL_law 1860 = .ok (.aload_n 0, 1) := dk_42 (dk_at dksL_law_71 0 rfl rfl)
theorem dL_law_1861 : decode cL_law 1861 = .ok (.iload 5, 2) := dk_21 5 (dk_at dksL_law_71 1 rfl rfl)
theorem dL_law_1863 : decode cL_law 1863 = .ok (.iconst 2, 1) := dk_5 (dk_at dksL_law_71 3 rfl rfl)
theorem dL_law_1864 : decode cL_law 1864 = .ok (.iadd, 1) := dk_96 (dk_at dksL_law_71 4 rfl rfl)
theorem dL_law_1865 : decode cL_law 1865 = .ok (.iaload, 1) := dk_46 (dk_at dksL_law_71 5 rfl rfl)
theorem dL_law_1866 : decode cL_law 1866 = .ok (.invokevirtual 261, 3) := dk_182 1 5 (dk_at dksL_law_71 6 rfl rfl)
theorem dL_law_1869 : decode cL_law 1869 = .ok (.lstore 7, 2) := dk_55 7 (dk_at dksL_law_71 9 rfl rfl)
theorem dL_law_1871 : decode cL_law 1871 = .ok (.aload_n 2, 1) := dk_44 (dk_at dksL_law_71 11 rfl rfl)
theorem dL_law_1872 : decode cL_law 1872 = .ok (.invokevirtual 165, 3) := dk_182 0 165 (dk_at dksL_law_71 12 rfl rfl)
theorem dL_law_1875 : decode cL_law 1875 = .ok (.iload 6, 2) := dk_21 6 (dk_at dksL_law_71 15 rfl rfl)
theorem dL_law_1877 : decode cL_law 1877 = .ok (.if_icmp .eq 5, 3) := dk_159 0 5 (dk_at dksL_law_71 17 rfl rfl)
theorem dL_law_1880 : decode cL_law 1880 = .ok (.iconst 0, 1) := dk_3 (dk_at dksL_law_71 20 rfl rfl)
theorem dL_law_1881 : decode cL_law 1881 = .ok (.ireturn, 1) := dk_172 (dk_at dksL_law_71 21 rfl rfl)
theorem dL_law_1882 : decode cL_law 1882 = .ok (.iload 6, 2) := dk_21 6 (dk_at dksL_law_71 22 rfl rfl)
theorem dL_law_1884 : decode cL_law 1884 = .ok (.ifCond .ne 14, 3) := dk_154 0 14 (dk_at dksL_law_72 0 rfl rfl)
theorem dL_law_1887 : decode cL_law 1887 = .ok (.aload_n 3, 1) := dk_45 (dk_at dksL_law_72 3 rfl rfl)
theorem dL_law_1888 : decode cL_law 1888 = .ok (.iconst 0, 1) := dk_3 (dk_at dksL_law_72 4 rfl rfl)
theorem dL_law_1889 : decode cL_law 1889 = .ok (.laload, 1) := dk_47 (dk_at dksL_law_72 5 rfl rfl)
theorem dL_law_1890 : decode cL_law 1890 = .ok (.lload 7, 2) := dk_22 7 (dk_at dksL_law_72 6 rfl rfl)
theorem dL_law_1892 : decode cL_law 1892 = .ok (.lcmp, 1) := dk_148 (dk_at dksL_law_72 8 rfl rfl)
theorem dL_law_1893 : decode cL_law 1893 = .ok (.ifCond .eq 5, 3) := dk_153 0 5 (dk_at dksL_law_72 9 rfl rfl)
theorem dL_law_1896 : decode cL_law 1896 = .ok (.iconst 0, 1) := dk_3 (dk_at dksL_law_72 12 rfl rfl)
theorem dL_law_1897 : decode cL_law 1897 = .ok (.ireturn, 1) := dk_172 (dk_at dksL_law_72 13 rfl rfl)
theorem dL_law_1898 : decode cL_law 1898 = .ok (.goto 925, 3) := dk_167 3 157 (dk_at dksL_law_72 14 rfl rfl)
theorem dL_law_1901 : decode cL_law 1901 = .ok (.aload_n 1, 1) := dk_43 (dk_at dksL_law_72 17 rfl rfl)
theorem dL_law_1902 : decode cL_law 1902 = .ok (.aload_n 0, 1) := dk_42 (dk_at dksL_law_72 18 rfl rfl)
theorem dL_law_1903 : decode cL_law 1903 = .ok (.iload 5, 2) := dk_21 5 (dk_at dksL_law_72 19 rfl rfl)
theorem dL_law_1905 : decode cL_law 1905 = .ok (.iconst 1, 1) := dk_4 (dk_at dksL_law_72 21 rfl rfl)
theorem dL_law_1906 : decode cL_law 1906 = .ok (.iadd, 1) := dk_96 (dk_at dksL_law_72 22 rfl rfl)
theorem dL_law_1907 : decode cL_law 1907 = .ok (.iaload, 1) := dk_46 (dk_at dksL_law_72 23 rfl rfl)
theorem dL_law_1908 : decode cL_law 1908 = .ok (.aload_n 3, 1) := dk_45 (dk_at dksL_law_73 0 rfl rfl)
theorem dL_law_1909 : decode cL_law 1909 = .ok (.invokestatic 262, 3) := dk_184 1 6 (dk_at dksL_law_73 1 rfl rfl)
theorem dL_law_1912 : decode cL_law 1912 = .ok (.istore 6, 2) := dk_54 6 (dk_at dksL_law_73 4 rfl rfl)
theorem dL_law_1914 : decode cL_law 1914 = .ok (.aload_n 2, 1) := dk_44 (dk_at dksL_law_73 6 rfl rfl)
theorem dL_law_1915 : decode cL_law 1915 = .ok (.aload_n 0, 1) := dk_42 (dk_at dksL_law_73 7 rfl rfl)
theorem dL_law_1916 : decode cL_law 1916 = .ok (.iload 5, 2) := dk_21 5 (dk_at dksL_law_73 8 rfl rfl)
theorem dL_law_1918 : decode cL_law 1918 = .ok (.iconst 1, 1) := dk_4 (dk_at dksL_law_73 10 rfl rfl)
theorem dL_law_1919 : decode cL_law 1919 = .ok (.iadd, 1) := dk_96 (dk_at dksL_law_73 11 rfl rfl)
theorem dL_law_1920 : decode cL_law 1920 = .ok (.iaload, 1) := dk_46 (dk_at dksL_law_73 12 rfl rfl)
theorem dL_law_1921 : decode cL_law 1921 = .ok (.invokevirtual 264, 3) := dk_182 1 8 (dk_at dksL_law_73 13 rfl rfl)
theorem dL_law_1924 : decode cL_law 1924 = .ok (.istore 7, 2) := dk_54 7 (dk_at dksL_law_73 16 rfl rfl)
theorem dL_law_1926 : decode cL_law 1926 = .ok (.aload_n 2, 1) := dk_44 (dk_at dksL_law_73 18 rfl rfl)
theorem dL_law_1927 : decode cL_law 1927 = .ok (.invokevirtual 165, 3) := dk_182 0 165 (dk_at dksL_law_73 19 rfl rfl)
theorem dL_law_1930 : decode cL_law 1930 = .ok (.iload 6, 2) := dk_21 6 (dk_at dksL_law_73 22 rfl rfl)
theorem dL_law_1932 : decode cL_law 1932 = .ok (.if_icmp .eq 5, 3) := dk_159 0 5 (dk_at dksL_law_74 0 rfl rfl)
theorem dL_law_1935 : decode cL_law 1935 = .ok (.iconst 0, 1) := dk_3 (dk_at dksL_law_74 3 rfl rfl)
theorem dL_law_1936 : decode cL_law 1936 = .ok (.ireturn, 1) := dk_172 (dk_at dksL_law_74 4 rfl rfl)
theorem dL_law_1937 : decode cL_law 1937 = .ok (.iload 6, 2) := dk_21 6 (dk_at dksL_law_74 5 rfl rfl)
theorem dL_law_1939 : decode cL_law 1939 = .ok (.ifCond .ne 15, 3) := dk_154 0 15 (dk_at dksL_law_74 7 rfl rfl)
theorem dL_law_1942 : decode cL_law 1942 = .ok (.aload_n 3, 1) := dk_45 (dk_at dksL_law_74 10 rfl rfl)
theorem dL_law_1943 : decode cL_law 1943 = .ok (.iconst 0, 1) := dk_3 (dk_at dksL_law_74 11 rfl rfl)
theorem dL_law_1944 : decode cL_law 1944 = .ok (.laload, 1) := dk_47 (dk_at dksL_law_74 12 rfl rfl)
theorem dL_law_1945 : decode cL_law 1945 = .ok (.iload 7, 2) := dk_21 7 (dk_at dksL_law_74 13 rfl rfl)
theorem dL_law_1947 : decode cL_law 1947 = .ok (.i2l, 1) := dk_133 (dk_at dksL_law_74 15 rfl rfl)
theorem dL_law_1948 : decode cL_law 1948 = .ok (.lcmp, 1) := dk_148 (dk_at dksL_law_74 16 rfl rfl)
theorem dL_law_1949 : decode cL_law 1949 = .ok (.ifCond .eq 5, 3) := dk_153 0 5 (dk_at dksL_law_74 17 rfl rfl)
theorem dL_law_1952 : decode cL_law 1952 = .ok (.iconst 0, 1) := dk_3 (dk_at dksL_law_74 20 rfl rfl)
theorem dL_law_1953 : decode cL_law 1953 = .ok (.ireturn, 1) := dk_172 (dk_at dksL_law_74 21 rfl rfl)
theorem dL_law_1954 : decode cL_law 1954 = .ok (.goto 869, 3) := dk_167 3 101 (dk_at dksL_law_75 0 rfl rfl)
theorem dL_law_1957 : decode cL_law 1957 = .ok (.aload_n 1, 1) := dk_43 (dk_at dksL_law_75 3 rfl rfl)
theorem dL_law_1958 : decode cL_law 1958 = .ok (.aload_n 0, 1) := dk_42 (dk_at dksL_law_75 4 rfl rfl)
theorem dL_law_1959 : decode cL_law 1959 = .ok (.iload 5, 2) := dk_21 5 (dk_at dksL_law_75 5 rfl rfl)
theorem dL_law_1961 : decode cL_law 1961 = .ok (.iconst 1, 1) := dk_4 (dk_at dksL_law_75 7 rfl rfl)
theorem dL_law_1962 : decode cL_law 1962 = .ok (.iadd, 1) := dk_96 (dk_at dksL_law_75 8 rfl rfl)
theorem dL_law_1963 : decode cL_law 1963 = .ok (.iaload, 1) := dk_46 (dk_at dksL_law_75 9 rfl rfl)
theorem dL_law_1964 : decode cL_law 1964 = .ok (.aload_n 3, 1) := dk_45 (dk_at dksL_law_75 10 rfl rfl)
theorem dL_law_1965 : decode cL_law 1965 = .ok (.invokestatic 265, 3) := dk_184 1 9 (dk_at dksL_law_75 11 rfl rfl)
theorem dL_law_1968 : decode cL_law 1968 = .ok (.istore 6, 2) := dk_54 6 (dk_at dksL_law_75 14 rfl rfl)
theorem dL_law_1970 : decode cL_law 1970 = .ok (.aload_n 2, 1) := dk_44 (dk_at dksL_law_75 16 rfl rfl)
theorem dL_law_1971 : decode cL_law 1971 = .ok (.aload_n 0, 1) := dk_42 (dk_at dksL_law_75 17 rfl rfl)
theorem dL_law_1972 : decode cL_law 1972 = .ok (.iload 5, 2) := dk_21 5 (dk_at dksL_law_75 18 rfl rfl)
theorem dL_law_1974 : decode cL_law 1974 = .ok (.iconst 1, 1) := dk_4 (dk_at dksL_law_75 20 rfl rfl)
theorem dL_law_1975 : decode cL_law 1975 = .ok (.iadd, 1) := dk_96 (dk_at dksL_law_75 21 rfl rfl)
theorem dL_law_1976 : decode cL_law 1976 = .ok (.iaload, 1) := dk_46 (dk_at dksL_law_75 22 rfl rfl)
theorem dL_law_1977 : decode cL_law 1977 = .ok (.invokevirtual 267, 3) := dk_182 1 11 (dk_at dksL_law_76 0 rfl rfl)
theorem dL_law_1980 : decode cL_law 1980 = .ok (.istore 7, 2) := dk_54 7 (dk_at dksL_law_76 3 rfl rfl)
theorem dL_law_1982 : decode cL_law 1982 = .ok (.aload_n 2, 1) := dk_44 (dk_at dksL_law_76 5 rfl rfl)
theorem dL_law_1983 : decode cL_law 1983 = .ok (.invokevirtual 165, 3) := dk_182 0 165 (dk_at dksL_law_76 6 rfl rfl)
theorem dL_law_1986 : decode cL_law 1986 = .ok (.iload 6, 2) := dk_21 6 (dk_at dksL_law_76 9 rfl rfl)
theorem dL_law_1988 : decode cL_law 1988 = .ok (.if_icmp .eq 5, 3) := dk_159 0 5 (dk_at dksL_law_76 11 rfl rfl)
theorem dL_law_1991 : decode cL_law 1991 = .ok (.iconst 0, 1) := dk_3 (dk_at dksL_law_76 14 rfl rfl)
theorem dL_law_1992 : decode cL_law 1992 = .ok (.ireturn, 1) := dk_172 (dk_at dksL_law_76 15 rfl rfl)
theorem dL_law_1993 : decode cL_law 1993 = .ok (.iload 6, 2) := dk_21 6 (dk_at dksL_law_76 16 rfl rfl)
theorem dL_law_1995 : decode cL_law 1995 = .ok (.ifCond .ne 15, 3) := dk_154 0 15 (dk_at dksL_law_76 18 rfl rfl)
theorem dL_law_1998 : decode cL_law 1998 = .ok (.aload_n 3, 1) := dk_45 (dk_at dksL_law_76 21 rfl rfl)
theorem dL_law_1999 : decode cL_law 1999 = .ok (.iconst 0, 1) := dk_3 (dk_at dksL_law_76 22 rfl rfl)
theorem dL_law_2000 : decode cL_law 2000 = .ok (.laload, 1) := dk_47 (dk_at dksL_law_76 23 rfl rfl)
theorem dL_law_2001 : decode cL_law 2001 = .ok (.iload 7, 2) := dk_21 7 (dk_at dksL_law_77 0 rfl rfl)
theorem dL_law_2003 : decode cL_law 2003 = .ok (.i2l, 1) := dk_133 (dk_at dksL_law_77 2 rfl rfl)
theorem dL_law_2004 : decode cL_law 2004 = .ok (.lcmp, 1) := dk_148 (dk_at dksL_law_77 3 rfl rfl)
theorem dL_law_2005 : decode cL_law 2005 = .ok (.ifCond .eq 5, 3) := dk_153 0 5 (dk_at dksL_law_77 4 rfl rfl)
theorem dL_law_2008 : decode cL_law 2008 = .ok (.iconst 0, 1) := dk_3 (dk_at dksL_law_77 7 rfl rfl)
theorem dL_law_2009 : decode cL_law 2009 = .ok (.ireturn, 1) := dk_172 (dk_at dksL_law_77 8 rfl rfl)
theorem dL_law_2010 : decode cL_law 2010 = .ok (.goto 813, 3) := dk_167 3 45 (dk_at dksL_law_77 9 rfl rfl)
theorem dL_law_2013 : decode cL_law 2013 = .ok (.aload_n 1, 1) := dk_43 (dk_at dksL_law_77 12 rfl rfl)
theorem dL_law_2014 : decode cL_law 2014 = .ok (.aload_n 0, 1) := dk_42 (dk_at dksL_law_77 13 rfl rfl)
theorem dL_law_2015 : decode cL_law 2015 = .ok (.iload 5, 2) := dk_21 5 (dk_at dksL_law_77 14 rfl rfl)
theorem dL_law_2017 : decode cL_law 2017 = .ok (.iconst 1, 1) := dk_4 (dk_at dksL_law_77 16 rfl rfl)
theorem dL_law_2018 : decode cL_law 2018 = .ok (.iadd, 1) := dk_96 (dk_at dksL_law_77 17 rfl rfl)
theorem dL_law_2019 : decode cL_law 2019 = .ok (.iaload, 1) := dk_46 (dk_at dksL_law_77 18 rfl rfl)
theorem dL_law_2020 : decode cL_law 2020 = .ok (.aload_n 3, 1) := dk_45 (dk_at dksL_law_77 19 rfl rfl)
theorem dL_law_2021 : decode cL_law 2021 = .ok (.invokestatic 268, 3) := dk_184 1 12 (dk_at dksL_law_77 20 rfl rfl)
theorem dL_law_2024 : decode cL_law 2024 = .ok (.istore 6, 2) := dk_54 6 (dk_at dksL_law_78 0 rfl rfl)
theorem dL_law_2026 : decode cL_law 2026 = .ok (.aload_n 2, 1) := dk_44 (dk_at dksL_law_78 2 rfl rfl)
theorem dL_law_2027 : decode cL_law 2027 = .ok (.aload_n 0, 1) := dk_42 (dk_at dksL_law_78 3 rfl rfl)
theorem dL_law_2028 : decode cL_law 2028 = .ok (.iload 5, 2) := dk_21 5 (dk_at dksL_law_78 4 rfl rfl)
theorem dL_law_2030 : decode cL_law 2030 = .ok (.iconst 1, 1) := dk_4 (dk_at dksL_law_78 6 rfl rfl)
theorem dL_law_2031 : decode cL_law 2031 = .ok (.iadd, 1) := dk_96 (dk_at dksL_law_78 7 rfl rfl)
theorem dL_law_2032 : decode cL_law 2032 = .ok (.iaload, 1) := dk_46 (dk_at dksL_law_78 8 rfl rfl)
theorem dL_law_2033 : decode cL_law 2033 = .ok (.invokevirtual 270, 3) := dk_182 1 14 (dk_at dksL_law_78 9 rfl rfl)
theorem dL_law_2036 : decode cL_law 2036 = .ok (.lstore 7, 2) := dk_55 7 (dk_at dksL_law_78 12 rfl rfl)
theorem dL_law_2038 : decode cL_law 2038 = .ok (.aload_n 2, 1) := dk_44 (dk_at dksL_law_78 14 rfl rfl)
theorem dL_law_2039 : decode cL_law 2039 = .ok (.invokevirtual 165, 3) := dk_182 0 165 (dk_at dksL_law_78 15 rfl rfl)
theorem dL_law_2042 : decode cL_law 2042 = .ok (.iload 6, 2) := dk_21 6 (dk_at dksL_law_78 18 rfl rfl)
theorem dL_law_2044 : decode cL_law 2044 = .ok (.if_icmp .eq 5, 3) := dk_159 0 5 (dk_at dksL_law_78 20 rfl rfl)
theorem dL_law_2047 : decode cL_law 2047 = .ok (.iconst 0, 1) := dk_3 (dk_at dksL_law_78 23 rfl rfl)
theorem dL_law_2048 : decode cL_law 2048 = .ok (.ireturn, 1) := dk_172 (dk_at dksL_law_79 0 rfl rfl)
theorem dL_law_2049 : decode cL_law 2049 = .ok (.iload 6, 2) := dk_21 6 (dk_at dksL_law_79 1 rfl rfl)
theorem dL_law_2051 : decode cL_law 2051 = .ok (.ifCond .ne 14, 3) := dk_154 0 14 (dk_at dksL_law_79 3 rfl rfl)
theorem dL_law_2054 : decode cL_law 2054 = .ok (.aload_n 3, 1) := dk_45 (dk_at dksL_law_79 6 rfl rfl)
theorem dL_law_2055 : decode cL_law 2055 = .ok (.iconst 0, 1) := dk_3 (dk_at dksL_law_79 7 rfl rfl)
theorem dL_law_2056 : decode cL_law 2056 = .ok (.laload, 1) := dk_47 (dk_at dksL_law_79 8 rfl rfl)
theorem dL_law_2057 : decode cL_law 2057 = .ok (.lload 7, 2) := dk_22 7 (dk_at dksL_law_79 9 rfl rfl)
theorem dL_law_2059 : decode cL_law 2059 = .ok (.lcmp, 1) := dk_148 (dk_at dksL_law_79 11 rfl rfl)
theorem dL_law_2060 : decode cL_law 2060 = .ok (.ifCond .eq 5, 3) := dk_153 0 5 (dk_at dksL_law_79 12 rfl rfl)
theorem dL_law_2063 : decode cL_law 2063 = .ok (.iconst 0, 1) := dk_3 (dk_at dksL_law_79 15 rfl rfl)
theorem dL_law_2064 : decode cL_law 2064 = .ok (.ireturn, 1) := dk_172 (dk_at dksL_law_79 16 rfl rfl)
theorem dL_law_2065 : decode cL_law 2065 = .ok (.goto 758, 3) := dk_167 2 246 (dk_at dksL_law_79 17 rfl rfl)
theorem dL_law_2068 : decode cL_law 2068 = .ok (.aload_n 1, 1) := dk_43 (dk_at dksL_law_79 20 rfl rfl)
theorem dL_law_2069 : decode cL_law 2069 = .ok (.invokevirtual 271, 3) := dk_182 1 15 (dk_at dksL_law_79 21 rfl rfl)
theorem dL_law_2072 : decode cL_law 2072 = .ok (.aload_n 2, 1) := dk_44 (dk_at dksL_law_80 0 rfl rfl)
theorem dL_law_2073 : decode cL_law 2073 = .ok (.invokevirtual 274, 3) := dk_182 1 18 (dk_at dksL_law_80 1 rfl rfl)
theorem dL_law_2076 : decode cL_law 2076 = .ok (.if_icmp .eq 747, 3) := dk_159 2 235 (dk_at dksL_law_80 4 rfl rfl)
theorem dL_law_2079 : decode cL_law 2079 = .ok (.iconst 0, 1) := dk_3 (dk_at dksL_law_80 7 rfl rfl)
theorem dL_law_2080 : decode cL_law 2080 = .ok (.ireturn, 1) := dk_172 (dk_at dksL_law_80 8 rfl rfl)
theorem dL_law_2081 : decode cL_law 2081 = .ok (.aload_n 1, 1) := dk_43 (dk_at dksL_law_80 9 rfl rfl)
theorem dL_law_2082 : decode cL_law 2082 = .ok (.invokevirtual 275, 3) := dk_182 1 19 (dk_at dksL_law_80 10 rfl rfl)
theorem dL_law_2085 : decode cL_law 2085 = .ok (.aload_n 2, 1) := dk_44 (dk_at dksL_law_80 13 rfl rfl)
theorem dL_law_2086 : decode cL_law 2086 = .ok (.invokevirtual 278, 3) := dk_182 1 22 (dk_at dksL_law_80 14 rfl rfl)
theorem dL_law_2089 : decode cL_law 2089 = .ok (.if_icmp .eq 734, 3) := dk_159 2 222 (dk_at dksL_law_80 17 rfl rfl)
theorem dL_law_2092 : decode cL_law 2092 = .ok (.iconst 0, 1) := dk_3 (dk_at dksL_law_80 20 rfl rfl)
theorem dL_law_2093 : decode cL_law 2093 = .ok (.ireturn, 1) := dk_172 (dk_at dksL_law_80 21 rfl rfl)
theorem dL_law_2094 : decode cL_law 2094 = .ok (.aload_n 1, 1) := dk_43 (dk_at dksL_law_80 22 rfl rfl)
theorem dL_law_2095 : decode cL_law 2095 = .ok (.invokevirtual 279, 3) := dk_182 1 23 (dk_at dksL_law_81 0 rfl rfl)
theorem dL_law_2098 : decode cL_law 2098 = .ok (.aload_n 2, 1) := dk_44 (dk_at dksL_law_81 3 rfl rfl)
theorem dL_law_2099 : decode cL_law 2099 = .ok (.invokevirtual 282, 3) := dk_182 1 26 (dk_at dksL_law_81 4 rfl rfl)
theorem dL_law_2102 : decode cL_law 2102 = .ok (.if_icmp .eq 721, 3) := dk_159 2 209 (dk_at dksL_law_81 7 rfl rfl)
theorem dL_law_2105 : decode cL_law 2105 = .ok (.iconst 0, 1) := dk_3 (dk_at dksL_law_81 10 rfl rfl)
theorem dL_law_2106 : decode cL_law 2106 = .ok (.ireturn, 1) := dk_172 (dk_at dksL_law_81 11 rfl rfl)
theorem dL_law_2107 : decode cL_law 2107 = .ok (.aload_n 1, 1) := dk_43 (dk_at dksL_law_81 12 rfl rfl)
theorem dL_law_2108 : decode cL_law 2108 = .ok (.invokevirtual 283, 3) := dk_182 1 27 (dk_at dksL_law_81 13 rfl rfl)
theorem dL_law_2111 : decode cL_law 2111 = .ok (.aload_n 2, 1) := dk_44 (dk_at dksL_law_81 16 rfl rfl)
theorem dL_law_2112 : decode cL_law 2112 = .ok (.invokevirtual 286, 3) := dk_182 1 30 (dk_at dksL_law_81 17 rfl rfl)
theorem dL_law_2115 : decode cL_law 2115 = .ok (.if_icmp .eq 708, 3) := dk_159 2 196 (dk_at dksL_law_81 20 rfl rfl)
theorem dL_law_2118 : decode cL_law 2118 = .ok (.iconst 0, 1) := dk_3 (dk_at dksL_law_81 23 rfl rfl)
theorem dL_law_2119 : decode cL_law 2119 = .ok (.ireturn, 1) := dk_172 (dk_at dksL_law_82 0 rfl rfl)
theorem dL_law_2120 : decode cL_law 2120 = .ok (.aload_n 1, 1) := dk_43 (dk_at dksL_law_82 1 rfl rfl)
theorem dL_law_2121 : decode cL_law 2121 = .ok (.aload 4, 2) := dk_25 4 (dk_at dksL_law_82 2 rfl rfl)
theorem dL_law_2123 : decode cL_law 2123 = .ok (.invokestatic 287, 3) := dk_184 1 31 (dk_at dksL_law_82 4 rfl rfl)
theorem dL_law_2126 : decode cL_law 2126 = .ok (.istore 6, 2) := dk_54 6 (dk_at dksL_law_82 7 rfl rfl)
theorem dL_law_2128 : decode cL_law 2128 = .ok (.aload_n 2, 1) := dk_44 (dk_at dksL_law_82 9 rfl rfl)
theorem dL_law_2129 : decode cL_law 2129 = .ok (.invokevirtual 290, 3) := dk_182 1 34 (dk_at dksL_law_82 10 rfl rfl)
theorem dL_law_2132 : decode cL_law 2132 = .ok (.dstore 7, 2) := dk_57 7 (dk_at dksL_law_82 13 rfl rfl)
theorem dL_law_2134 : decode cL_law 2134 = .ok (.aload_n 2, 1) := dk_44 (dk_at dksL_law_82 15 rfl rfl)
theorem dL_law_2135 : decode cL_law 2135 = .ok (.invokevirtual 165, 3) := dk_182 0 165 (dk_at dksL_law_82 16 rfl rfl)
theorem dL_law_2138 : decode cL_law 2138 = .ok (.iload 6, 2) := dk_21 6 (dk_at dksL_law_82 19 rfl rfl)
theorem dL_law_2140 : decode cL_law 2140 = .ok (.if_icmp .eq 5, 3) := dk_159 0 5 (dk_at dksL_law_82 21 rfl rfl)
theorem dL_law_2143 : decode cL_law 2143 = .ok (.iconst 0, 1) := dk_3 (dk_at dksL_law_83 0 rfl rfl)
theorem dL_law_2144 : decode cL_law 2144 = .ok (.ireturn, 1) := dk_172 (dk_at dksL_law_83 1 rfl rfl)
theorem dL_law_2145 : decode cL_law 2145 = .ok (.iload 6, 2) := dk_21 6 (dk_at dksL_law_83 2 rfl rfl)
theorem dL_law_2147 : decode cL_law 2147 = .ok (.ifCond .ne 35, 3) := dk_154 0 35 (dk_at dksL_law_83 4 rfl rfl)
theorem dL_law_2150 : decode cL_law 2150 = .ok (.aload 4, 2) := dk_25 4 (dk_at dksL_law_83 7 rfl rfl)
theorem dL_law_2152 : decode cL_law 2152 = .ok (.iconst 0, 1) := dk_3 (dk_at dksL_law_83 9 rfl rfl)
theorem dL_law_2153 : decode cL_law 2153 = .ok (.daload, 1) := dk_49 (dk_at dksL_law_83 10 rfl rfl)
theorem dL_law_2154 : decode cL_law 2154 = .ok (.dload 7, 2) := dk_24 7 (dk_at dksL_law_83 11 rfl rfl)
theorem dL_law_2156 : decode cL_law 2156 = .ok (.dcmp .l, 1) := dk_151 (dk_at dksL_law_83 13 rfl rfl)
theorem dL_law_2157 : decode cL_law 2157 = .ok (.ifCond .eq 25, 3) := dk_153 0 25 (dk_at dksL_law_83 14 rfl rfl)
theorem dL_law_2160 : decode cL_law 2160 = .ok (.aload 4, 2) := dk_25 4 (dk_at dksL_law_83 17 rfl rfl)
theorem dL_law_2162 : decode cL_law 2162 = .ok (.iconst 0, 1) := dk_3 (dk_at dksL_law_83 19 rfl rfl)
theorem dL_law_2163 : decode cL_law 2163 = .ok (.daload, 1) := dk_49 (dk_at dksL_law_83 20 rfl rfl)
theorem dL_law_2164 : decode cL_law 2164 = .ok (.aload 4, 2) := dk_25 4 (dk_at dksL_law_83 21 rfl rfl)
theorem dL_law_2166 : decode cL_law 2166 = .ok (.iconst 0, 1) := dk_3 (dk_at dksL_law_83 23 rfl rfl)
theorem dL_law_2167 : decode cL_law 2167 = .ok (.daload, 1) := dk_49 (dk_at dksL_law_84 0 rfl rfl)
theorem dL_law_2168 : decode cL_law 2168 = .ok (.dcmp .l, 1) := dk_151 (dk_at dksL_law_84 1 rfl rfl)
theorem dL_law_2169 : decode cL_law 2169 = .ok (.ifCond .eq 11, 3) := dk_153 0 11 (dk_at dksL_law_84 2 rfl rfl)
theorem dL_law_2172 : decode cL_law 2172 = .ok (.dload 7, 2) := dk_24 7 (dk_at dksL_law_84 5 rfl rfl)
theorem dL_law_2174 : decode cL_law 2174 = .ok (.dload 7, 2) := dk_24 7 (dk_at dksL_law_84 7 rfl rfl)
theorem dL_law_2176 : decode cL_law 2176 = .ok (.dcmp .l, 1) := dk_151 (dk_at dksL_law_84 9 rfl rfl)
theorem dL_law_2177 : decode cL_law 2177 = .ok (.ifCond .ne 5, 3) := dk_154 0 5 (dk_at dksL_law_84 10 rfl rfl)
theorem dL_law_2180 : decode cL_law 2180 = .ok (.iconst 0, 1) := dk_3 (dk_at dksL_law_84 13 rfl rfl)
theorem dL_law_2181 : decode cL_law 2181 = .ok (.ireturn, 1) := dk_172 (dk_at dksL_law_84 14 rfl rfl)
theorem dL_law_2182 : decode cL_law 2182 = .ok (.goto 641, 3) := dk_167 2 129 (dk_at dksL_law_84 15 rfl rfl)
theorem dL_law_2185 : decode cL_law 2185 = .ok (.aload_n 1, 1) := dk_43 (dk_at dksL_law_84 18 rfl rfl)
theorem dL_law_2186 : decode cL_law 2186 = .ok (.aload 4, 2) := dk_25 4 (dk_at dksL_law_84 19 rfl rfl)
theorem dL_law_2188 : decode cL_law 2188 = .ok (.invokestatic 291, 3) := dk_184 1 35 (dk_at dksL_law_84 21 rfl rfl)
theorem dL_law_2191 : decode cL_law 2191 = .ok (.istore 6, 2) := dk_54 6 (dk_at dksL_law_85 0 rfl rfl)
theorem dL_law_2193 : decode cL_law 2193 = .ok (.aload_n 2, 1) := dk_44 (dk_at dksL_law_85 2 rfl rfl)
theorem dL_law_2194 : decode cL_law 2194 = .ok (.invokevirtual 293, 3) := dk_182 1 37 (dk_at dksL_law_85 3 rfl rfl)
theorem dL_law_2197 : decode cL_law 2197 = .ok (.fstore 7, 2) := dk_56 7 (dk_at dksL_law_85 6 rfl rfl)
theorem dL_law_2199 : decode cL_law 2199 = .ok (.aload_n 2, 1) := dk_44 (dk_at dksL_law_85 8 rfl rfl)
theorem dL_law_2200 : decode cL_law 2200 = .ok (.invokevirtual 165, 3) := dk_182 0 165 (dk_at dksL_law_85 9 rfl rfl)
theorem dL_law_2203 : decode cL_law 2203 = .ok (.iload 6, 2) := dk_21 6 (dk_at dksL_law_85 12 rfl rfl)
theorem dL_law_2205 : decode cL_law 2205 = .ok (.if_icmp .eq 5, 3) := dk_159 0 5 (dk_at dksL_law_85 14 rfl rfl)
theorem dL_law_2208 : decode cL_law 2208 = .ok (.iconst 0, 1) := dk_3 (dk_at dksL_law_85 17 rfl rfl)
theorem dL_law_2209 : decode cL_law 2209 = .ok (.ireturn, 1) := dk_172 (dk_at dksL_law_85 18 rfl rfl)
theorem dL_law_2210 : decode cL_law 2210 = .ok (.iload 6, 2) := dk_21 6 (dk_at dksL_law_85 19 rfl rfl)
theorem dL_law_2212 : decode cL_law 2212 = .ok (.ifCond .ne 36, 3) := dk_154 0 36 (dk_at dksL_law_85 21 rfl rfl)
theorem dL_law_2215 : decode cL_law 2215 = .ok (.aload 4, 2) := dk_25 4 (dk_at dksL_law_86 0 rfl rfl)
theorem dL_law_2217 : decode cL_law 2217 = .ok (.iconst 0, 1) := dk_3 (dk_at dksL_law_86 2 rfl rfl)
theorem dL_law_2218 : decode cL_law 2218 = .ok (.daload, 1) := dk_49 (dk_at dksL_law_86 3 rfl rfl)
theorem dL_law_2219 : decode cL_law 2219 = .ok (.fload 7, 2) := dk_23 7 (dk_at dksL_law_86 4 rfl rfl)
theorem dL_law_2221 : decode cL_law 2221 = .ok (.f2d, 1) := dk_141 (dk_at dksL_law_86 6 rfl rfl)
theorem dL_law_2222 : decode cL_law 2222 = .ok (.dcmp .l, 1) := dk_151 (dk_at dksL_law_86 7 rfl rfl)
theorem dL_law_2223 : decode cL_law 2223 = .ok (.ifCond .eq 25, 3) := dk_153 0 25 (dk_at dksL_law_86 8 rfl rfl)
theorem dL_law_2226 : decode cL_law 2226 = .ok (.aload 4, 2) := dk_25 4 (dk_at dksL_law_86 11 rfl rfl)
theorem dL_law_2228 : decode cL_law 2228 = .ok (.iconst 0, 1) := dk_3 (dk_at dksL_law_86 13 rfl rfl)
theorem dL_law_2229 : decode cL_law 2229 = .ok (.daload, 1) := dk_49 (dk_at dksL_law_86 14 rfl rfl)
theorem dL_law_2230 : decode cL_law 2230 = .ok (.aload 4, 2) := dk_25 4 (dk_at dksL_law_86 15 rfl rfl)
theorem dL_law_2232 : decode cL_law 2232 = .ok (.iconst 0, 1) := dk_3 (dk_at dksL_law_86 17 rfl rfl)
theorem dL_law_2233 : decode cL_law 2233 = .ok (.daload, 1) := dk_49 (dk_at dksL_law_86 18 rfl rfl)
theorem dL_law_2234 : decode cL_law 2234 = .ok (.dcmp .l, 1) := dk_151 (dk_at dksL_law_86 19 rfl rfl)
theorem dL_law_2235 : decode cL_law 2235 = .ok (.ifCond .eq 11, 3) := dk_153 0 11 (dk_at dksL_law_86 20 rfl rfl)
theorem dL_law_2238 : decode cL_law 2238 = .ok (.fload 7, 2) := dk_23 7 (dk_at dksL_law_87 0 rfl rfl)
theorem dL_law_2240 : decode cL_law 2240 = .ok (.fload 7, 2) := dk_23 7 (dk_at dksL_law_87 2 rfl rfl)
theorem dL_law_2242 : decode cL_law 2242 = .ok (.fcmp .l, 1) := dk_149 (dk_at dksL_law_87 4 rfl rfl)
theorem dL_law_2243 : decode cL_law 2243 = .ok (.ifCond .ne 5, 3) := dk_154 0 5 (dk_at dksL_law_87 5 rfl rfl)
theorem dL_law_2246 : decode cL_law 2246 = .ok (.iconst 0, 1) := dk_3 (dk_at dksL_law_87 8 rfl rfl)
theorem dL_law_2247 : decode cL_law 2247 = .ok (.ireturn, 1) := dk_172 (dk_at dksL_law_87 9 rfl rfl)
theorem dL_law_2248 : decode cL_law 2248 = .ok (.goto 575, 3) := dk_167 2 63 (dk_at dksL_law_87 10 rfl rfl)
theorem dL_law_2251 : decode cL_law 2251 = .ok (.aload_n 1, 1) := dk_43 (dk_at dksL_law_87 13 rfl rfl)
theorem dL_law_2252 : decode cL_law 2252 = .ok (.aload_n 0, 1) := dk_42 (dk_at dksL_law_87 14 rfl rfl)
theorem dL_law_2253 : decode cL_law 2253 = .ok (.iload 5, 2) := dk_21 5 (dk_at dksL_law_87 15 rfl rfl)
theorem dL_law_2255 : decode cL_law 2255 = .ok (.iconst 1, 1) := dk_4 (dk_at dksL_law_87 17 rfl rfl)
theorem dL_law_2256 : decode cL_law 2256 = .ok (.iadd, 1) := dk_96 (dk_at dksL_law_87 18 rfl rfl)
theorem dL_law_2257 : decode cL_law 2257 = .ok (.iaload, 1) := dk_46 (dk_at dksL_law_87 19 rfl rfl)
theorem dL_law_2258 : decode cL_law 2258 = .ok (.i2c, 1) := dk_146 (dk_at dksL_law_87 20 rfl rfl)
theorem dL_law_2259 : decode cL_law 2259 = .ok (.aload_n 3, 1) := dk_45 (dk_at dksL_law_87 21 rfl rfl)
theorem dL_law_2260 : decode cL_law 2260 = .ok (.invokestatic 294, 3) := dk_184 1 38 (dk_at dksL_law_88 0 rfl rfl)
theorem dL_law_2263 : decode cL_law 2263 = .ok (.istore 6, 2) := dk_54 6 (dk_at dksL_law_88 3 rfl rfl)
theorem dL_law_2265 : decode cL_law 2265 = .ok (.aload_n 2, 1) := dk_44 (dk_at dksL_law_88 5 rfl rfl)
theorem dL_law_2266 : decode cL_law 2266 = .ok (.aload_n 0, 1) := dk_42 (dk_at dksL_law_88 6 rfl rfl)
theorem dL_law_2267 : decode cL_law 2267 = .ok (.iload 5, 2) := dk_21 5 (dk_at dksL_law_88 7 rfl rfl)
theorem dL_law_2269 : decode cL_law 2269 = .ok (.iconst 1, 1) := dk_4 (dk_at dksL_law_88 9 rfl rfl)
theorem dL_law_2270 : decode cL_law 2270 = .ok (.iadd, 1) := dk_96 (dk_at dksL_law_88 10 rfl rfl)
theorem dL_law_2271 : decode cL_law 2271 = .ok (.iaload, 1) := dk_46 (dk_at dksL_law_88 11 rfl rfl)
theorem dL_law_2272 : decode cL_law 2272 = .ok (.i2c, 1) := dk_146 (dk_at dksL_law_88 12 rfl rfl)
theorem dL_law_2273 : decode cL_law 2273 = .ok (.invokevirtual 297, 3) := dk_182 1 41 (dk_at dksL_law_88 13 rfl rfl)
theorem dL_law_2276 : decode cL_law 2276 = .ok (.istore 7, 2) := dk_54 7 (dk_at dksL_law_88 16 rfl rfl)
theorem dL_law_2278 : decode cL_law 2278 = .ok (.aload_n 2, 1) := dk_44 (dk_at dksL_law_88 18 rfl rfl)
theorem dL_law_2279 : decode cL_law 2279 = .ok (.invokevirtual 165, 3) := dk_182 0 165 (dk_at dksL_law_88 19 rfl rfl)
theorem dL_law_2282 : decode cL_law 2282 = .ok (.iload 6, 2) := dk_21 6 (dk_at dksL_law_88 22 rfl rfl)
theorem dL_law_2284 : decode cL_law 2284 = .ok (.if_icmp .eq 5, 3) := dk_159 0 5 (dk_at dksL_law_89 0 rfl rfl)
theorem dL_law_2287 : decode cL_law 2287 = .ok (.iconst 0, 1) := dk_3 (dk_at dksL_law_89 3 rfl rfl)
theorem dL_law_2288 : decode cL_law 2288 = .ok (.ireturn, 1) := dk_172 (dk_at dksL_law_89 4 rfl rfl)
theorem dL_law_2289 : decode cL_law 2289 = .ok (.iload 6, 2) := dk_21 6 (dk_at dksL_law_89 5 rfl rfl)
theorem dL_law_2291 : decode cL_law 2291 = .ok (.ifCond .ne 15, 3) := dk_154 0 15 (dk_at dksL_law_89 7 rfl rfl)
theorem dL_law_2294 : decode cL_law 2294 = .ok (.aload_n 3, 1) := dk_45 (dk_at dksL_law_89 10 rfl rfl)
theorem dL_law_2295 : decode cL_law 2295 = .ok (.iconst 0, 1) := dk_3 (dk_at dksL_law_89 11 rfl rfl)
theorem dL_law_2296 : decode cL_law 2296 = .ok (.laload, 1) := dk_47 (dk_at dksL_law_89 12 rfl rfl)
theorem dL_law_2297 : decode cL_law 2297 = .ok (.iload 7, 2) := dk_21 7 (dk_at dksL_law_89 13 rfl rfl)
theorem dL_law_2299 : decode cL_law 2299 = .ok (.i2l, 1) := dk_133 (dk_at dksL_law_89 15 rfl rfl)
theorem dL_law_2300 : decode cL_law 2300 = .ok (.lcmp, 1) := dk_148 (dk_at dksL_law_89 16 rfl rfl)
theorem dL_law_2301 : decode cL_law 2301 = .ok (.ifCond .eq 5, 3) := dk_153 0 5 (dk_at dksL_law_89 17 rfl rfl)
theorem dL_law_2304 : decode cL_law 2304 = .ok (.iconst 0, 1) := dk_3 (dk_at dksL_law_89 20 rfl rfl)
theorem dL_law_2305 : decode cL_law 2305 = .ok (.ireturn, 1) := dk_172 (dk_at dksL_law_89 21 rfl rfl)
theorem dL_law_2306 : decode cL_law 2306 = .ok (.goto 517, 3) := dk_167 2 5 (dk_at dksL_law_90 0 rfl rfl)
theorem dL_law_2309 : decode cL_law 2309 = .ok (.aload_n 1, 1) := dk_43 (dk_at dksL_law_90 3 rfl rfl)
theorem dL_law_2310 : decode cL_law 2310 = .ok (.aload_n 3, 1) := dk_45 (dk_at dksL_law_90 4 rfl rfl)
theorem dL_law_2311 : decode cL_law 2311 = .ok (.invokestatic 298, 3) := dk_184 1 42 (dk_at dksL_law_90 5 rfl rfl)
theorem dL_law_2314 : decode cL_law 2314 = .ok (.istore 6, 2) := dk_54 6 (dk_at dksL_law_90 8 rfl rfl)
theorem dL_law_2316 : decode cL_law 2316 = .ok (.aload_n 2, 1) := dk_44 (dk_at dksL_law_90 10 rfl rfl)
theorem dL_law_2317 : decode cL_law 2317 = .ok (.invokevirtual 300, 3) := dk_182 1 44 (dk_at dksL_law_90 11 rfl rfl)
theorem dL_law_2320 : decode cL_law 2320 = .ok (.istore 7, 2) := dk_54 7 (dk_at dksL_law_90 14 rfl rfl)
theorem dL_law_2322 : decode cL_law 2322 = .ok (.aload_n 2, 1) := dk_44 (dk_at dksL_law_90 16 rfl rfl)
theorem dL_law_2323 : decode cL_law 2323 = .ok (.invokevirtual 165, 3) := dk_182 0 165 (dk_at dksL_law_90 17 rfl rfl)
theorem dL_law_2326 : decode cL_law 2326 = .ok (.iload 6, 2) := dk_21 6 (dk_at dksL_law_90 20 rfl rfl)
theorem dL_law_2328 : decode cL_law 2328 = .ok (.if_icmp .eq 5, 3) := dk_159 0 5 (dk_at dksL_law_91 0 rfl rfl)
theorem dL_law_2331 : decode cL_law 2331 = .ok (.iconst 0, 1) := dk_3 (dk_at dksL_law_91 3 rfl rfl)
theorem dL_law_2332 : decode cL_law 2332 = .ok (.ireturn, 1) := dk_172 (dk_at dksL_law_91 4 rfl rfl)
theorem dL_law_2333 : decode cL_law 2333 = .ok (.iload 6, 2) := dk_21 6 (dk_at dksL_law_91 5 rfl rfl)
theorem dL_law_2335 : decode cL_law 2335 = .ok (.ifCond .ne 15, 3) := dk_154 0 15 (dk_at dksL_law_91 7 rfl rfl)
theorem dL_law_2338 : decode cL_law 2338 = .ok (.aload_n 3, 1) := dk_45 (dk_at dksL_law_91 10 rfl rfl)
theorem dL_law_2339 : decode cL_law 2339 = .ok (.iconst 0, 1) := dk_3 (dk_at dksL_law_91 11 rfl rfl)
theorem dL_law_2340 : decode cL_law 2340 = .ok (.laload, 1) := dk_47 (dk_at dksL_law_91 12 rfl rfl)
theorem dL_law_2341 : decode cL_law 2341 = .ok (.iload 7, 2) := dk_21 7 (dk_at dksL_law_91 13 rfl rfl)
theorem dL_law_2343 : decode cL_law 2343 = .ok (.i2l, 1) := dk_133 (dk_at dksL_law_91 15 rfl rfl)
theorem dL_law_2344 : decode cL_law 2344 = .ok (.lcmp, 1) := dk_148 (dk_at dksL_law_91 16 rfl rfl)
theorem dL_law_2345 : decode cL_law 2345 = .ok (.ifCond .eq 5, 3) := dk_153 0 5 (dk_at dksL_law_91 17 rfl rfl)
theorem dL_law_2348 : decode cL_law 2348 = .ok (.iconst 0, 1) := dk_3 (dk_at dksL_law_91 20 rfl rfl)
theorem dL_law_2349 : decode cL_law 2349 = .ok (.ireturn, 1) := dk_172 (dk_at dksL_law_91 21 rfl rfl)
theorem dL_law_2350 : decode cL_law 2350 = .ok (.goto 473, 3) := dk_167 1 217 (dk_at dksL_law_92 0 rfl rfl)
theorem dL_law_2353 : decode cL_law 2353 = .ok (.aload_n 1, 1) := dk_43 (dk_at dksL_law_92 3 rfl rfl)
theorem dL_law_2354 : decode cL_law 2354 = .ok (.aload_n 3, 1) := dk_45 (dk_at dksL_law_92 4 rfl rfl)
theorem dL_law_2355 : decode cL_law 2355 = .ok (.invokestatic 301, 3) := dk_184 1 45 (dk_at dksL_law_92 5 rfl rfl)
theorem dL_law_2358 : decode cL_law 2358 = .ok (.istore 6, 2) := dk_54 6 (dk_at dksL_law_92 8 rfl rfl)
theorem dL_law_2360 : decode cL_law 2360 = .ok (.aload_n 2, 1) := dk_44 (dk_at dksL_law_92 10 rfl rfl)
theorem dL_law_2361 : decode cL_law 2361 = .ok (.invokevirtual 303, 3) := dk_182 1 47 (dk_at dksL_law_92 11 rfl rfl)
theorem dL_law_2364 : decode cL_law 2364 = .ok (.istore 7, 2) := dk_54 7 (dk_at dksL_law_92 14 rfl rfl)
theorem dL_law_2366 : decode cL_law 2366 = .ok (.aload_n 2, 1) := dk_44 (dk_at dksL_law_92 16 rfl rfl)
theorem dL_law_2367 : decode cL_law 2367 = .ok (.invokevirtual 165, 3) := dk_182 0 165 (dk_at dksL_law_92 17 rfl rfl)
theorem dL_law_2370 : decode cL_law 2370 = .ok (.iload 6, 2) := dk_21 6 (dk_at dksL_law_92 20 rfl rfl)
theorem dL_law_2372 : decode cL_law 2372 = .ok (.if_icmp .eq 5, 3) := dk_159 0 5 (dk_at dksL_law_93 0 rfl rfl)
theorem dL_law_2375 : decode cL_law 2375 = .ok (.iconst 0, 1) := dk_3 (dk_at dksL_law_93 3 rfl rfl)
theorem dL_law_2376 : decode cL_law 2376 = .ok (.ireturn, 1) := dk_172 (dk_at dksL_law_93 4 rfl rfl)
theorem dL_law_2377 : decode cL_law 2377 = .ok (.iload 6, 2) := dk_21 6 (dk_at dksL_law_93 5 rfl rfl)
theorem dL_law_2379 : decode cL_law 2379 = .ok (.ifCond .ne 15, 3) := dk_154 0 15 (dk_at dksL_law_93 7 rfl rfl)
theorem dL_law_2382 : decode cL_law 2382 = .ok (.aload_n 3, 1) := dk_45 (dk_at dksL_law_93 10 rfl rfl)
theorem dL_law_2383 : decode cL_law 2383 = .ok (.iconst 0, 1) := dk_3 (dk_at dksL_law_93 11 rfl rfl)
theorem dL_law_2384 : decode cL_law 2384 = .ok (.laload, 1) := dk_47 (dk_at dksL_law_93 12 rfl rfl)
theorem dL_law_2385 : decode cL_law 2385 = .ok (.iload 7, 2) := dk_21 7 (dk_at dksL_law_93 13 rfl rfl)
theorem dL_law_2387 : decode cL_law 2387 = .ok (.i2l, 1) := dk_133 (dk_at dksL_law_93 15 rfl rfl)
theorem dL_law_2388 : decode cL_law 2388 = .ok (.lcmp, 1) := dk_148 (dk_at dksL_law_93 16 rfl rfl)
theorem dL_law_2389 : decode cL_law 2389 = .ok (.ifCond .eq 5, 3) := dk_153 0 5 (dk_at dksL_law_93 17 rfl rfl)
theorem dL_law_2392 : decode cL_law 2392 = .ok (.iconst 0, 1) := dk_3 (dk_at dksL_law_93 20 rfl rfl)
theorem dL_law_2393 : decode cL_law 2393 = .ok (.ireturn, 1) := dk_172 (dk_at dksL_law_93 21 rfl rfl)
theorem dL_law_2394 : decode cL_law 2394 = .ok (.goto 429, 3) := dk_167 1 173 (dk_at dksL_law_94 0 rfl rfl)
theorem dL_law_2397 : decode cL_law 2397 = .ok (.aload_n 1, 1) := dk_43 (dk_at dksL_law_94 3 rfl rfl)
theorem dL_law_2398 : decode cL_law 2398 = .ok (.aload_n 0, 1) := dk_42 (dk_at dksL_law_94 4 rfl rfl)
theorem dL_law_2399 : decode cL_law 2399 = .ok (.iload 5, 2) := dk_21 5 (dk_at dksL_law_94 5 rfl rfl)
theorem dL_law_2401 : decode cL_law 2401 = .ok (.iconst 1, 1) := dk_4 (dk_at dksL_law_94 7 rfl rfl)
theorem dL_law_2402 : decode cL_law 2402 = .ok (.iadd, 1) := dk_96 (dk_at dksL_law_94 8 rfl rfl)
theorem dL_law_2403 : decode cL_law 2403 = .ok (.iaload, 1) := dk_46 (dk_at dksL_law_94 9 rfl rfl)
theorem dL_law_2404 : decode cL_law 2404 = .ok (.aload_n 3, 1) := dk_45 (dk_at dksL_law_94 10 rfl rfl)
theorem dL_law_2405 : decode cL_law 2405 = .ok (.invokestatic 304, 3) := dk_184 1 48 (dk_at dksL_law_94 11 rfl rfl)
theorem dL_law_2408 : decode cL_law 2408 = .ok (.istore 6, 2) := dk_54 6 (dk_at dksL_law_94 14 rfl rfl)
theorem dL_law_2410 : decode cL_law 2410 = .ok (.aload_n 2, 1) := dk_44 (dk_at dksL_law_94 16 rfl rfl)
theorem dL_law_2411 : decode cL_law 2411 = .ok (.aload_n 0, 1) := dk_42 (dk_at dksL_law_94 17 rfl rfl)
theorem dL_law_2412 : decode cL_law 2412 = .ok (.iload 5, 2) := dk_21 5 (dk_at dksL_law_94 18 rfl rfl)
theorem dL_law_2414 : decode cL_law 2414 = .ok (.iconst 1, 1) := dk_4 (dk_at dksL_law_94 20 rfl rfl)
theorem dL_law_2415 : decode cL_law 2415 = .ok (.iadd, 1) := dk_96 (dk_at dksL_law_94 21 rfl rfl)
theorem dL_law_2416 : decode cL_law 2416 = .ok (.iaload, 1) := dk_46 (dk_at dksL_law_94 22 rfl rfl)
theorem dL_law_2417 : decode cL_law 2417 = .ok (.invokevirtual 306, 3) := dk_182 1 50 (dk_at dksL_law_95 0 rfl rfl)
theorem dL_law_2420 : decode cL_law 2420 = .ok (.istore 7, 2) := dk_54 7 (dk_at dksL_law_95 3 rfl rfl)
theorem dL_law_2422 : decode cL_law 2422 = .ok (.aload_n 2, 1) := dk_44 (dk_at dksL_law_95 5 rfl rfl)
theorem dL_law_2423 : decode cL_law 2423 = .ok (.invokevirtual 165, 3) := dk_182 0 165 (dk_at dksL_law_95 6 rfl rfl)
theorem dL_law_2426 : decode cL_law 2426 = .ok (.iload 6, 2) := dk_21 6 (dk_at dksL_law_95 9 rfl rfl)
theorem dL_law_2428 : decode cL_law 2428 = .ok (.if_icmp .eq 5, 3) := dk_159 0 5 (dk_at dksL_law_95 11 rfl rfl)
theorem dL_law_2431 : decode cL_law 2431 = .ok (.iconst 0, 1) := dk_3 (dk_at dksL_law_95 14 rfl rfl)
theorem dL_law_2432 : decode cL_law 2432 = .ok (.ireturn, 1) := dk_172 (dk_at dksL_law_95 15 rfl rfl)
theorem dL_law_2433 : decode cL_law 2433 = .ok (.iload 6, 2) := dk_21 6 (dk_at dksL_law_95 16 rfl rfl)
theorem dL_law_2435 : decode cL_law 2435 = .ok (.ifCond .ne 15, 3) := dk_154 0 15 (dk_at dksL_law_95 18 rfl rfl)
theorem dL_law_2438 : decode cL_law 2438 = .ok (.aload_n 3, 1) := dk_45 (dk_at dksL_law_95 21 rfl rfl)
theorem dL_law_2439 : decode cL_law 2439 = .ok (.iconst 0, 1) := dk_3 (dk_at dksL_law_95 22 rfl rfl)
theorem dL_law_2440 : decode cL_law 2440 = .ok (.laload, 1) := dk_47 (dk_at dksL_law_95 23 rfl rfl)
theorem dL_law_2441 : decode cL_law 2441 = .ok (.iload 7, 2) := dk_21 7 (dk_at dksL_law_96 0 rfl rfl)
theorem dL_law_2443 : decode cL_law 2443 = .ok (.i2l, 1) := dk_133 (dk_at dksL_law_96 2 rfl rfl)
theorem dL_law_2444 : decode cL_law 2444 = .ok (.lcmp, 1) := dk_148 (dk_at dksL_law_96 3 rfl rfl)
theorem dL_law_2445 : decode cL_law 2445 = .ok (.ifCond .eq 5, 3) := dk_153 0 5 (dk_at dksL_law_96 4 rfl rfl)
theorem dL_law_2448 : decode cL_law 2448 = .ok (.iconst 0, 1) := dk_3 (dk_at dksL_law_96 7 rfl rfl)
theorem dL_law_2449 : decode cL_law 2449 = .ok (.ireturn, 1) := dk_172 (dk_at dksL_law_96 8 rfl rfl)
theorem dL_law_2450 : decode cL_law 2450 = .ok (.goto 373, 3) := dk_167 1 117 (dk_at dksL_law_96 9 rfl rfl)
theorem dL_law_2453 : decode cL_law 2453 = .ok (.aload_n 1, 1) := dk_43 (dk_at dksL_law_96 12 rfl rfl)
theorem dL_law_2454 : decode cL_law 2454 = .ok (.aload_n 0, 1) := dk_42 (dk_at dksL_law_96 13 rfl rfl)
theorem dL_law_2455 : decode cL_law 2455 = .ok (.iload 5, 2) := dk_21 5 (dk_at dksL_law_96 14 rfl rfl)
theorem dL_law_2457 : decode cL_law 2457 = .ok (.iconst 1, 1) := dk_4 (dk_at dksL_law_96 16 rfl rfl)
theorem dL_law_2458 : decode cL_law 2458 = .ok (.iadd, 1) := dk_96 (dk_at dksL_law_96 17 rfl rfl)
theorem dL_law_2459 : decode cL_law 2459 = .ok (.iaload, 1) := dk_46 (dk_at dksL_law_96 18 rfl rfl)
theorem dL_law_2460 : decode cL_law 2460 = .ok (.aload_n 0, 1) := dk_42 (dk_at dksL_law_96 19 rfl rfl)
theorem dL_law_2461 : decode cL_law 2461 = .ok (.iload 5, 2) := dk_21 5 (dk_at dksL_law_96 20 rfl rfl)
theorem dL_law_2463 : decode cL_law 2463 = .ok (.iconst 2, 1) := dk_5 (dk_at dksL_law_96 22 rfl rfl)
theorem dL_law_2464 : decode cL_law 2464 = .ok (.iadd, 1) := dk_96 (dk_at dksL_law_96 23 rfl rfl)
theorem dL_law_2465 : decode cL_law 2465 = .ok (.iaload, 1) := dk_46 (dk_at dksL_law_97 0 rfl rfl)
theorem dL_law_2466 : decode cL_law 2466 = .ok (.aload_n 3, 1) := dk_45 (dk_at dksL_law_97 1 rfl rfl)
theorem dL_law_2467 : decode cL_law 2467 = .ok (.invokestatic 307, 3) := dk_184 1 51 (dk_at dksL_law_97 2 rfl rfl)
theorem dL_law_2470 : decode cL_law 2470 = .ok (.istore 6, 2) := dk_54 6 (dk_at dksL_law_97 5 rfl rfl)
theorem dL_law_2472 : decode cL_law 2472 = .ok (.aload_n 2, 1) := dk_44 (dk_at dksL_law_97 7 rfl rfl)
theorem dL_law_2473 : decode cL_law 2473 = .ok (.aload_n 0, 1) := dk_42 (dk_at dksL_law_97 8 rfl rfl)
theorem dL_law_2474 : decode cL_law 2474 = .ok (.iload 5, 2) := dk_21 5 (dk_at dksL_law_97 9 rfl rfl)
theorem dL_law_2476 : decode cL_law 2476 = .ok (.iconst 1, 1) := dk_4 (dk_at dksL_law_97 11 rfl rfl)
theorem dL_law_2477 : decode cL_law 2477 = .ok (.iadd, 1) := dk_96 (dk_at dksL_law_97 12 rfl rfl)
theorem dL_law_2478 : decode cL_law 2478 = .ok (.iaload, 1) := dk_46 (dk_at dksL_law_97 13 rfl rfl)
theorem dL_law_2479 : decode cL_law 2479 = .ok (.aload_n 0, 1) := dk_42 (dk_at dksL_law_97 14 rfl rfl)
theorem dL_law_2480 : decode cL_law 2480 = .ok (.iload 5, 2) := dk_21 5 (dk_at dksL_law_97 15 rfl rfl)
theorem dL_law_2482 : decode cL_law 2482 = .ok (.iconst 2, 1) := dk_5 (dk_at dksL_law_97 17 rfl rfl)
theorem dL_law_2483 : decode cL_law 2483 = .ok (.iadd, 1) := dk_96 (dk_at dksL_law_97 18 rfl rfl)
theorem dL_law_2484 : decode cL_law 2484 = .ok (.iaload, 1) := dk_46 (dk_at dksL_law_97 19 rfl rfl)
theorem dL_law_2485 : decode cL_law 2485 = .ok (.invokevirtual 309, 3) := dk_182 1 53 (dk_at dksL_law_97 20 rfl rfl)
theorem dL_law_2488 : decode cL_law 2488 = .ok (.istore 7, 2) := dk_54 7 (dk_at dksL_law_98 0 rfl rfl)
theorem dL_law_2490 : decode cL_law 2490 = .ok (.aload_n 2, 1) := dk_44 (dk_at dksL_law_98 2 rfl rfl)
theorem dL_law_2491 : decode cL_law 2491 = .ok (.invokevirtual 165, 3) := dk_182 0 165 (dk_at dksL_law_98 3 rfl rfl)
theorem dL_law_2494 : decode cL_law 2494 = .ok (.iload 6, 2) := dk_21 6 (dk_at dksL_law_98 6 rfl rfl)
theorem dL_law_2496 : decode cL_law 2496 = .ok (.if_icmp .eq 5, 3) := dk_159 0 5 (dk_at dksL_law_98 8 rfl rfl)
theorem dL_law_2499 : decode cL_law 2499 = .ok (.iconst 0, 1) := dk_3 (dk_at dksL_law_98 11 rfl rfl)
theorem dL_law_2500 : decode cL_law 2500 = .ok (.ireturn, 1) := dk_172 (dk_at dksL_law_98 12 rfl rfl)
theorem dL_law_2501 : decode cL_law 2501 = .ok (.iload 6, 2) := dk_21 6 (dk_at dksL_law_98 13 rfl rfl)
theorem dL_law_2503 : decode cL_law 2503 = .ok (.ifCond .ne 15, 3) := dk_154 0 15 (dk_at dksL_law_98 15 rfl rfl)
theorem dL_law_2506 : decode cL_law 2506 = .ok (.aload_n 3, 1) := dk_45 (dk_at dksL_law_98 18 rfl rfl)
theorem dL_law_2507 : decode cL_law 2507 = .ok (.iconst 0, 1) := dk_3 (dk_at dksL_law_98 19 rfl rfl)
theorem dL_law_2508 : decode cL_law 2508 = .ok (.laload, 1) := dk_47 (dk_at dksL_law_98 20 rfl rfl)
theorem dL_law_2509 : decode cL_law 2509 = .ok (.iload 7, 2) := dk_21 7 (dk_at dksL_law_98 21 rfl rfl)
theorem dL_law_2511 : decode cL_law 2511 = .ok (.i2l, 1) := dk_133 (dk_at dksL_law_98 23 rfl rfl)
theorem dL_law_2512 : decode cL_law 2512 = .ok (.lcmp, 1) := dk_148 (dk_at dksL_law_99 0 rfl rfl)
theorem dL_law_2513 : decode cL_law 2513 = .ok (.ifCond .eq 5, 3) := dk_153 0 5 (dk_at dksL_law_99 1 rfl rfl)
theorem dL_law_2516 : decode cL_law 2516 = .ok (.iconst 0, 1) := dk_3 (dk_at dksL_law_99 4 rfl rfl)
theorem dL_law_2517 : decode cL_law 2517 = .ok (.ireturn, 1) := dk_172 (dk_at dksL_law_99 5 rfl rfl)
theorem dL_law_2518 : decode cL_law 2518 = .ok (.goto 305, 3) := dk_167 1 49 (dk_at dksL_law_99 6 rfl rfl)
theorem dL_law_2521 : decode cL_law 2521 = .ok (.aload_n 1, 1) := dk_43 (dk_at dksL_law_99 9 rfl rfl)
theorem dL_law_2522 : decode cL_law 2522 = .ok (.aload_n 0, 1) := dk_42 (dk_at dksL_law_99 10 rfl rfl)
theorem dL_law_2523 : decode cL_law 2523 = .ok (.iload 5, 2) := dk_21 5 (dk_at dksL_law_99 11 rfl rfl)
theorem dL_law_2525 : decode cL_law 2525 = .ok (.iconst 1, 1) := dk_4 (dk_at dksL_law_99 13 rfl rfl)
theorem dL_law_2526 : decode cL_law 2526 = .ok (.iadd, 1) := dk_96 (dk_at dksL_law_99 14 rfl rfl)
theorem dL_law_2527 : decode cL_law 2527 = .ok (.iaload, 1) := dk_46 (dk_at dksL_law_99 15 rfl rfl)
theorem dL_law_2528 : decode cL_law 2528 = .ok (.aload_n 3, 1) := dk_45 (dk_at dksL_law_99 16 rfl rfl)
theorem dL_law_2529 : decode cL_law 2529 = .ok (.invokestatic 310, 3) := dk_184 1 54 (dk_at dksL_law_99 17 rfl rfl)
theorem dL_law_2532 : decode cL_law 2532 = .ok (.istore 6, 2) := dk_54 6 (dk_at dksL_law_99 20 rfl rfl)
theorem dL_law_2534 : decode cL_law 2534 = .ok (.aload_n 2, 1) := dk_44 (dk_at dksL_law_99 22 rfl rfl)
theorem dL_law_2535 : decode cL_law 2535 = .ok (.aload_n 0, 1) := dk_42 (dk_at dksL_law_99 23 rfl rfl)
theorem dL_law_2536 : decode cL_law 2536 = .ok (.iload 5, 2) := dk_21 5 (dk_at dksL_law_100 0 rfl rfl)
theorem dL_law_2538 : decode cL_law 2538 = .ok (.iconst 1, 1) := dk_4 (dk_at dksL_law_100 2 rfl rfl)
theorem dL_law_2539 : decode cL_law 2539 = .ok (.iadd, 1) := dk_96 (dk_at dksL_law_100 3 rfl rfl)
theorem dL_law_2540 : decode cL_law 2540 = .ok (.iaload, 1) := dk_46 (dk_at dksL_law_100 4 rfl rfl)
theorem dL_law_2541 : decode cL_law 2541 = .ok (.invokevirtual 312, 3) := dk_182 1 56 (dk_at dksL_law_100 5 rfl rfl)
theorem dL_law_2544 : decode cL_law 2544 = .ok (.istore 7, 2) := dk_54 7 (dk_at dksL_law_100 8 rfl rfl)
theorem dL_law_2546 : decode cL_law 2546 = .ok (.aload_n 2, 1) := dk_44 (dk_at dksL_law_100 10 rfl rfl)
theorem dL_law_2547 : decode cL_law 2547 = .ok (.invokevirtual 165, 3) := dk_182 0 165 (dk_at dksL_law_100 11 rfl rfl)
theorem dL_law_2550 : decode cL_law 2550 = .ok (.iload 6, 2) := dk_21 6 (dk_at dksL_law_100 14 rfl rfl)
theorem dL_law_2552 : decode cL_law 2552 = .ok (.if_icmp .eq 5, 3) := dk_159 0 5 (dk_at dksL_law_100 16 rfl rfl)
theorem dL_law_2555 : decode cL_law 2555 = .ok (.iconst 0, 1) := dk_3 (dk_at dksL_law_100 19 rfl rfl)
theorem dL_law_2556 : decode cL_law 2556 = .ok (.ireturn, 1) := dk_172 (dk_at dksL_law_100 20 rfl rfl)
theorem dL_law_2557 : decode cL_law 2557 = .ok (.iload 6, 2) := dk_21 6 (dk_at dksL_law_100 21 rfl rfl)
theorem dL_law_2559 : decode cL_law 2559 = .ok (.ifCond .ne 15, 3) := dk_154 0 15 (dk_at dksL_law_101 0 rfl rfl)
theorem dL_law_2562 : decode cL_law 2562 = .ok (.aload_n 3, 1) := dk_45 (dk_at dksL_law_101 3 rfl rfl)
theorem dL_law_2563 : decode cL_law 2563 = .ok (.iconst 0, 1) := dk_3 (dk_at dksL_law_101 4 rfl rfl)
theorem dL_law_2564 : decode cL_law 2564 = .ok (.laload, 1) := dk_47 (dk_at dksL_law_101 5 rfl rfl)
theorem dL_law_2565 : decode cL_law 2565 = .ok (.iload 7, 2) := dk_21 7 (dk_at dksL_law_101 6 rfl rfl)
theorem dL_law_2567 : decode cL_law 2567 = .ok (.i2l, 1) := dk_133 (dk_at dksL_law_101 8 rfl rfl)
theorem dL_law_2568 : decode cL_law 2568 = .ok (.lcmp, 1) := dk_148 (dk_at dksL_law_101 9 rfl rfl)
theorem dL_law_2569 : decode cL_law 2569 = .ok (.ifCond .eq 5, 3) := dk_153 0 5 (dk_at dksL_law_101 10 rfl rfl)
theorem dL_law_2572 : decode cL_law 2572 = .ok (.iconst 0, 1) := dk_3 (dk_at dksL_law_101 13 rfl rfl)
theorem dL_law_2573 : decode cL_law 2573 = .ok (.ireturn, 1) := dk_172 (dk_at dksL_law_101 14 rfl rfl)
theorem dL_law_2574 : decode cL_law 2574 = .ok (.goto 249, 3) := dk_167 0 249 (dk_at dksL_law_101 15 rfl rfl)
theorem dL_law_2577 : decode cL_law 2577 = .ok (.aload_n 1, 1) := dk_43 (dk_at dksL_law_101 18 rfl rfl)
theorem dL_law_2578 : decode cL_law 2578 = .ok (.aload_n 3, 1) := dk_45 (dk_at dksL_law_101 19 rfl rfl)
theorem dL_law_2579 : decode cL_law 2579 = .ok (.invokestatic 313, 3) := dk_184 1 57 (dk_at dksL_law_101 20 rfl rfl)
theorem dL_law_2582 : decode cL_law 2582 = .ok (.istore 6, 2) := dk_54 6 (dk_at dksL_law_102 0 rfl rfl)
theorem dL_law_2584 : decode cL_law 2584 = .ok (.aload_n 2, 1) := dk_44 (dk_at dksL_law_102 2 rfl rfl)
theorem dL_law_2585 : decode cL_law 2585 = .ok (.invokevirtual 315, 3) := dk_182 1 59 (dk_at dksL_law_102 3 rfl rfl)
theorem dL_law_2588 : decode cL_law 2588 = .ok (.istore 7, 2) := dk_54 7 (dk_at dksL_law_102 6 rfl rfl)
theorem dL_law_2590 : decode cL_law 2590 = .ok (.aload_n 2, 1) := dk_44 (dk_at dksL_law_102 8 rfl rfl)
theorem dL_law_2591 : decode cL_law 2591 = .ok (.invokevirtual 165, 3) := dk_182 0 165 (dk_at dksL_law_102 9 rfl rfl)
theorem dL_law_2594 : decode cL_law 2594 = .ok (.iload 6, 2) := dk_21 6 (dk_at dksL_law_102 12 rfl rfl)
theorem dL_law_2596 : decode cL_law 2596 = .ok (.if_icmp .eq 5, 3) := dk_159 0 5 (dk_at dksL_law_102 14 rfl rfl)
theorem dL_law_2599 : decode cL_law 2599 = .ok (.iconst 0, 1) := dk_3 (dk_at dksL_law_102 17 rfl rfl)
theorem dL_law_2600 : decode cL_law 2600 = .ok (.ireturn, 1) := dk_172 (dk_at dksL_law_102 18 rfl rfl)
theorem dL_law_2601 : decode cL_law 2601 = .ok (.iload 6, 2) := dk_21 6 (dk_at dksL_law_102 19 rfl rfl)
theorem dL_law_2603 : decode cL_law 2603 = .ok (.ifCond .ne 15, 3) := dk_154 0 15 (dk_at dksL_law_102 21 rfl rfl)
theorem dL_law_2606 : decode cL_law 2606 = .ok (.aload_n 3, 1) := dk_45 (dk_at dksL_law_103 0 rfl rfl)
theorem dL_law_2607 : decode cL_law 2607 = .ok (.iconst 0, 1) := dk_3 (dk_at dksL_law_103 1 rfl rfl)
theorem dL_law_2608 : decode cL_law 2608 = .ok (.laload, 1) := dk_47 (dk_at dksL_law_103 2 rfl rfl)
theorem dL_law_2609 : decode cL_law 2609 = .ok (.iload 7, 2) := dk_21 7 (dk_at dksL_law_103 3 rfl rfl)
theorem dL_law_2611 : decode cL_law 2611 = .ok (.i2l, 1) := dk_133 (dk_at dksL_law_103 5 rfl rfl)
theorem dL_law_2612 : decode cL_law 2612 = .ok (.lcmp, 1) := dk_148 (dk_at dksL_law_103 6 rfl rfl)
theorem dL_law_2613 : decode cL_law 2613 = .ok (.ifCond .eq 5, 3) := dk_153 0 5 (dk_at dksL_law_103 7 rfl rfl)
theorem dL_law_2616 : decode cL_law 2616 = .ok (.iconst 0, 1) := dk_3 (dk_at dksL_law_103 10 rfl rfl)
theorem dL_law_2617 : decode cL_law 2617 = .ok (.ireturn, 1) := dk_172 (dk_at dksL_law_103 11 rfl rfl)
theorem dL_law_2618 : decode cL_law 2618 = .ok (.goto 205, 3) := dk_167 0 205 (dk_at dksL_law_103 12 rfl rfl)
theorem dL_law_2621 : decode cL_law 2621 = .ok (.aload_n 1, 1) := dk_43 (dk_at dksL_law_103 15 rfl rfl)
theorem dL_law_2622 : decode cL_law 2622 = .ok (.aload_n 3, 1) := dk_45 (dk_at dksL_law_103 16 rfl rfl)
theorem dL_law_2623 : decode cL_law 2623 = .ok (.invokestatic 316, 3) := dk_184 1 60 (dk_at dksL_law_103 17 rfl rfl)
theorem dL_law_2626 : decode cL_law 2626 = .ok (.istore 6, 2) := dk_54 6 (dk_at dksL_law_103 20 rfl rfl)
theorem dL_law_2628 : decode cL_law 2628 = .ok (.aload_n 2, 1) := dk_44 (dk_at dksL_law_103 22 rfl rfl)
theorem dL_law_2629 : decode cL_law 2629 = .ok (.invokevirtual 318, 3) := dk_182 1 62 (dk_at dksL_law_104 0 rfl rfl)
theorem dL_law_2632 : decode cL_law 2632 = .ok (.istore 7, 2) := dk_54 7 (dk_at dksL_law_104 3 rfl rfl)
theorem dL_law_2634 : decode cL_law 2634 = .ok (.aload_n 2, 1) := dk_44 (dk_at dksL_law_104 5 rfl rfl)
theorem dL_law_2635 : decode cL_law 2635 = .ok (.invokevirtual 165, 3) := dk_182 0 165 (dk_at dksL_law_104 6 rfl rfl)
theorem dL_law_2638 : decode cL_law 2638 = .ok (.iload 6, 2) := dk_21 6 (dk_at dksL_law_104 9 rfl rfl)
theorem dL_law_2640 : decode cL_law 2640 = .ok (.if_icmp .eq 5, 3) := dk_159 0 5 (dk_at dksL_law_104 11 rfl rfl)
theorem dL_law_2643 : decode cL_law 2643 = .ok (.iconst 0, 1) := dk_3 (dk_at dksL_law_104 14 rfl rfl)
theorem dL_law_2644 : decode cL_law 2644 = .ok (.ireturn, 1) := dk_172 (dk_at dksL_law_104 15 rfl rfl)
theorem dL_law_2645 : decode cL_law 2645 = .ok (.iload 6, 2) := dk_21 6 (dk_at dksL_law_104 16 rfl rfl)
theorem dL_law_2647 : decode cL_law 2647 = .ok (.ifCond .ne 15, 3) := dk_154 0 15 (dk_at dksL_law_104 18 rfl rfl)
theorem dL_law_2650 : decode cL_law 2650 = .ok (.aload_n 3, 1) := dk_45 (dk_at dksL_law_104 21 rfl rfl)
theorem dL_law_2651 : decode cL_law 2651 = .ok (.iconst 0, 1) := dk_3 (dk_at dksL_law_104 22 rfl rfl)
theorem dL_law_2652 : decode cL_law 2652 = .ok (.laload, 1) := dk_47 (dk_at dksL_law_104 23 rfl rfl)
theorem dL_law_2653 : decode cL_law 2653 = .ok (.iload 7, 2) := dk_21 7 (dk_at dksL_law_105 0 rfl rfl)
theorem dL_law_2655 : decode cL_law 2655 = .ok (.i2l, 1) := dk_133 (dk_at dksL_law_105 2 rfl rfl)
theorem dL_law_2656 : decode cL_law 2656 = .ok (.lcmp, 1) := dk_148 (dk_at dksL_law_105 3 rfl rfl)
theorem dL_law_2657 : decode cL_law 2657 = .ok (.ifCond .eq 5, 3) := dk_153 0 5 (dk_at dksL_law_105 4 rfl rfl)
theorem dL_law_2660 : decode cL_law 2660 = .ok (.iconst 0, 1) := dk_3 (dk_at dksL_law_105 7 rfl rfl)
theorem dL_law_2661 : decode cL_law 2661 = .ok (.ireturn, 1) := dk_172 (dk_at dksL_law_105 8 rfl rfl)
theorem dL_law_2662 : decode cL_law 2662 = .ok (.goto 161, 3) := dk_167 0 161 (dk_at dksL_law_105 9 rfl rfl)
theorem dL_law_2665 : decode cL_law 2665 = .ok (.aload_n 1, 1) := dk_43 (dk_at dksL_law_105 12 rfl rfl)
theorem dL_law_2666 : decode cL_law 2666 = .ok (.aload_n 3, 1) := dk_45 (dk_at dksL_law_105 13 rfl rfl)
theorem dL_law_2667 : decode cL_law 2667 = .ok (.invokestatic 319, 3) := dk_184 1 63 (dk_at dksL_law_105 14 rfl rfl)
theorem dL_law_2670 : decode cL_law 2670 = .ok (.istore 6, 2) := dk_54 6 (dk_at dksL_law_105 17 rfl rfl)
theorem dL_law_2672 : decode cL_law 2672 = .ok (.aload_n 2, 1) := dk_44 (dk_at dksL_law_105 19 rfl rfl)
theorem dL_law_2673 : decode cL_law 2673 = .ok (.invokevirtual 321, 3) := dk_182 1 65 (dk_at dksL_law_105 20 rfl rfl)
theorem dL_law_2676 : decode cL_law 2676 = .ok (.istore 7, 2) := dk_54 7 (dk_at dksL_law_106 0 rfl rfl)
theorem dL_law_2678 : decode cL_law 2678 = .ok (.aload_n 2, 1) := dk_44 (dk_at dksL_law_106 2 rfl rfl)
theorem dL_law_2679 : decode cL_law 2679 = .ok (.invokevirtual 165, 3) := dk_182 0 165 (dk_at dksL_law_106 3 rfl rfl)
theorem dL_law_2682 : decode cL_law 2682 = .ok (.iload 6, 2) := dk_21 6 (dk_at dksL_law_106 6 rfl rfl)
theorem dL_law_2684 : decode cL_law 2684 = .ok (.if_icmp .eq 5, 3) := dk_159 0 5 (dk_at dksL_law_106 8 rfl rfl)
theorem dL_law_2687 : decode cL_law 2687 = .ok (.iconst 0, 1) := dk_3 (dk_at dksL_law_106 11 rfl rfl)
theorem dL_law_2688 : decode cL_law 2688 = .ok (.ireturn, 1) := dk_172 (dk_at dksL_law_106 12 rfl rfl)
theorem dL_law_2689 : decode cL_law 2689 = .ok (.iload 6, 2) := dk_21 6 (dk_at dksL_law_106 13 rfl rfl)
theorem dL_law_2691 : decode cL_law 2691 = .ok (.ifCond .ne 15, 3) := dk_154 0 15 (dk_at dksL_law_106 15 rfl rfl)
theorem dL_law_2694 : decode cL_law 2694 = .ok (.aload_n 3, 1) := dk_45 (dk_at dksL_law_106 18 rfl rfl)
theorem dL_law_2695 : decode cL_law 2695 = .ok (.iconst 0, 1) := dk_3 (dk_at dksL_law_106 19 rfl rfl)
theorem dL_law_2696 : decode cL_law 2696 = .ok (.laload, 1) := dk_47 (dk_at dksL_law_106 20 rfl rfl)
theorem dL_law_2697 : decode cL_law 2697 = .ok (.iload 7, 2) := dk_21 7 (dk_at dksL_law_106 21 rfl rfl)
theorem dL_law_2699 : decode cL_law 2699 = .ok (.i2l, 1) := dk_133 (dk_at dksL_law_106 23 rfl rfl)
theorem dL_law_2700 : decode cL_law 2700 = .ok (.lcmp, 1) := dk_148 (dk_at dksL_law_107 0 rfl rfl)
theorem dL_law_2701 : decode cL_law 2701 = .ok (.ifCond .eq 5, 3) := dk_153 0 5 (dk_at dksL_law_107 1 rfl rfl)
theorem dL_law_2704 : decode cL_law 2704 = .ok (.iconst 0, 1) := dk_3 (dk_at dksL_law_107 4 rfl rfl)
theorem dL_law_2705 : decode cL_law 2705 = .ok (.ireturn, 1) := dk_172 (dk_at dksL_law_107 5 rfl rfl)
theorem dL_law_2706 : decode cL_law 2706 = .ok (.goto 117, 3) := dk_167 0 117 (dk_at dksL_law_107 6 rfl rfl)
theorem dL_law_2709 : decode cL_law 2709 = .ok (.aload_n 1, 1) := dk_43 (dk_at dksL_law_107 9 rfl rfl)
theorem dL_law_2710 : decode cL_law 2710 = .ok (.aload_n 3, 1) := dk_45 (dk_at dksL_law_107 10 rfl rfl)
theorem dL_law_2711 : decode cL_law 2711 = .ok (.invokestatic 322, 3) := dk_184 1 66 (dk_at dksL_law_107 11 rfl rfl)
theorem dL_law_2714 : decode cL_law 2714 = .ok (.istore 6, 2) := dk_54 6 (dk_at dksL_law_107 14 rfl rfl)
theorem dL_law_2716 : decode cL_law 2716 = .ok (.aload_n 2, 1) := dk_44 (dk_at dksL_law_107 16 rfl rfl)
theorem dL_law_2717 : decode cL_law 2717 = .ok (.invokevirtual 324, 3) := dk_182 1 68 (dk_at dksL_law_107 17 rfl rfl)
theorem dL_law_2720 : decode cL_law 2720 = .ok (.istore 7, 2) := dk_54 7 (dk_at dksL_law_107 20 rfl rfl)
theorem dL_law_2722 : decode cL_law 2722 = .ok (.aload_n 2, 1) := dk_44 (dk_at dksL_law_107 22 rfl rfl)
theorem dL_law_2723 : decode cL_law 2723 = .ok (.invokevirtual 165, 3) := dk_182 0 165 (dk_at dksL_law_108 0 rfl rfl)
theorem dL_law_2726 : decode cL_law 2726 = .ok (.iload 6, 2) := dk_21 6 (dk_at dksL_law_108 3 rfl rfl)
theorem dL_law_2728 : decode cL_law 2728 = .ok (.if_icmp .eq 5, 3) := dk_159 0 5 (dk_at dksL_law_108 5 rfl rfl)
theorem dL_law_2731 : decode cL_law 2731 = .ok (.iconst 0, 1) := dk_3 (dk_at dksL_law_108 8 rfl rfl)
theorem dL_law_2732 : decode cL_law 2732 = .ok (.ireturn, 1) := dk_172 (dk_at dksL_law_108 9 rfl rfl)
theorem dL_law_2733 : decode cL_law 2733 = .ok (.iload 6, 2) := dk_21 6 (dk_at dksL_law_108 10 rfl rfl)
theorem dL_law_2735 : decode cL_law 2735 = .ok (.ifCond .ne 15, 3) := dk_154 0 15 (dk_at dksL_law_108 12 rfl rfl)
theorem dL_law_2738 : decode cL_law 2738 = .ok (.aload_n 3, 1) := dk_45 (dk_at dksL_law_108 15 rfl rfl)
theorem dL_law_2739 : decode cL_law 2739 = .ok (.iconst 0, 1) := dk_3 (dk_at dksL_law_108 16 rfl rfl)
theorem dL_law_2740 : decode cL_law 2740 = .ok (.laload, 1) := dk_47 (dk_at dksL_law_108 17 rfl rfl)
theorem dL_law_2741 : decode cL_law 2741 = .ok (.iload 7, 2) := dk_21 7 (dk_at dksL_law_108 18 rfl rfl)
theorem dL_law_2743 : decode cL_law 2743 = .ok (.i2l, 1) := dk_133 (dk_at dksL_law_108 20 rfl rfl)
theorem dL_law_2744 : decode cL_law 2744 = .ok (.lcmp, 1) := dk_148 (dk_at dksL_law_108 21 rfl rfl)
theorem dL_law_2745 : decode cL_law 2745 = .ok (.ifCond .eq 5, 3) := dk_153 0 5 (dk_at dksL_law_109 0 rfl rfl)
theorem dL_law_2748 : decode cL_law 2748 = .ok (.iconst 0, 1) := dk_3 (dk_at dksL_law_109 3 rfl rfl)
theorem dL_law_2749 : decode cL_law 2749 = .ok (.ireturn, 1) := dk_172 (dk_at dksL_law_109 4 rfl rfl)
theorem dL_law_2750 : decode cL_law 2750 = .ok (.goto 73, 3) := dk_167 0 73 (dk_at dksL_law_109 5 rfl rfl)
theorem dL_law_2753 : decode cL_law 2753 = .ok (.aload_n 1, 1) := dk_43 (dk_at dksL_law_109 8 rfl rfl)
theorem dL_law_2754 : decode cL_law 2754 = .ok (.invokevirtual 325, 3) := dk_182 1 69 (dk_at dksL_law_109 9 rfl rfl)
theorem dL_law_2757 : decode cL_law 2757 = .ok (.aload_n 2, 1) := dk_44 (dk_at dksL_law_109 12 rfl rfl)
theorem dL_law_2758 : decode cL_law 2758 = .ok (.invokevirtual 328, 3) := dk_182 1 72 (dk_at dksL_law_109 13 rfl rfl)
theorem dL_law_2761 : decode cL_law 2761 = .ok (.if_icmp .eq 62, 3) := dk_159 0 62 (dk_at dksL_law_109 16 rfl rfl)
theorem dL_law_2764 : decode cL_law 2764 = .ok (.iconst 0, 1) := dk_3 (dk_at dksL_law_109 19 rfl rfl)
theorem dL_law_2765 : decode cL_law 2765 = .ok (.ireturn, 1) := dk_172 (dk_at dksL_law_109 20 rfl rfl)
theorem dL_law_2766 : decode cL_law 2766 = .ok (.aload_n 1, 1) := dk_43 (dk_at dksL_law_109 21 rfl rfl)
theorem dL_law_2767 : decode cL_law 2767 = .ok (.invokevirtual 329, 3) := dk_182 1 73 (dk_at dksL_law_110 0 rfl rfl)
theorem dL_law_2770 : decode cL_law 2770 = .ok (.aload_n 2, 1) := dk_44 (dk_at dksL_law_110 3 rfl rfl)
theorem dL_law_2771 : decode cL_law 2771 = .ok (.invokevirtual 332, 3) := dk_182 1 76 (dk_at dksL_law_110 4 rfl rfl)
theorem dL_law_2774 : decode cL_law 2774 = .ok (.if_icmp .eq 49, 3) := dk_159 0 49 (dk_at dksL_law_110 7 rfl rfl)
theorem dL_law_2777 : decode cL_law 2777 = .ok (.iconst 0, 1) := dk_3 (dk_at dksL_law_110 10 rfl rfl)
theorem dL_law_2778 : decode cL_law 2778 = .ok (.ireturn, 1) := dk_172 (dk_at dksL_law_110 11 rfl rfl)
theorem dL_law_2779 : decode cL_law 2779 = .ok (.aload_n 1, 1) := dk_43 (dk_at dksL_law_110 12 rfl rfl)
theorem dL_law_2780 : decode cL_law 2780 = .ok (.aload_n 3, 1) := dk_45 (dk_at dksL_law_110 13 rfl rfl)
theorem dL_law_2781 : decode cL_law 2781 = .ok (.invokestatic 333, 3) := dk_184 1 77 (dk_at dksL_law_110 14 rfl rfl)
theorem dL_law_2784 : decode cL_law 2784 = .ok (.istore 6, 2) := dk_54 6 (dk_at dksL_law_110 17 rfl rfl)
theorem dL_law_2786 : decode cL_law 2786 = .ok (.aload_n 2, 1) := dk_44 (dk_at dksL_law_110 19 rfl rfl)
theorem dL_law_2787 : decode cL_law 2787 = .ok (.invokevirtual 335, 3) := dk_182 1 79 (dk_at dksL_law_110 20 rfl rfl)
theorem dL_law_2790 : decode cL_law 2790 = .ok (.istore 7, 2) := dk_54 7 (dk_at dksL_law_111 0 rfl rfl)
theorem dL_law_2792 : decode cL_law 2792 = .ok (.aload_n 2, 1) := dk_44 (dk_at dksL_law_111 2 rfl rfl)
theorem dL_law_2793 : decode cL_law 2793 = .ok (.invokevirtual 165, 3) := dk_182 0 165 (dk_at dksL_law_111 3 rfl rfl)
theorem dL_law_2796 : decode cL_law 2796 = .ok (.iload 6, 2) := dk_21 6 (dk_at dksL_law_111 6 rfl rfl)
theorem dL_law_2798 : decode cL_law 2798 = .ok (.if_icmp .eq 5, 3) := dk_159 0 5 (dk_at dksL_law_111 8 rfl rfl)
theorem dL_law_2801 : decode cL_law 2801 = .ok (.iconst 0, 1) := dk_3 (dk_at dksL_law_111 11 rfl rfl)
theorem dL_law_2802 : decode cL_law 2802 = .ok (.ireturn, 1) := dk_172 (dk_at dksL_law_111 12 rfl rfl)
theorem dL_law_2803 : decode cL_law 2803 = .ok (.iload 6, 2) := dk_21 6 (dk_at dksL_law_111 13 rfl rfl)
theorem dL_law_2805 : decode cL_law 2805 = .ok (.ifCond .ne 15, 3) := dk_154 0 15 (dk_at dksL_law_111 15 rfl rfl)
theorem dL_law_2808 : decode cL_law 2808 = .ok (.aload_n 3, 1) := dk_45 (dk_at dksL_law_111 18 rfl rfl)
theorem dL_law_2809 : decode cL_law 2809 = .ok (.iconst 0, 1) := dk_3 (dk_at dksL_law_111 19 rfl rfl)
theorem dL_law_2810 : decode cL_law 2810 = .ok (.laload, 1) := dk_47 (dk_at dksL_law_111 20 rfl rfl)
theorem dL_law_2811 : decode cL_law 2811 = .ok (.iload 7, 2) := dk_21 7 (dk_at dksL_law_111 21 rfl rfl)
theorem dL_law_2813 : decode cL_law 2813 = .ok (.i2l, 1) := dk_133 (dk_at dksL_law_111 23 rfl rfl)
theorem dL_law_2814 : decode cL_law 2814 = .ok (.lcmp, 1) := dk_148 (dk_at dksL_law_112 0 rfl rfl)
theorem dL_law_2815 : decode cL_law 2815 = .ok (.ifCond .eq 5, 3) := dk_153 0 5 (dk_at dksL_law_112 1 rfl rfl)
theorem dL_law_2818 : decode cL_law 2818 = .ok (.iconst 0, 1) := dk_3 (dk_at dksL_law_112 4 rfl rfl)
theorem dL_law_2819 : decode cL_law 2819 = .ok (.ireturn, 1) := dk_172 (dk_at dksL_law_112 5 rfl rfl)
theorem dL_law_2820 : decode cL_law 2820 = .ok (.goto 3, 3) := dk_167 0 3 (dk_at dksL_law_112 6 rfl rfl)
theorem dL_law_2823 : decode cL_law 2823 = .ok (.iinc 5 4, 3) := dk_132 5 4 (dk_at dksL_law_112 9 rfl rfl)
theorem dL_law_2826 : decode cL_law 2826 = .ok (.goto (-2798), 3) := dk_167 245 18 (dk_at dksL_law_112 12 rfl rfl)
theorem dL_law_2829 : decode cL_law 2829 = .ok (.iconst 1, 1) := dk_4 (dk_at dksL_law_112 15 rfl rfl)
theorem dL_law_2830 : decode cL_law 2830 = .ok (.ireturn, 1) := dk_172 (dk_at dksL_law_112 16 rfl rfl)
