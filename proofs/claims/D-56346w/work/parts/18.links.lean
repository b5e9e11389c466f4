set_option maxRecDepth 100000
theorem zk_J0_init : z_code yJ0_init cJ0_init 1 (Option.none : Option Jvm.ClassFile.FieldType) [] := Or.inl ⟨rfl, q173⟩
theorem zy_J0_init : yJ0_init.cls ≠ "java/lang/invoke/MethodHandle" ∧ yJ0_init.cls ≠ "java/lang/invoke/VarHandle" := ⟨by decide +kernel, by decide +kernel⟩
theorem zl_J0_init : (parseMethodDescriptor yJ0_init.desc).map (fun d => d.parameters.length) = some 0 := by decide +kernel
theorem zk_J1_init : z_code yJ1_init cJ1_init 1 (Option.none : Option Jvm.ClassFile.FieldType) [] := Or.inl ⟨rfl, q170⟩
theorem zy_J1_init : yJ1_init.cls ≠ "java/lang/invoke/MethodHandle" ∧ yJ1_init.cls ≠ "java/lang/invoke/VarHandle" := ⟨by decide +kernel, by decide +kernel⟩
theorem zl_J1_init : (parseMethodDescriptor yJ1_init.desc).map (fun d => d.parameters.length) = some 0 := by decide +kernel
theorem zk_J10_init : z_code yJ10_init cJ10_init 1 (Option.none : Option Jvm.ClassFile.FieldType) [] := Or.inl ⟨rfl, q446⟩
theorem zy_J10_init : yJ10_init.cls ≠ "java/lang/invoke/MethodHandle" ∧ yJ10_init.cls ≠ "java/lang/invoke/VarHandle" := ⟨by decide +kernel, by decide +kernel⟩
theorem zl_J10_init : (parseMethodDescriptor yJ10_init.desc).map (fun d => d.parameters.length) = some 0 := by decide +kernel
theorem zk_J10_init_2 : z_code yJ10_init_2 cJ10_init_2 2 (Option.none : Option Jvm.ClassFile.FieldType) [] := Or.inl ⟨rfl, q1083⟩
theorem zy_J10_init_2 : yJ10_init_2.cls ≠ "java/lang/invoke/MethodHandle" ∧ yJ10_init_2.cls ≠ "java/lang/invoke/VarHandle" := ⟨by decide +kernel, by decide +kernel⟩
theorem zl_J10_init_2 : (parseMethodDescriptor yJ10_init_2.desc).map (fun d => d.parameters.length) = some 1 := by decide +kernel
theorem zk_J10_init_3 : z_code yJ10_init_3 cJ10_init_3 5 (Option.none : Option Jvm.ClassFile.FieldType) [] := Or.inl ⟨rfl, q1168⟩
theorem zy_J10_init_3 : yJ10_init_3.cls ≠ "java/lang/invoke/MethodHandle" ∧ yJ10_init_3.cls ≠ "java/lang/invoke/VarHandle" := ⟨by decide +kernel, by decide +kernel⟩
theorem zl_J10_init_3 : (parseMethodDescriptor yJ10_init_3.desc).map (fun d => d.parameters.length) = some 4 := by decide +kernel
theorem zk_J10_init_4 : z_code yJ10_init_4 cJ10_init_4 3 (Option.none : Option Jvm.ClassFile.FieldType) [] := Or.inl ⟨rfl, q1694⟩
theorem zy_J10_init_4 : yJ10_init_4.cls ≠ "java/lang/invoke/MethodHandle" ∧ yJ10_init_4.cls ≠ "java/lang/invoke/VarHandle" := ⟨by decide +kernel, by decide +kernel⟩
theorem zl_J10_init_4 : (parseMethodDescriptor yJ10_init_4.desc).map (fun d => d.parameters.length) = some 2 := by decide +kernel
theorem zk_J11_init : z_code yJ11_init cJ11_init 1 (Option.none : Option Jvm.ClassFile.FieldType) [] := Or.inl ⟨rfl, q443⟩
theorem zy_J11_init : yJ11_init.cls ≠ "java/lang/invoke/MethodHandle" ∧ yJ11_init.cls ≠ "java/lang/invoke/VarHandle" := ⟨by decide +kernel, by decide +kernel⟩
theorem zl_J11_init : (parseMethodDescriptor yJ11_init.desc).map (fun d => d.parameters.length) = some 0 := by decide +kernel
theorem zk_J11_init_2 : z_code yJ11_init_2 cJ11_init_2 2 (Option.none : Option Jvm.ClassFile.FieldType) [] := Or.inl ⟨rfl, q1080⟩
theorem zy_J11_init_2 : yJ11_init_2.cls ≠ "java/lang/invoke/MethodHandle" ∧ yJ11_init_2.cls ≠ "java/lang/invoke/VarHandle" := ⟨by decide +kernel, by decide +kernel⟩
theorem zl_J11_init_2 : (parseMethodDescriptor yJ11_init_2.desc).map (fun d => d.parameters.length) = some 1 := by decide +kernel
theorem zk_J11_init_3 : z_code yJ11_init_3 cJ11_init_3 3 (Option.none : Option Jvm.ClassFile.FieldType) [] := Or.inl ⟨rfl, q1691⟩
theorem zy_J11_init_3 : yJ11_init_3.cls ≠ "java/lang/invoke/MethodHandle" ∧ yJ11_init_3.cls ≠ "java/lang/invoke/VarHandle" := ⟨by decide +kernel, by decide +kernel⟩
theorem zl_J11_init_3 : (parseMethodDescriptor yJ11_init_3.desc).map (fun d => d.parameters.length) = some 2 := by decide +kernel
theorem zk_J12_init : z_code yJ12_init cJ12_init 1 (Option.none : Option Jvm.ClassFile.FieldType) [] := Or.inl ⟨rfl, q440⟩
theorem zy_J12_init : yJ12_init.cls ≠ "java/lang/invoke/MethodHandle" ∧ yJ12_init.cls ≠ "java/lang/invoke/VarHandle" := ⟨by decide +kernel, by decide +kernel⟩
theorem zl_J12_init : (parseMethodDescriptor yJ12_init.desc).map (fun d => d.parameters.length) = some 0 := by decide +kernel
theorem zk_J12_init_2 : z_code yJ12_init_2 cJ12_init_2 2 (Option.none : Option Jvm.ClassFile.FieldType) [] := Or.inl ⟨rfl, q1380⟩
theorem zy_J12_init_2 : yJ12_init_2.cls ≠ "java/lang/invoke/MethodHandle" ∧ yJ12_init_2.cls ≠ "java/lang/invoke/VarHandle" := ⟨by decide +kernel, by decide +kernel⟩
theorem zl_J12_init_2 : (parseMethodDescriptor yJ12_init_2.desc).map (fun d => d.parameters.length) = some 1 := by decide +kernel
theorem zk_J13_newLength : z_code yJ13_newLength cJ13_newLength 4 (Option.some Jvm.ClassFile.FieldType.int) [] := Or.inl ⟨rfl, q497⟩
theorem zy_J13_newLength : yJ13_newLength.cls ≠ "java/lang/invoke/MethodHandle" ∧ yJ13_newLength.cls ≠ "java/lang/invoke/VarHandle" := ⟨by decide +kernel, by decide +kernel⟩
theorem zl_J13_newLength : (parseMethodDescriptor yJ13_newLength.desc).map (fun d => d.parameters.length) = some 3 := by decide +kernel
theorem zk_J13_hugeLength : z_code yJ13_hugeLength cJ13_hugeLength 3 (Option.some Jvm.ClassFile.FieldType.int) [] := Or.inl ⟨rfl, q504⟩
theorem zy_J13_hugeLength : yJ13_hugeLength.cls ≠ "java/lang/invoke/MethodHandle" ∧ yJ13_hugeLength.cls ≠ "java/lang/invoke/VarHandle" := ⟨by decide +kernel, by decide +kernel⟩
theorem zl_J13_hugeLength : (parseMethodDescriptor yJ13_hugeLength.desc).map (fun d => d.parameters.length) = some 2 := by decide +kernel
theorem zk_J13_vectorizedHashCode : z_code yJ13_vectorizedHashCode cJ13_vectorizedHashCode 5 (Option.some Jvm.ClassFile.FieldType.int) [] := Or.inl ⟨rfl, q853⟩
theorem zy_J13_vectorizedHashCode : yJ13_vectorizedHashCode.cls ≠ "java/lang/invoke/MethodHandle" ∧ yJ13_vectorizedHashCode.cls ≠ "java/lang/invoke/VarHandle" := ⟨by decide +kernel, by decide +kernel⟩
theorem zl_J13_vectorizedHashCode : (parseMethodDescriptor yJ13_vectorizedHashCode.desc).map (fun d => d.parameters.length) = some 5 := by decide +kernel
theorem zk_J13_signedHashCode : z_code yJ13_signedHashCode cJ13_signedHashCode 6 (Option.some Jvm.ClassFile.FieldType.int) [] := Or.inl ⟨rfl, q857⟩
theorem zy_J13_signedHashCode : yJ13_signedHashCode.cls ≠ "java/lang/invoke/MethodHandle" ∧ yJ13_signedHashCode.cls ≠ "java/lang/invoke/VarHandle" := ⟨by decide +kernel, by decide +kernel⟩
theorem zl_J13_signedHashCode : (parseMethodDescriptor yJ13_signedHashCode.desc).map (fun d => d.parameters.length) = some 4 := by decide +kernel
theorem zk_J13_utf16hashCode : z_code yJ13_utf16hashCode cJ13_utf16hashCode 6 (Option.some Jvm.ClassFile.FieldType.int) [] := Or.inl ⟨rfl, q860⟩
theorem zy_J13_utf16hashCode : yJ13_utf16hashCode.cls ≠ "java/lang/invoke/MethodHandle" ∧ yJ13_utf16hashCode.cls ≠ "java/lang/invoke/VarHandle" := ⟨by decide +kernel, by decide +kernel⟩
theorem zl_J13_utf16hashCode : (parseMethodDescriptor yJ13_utf16hashCode.desc).map (fun d => d.parameters.length) = some 4 := by decide +kernel
theorem zk_J13_hashCode : z_code yJ13_hashCode cJ13_hashCode 6 (Option.some Jvm.ClassFile.FieldType.int) [] := Or.inl ⟨rfl, q888⟩
theorem zy_J13_hashCode : yJ13_hashCode.cls ≠ "java/lang/invoke/MethodHandle" ∧ yJ13_hashCode.cls ≠ "java/lang/invoke/VarHandle" := ⟨by decide +kernel, by decide +kernel⟩
theorem zl_J13_hashCode : (parseMethodDescriptor yJ13_hashCode.desc).map (fun d => d.parameters.length) = some 4 := by decide +kernel
theorem zk_J13_hashCode_2 : z_code yJ13_hashCode_2 cJ13_hashCode_2 6 (Option.some Jvm.ClassFile.FieldType.int) [] := Or.inl ⟨rfl, q891⟩
theorem zy_J13_hashCode_2 : yJ13_hashCode_2.cls ≠ "java/lang/invoke/MethodHandle" ∧ yJ13_hashCode_2.cls ≠ "java/lang/invoke/VarHandle" := ⟨by decide +kernel, by decide +kernel⟩
theorem zl_J13_hashCode_2 : (parseMethodDescriptor yJ13_hashCode_2.desc).map (fun d => d.parameters.length) = some 4 := by decide +kernel
theorem zk_J13_hashCode_3 : z_code yJ13_hashCode_3 cJ13_hashCode_3 6 (Option.some Jvm.ClassFile.FieldType.int) [] := Or.inl ⟨rfl, q895⟩
theorem zy_J13_hashCode_3 : yJ13_hashCode_3.cls ≠ "java/lang/invoke/MethodHandle" ∧ yJ13_hashCode_3.cls ≠ "java/lang/invoke/VarHandle" := ⟨by decide +kernel, by decide +kernel⟩
theorem zl_J13_hashCode_3 : (parseMethodDescriptor yJ13_hashCode_3.desc).map (fun d => d.parameters.length) = some 4 := by decide +kernel
theorem zk_J13_hashCode_4 : z_code yJ13_hashCode_4 cJ13_hashCode_4 6 (Option.some Jvm.ClassFile.FieldType.int) [] := Or.inl ⟨rfl, q899⟩
theorem zy_J13_hashCode_4 : yJ13_hashCode_4.cls ≠ "java/lang/invoke/MethodHandle" ∧ yJ13_hashCode_4.cls ≠ "java/lang/invoke/VarHandle" := ⟨by decide +kernel, by decide +kernel⟩
theorem zl_J13_hashCode_4 : (parseMethodDescriptor yJ13_hashCode_4.desc).map (fun d => d.parameters.length) = some 4 := by decide +kernel
theorem zk_J14_max : z_code yJ14_max cJ14_max 2 (Option.some Jvm.ClassFile.FieldType.int) [] := Or.inl ⟨rfl, q500⟩
theorem zy_J14_max : yJ14_max.cls ≠ "java/lang/invoke/MethodHandle" ∧ yJ14_max.cls ≠ "java/lang/invoke/VarHandle" := ⟨by decide +kernel, by decide +kernel⟩
theorem zl_J14_max : (parseMethodDescriptor yJ14_max.desc).map (fun d => d.parameters.length) = some 2 := by decide +kernel
theorem zk_J14_min : z_code yJ14_min cJ14_min 2 (Option.some Jvm.ClassFile.FieldType.int) [] := Or.inl ⟨rfl, q554⟩
theorem zy_J14_min : yJ14_min.cls ≠ "java/lang/invoke/MethodHandle" ∧ yJ14_min.cls ≠ "java/lang/invoke/VarHandle" := ⟨by decide +kernel, by decide +kernel⟩
theorem zl_J14_min : (parseMethodDescriptor yJ14_min.desc).map (fun d => d.parameters.length) = some 2 := by decide +kernel
theorem zk_J14_max_2 : z_code yJ14_max_2 cJ14_max_2 4 (Option.some Jvm.ClassFile.FieldType.long) [] := Or.inl ⟨rfl, q735⟩
theorem zy_J14_max_2 : yJ14_max_2.cls ≠ "java/lang/invoke/MethodHandle" ∧ yJ14_max_2.cls ≠ "java/lang/invoke/VarHandle" := ⟨by decide +kernel, by decide +kernel⟩
theorem zl_J14_max_2 : (parseMethodDescriptor yJ14_max_2.desc).map (fun d => d.parameters.length) = some 2 := by decide +kernel
theorem zk_J14_min_2 : z_code yJ14_min_2 cJ14_min_2 4 (Option.some Jvm.ClassFile.FieldType.long) [] := Or.inl ⟨rfl, q2123⟩
theorem zy_J14_min_2 : yJ14_min_2.cls ≠ "java/lang/invoke/MethodHandle" ∧ yJ14_min_2.cls ≠ "java/lang/invoke/VarHandle" := ⟨by decide +kernel, by decide +kernel⟩
theorem zl_J14_min_2 : (parseMethodDescriptor yJ14_min_2.desc).map (fun d => d.parameters.length) = some 2 := by decide +kernel
theorem zk_J15_copyOf : z_code yJ15_copyOf cJ15_copyOf 2 (Option.some (Jvm.ClassFile.FieldType.array (Jvm.ClassFile.FieldType.object "java/lang/Object"))) [] := Or.inl ⟨rfl, q507⟩
theorem zy_J15_copyOf : yJ15_copyOf.cls ≠ "java/lang/invoke/MethodHandle" ∧ yJ15_copyOf.cls ≠ "java/lang/invoke/VarHandle" := ⟨by decide +kernel, by decide +kernel⟩
theorem zl_J15_copyOf : (parseMethodDescriptor yJ15_copyOf.desc).map (fun d => d.parameters.length) = some 2 := by decide +kernel
theorem zk_J15_copyOf_2 : z_code yJ15_copyOf_2 cJ15_copyOf_2 4 (Option.some (Jvm.ClassFile.FieldType.array (Jvm.ClassFile.FieldType.object "java/lang/Object"))) [] := Or.inl ⟨rfl, q549⟩
theorem zy_J15_copyOf_2 : yJ15_copyOf_2.cls ≠ "java/lang/invoke/MethodHandle" ∧ yJ15_copyOf_2.cls ≠ "java/lang/invoke/VarHandle" := ⟨by decide +kernel, by decide +kernel⟩
theorem zl_J15_copyOf_2 : (parseMethodDescriptor yJ15_copyOf_2.desc).map (fun d => d.parameters.length) = some 3 := by decide +kernel
theorem zk_J15_copyOf_3 : z_code yJ15_copyOf_3 cJ15_copyOf_3 3 (Option.some (Jvm.ClassFile.FieldType.array Jvm.ClassFile.FieldType.byte)) [] := Or.inl ⟨rfl, q935⟩
theorem zy_J15_copyOf_3 : yJ15_copyOf_3.cls ≠ "java/lang/invoke/MethodHandle" ∧ yJ15_copyOf_3.cls ≠ "java/lang/invoke/VarHandle" := ⟨by decide +kernel, by decide +kernel⟩
theorem zl_J15_copyOf_3 : (parseMethodDescriptor yJ15_copyOf_3.desc).map (fun d => d.parameters.length) = some 2 := by decide +kernel
theorem zk_J15_copyOfRange : z_code yJ15_copyOfRange cJ15_copyOfRange 3 (Option.some (Jvm.ClassFile.FieldType.array Jvm.ClassFile.FieldType.byte)) [] := Or.inl ⟨rfl, q1061⟩
theorem zy_J15_copyOfRange : yJ15_copyOfRange.cls ≠ "java/lang/invoke/MethodHandle" ∧ yJ15_copyOfRange.cls ≠ "java/lang/invoke/VarHandle" := ⟨by decide +kernel, by decide +kernel⟩
theorem zl_J15_copyOfRange : (parseMethodDescriptor yJ15_copyOfRange.desc).map (fun d => d.parameters.length) = some 3 := by decide +kernel
theorem zk_J15_copyOfRangeByte : z_code yJ15_copyOfRangeByte cJ15_copyOfRangeByte 5 (Option.some (Jvm.ClassFile.FieldType.array Jvm.ClassFile.FieldType.byte)) [] := Or.inl ⟨rfl, q1064⟩
theorem zy_J15_copyOfRangeByte : yJ15_copyOfRangeByte.cls ≠ "java/lang/invoke/MethodHandle" ∧ yJ15_copyOfRangeByte.cls ≠ "java/lang/invoke/VarHandle" := ⟨by decide +kernel, by decide +kernel⟩
theorem zl_J15_copyOfRangeByte : (parseMethodDescriptor yJ15_copyOfRangeByte.desc).map (fun d => d.parameters.length) = some 3 := by decide +kernel
theorem zk_J15_checkLength : z_code yJ15_checkLength cJ15_checkLength 2 (Option.none : Option Jvm.ClassFile.FieldType) [] := Or.inl ⟨rfl, q1067⟩
theorem zy_J15_checkLength : yJ15_checkLength.cls ≠ "java/lang/invoke/MethodHandle" ∧ yJ15_checkLength.cls ≠ "java/lang/invoke/VarHandle" := ⟨by decide +kernel, by decide +kernel⟩
theorem zl_J15_checkLength : (parseMethodDescriptor yJ15_checkLength.desc).map (fun d => d.parameters.length) = some 2 := by decide +kernel
theorem zk_J15_fill : z_code yJ15_fill cJ15_fill 5 (Option.none : Option Jvm.ClassFile.FieldType) [] := Or.inl ⟨rfl, q2441⟩
theorem zy_J15_fill : yJ15_fill.cls ≠ "java/lang/invoke/MethodHandle" ∧ yJ15_fill.cls ≠ "java/lang/invoke/VarHandle" := ⟨by decide +kernel, by decide +kernel⟩
theorem zl_J15_fill : (parseMethodDescriptor yJ15_fill.desc).map (fun d => d.parameters.length) = some 4 := by decide +kernel
theorem zk_J15_rangeCheck : z_code yJ15_rangeCheck cJ15_rangeCheck 3 (Option.none : Option Jvm.ClassFile.FieldType) [] := Or.inl ⟨rfl, q2444⟩
theorem zy_J15_rangeCheck : yJ15_rangeCheck.cls ≠ "java/lang/invoke/MethodHandle" ∧ yJ15_rangeCheck.cls ≠ "java/lang/invoke/VarHandle" := ⟨by decide +kernel, by decide +kernel⟩
theorem zl_J15_rangeCheck : (parseMethodDescriptor yJ15_rangeCheck.desc).map (fun d => d.parameters.length) = some 3 := by decide +kernel
theorem zk_J16_equals : z_code yJ16_equals cJ16_equals 3 (Option.some Jvm.ClassFile.FieldType.boolean) [] := Or.inl ⟨rfl, q653⟩
theorem zy_J16_equals : yJ16_equals.cls ≠ "java/lang/invoke/MethodHandle" ∧ yJ16_equals.cls ≠ "java/lang/invoke/VarHandle" := ⟨by decide +kernel, by decide +kernel⟩
theorem zl_J16_equals : (parseMethodDescriptor yJ16_equals.desc).map (fun d => d.parameters.length) = some 2 := by decide +kernel
theorem zk_J16_hashCode : z_code yJ16_hashCode cJ16_hashCode 1 (Option.some Jvm.ClassFile.FieldType.int) [] := Or.inl ⟨rfl, q850⟩
theorem zy_J16_hashCode : yJ16_hashCode.cls ≠ "java/lang/invoke/MethodHandle" ∧ yJ16_hashCode.cls ≠ "java/lang/invoke/VarHandle" := ⟨by decide +kernel, by decide +kernel⟩
theorem zl_J16_hashCode : (parseMethodDescriptor yJ16_hashCode.desc).map (fun d => d.parameters.length) = some 1 := by decide +kernel
theorem zk_J16_inflate : z_code yJ16_inflate cJ16_inflate 5 (Option.none : Option Jvm.ClassFile.FieldType) [] := Or.inl ⟨rfl, q988⟩
theorem zy_J16_inflate : yJ16_inflate.cls ≠ "java/lang/invoke/MethodHandle" ∧ yJ16_inflate.cls ≠ "java/lang/invoke/VarHandle" := ⟨by decide +kernel, by decide +kernel⟩
theorem zl_J16_inflate : (parseMethodDescriptor yJ16_inflate.desc).map (fun d => d.parameters.length) = some 5 := by decide +kernel
theorem zk_J16_indexOf : z_code yJ16_indexOf cJ16_indexOf 4 (Option.some Jvm.ClassFile.FieldType.int) [] := Or.inl ⟨rfl, q1422⟩
theorem zy_J16_indexOf : yJ16_indexOf.cls ≠ "java/lang/invoke/MethodHandle" ∧ yJ16_indexOf.cls ≠ "java/lang/invoke/VarHandle" := ⟨by decide +kernel, by decide +kernel⟩
theorem zl_J16_indexOf : (parseMethodDescriptor yJ16_indexOf.desc).map (fun d => d.parameters.length) = some 4 := by decide +kernel
theorem zk_J16_canEncode : z_code yJ16_canEncode cJ16_canEncode 1 (Option.some Jvm.ClassFile.FieldType.boolean) [] := Or.inl ⟨rfl, q1425⟩
theorem zy_J16_canEncode : yJ16_canEncode.cls ≠ "java/lang/invoke/MethodHandle" ∧ yJ16_canEncode.cls ≠ "java/lang/invoke/VarHandle" := ⟨by decide +kernel, by decide +kernel⟩
theorem zl_J16_canEncode : (parseMethodDescriptor yJ16_canEncode.desc).map (fun d => d.parameters.length) = some 1 := by decide +kernel
theorem zk_J16_indexOfChar : z_code yJ16_indexOfChar cJ16_indexOfChar 6 (Option.some Jvm.ClassFile.FieldType.int) [] := Or.inl ⟨rfl, q1430⟩
theorem zy_J16_indexOfChar : yJ16_indexOfChar.cls ≠ "java/lang/invoke/MethodHandle" ∧ yJ16_indexOfChar.cls ≠ "java/lang/invoke/VarHandle" := ⟨by decide +kernel, by decide +kernel⟩
theorem zl_J16_indexOfChar : (parseMethodDescriptor yJ16_indexOfChar.desc).map (fun d => d.parameters.length) = some 4 := by decide +kernel
theorem zk_J16_canEncode_2 : z_code yJ16_canEncode_2 cJ16_canEncode_2 1 (Option.some Jvm.ClassFile.FieldType.boolean) [] := Or.inl ⟨rfl, q2234⟩
theorem zy_J16_canEncode_2 : yJ16_canEncode_2.cls ≠ "java/lang/invoke/MethodHandle" ∧ yJ16_canEncode_2.cls ≠ "java/lang/invoke/VarHandle" := ⟨by decide +kernel, by decide +kernel⟩
theorem zl_J16_canEncode_2 : (parseMethodDescriptor yJ16_canEncode_2.desc).map (fun d => d.parameters.length) = some 1 := by decide +kernel
theorem zk_J16_indexOf_2 : z_code yJ16_indexOf_2 cJ16_indexOf_2 2 (Option.some Jvm.ClassFile.FieldType.int) [] := Or.inl ⟨rfl, q2297⟩
theorem zy_J16_indexOf_2 : yJ16_indexOf_2.cls ≠ "java/lang/invoke/MethodHandle" ∧ yJ16_indexOf_2.cls ≠ "java/lang/invoke/VarHandle" := ⟨by decide +kernel, by decide +kernel⟩
theorem zl_J16_indexOf_2 : (parseMethodDescriptor yJ16_indexOf_2.desc).map (fun d => d.parameters.length) = some 2 := by decide +kernel
theorem zk_J16_indexOf_3 : z_code yJ16_indexOf_3 cJ16_indexOf_3 11 (Option.some Jvm.ClassFile.FieldType.int) [] := Or.inl ⟨rfl, q2300⟩
theorem zy_J16_indexOf_3 : yJ16_indexOf_3.cls ≠ "java/lang/invoke/MethodHandle" ∧ yJ16_indexOf_3.cls ≠ "java/lang/invoke/VarHandle" := ⟨by decide +kernel, by decide +kernel⟩
theorem zl_J16_indexOf_3 : (parseMethodDescriptor yJ16_indexOf_3.desc).map (fun d => d.parameters.length) = some 5 := by decide +kernel
theorem zk_J16_newString : z_code yJ16_newString cJ16_newString 3 (Option.some (Jvm.ClassFile.FieldType.object "java/lang/String")) [] := Or.inl ⟨rfl, q2364⟩
theorem zy_J16_newString : yJ16_newString.cls ≠ "java/lang/invoke/MethodHandle" ∧ yJ16_newString.cls ≠ "java/lang/invoke/VarHandle" := ⟨by decide +kernel, by decide +kernel⟩
theorem zl_J16_newString : (parseMethodDescriptor yJ16_newString.desc).map (fun d => d.parameters.length) = some 3 := by decide +kernel
theorem zk_J16_fillNull : z_code yJ16_fillNull cJ16_fillNull 3 (Option.none : Option Jvm.ClassFile.FieldType) [] := Or.inl ⟨rfl, q2438⟩
theorem zy_J16_fillNull : yJ16_fillNull.cls ≠ "java/lang/invoke/MethodHandle" ∧ yJ16_fillNull.cls ≠ "java/lang/invoke/VarHandle" := ⟨by decide +kernel, by decide +kernel⟩
theorem zl_J16_fillNull : (parseMethodDescriptor yJ16_fillNull.desc).map (fun d => d.parameters.length) = some 3 := by decide +kernel
theorem zk_J16_charAt : z_code yJ16_charAt cJ16_charAt 2 (Option.some Jvm.ClassFile.FieldType.char) [] := Or.inl ⟨rfl, q2606⟩
theorem zy_J16_charAt : yJ16_charAt.cls ≠ "java/lang/invoke/MethodHandle" ∧ yJ16_charAt.cls ≠ "java/lang/invoke/VarHandle" := ⟨by decide +kernel, by decide +kernel⟩
theorem zl_J16_charAt : (parseMethodDescriptor yJ16_charAt.desc).map (fun d => d.parameters.length) = some 2 := by decide +kernel
theorem zk_J17_init : z_code yJ17_init cJ17_init 2 (Option.none : Option Jvm.ClassFile.FieldType) [] := Or.inl ⟨rfl, q1077⟩
theorem zy_J17_init : yJ17_init.cls ≠ "java/lang/invoke/MethodHandle" ∧ yJ17_init.cls ≠ "java/lang/invoke/VarHandle" := ⟨by decide +kernel, by decide +kernel⟩
theorem zl_J17_init : (parseMethodDescriptor yJ17_init.desc).map (fun d => d.parameters.length) = some 1 := by decide +kernel
theorem zk_J17_init_2 : z_code yJ17_init_2 cJ17_init_2 1 (Option.none : Option Jvm.ClassFile.FieldType) [] := Or.inl ⟨rfl, q1146⟩
theorem zy_J17_init_2 : yJ17_init_2.cls ≠ "java/lang/invoke/MethodHandle" ∧ yJ17_init_2.cls ≠ "java/lang/invoke/VarHandle" := ⟨by decide +kernel, by decide +kernel⟩
theorem zl_J17_init_2 : (parseMethodDescriptor yJ17_init_2.desc).map (fun d => d.parameters.length) = some 0 := by decide +kernel
theorem zk_J18_checkIndex : z_code yJ18_checkIndex cJ18_checkIndex 3 (Option.some Jvm.ClassFile.FieldType.int) [] := Or.inl ⟨rfl, q673⟩
theorem zy_J18_checkIndex : yJ18_checkIndex.cls ≠ "java/lang/invoke/MethodHandle" ∧ yJ18_checkIndex.cls ≠ "java/lang/invoke/VarHandle" := ⟨by decide +kernel, by decide +kernel⟩
theorem zl_J18_checkIndex : (parseMethodDescriptor yJ18_checkIndex.desc).map (fun d => d.parameters.length) = some 3 := by decide +kernel
theorem zk_J18_checkFromToIndex : z_code yJ18_checkFromToIndex cJ18_checkFromToIndex 4 (Option.some Jvm.ClassFile.FieldType.int) [] := Or.inl ⟨rfl, q961⟩
theorem zy_J18_checkFromToIndex : yJ18_checkFromToIndex.cls ≠ "java/lang/invoke/MethodHandle" ∧ yJ18_checkFromToIndex.cls ≠ "java/lang/invoke/VarHandle" := ⟨by decide +kernel, by decide +kernel⟩
theorem zl_J18_checkFromToIndex : (parseMethodDescriptor yJ18_checkFromToIndex.desc).map (fun d => d.parameters.length) = some 4 := by decide +kernel
theorem zk_J18_checkFromIndexSize : z_code yJ18_checkFromIndexSize cJ18_checkFromIndexSize 4 (Option.some Jvm.ClassFile.FieldType.int) [] := Or.inl ⟨rfl, q1000⟩
theorem zy_J18_checkFromIndexSize : yJ18_checkFromIndexSize.cls ≠ "java/lang/invoke/MethodHandle" ∧ yJ18_checkFromIndexSize.cls ≠ "java/lang/invoke/VarHandle" := ⟨by decide +kernel, by decide +kernel⟩
theorem zl_J18_checkFromIndexSize : (parseMethodDescriptor yJ18_checkFromIndexSize.desc).map (fun d => d.parameters.length) = some 4 := by decide +kernel
theorem zk_J19_stringSize : z_code yJ19_stringSize cJ19_stringSize 4 (Option.some Jvm.ClassFile.FieldType.int) [] := Or.inl ⟨rfl, q1016⟩
theorem zy_J19_stringSize : yJ19_stringSize.cls ≠ "java/lang/invoke/MethodHandle" ∧ yJ19_stringSize.cls ≠ "java/lang/invoke/VarHandle" := ⟨by decide +kernel, by decide +kernel⟩
theorem zl_J19_stringSize : (parseMethodDescriptor yJ19_stringSize.desc).map (fun d => d.parameters.length) = some 1 := by decide +kernel
theorem zk_J19_getChars : z_code yJ19_getChars cJ19_getChars 7 (Option.some Jvm.ClassFile.FieldType.int) [] := Or.inl ⟨rfl, q1019⟩
theorem zy_J19_getChars : yJ19_getChars.cls ≠ "java/lang/invoke/MethodHandle" ∧ yJ19_getChars.cls ≠ "java/lang/invoke/VarHandle" := ⟨by decide +kernel, by decide +kernel⟩
theorem zl_J19_getChars : (parseMethodDescriptor yJ19_getChars.desc).map (fun d => d.parameters.length) = some 3 := by decide +kernel
theorem zk_J19_bitCount : z_code yJ19_bitCount cJ19_bitCount 1 (Option.some Jvm.ClassFile.FieldType.int) [] := Or.inl ⟨rfl, q2117⟩
theorem zy_J19_bitCount : yJ19_bitCount.cls ≠ "java/lang/invoke/MethodHandle" ∧ yJ19_bitCount.cls ≠ "java/lang/invoke/VarHandle" := ⟨by decide +kernel, by decide +kernel⟩
theorem zl_J19_bitCount : (parseMethodDescriptor yJ19_bitCount.desc).map (fun d => d.parameters.length) = some 1 := by decide +kernel
theorem zk_J2_init : z_code yJ2_init cJ2_init 1 (Option.none : Option Jvm.ClassFile.FieldType) [] := Or.inl ⟨rfl, q167⟩
theorem zy_J2_init : yJ2_init.cls ≠ "java/lang/invoke/MethodHandle" ∧ yJ2_init.cls ≠ "java/lang/invoke/VarHandle" := ⟨by decide +kernel, by decide +kernel⟩
theorem zl_J2_init : (parseMethodDescriptor yJ2_init.desc).map (fun d => d.parameters.length) = some 0 := by decide +kernel
theorem zk_J2_size : z_code yJ2_size cJ2_size 1 (Option.some Jvm.ClassFile.FieldType.int) [] := Or.inl ⟨rfl, q326⟩
theorem zy_J2_size : yJ2_size.cls ≠ "java/lang/invoke/MethodHandle" ∧ yJ2_size.cls ≠ "java/lang/invoke/VarHandle" := ⟨by decide +kernel, by decide +kernel⟩
theorem zl_J2_size : (parseMethodDescriptor yJ2_size.desc).map (fun d => d.parameters.length) = some 0 := by decide +kernel
theorem zk_J2_iterator : z_code yJ2_iterator cJ2_iterator 1 (Option.some (Jvm.ClassFile.FieldType.object "java/util/Iterator")) [] := Or.inl ⟨rfl, q347⟩
theorem zy_J2_iterator : yJ2_iterator.cls ≠ "java/lang/invoke/MethodHandle" ∧ yJ2_iterator.cls ≠ "java/lang/invoke/VarHandle" := ⟨by decide +kernel, by decide +kernel⟩
theorem zl_J2_iterator : (parseMethodDescriptor yJ2_iterator.desc).map (fun d => d.parameters.length) = some 0 := by decide +kernel
theorem zk_J2_add : z_code yJ2_add cJ2_add 2 (Option.some Jvm.ClassFile.FieldType.boolean) [] := Or.inl ⟨rfl, q482⟩
theorem zy_J2_add : yJ2_add.cls ≠ "java/lang/invoke/MethodHandle" ∧ yJ2_add.cls ≠ "java/lang/invoke/VarHandle" := ⟨by decide +kernel, by decide +kernel⟩
theorem zl_J2_add : (parseMethodDescriptor yJ2_add.desc).map (fun d => d.parameters.length) = some 1 := by decide +kernel
theorem zk_J2_add_2 : z_code yJ2_add_2 cJ2_add_2 4 (Option.none : Option Jvm.ClassFile.FieldType) [] := Or.inl ⟨rfl, q486⟩
theorem zy_J2_add_2 : yJ2_add_2.cls ≠ "java/lang/invoke/MethodHandle" ∧ yJ2_add_2.cls ≠ "java/lang/invoke/VarHandle" := ⟨by decide +kernel, by decide +kernel⟩
theorem zl_J2_add_2 : (parseMethodDescriptor yJ2_add_2.desc).map (fun d => d.parameters.length) = some 3 := by decide +kernel
theorem zk_J2_grow : z_code yJ2_grow cJ2_grow 1 (Option.some (Jvm.ClassFile.FieldType.array (Jvm.ClassFile.FieldType.object "java/lang/Object"))) [] := Or.inl ⟨rfl, q490⟩
theorem zy_J2_grow : yJ2_grow.cls ≠ "java/lang/invoke/MethodHandle" ∧ yJ2_grow.cls ≠ "java/lang/invoke/VarHandle" := ⟨by decide +kernel, by decide +kernel⟩
theorem zl_J2_grow : (parseMethodDescriptor yJ2_grow.desc).map (fun d => d.parameters.length) = some 0 := by decide +kernel
theorem zk_J2_grow_2 : z_code yJ2_grow_2 cJ2_grow_2 4 (Option.some (Jvm.ClassFile.FieldType.array (Jvm.ClassFile.FieldType.object "java/lang/Object"))) [] := Or.inl ⟨rfl, q494⟩
theorem zy_J2_grow_2 : yJ2_grow_2.cls ≠ "java/lang/invoke/MethodHandle" ∧ yJ2_grow_2.cls ≠ "java/lang/invoke/VarHandle" := ⟨by decide +kernel, by decide +kernel⟩
theorem zl_J2_grow_2 : (parseMethodDescriptor yJ2_grow_2.desc).map (fun d => d.parameters.length) = some 1 := by decide +kernel
theorem zk_J2_indexOf : z_code yJ2_indexOf cJ2_indexOf 2 (Option.some Jvm.ClassFile.FieldType.int) [] := Or.inl ⟨rfl, q612⟩
theorem zy_J2_indexOf : yJ2_indexOf.cls ≠ "java/lang/invoke/MethodHandle" ∧ yJ2_indexOf.cls ≠ "java/lang/invoke/VarHandle" := ⟨by decide +kernel, by decide +kernel⟩
theorem zl_J2_indexOf : (parseMethodDescriptor yJ2_indexOf.desc).map (fun d => d.parameters.length) = some 1 := by decide +kernel
theorem zk_J2_indexOfRange : z_code yJ2_indexOfRange cJ2_indexOfRange 6 (Option.some Jvm.ClassFile.FieldType.int) [] := Or.inl ⟨rfl, q616⟩
theorem zy_J2_indexOfRange : yJ2_indexOfRange.cls ≠ "java/lang/invoke/MethodHandle" ∧ yJ2_indexOfRange.cls ≠ "java/lang/invoke/VarHandle" := ⟨by decide +kernel, by decide +kernel⟩
theorem zl_J2_indexOfRange : (parseMethodDescriptor yJ2_indexOfRange.desc).map (fun d => d.parameters.length) = some 3 := by decide +kernel
theorem zk_J2_get : z_code yJ2_get cJ2_get 2 (Option.some (Jvm.ClassFile.FieldType.object "java/lang/Object")) [] := Or.inl ⟨rfl, q667⟩
theorem zy_J2_get : yJ2_get.cls ≠ "java/lang/invoke/MethodHandle" ∧ yJ2_get.cls ≠ "java/lang/invoke/VarHandle" := ⟨by decide +kernel, by decide +kernel⟩
theorem zl_J2_get : (parseMethodDescriptor yJ2_get.desc).map (fun d => d.parameters.length) = some 1 := by decide +kernel
theorem zk_J2_elementData : z_code yJ2_elementData cJ2_elementData 2 (Option.some (Jvm.ClassFile.FieldType.object "java/lang/Object")) [] := Or.inl ⟨rfl, q677⟩
theorem zy_J2_elementData : yJ2_elementData.cls ≠ "java/lang/invoke/MethodHandle" ∧ yJ2_elementData.cls ≠ "java/lang/invoke/VarHandle" := ⟨by decide +kernel, by decide +kernel⟩
theorem zl_J2_elementData : (parseMethodDescriptor yJ2_elementData.desc).map (fun d => d.parameters.length) = some 1 := by decide +kernel
theorem zk_J2_remove : z_code yJ2_remove cJ2_remove 5 (Option.some Jvm.ClassFile.FieldType.boolean) [] := Or.inl ⟨rfl, q1390⟩
theorem zy_J2_remove : yJ2_remove.cls ≠ "java/lang/invoke/MethodHandle" ∧ yJ2_remove.cls ≠ "java/lang/invoke/VarHandle" := ⟨by decide +kernel, by decide +kernel⟩
theorem zl_J2_remove : (parseMethodDescriptor yJ2_remove.desc).map (fun d => d.parameters.length) = some 1 := by decide +kernel
theorem zk_J2_fastRemove : z_code yJ2_fastRemove cJ2_fastRemove 4 (Option.none : Option Jvm.ClassFile.FieldType) [] := Or.inl ⟨rfl, q1394⟩
theorem zy_J2_fastRemove : yJ2_fastRemove.cls ≠ "java/lang/invoke/MethodHandle" ∧ yJ2_fastRemove.cls ≠ "java/lang/invoke/VarHandle" := ⟨by decide +kernel, by decide +kernel⟩
theorem zl_J2_fastRemove : (parseMethodDescriptor yJ2_fastRemove.desc).map (fun d => d.parameters.length) = some 2 := by decide +kernel
theorem zk_J2_remove_2 : z_code yJ2_remove_2 cJ2_remove_2 4 (Option.some (Jvm.ClassFile.FieldType.object "java/lang/Object")) [] := Or.inl ⟨rfl, q1604⟩
theorem zy_J2_remove_2 : yJ2_remove_2.cls ≠ "java/lang/invoke/MethodHandle" ∧ yJ2_remove_2.cls ≠ "java/lang/invoke/VarHandle" := ⟨by decide +kernel, by decide +kernel⟩
theorem zl_J2_remove_2 : (parseMethodDescriptor yJ2_remove_2.desc).map (fun d => d.parameters.length) = some 1 := by decide +kernel
theorem zk_J2_add_3 : z_code yJ2_add_3 cJ2_add_3 5 (Option.none : Option Jvm.ClassFile.FieldType) [] := Or.inl ⟨rfl, q1758⟩
theorem zy_J2_add_3 : yJ2_add_3.cls ≠ "java/lang/invoke/MethodHandle" ∧ yJ2_add_3.cls ≠ "java/lang/invoke/VarHandle" := ⟨by decide +kernel, by decide +kernel⟩
theorem zl_J2_add_3 : (parseMethodDescriptor yJ2_add_3.desc).map (fun d => d.parameters.length) = some 2 := by decide +kernel
theorem zk_J2_rangeCheckForAdd : z_code yJ2_rangeCheckForAdd cJ2_rangeCheckForAdd 2 (Option.none : Option Jvm.ClassFile.FieldType) [] := Or.inl ⟨rfl, q1762⟩
theorem zy_J2_rangeCheckForAdd : yJ2_rangeCheckForAdd.cls ≠ "java/lang/invoke/MethodHandle" ∧ yJ2_rangeCheckForAdd.cls ≠ "java/lang/invoke/VarHandle" := ⟨by decide +kernel, by decide +kernel⟩
theorem zl_J2_rangeCheckForAdd : (parseMethodDescriptor yJ2_rangeCheckForAdd.desc).map (fun d => d.parameters.length) = some 1 := by decide +kernel
theorem zk_J2_outOfBoundsMsg : z_code yJ2_outOfBoundsMsg cJ2_outOfBoundsMsg 2 (Option.some (Jvm.ClassFile.FieldType.object "java/lang/String")) [] := Or.inl ⟨rfl, q1767⟩
theorem zy_J2_outOfBoundsMsg : yJ2_outOfBoundsMsg.cls ≠ "java/lang/invoke/MethodHandle" ∧ yJ2_outOfBoundsMsg.cls ≠ "java/lang/invoke/VarHandle" := ⟨by decide +kernel, by decide +kernel⟩
theorem zl_J2_outOfBoundsMsg : (parseMethodDescriptor yJ2_outOfBoundsMsg.desc).map (fun d => d.parameters.length) = some 1 := by decide +kernel
theorem zk_J20_checkIndex : z_code yJ20_checkIndex cJ20_checkIndex 2 (Option.some Jvm.ClassFile.FieldType.int) [] := Or.inl ⟨rfl, q670⟩
theorem zy_J20_checkIndex : yJ20_checkIndex.cls ≠ "java/lang/invoke/MethodHandle" ∧ yJ20_checkIndex.cls ≠ "java/lang/invoke/VarHandle" := ⟨by decide +kernel, by decide +kernel⟩
theorem zl_J20_checkIndex : (parseMethodDescriptor yJ20_checkIndex.desc).map (fun d => d.parameters.length) = some 2 := by decide +kernel
theorem zk_J20_requireNonNull : z_code yJ20_requireNonNull cJ20_requireNonNull 1 (Option.some (Jvm.ClassFile.FieldType.object "java/lang/Object")) [] := Or.inl ⟨rfl, q1354⟩
theorem zy_J20_requireNonNull : yJ20_requireNonNull.cls ≠ "java/lang/invoke/MethodHandle" ∧ yJ20_requireNonNull.cls ≠ "java/lang/invoke/VarHandle" := ⟨by decide +kernel, by decide +kernel⟩
theorem zl_J20_requireNonNull : (parseMethodDescriptor yJ20_requireNonNull.desc).map (fun d => d.parameters.length) = some 1 := by decide +kernel
theorem zk_J21_empty : z_code yJ21_empty cJ21_empty 1 (Option.some (Jvm.ClassFile.FieldType.object "java/util/Optional")) [] := Or.inl ⟨rfl, q1344⟩
theorem zy_J21_empty : yJ21_empty.cls ≠ "java/lang/invoke/MethodHandle" ∧ yJ21_empty.cls ≠ "java/lang/invoke/VarHandle" := ⟨by decide +kernel, by decide +kernel⟩
theorem zl_J21_empty : (parseMethodDescriptor yJ21_empty.desc).map (fun d => d.parameters.length) = some 0 := by decide +kernel
theorem zk_J21_of : z_code yJ21_of cJ21_of 1 (Option.some (Jvm.ClassFile.FieldType.object "java/util/Optional")) [] := Or.inl ⟨rfl, q1349⟩
theorem zy_J21_of : yJ21_of.cls ≠ "java/lang/invoke/MethodHandle" ∧ yJ21_of.cls ≠ "java/lang/invoke/VarHandle" := ⟨by decide +kernel, by decide +kernel⟩
theorem zl_J21_of : (parseMethodDescriptor yJ21_of.desc).map (fun d => d.parameters.length) = some 1 := by decide +kernel
theorem zk_J21_init : z_code yJ21_init cJ21_init 2 (Option.none : Option Jvm.ClassFile.FieldType) [] := Or.inl ⟨rfl, q1357⟩
theorem zy_J21_init : yJ21_init.cls ≠ "java/lang/invoke/MethodHandle" ∧ yJ21_init.cls ≠ "java/lang/invoke/VarHandle" := ⟨by decide +kernel, by decide +kernel⟩
theorem zl_J21_init : (parseMethodDescriptor yJ21_init.desc).map (fun d => d.parameters.length) = some 1 := by decide +kernel
theorem zk_J21_isPresent : z_code yJ21_isPresent cJ21_isPresent 1 (Option.some Jvm.ClassFile.FieldType.boolean) [] := Or.inl ⟨rfl, q1366⟩
theorem zy_J21_isPresent : yJ21_isPresent.cls ≠ "java/lang/invoke/MethodHandle" ∧ yJ21_isPresent.cls ≠ "java/lang/invoke/VarHandle" := ⟨by decide +kernel, by decide +kernel⟩
theorem zl_J21_isPresent : (parseMethodDescriptor yJ21_isPresent.desc).map (fun d => d.parameters.length) = some 0 := by decide +kernel
theorem zk_J21_get : z_code yJ21_get cJ21_get 1 (Option.some (Jvm.ClassFile.FieldType.object "java/lang/Object")) [] := Or.inl ⟨rfl, q1375⟩
theorem zy_J21_get : yJ21_get.cls ≠ "java/lang/invoke/MethodHandle" ∧ yJ21_get.cls ≠ "java/lang/invoke/VarHandle" := ⟨by decide +kernel, by decide +kernel⟩
theorem zl_J21_get : (parseMethodDescriptor yJ21_get.desc).map (fun d => d.parameters.length) = some 0 := by decide +kernel
theorem zk_J22_isValidCodePoint : z_code yJ22_isValidCodePoint cJ22_isValidCodePoint 2 (Option.some Jvm.ClassFile.FieldType.boolean) [] := Or.inl ⟨rfl, q1448⟩
theorem zy_J22_isValidCodePoint : yJ22_isValidCodePoint.cls ≠ "java/lang/invoke/MethodHandle" ∧ yJ22_isValidCodePoint.cls ≠ "java/lang/invoke/VarHandle" := ⟨by decide +kernel, by decide +kernel⟩
theorem zl_J22_isValidCodePoint : (parseMethodDescriptor yJ22_isValidCodePoint.desc).map (fun d => d.parameters.length) = some 1 := by decide +kernel
theorem zk_J22_highSurrogate : z_code yJ22_highSurrogate cJ22_highSurrogate 1 (Option.some Jvm.ClassFile.FieldType.char) [] := Or.inl ⟨rfl, q1451⟩
theorem zy_J22_highSurrogate : yJ22_highSurrogate.cls ≠ "java/lang/invoke/MethodHandle" ∧ yJ22_highSurrogate.cls ≠ "java/lang/invoke/VarHandle" := ⟨by decide +kernel, by decide +kernel⟩
theorem zl_J22_highSurrogate : (parseMethodDescriptor yJ22_highSurrogate.desc).map (fun d => d.parameters.length) = some 1 := by decide +kernel
theorem zk_J22_lowSurrogate : z_code yJ22_lowSurrogate cJ22_lowSurrogate 1 (Option.some Jvm.ClassFile.FieldType.char) [] := Or.inl ⟨rfl, q1455⟩
theorem zy_J22_lowSurrogate : yJ22_lowSurrogate.cls ≠ "java/lang/invoke/MethodHandle" ∧ yJ22_lowSurrogate.cls ≠ "java/lang/invoke/VarHandle" := ⟨by decide +kernel, by decide +kernel⟩
theorem zl_J22_lowSurrogate : (parseMethodDescriptor yJ22_lowSurrogate.desc).map (fun d => d.parameters.length) = some 1 := by decide +kernel
theorem zk_J23_init : z_code yJ23_init cJ23_init 1 (Option.none : Option Jvm.ClassFile.FieldType) [] := Or.inl ⟨rfl, q1523⟩
theorem zy_J23_init : yJ23_init.cls ≠ "java/lang/invoke/MethodHandle" ∧ yJ23_init.cls ≠ "java/lang/invoke/VarHandle" := ⟨by decide +kernel, by decide +kernel⟩
theorem zl_J23_init : (parseMethodDescriptor yJ23_init.desc).map (fun d => d.parameters.length) = some 0 := by decide +kernel
theorem zk_J23_init_2 : z_code yJ23_init_2 cJ23_init_2 2 (Option.none : Option Jvm.ClassFile.FieldType) [] := Or.inl ⟨rfl, q1777⟩
theorem zy_J23_init_2 : yJ23_init_2.cls ≠ "java/lang/invoke/MethodHandle" ∧ yJ23_init_2.cls ≠ "java/lang/invoke/VarHandle" := ⟨by decide +kernel, by decide +kernel⟩
theorem zl_J23_init_2 : (parseMethodDescriptor yJ23_init_2.desc).map (fun d => d.parameters.length) = some 1 := by decide +kernel
theorem zk_J24_init : z_code yJ24_init cJ24_init 2 (Option.none : Option Jvm.ClassFile.FieldType) [] := Or.inl ⟨rfl, q1666⟩
theorem zy_J24_init : yJ24_init.cls ≠ "java/lang/invoke/MethodHandle" ∧ yJ24_init.cls ≠ "java/lang/invoke/VarHandle" := ⟨by decide +kernel, by decide +kernel⟩
theorem zl_J24_init : (parseMethodDescriptor yJ24_init.desc).map (fun d => d.parameters.length) = some 1 := by decide +kernel
theorem zk_J24_init_2 : z_code yJ24_init_2 cJ24_init_2 1 (Option.none : Option Jvm.ClassFile.FieldType) [] := Or.inl ⟨rfl, q2223⟩
theorem zy_J24_init_2 : yJ24_init_2.cls ≠ "java/lang/invoke/MethodHandle" ∧ yJ24_init_2.cls ≠ "java/lang/invoke/VarHandle" := ⟨by decide +kernel, by decide +kernel⟩
theorem zl_J24_init_2 : (parseMethodDescriptor yJ24_init_2.desc).map (fun d => d.parameters.length) = some 0 := by decide +kernel
theorem zk_J25_init : z_code yJ25_init cJ25_init 3 (Option.none : Option Jvm.ClassFile.FieldType) [] := Or.inl ⟨rfl, q1688⟩
theorem zy_J25_init : yJ25_init.cls ≠ "java/lang/invoke/MethodHandle" ∧ yJ25_init.cls ≠ "java/lang/invoke/VarHandle" := ⟨by decide +kernel, by decide +kernel⟩
theorem zl_J25_init : (parseMethodDescriptor yJ25_init.desc).map (fun d => d.parameters.length) = some 2 := by decide +kernel
theorem zk_J26_init : z_code yJ26_init cJ26_init 2 (Option.none : Option Jvm.ClassFile.FieldType) [] := Or.inl ⟨rfl, q1793⟩
theorem zy_J26_init : yJ26_init.cls ≠ "java/lang/invoke/MethodHandle" ∧ yJ26_init.cls ≠ "java/lang/invoke/VarHandle" := ⟨by decide +kernel, by decide +kernel⟩
theorem zl_J26_init : (parseMethodDescriptor yJ26_init.desc).map (fun d => d.parameters.length) = some 1 := by decide +kernel
theorem zk_J26_init_2 : z_code yJ26_init_2 cJ26_init_2 2 (Option.none : Option Jvm.ClassFile.FieldType) [] := Or.inl ⟨rfl, q2451⟩
theorem zy_J26_init_2 : yJ26_init_2.cls ≠ "java/lang/invoke/MethodHandle" ∧ yJ26_init_2.cls ≠ "java/lang/invoke/VarHandle" := ⟨by decide +kernel, by decide +kernel⟩
theorem zl_J26_init_2 : (parseMethodDescriptor yJ26_init_2.desc).map (fun d => d.parameters.length) = some 1 := by decide +kernel
theorem zk_J27_bitCount : z_code yJ27_bitCount cJ27_bitCount 2 (Option.some Jvm.ClassFile.FieldType.int) [] := Or.inl ⟨rfl, q1971⟩
theorem zy_J27_bitCount : yJ27_bitCount.cls ≠ "java/lang/invoke/MethodHandle" ∧ yJ27_bitCount.cls ≠ "java/lang/invoke/VarHandle" := ⟨by decide +kernel, by decide +kernel⟩
theorem zl_J27_bitCount : (parseMethodDescriptor yJ27_bitCount.desc).map (fun d => d.parameters.length) = some 1 := by decide +kernel
theorem zk_J27_stringSize : z_code yJ27_stringSize cJ27_stringSize 6 (Option.some Jvm.ClassFile.FieldType.int) [] := Or.inl ⟨rfl, q2573⟩
theorem zy_J27_stringSize : yJ27_stringSize.cls ≠ "java/lang/invoke/MethodHandle" ∧ yJ27_stringSize.cls ≠ "java/lang/invoke/VarHandle" := ⟨by decide +kernel, by decide +kernel⟩
theorem zl_J27_stringSize : (parseMethodDescriptor yJ27_stringSize.desc).map (fun d => d.parameters.length) = some 1 := by decide +kernel
theorem zk_J27_getChars : z_code yJ27_getChars cJ27_getChars 11 (Option.some Jvm.ClassFile.FieldType.int) [] := Or.inl ⟨rfl, q2578⟩
theorem zy_J27_getChars : yJ27_getChars.cls ≠ "java/lang/invoke/MethodHandle" ∧ yJ27_getChars.cls ≠ "java/lang/invoke/VarHandle" := ⟨by decide +kernel, by decide +kernel⟩
theorem zl_J27_getChars : (parseMethodDescriptor yJ27_getChars.desc).map (fun d => d.parameters.length) = some 3 := by decide +kernel
theorem zk_J28_init : z_code yJ28_init cJ28_init 2 (Option.none : Option Jvm.ClassFile.FieldType) [] := Or.inl ⟨rfl, q2176⟩
theorem zy_J28_init : yJ28_init.cls ≠ "java/lang/invoke/MethodHandle" ∧ yJ28_init.cls ≠ "java/lang/invoke/VarHandle" := ⟨by decide +kernel, by decide +kernel⟩
theorem zl_J28_init : (parseMethodDescriptor yJ28_init.desc).map (fun d => d.parameters.length) = some 1 := by decide +kernel
theorem zk_J28_init_2 : z_code yJ28_init_2 cJ28_init_2 1 (Option.none : Option Jvm.ClassFile.FieldType) [] := Or.inl ⟨rfl, q2198⟩
theorem zy_J28_init_2 : yJ28_init_2.cls ≠ "java/lang/invoke/MethodHandle" ∧ yJ28_init_2.cls ≠ "java/lang/invoke/VarHandle" := ⟨by decide +kernel, by decide +kernel⟩
theorem zl_J28_init_2 : (parseMethodDescriptor yJ28_init_2.desc).map (fun d => d.parameters.length) = some 0 := by decide +kernel
theorem zk_J29_init : z_code yJ29_init cJ29_init 2 (Option.none : Option Jvm.ClassFile.FieldType) [] := Or.inl ⟨rfl, q2421⟩
theorem zy_J29_init : yJ29_init.cls ≠ "java/lang/invoke/MethodHandle" ∧ yJ29_init.cls ≠ "java/lang/invoke/VarHandle" := ⟨by decide +kernel, by decide +kernel⟩
theorem zl_J29_init : (parseMethodDescriptor yJ29_init.desc).map (fun d => d.parameters.length) = some 1 := by decide +kernel
theorem zk_J3_init : z_code yJ3_init cJ3_init 1 (Option.none : Option Jvm.ClassFile.FieldType) [] := Or.inl ⟨rfl, q238⟩
theorem zy_J3_init : yJ3_init.cls ≠ "java/lang/invoke/MethodHandle" ∧ yJ3_init.cls ≠ "java/lang/invoke/VarHandle" := ⟨by decide +kernel, by decide +kernel⟩
theorem zl_J3_init : (parseMethodDescriptor yJ3_init.desc).map (fun d => d.parameters.length) = some 0 := by decide +kernel
theorem zk_J3_size : z_code yJ3_size cJ3_size 1 (Option.some Jvm.ClassFile.FieldType.int) [] := Or.inl ⟨rfl, q794⟩
theorem zy_J3_size : yJ3_size.cls ≠ "java/lang/invoke/MethodHandle" ∧ yJ3_size.cls ≠ "java/lang/invoke/VarHandle" := ⟨by decide +kernel, by decide +kernel⟩
theorem zl_J3_size : (parseMethodDescriptor yJ3_size.desc).map (fun d => d.parameters.length) = some 0 := by decide +kernel
theorem zk_J3_sub : z_code yJ3_sub cJ3_sub 3 (Option.some Jvm.ClassFile.FieldType.int) [] := Or.inl ⟨rfl, q797⟩
theorem zy_J3_sub : yJ3_sub.cls ≠ "java/lang/invoke/MethodHandle" ∧ yJ3_sub.cls ≠ "java/lang/invoke/VarHandle" := ⟨by decide +kernel, by decide +kernel⟩
theorem zl_J3_sub : (parseMethodDescriptor yJ3_sub.desc).map (fun d => d.parameters.length) = some 3 := by decide +kernel
theorem zk_J3_removeLast : z_code yJ3_removeLast cJ3_removeLast 2 (Option.some (Jvm.ClassFile.FieldType.object "java/lang/Object")) [] := Or.inl ⟨rfl, q1624⟩
theorem zy_J3_removeLast : yJ3_removeLast.cls ≠ "java/lang/invoke/MethodHandle" ∧ yJ3_removeLast.cls ≠ "java/lang/invoke/VarHandle" := ⟨by decide +kernel, by decide +kernel⟩
theorem zl_J3_removeLast : (parseMethodDescriptor yJ3_removeLast.desc).map (fun d => d.parameters.length) = some 0 := by decide +kernel
theorem zk_J3_pollLast : z_code yJ3_pollLast cJ3_pollLast 4 (Option.some (Jvm.ClassFile.FieldType.object "java/lang/Object")) [] := Or.inl ⟨rfl, q1628⟩
theorem zy_J3_pollLast : yJ3_pollLast.cls ≠ "java/lang/invoke/MethodHandle" ∧ yJ3_pollLast.cls ≠ "java/lang/invoke/VarHandle" := ⟨by decide +kernel, by decide +kernel⟩
theorem zl_J3_pollLast : (parseMethodDescriptor yJ3_pollLast.desc).map (fun d => d.parameters.length) = some 0 := by decide +kernel
theorem zk_J3_dec : z_code yJ3_dec cJ3_dec 2 (Option.some Jvm.ClassFile.FieldType.int) [] := Or.inl ⟨rfl, q1631⟩
theorem zy_J3_dec : yJ3_dec.cls ≠ "java/lang/invoke/MethodHandle" ∧ yJ3_dec.cls ≠ "java/lang/invoke/VarHandle" := ⟨by decide +kernel, by decide +kernel⟩
theorem zl_J3_dec : (parseMethodDescriptor yJ3_dec.desc).map (fun d => d.parameters.length) = some 2 := by decide +kernel
theorem zk_J3_elementAt : z_code yJ3_elementAt cJ3_elementAt 2 (Option.some (Jvm.ClassFile.FieldType.object "java/lang/Object")) [] := Or.inl ⟨rfl, q1634⟩
theorem zy_J3_elementAt : yJ3_elementAt.cls ≠ "java/lang/invoke/MethodHandle" ∧ yJ3_elementAt.cls ≠ "java/lang/invoke/VarHandle" := ⟨by decide +kernel, by decide +kernel⟩
theorem zl_J3_elementAt : (parseMethodDescriptor yJ3_elementAt.desc).map (fun d => d.parameters.length) = some 2 := by decide +kernel
theorem zk_J3_push : z_code yJ3_push cJ3_push 2 (Option.none : Option Jvm.ClassFile.FieldType) [] := Or.inl ⟨rfl, q1640⟩
theorem zy_J3_push : yJ3_push.cls ≠ "java/lang/invoke/MethodHandle" ∧ yJ3_push.cls ≠ "java/lang/invoke/VarHandle" := ⟨by decide +kernel, by decide +kernel⟩
theorem zl_J3_push : (parseMethodDescriptor yJ3_push.desc).map (fun d => d.parameters.length) = some 1 := by decide +kernel
theorem zk_J3_addFirst : z_code yJ3_addFirst cJ3_addFirst 3 (Option.none : Option Jvm.ClassFile.FieldType) [] := Or.inl ⟨rfl, q1644⟩
theorem zy_J3_addFirst : yJ3_addFirst.cls ≠ "java/lang/invoke/MethodHandle" ∧ yJ3_addFirst.cls ≠ "java/lang/invoke/VarHandle" := ⟨by decide +kernel, by decide +kernel⟩
theorem zl_J3_addFirst : (parseMethodDescriptor yJ3_addFirst.desc).map (fun d => d.parameters.length) = some 1 := by decide +kernel
theorem zk_J3_grow : z_code yJ3_grow cJ3_grow 9 (Option.none : Option Jvm.ClassFile.FieldType) [] := Or.inl ⟨rfl, q1648⟩
theorem zy_J3_grow : yJ3_grow.cls ≠ "java/lang/invoke/MethodHandle" ∧ yJ3_grow.cls ≠ "java/lang/invoke/VarHandle" := ⟨by decide +kernel, by decide +kernel⟩
theorem zl_J3_grow : (parseMethodDescriptor yJ3_grow.desc).map (fun d => d.parameters.length) = some 1 := by decide +kernel
theorem zk_J3_newCapacity : z_code yJ3_newCapacity cJ3_newCapacity 5 (Option.some Jvm.ClassFile.FieldType.int) [] := Or.inl ⟨rfl, q1653⟩
theorem zy_J3_newCapacity : yJ3_newCapacity.cls ≠ "java/lang/invoke/MethodHandle" ∧ yJ3_newCapacity.cls ≠ "java/lang/invoke/VarHandle" := ⟨by decide +kernel, by decide +kernel⟩
theorem zl_J3_newCapacity : (parseMethodDescriptor yJ3_newCapacity.desc).map (fun d => d.parameters.length) = some 2 := by decide +kernel
theorem zk_J3_isEmpty : z_code yJ3_isEmpty cJ3_isEmpty 1 (Option.some Jvm.ClassFile.FieldType.boolean) [] := Or.inl ⟨rfl, q2659⟩
theorem zy_J3_isEmpty : yJ3_isEmpty.cls ≠ "java/lang/invoke/MethodHandle" ∧ yJ3_isEmpty.cls ≠ "java/lang/invoke/VarHandle" := ⟨by decide +kernel, by decide +kernel⟩
theorem zl_J3_isEmpty : (parseMethodDescriptor yJ3_isEmpty.desc).map (fun d => d.parameters.length) = some 0 := by decide +kernel
theorem zk_J3_pop : z_code yJ3_pop cJ3_pop 1 (Option.some (Jvm.ClassFile.FieldType.object "java/lang/Object")) [] := Or.inl ⟨rfl, q2663⟩
theorem zy_J3_pop : yJ3_pop.cls ≠ "java/lang/invoke/MethodHandle" ∧ yJ3_pop.cls ≠ "java/lang/invoke/VarHandle" := ⟨by decide +kernel, by decide +kernel⟩
theorem zl_J3_pop : (parseMethodDescriptor yJ3_pop.desc).map (fun d => d.parameters.length) = some 0 := by decide +kernel
theorem zk_J3_removeFirst : z_code yJ3_removeFirst cJ3_removeFirst 2 (Option.some (Jvm.ClassFile.FieldType.object "java/lang/Object")) [] := Or.inl ⟨rfl, q2667⟩
theorem zy_J3_removeFirst : yJ3_removeFirst.cls ≠ "java/lang/invoke/MethodHandle" ∧ yJ3_removeFirst.cls ≠ "java/lang/invoke/VarHandle" := ⟨by decide +kernel, by decide +kernel⟩
theorem zl_J3_removeFirst : (parseMethodDescriptor yJ3_removeFirst.desc).map (fun d => d.parameters.length) = some 0 := by decide +kernel
theorem zk_J3_pollFirst : z_code yJ3_pollFirst cJ3_pollFirst 4 (Option.some (Jvm.ClassFile.FieldType.object "java/lang/Object")) [] := Or.inl ⟨rfl, q2671⟩
theorem zy_J3_pollFirst : yJ3_pollFirst.cls ≠ "java/lang/invoke/MethodHandle" ∧ yJ3_pollFirst.cls ≠ "java/lang/invoke/VarHandle" := ⟨by decide +kernel, by decide +kernel⟩
theorem zl_J3_pollFirst : (parseMethodDescriptor yJ3_pollFirst.desc).map (fun d => d.parameters.length) = some 0 := by decide +kernel
theorem zk_J3_inc : z_code yJ3_inc cJ3_inc 2 (Option.some Jvm.ClassFile.FieldType.int) [] := Or.inl ⟨rfl, q2674⟩
theorem zy_J3_inc : yJ3_inc.cls ≠ "java/lang/invoke/MethodHandle" ∧ yJ3_inc.cls ≠ "java/lang/invoke/VarHandle" := ⟨by decide +kernel, by decide +kernel⟩
theorem zl_J3_inc : (parseMethodDescriptor yJ3_inc.desc).map (fun d => d.parameters.length) = some 2 := by decide +kernel
theorem zk_J3_clear : z_code yJ3_clear cJ3_clear 1 (Option.none : Option Jvm.ClassFile.FieldType) [] := Or.inl ⟨rfl, q2685⟩
theorem zy_J3_clear : yJ3_clear.cls ≠ "java/lang/invoke/MethodHandle" ∧ yJ3_clear.cls ≠ "java/lang/invoke/VarHandle" := ⟨by decide +kernel, by decide +kernel⟩
theorem zl_J3_clear : (parseMethodDescriptor yJ3_clear.desc).map (fun d => d.parameters.length) = some 0 := by decide +kernel
theorem zk_J3_circularClear : z_code yJ3_circularClear cJ3_circularClear 4 (Option.none : Option Jvm.ClassFile.FieldType) [] := Or.inl ⟨rfl, q2688⟩
theorem zy_J3_circularClear : yJ3_circularClear.cls ≠ "java/lang/invoke/MethodHandle" ∧ yJ3_circularClear.cls ≠ "java/lang/invoke/VarHandle" := ⟨by decide +kernel, by decide +kernel⟩
theorem zl_J3_circularClear : (parseMethodDescriptor yJ3_circularClear.desc).map (fun d => d.parameters.length) = some 3 := by decide +kernel
theorem zk_J30_init : z_code yJ30_init cJ30_init 1 (Option.none : Option Jvm.ClassFile.FieldType) [] := Or.inl ⟨rfl, q156⟩
theorem zy_J30_init : yJ30_init.cls ≠ "java/lang/invoke/MethodHandle" ∧ yJ30_init.cls ≠ "java/lang/invoke/VarHandle" := ⟨by decide +kernel, by decide +kernel⟩
theorem zl_J30_init : (parseMethodDescriptor yJ30_init.desc).map (fun d => d.parameters.length) = some 0 := by decide +kernel
theorem zk_J30_equals : z_code yJ30_equals cJ30_equals 2 (Option.some Jvm.ClassFile.FieldType.boolean) [] := Or.inl ⟨rfl, q658⟩
theorem zy_J30_equals : yJ30_equals.cls ≠ "java/lang/invoke/MethodHandle" ∧ yJ30_equals.cls ≠ "java/lang/invoke/VarHandle" := ⟨by decide +kernel, by decide +kernel⟩
theorem zl_J30_equals : (parseMethodDescriptor yJ30_equals.desc).map (fun d => d.parameters.length) = some 1 := by decide +kernel
theorem zk_J31_getUTF16Char : z_code yJ31_getUTF16Char cJ31_getUTF16Char 3 (Option.some Jvm.ClassFile.FieldType.char) [] := Or.inl ⟨rfl, q872⟩
theorem zy_J31_getUTF16Char : yJ31_getUTF16Char.cls ≠ "java/lang/invoke/MethodHandle" ∧ yJ31_getUTF16Char.cls ≠ "java/lang/invoke/VarHandle" := ⟨by decide +kernel, by decide +kernel⟩
theorem zl_J31_getUTF16Char : (parseMethodDescriptor yJ31_getUTF16Char.desc).map (fun d => d.parameters.length) = some 2 := by decide +kernel
theorem zk_J4_init : z_code yJ4_init cJ4_init 2 (Option.none : Option Jvm.ClassFile.FieldType) [] := Or.inl ⟨rfl, q259⟩
theorem zy_J4_init : yJ4_init.cls ≠ "java/lang/invoke/MethodHandle" ∧ yJ4_init.cls ≠ "java/lang/invoke/VarHandle" := ⟨by decide +kernel, by decide +kernel⟩
theorem zl_J4_init : (parseMethodDescriptor yJ4_init.desc).map (fun d => d.parameters.length) = some 1 := by decide +kernel
theorem zk_J4_append : z_code yJ4_append cJ4_append 3 (Option.some (Jvm.ClassFile.FieldType.object "java/lang/AbstractStringBuilder")) [] := Or.inl ⟨rfl, q918⟩
theorem zy_J4_append : yJ4_append.cls ≠ "java/lang/invoke/MethodHandle" ∧ yJ4_append.cls ≠ "java/lang/invoke/VarHandle" := ⟨by decide +kernel, by decide +kernel⟩
theorem zl_J4_append : (parseMethodDescriptor yJ4_append.desc).map (fun d => d.parameters.length) = some 1 := by decide +kernel
theorem zk_J4_appendNull : z_code yJ4_appendNull cJ4_appendNull 3 (Option.some (Jvm.ClassFile.FieldType.object "java/lang/AbstractStringBuilder")) [] := Or.inl ⟨rfl, q922⟩
theorem zy_J4_appendNull : yJ4_appendNull.cls ≠ "java/lang/invoke/MethodHandle" ∧ yJ4_appendNull.cls ≠ "java/lang/invoke/VarHandle" := ⟨by decide +kernel, by decide +kernel⟩
theorem zl_J4_appendNull : (parseMethodDescriptor yJ4_appendNull.desc).map (fun d => d.parameters.length) = some 0 := by decide +kernel
theorem zk_J4_ensureCapacityInternal : z_code yJ4_ensureCapacityInternal cJ4_ensureCapacityInternal 3 (Option.none : Option Jvm.ClassFile.FieldType) [] := Or.inl ⟨rfl, q926⟩
theorem zy_J4_ensureCapacityInternal : yJ4_ensureCapacityInternal.cls ≠ "java/lang/invoke/MethodHandle" ∧ yJ4_ensureCapacityInternal.cls ≠ "java/lang/invoke/VarHandle" := ⟨by decide +kernel, by decide +kernel⟩
theorem zl_J4_ensureCapacityInternal : (parseMethodDescriptor yJ4_ensureCapacityInternal.desc).map (fun d => d.parameters.length) = some 1 := by decide +kernel
theorem zk_J4_newCapacity : z_code yJ4_newCapacity cJ4_newCapacity 6 (Option.some Jvm.ClassFile.FieldType.int) [] := Or.inl ⟨rfl, q930⟩
theorem zy_J4_newCapacity : yJ4_newCapacity.cls ≠ "java/lang/invoke/MethodHandle" ∧ yJ4_newCapacity.cls ≠ "java/lang/invoke/VarHandle" := ⟨by decide +kernel, by decide +kernel⟩
theorem zl_J4_newCapacity : (parseMethodDescriptor yJ4_newCapacity.desc).map (fun d => d.parameters.length) = some 1 := by decide +kernel
theorem zk_J4_isLatin1 : z_code yJ4_isLatin1 cJ4_isLatin1 1 (Option.some Jvm.ClassFile.FieldType.boolean) [] := Or.inl ⟨rfl, q947⟩
theorem zy_J4_isLatin1 : yJ4_isLatin1.cls ≠ "java/lang/invoke/MethodHandle" ∧ yJ4_isLatin1.cls ≠ "java/lang/invoke/VarHandle" := ⟨by decide +kernel, by decide +kernel⟩
theorem zl_J4_isLatin1 : (parseMethodDescriptor yJ4_isLatin1.desc).map (fun d => d.parameters.length) = some 0 := by decide +kernel
theorem zk_J4_putStringAt : z_code yJ4_putStringAt cJ4_putStringAt 3 (Option.none : Option Jvm.ClassFile.FieldType) [] := Or.inl ⟨rfl, q976⟩
theorem zy_J4_putStringAt : yJ4_putStringAt.cls ≠ "java/lang/invoke/MethodHandle" ∧ yJ4_putStringAt.cls ≠ "java/lang/invoke/VarHandle" := ⟨by decide +kernel, by decide +kernel⟩
theorem zl_J4_putStringAt : (parseMethodDescriptor yJ4_putStringAt.desc).map (fun d => d.parameters.length) = some 2 := by decide +kernel
theorem zk_J4_inflateIfNeededFor : z_code yJ4_inflateIfNeededFor cJ4_inflateIfNeededFor 2 (Option.none : Option Jvm.ClassFile.FieldType) [] := Or.inl ⟨rfl, q980⟩
theorem zy_J4_inflateIfNeededFor : yJ4_inflateIfNeededFor.cls ≠ "java/lang/invoke/MethodHandle" ∧ yJ4_inflateIfNeededFor.cls ≠ "java/lang/invoke/VarHandle" := ⟨by decide +kernel, by decide +kernel⟩
theorem zl_J4_inflateIfNeededFor : (parseMethodDescriptor yJ4_inflateIfNeededFor.desc).map (fun d => d.parameters.length) = some 1 := by decide +kernel
theorem zk_J4_inflate : z_code yJ4_inflate cJ4_inflate 2 (Option.none : Option Jvm.ClassFile.FieldType) [] := Or.inl ⟨rfl, q985⟩
theorem zy_J4_inflate : yJ4_inflate.cls ≠ "java/lang/invoke/MethodHandle" ∧ yJ4_inflate.cls ≠ "java/lang/invoke/VarHandle" := ⟨by decide +kernel, by decide +kernel⟩
theorem zl_J4_inflate : (parseMethodDescriptor yJ4_inflate.desc).map (fun d => d.parameters.length) = some 0 := by decide +kernel
theorem zk_J4_append_2 : z_code yJ4_append_2 cJ4_append_2 4 (Option.some (Jvm.ClassFile.FieldType.object "java/lang/AbstractStringBuilder")) [] := Or.inl ⟨rfl, q1013⟩
theorem zy_J4_append_2 : yJ4_append_2.cls ≠ "java/lang/invoke/MethodHandle" ∧ yJ4_append_2.cls ≠ "java/lang/invoke/VarHandle" := ⟨by decide +kernel, by decide +kernel⟩
theorem zl_J4_append_2 : (parseMethodDescriptor yJ4_append_2.desc).map (fun d => d.parameters.length) = some 1 := by decide +kernel
theorem zk_J4_getValue : z_code yJ4_getValue cJ4_getValue 1 (Option.some (Jvm.ClassFile.FieldType.array Jvm.ClassFile.FieldType.byte)) [] := Or.inl ⟨rfl, q1049⟩
theorem zy_J4_getValue : yJ4_getValue.cls ≠ "java/lang/invoke/MethodHandle" ∧ yJ4_getValue.cls ≠ "java/lang/invoke/VarHandle" := ⟨by decide +kernel, by decide +kernel⟩
theorem zl_J4_getValue : (parseMethodDescriptor yJ4_getValue.desc).map (fun d => d.parameters.length) = some 0 := by decide +kernel
theorem zk_J4_length : z_code yJ4_length cJ4_length 1 (Option.some Jvm.ClassFile.FieldType.int) [] := Or.inl ⟨rfl, q1057⟩
theorem zy_J4_length : yJ4_length.cls ≠ "java/lang/invoke/MethodHandle" ∧ yJ4_length.cls ≠ "java/lang/invoke/VarHandle" := ⟨by decide +kernel, by decide +kernel⟩
theorem zl_J4_length : (parseMethodDescriptor yJ4_length.desc).map (fun d => d.parameters.length) = some 0 := by decide +kernel
theorem zk_J4_append_3 : z_code yJ4_append_3 cJ4_append_3 2 (Option.some (Jvm.ClassFile.FieldType.object "java/lang/AbstractStringBuilder")) [] := Or.inl ⟨rfl, q2231⟩
theorem zy_J4_append_3 : yJ4_append_3.cls ≠ "java/lang/invoke/MethodHandle" ∧ yJ4_append_3.cls ≠ "java/lang/invoke/VarHandle" := ⟨by decide +kernel, by decide +kernel⟩
theorem zl_J4_append_3 : (parseMethodDescriptor yJ4_append_3.desc).map (fun d => d.parameters.length) = some 1 := by decide +kernel
theorem zk_J4_charAt : z_code yJ4_charAt cJ4_charAt 5 (Option.some Jvm.ClassFile.FieldType.char) [] := Or.inl ⟨rfl, q2324⟩
theorem zy_J4_charAt : yJ4_charAt.cls ≠ "java/lang/invoke/MethodHandle" ∧ yJ4_charAt.cls ≠ "java/lang/invoke/VarHandle" := ⟨by decide +kernel, by decide +kernel⟩
theorem zl_J4_charAt : (parseMethodDescriptor yJ4_charAt.desc).map (fun d => d.parameters.length) = some 1 := by decide +kernel
theorem zk_J4_setLength : z_code yJ4_setLength cJ4_setLength 2 (Option.none : Option Jvm.ClassFile.FieldType) [] := Or.inl ⟨rfl, q2416⟩
theorem zy_J4_setLength : yJ4_setLength.cls ≠ "java/lang/invoke/MethodHandle" ∧ yJ4_setLength.cls ≠ "java/lang/invoke/VarHandle" := ⟨by decide +kernel, by decide +kernel⟩
theorem zl_J4_setLength : (parseMethodDescriptor yJ4_setLength.desc).map (fun d => d.parameters.length) = some 1 := by decide +kernel
theorem zk_J4_append_4 : z_code yJ4_append_4 cJ4_append_4 5 (Option.some (Jvm.ClassFile.FieldType.object "java/lang/AbstractStringBuilder")) [] := Or.inl ⟨rfl, q2570⟩
theorem zy_J4_append_4 : yJ4_append_4.cls ≠ "java/lang/invoke/MethodHandle" ∧ yJ4_append_4.cls ≠ "java/lang/invoke/VarHandle" := ⟨by decide +kernel, by decide +kernel⟩
theorem zl_J4_append_4 : (parseMethodDescriptor yJ4_append_4.desc).map (fun d => d.parameters.length) = some 1 := by decide +kernel
theorem zk_J5_init : z_code yJ5_init cJ5_init 1 (Option.none : Option Jvm.ClassFile.FieldType) [] := Or.inl ⟨rfl, q256⟩
theorem zy_J5_init : yJ5_init.cls ≠ "java/lang/invoke/MethodHandle" ∧ yJ5_init.cls ≠ "java/lang/invoke/VarHandle" := ⟨by decide +kernel, by decide +kernel⟩
theorem zl_J5_init : (parseMethodDescriptor yJ5_init.desc).map (fun d => d.parameters.length) = some 0 := by decide +kernel
theorem zk_J5_append : z_code yJ5_append cJ5_append 2 (Option.some (Jvm.ClassFile.FieldType.object "java/lang/StringBuilder")) [] := Or.inl ⟨rfl, q915⟩
theorem zy_J5_append : yJ5_append.cls ≠ "java/lang/invoke/MethodHandle" ∧ yJ5_append.cls ≠ "java/lang/invoke/VarHandle" := ⟨by decide +kernel, by decide +kernel⟩
theorem zl_J5_append : (parseMethodDescriptor yJ5_append.desc).map (fun d => d.parameters.length) = some 1 := by decide +kernel
theorem zk_J5_append_2 : z_code yJ5_append_2 cJ5_append_2 2 (Option.some (Jvm.ClassFile.FieldType.object "java/lang/StringBuilder")) [] := Or.inl ⟨rfl, q1010⟩
theorem zy_J5_append_2 : yJ5_append_2.cls ≠ "java/lang/invoke/MethodHandle" ∧ yJ5_append_2.cls ≠ "java/lang/invoke/VarHandle" := ⟨by decide +kernel, by decide +kernel⟩
theorem zl_J5_append_2 : (parseMethodDescriptor yJ5_append_2.desc).map (fun d => d.parameters.length) = some 1 := by decide +kernel
theorem zk_J5_toString : z_code yJ5_toString cJ5_toString 1 (Option.some (Jvm.ClassFile.FieldType.object "java/lang/String")) [] := Or.inl ⟨rfl, q1035⟩
theorem zy_J5_toString : yJ5_toString.cls ≠ "java/lang/invoke/MethodHandle" ∧ yJ5_toString.cls ≠ "java/lang/invoke/VarHandle" := ⟨by decide +kernel, by decide +kernel⟩
theorem zl_J5_toString : (parseMethodDescriptor yJ5_toString.desc).map (fun d => d.parameters.length) = some 0 := by decide +kernel
theorem zk_J5_length : z_code yJ5_length cJ5_length 1 (Option.some Jvm.ClassFile.FieldType.int) [] := Or.inl ⟨rfl, q1055⟩
theorem zy_J5_length : yJ5_length.cls ≠ "java/lang/invoke/MethodHandle" ∧ yJ5_length.cls ≠ "java/lang/invoke/VarHandle" := ⟨by decide +kernel, by decide +kernel⟩
theorem zl_J5_length : (parseMethodDescriptor yJ5_length.desc).map (fun d => d.parameters.length) = some 0 := by decide +kernel
theorem zk_J5_append_3 : z_code yJ5_append_3 cJ5_append_3 2 (Option.some (Jvm.ClassFile.FieldType.object "java/lang/StringBuilder")) [] := Or.inl ⟨rfl, q2228⟩
theorem zy_J5_append_3 : yJ5_append_3.cls ≠ "java/lang/invoke/MethodHandle" ∧ yJ5_append_3.cls ≠ "java/lang/invoke/VarHandle" := ⟨by decide +kernel, by decide +kernel⟩
theorem zl_J5_append_3 : (parseMethodDescriptor yJ5_append_3.desc).map (fun d => d.parameters.length) = some 1 := by decide +kernel
theorem zk_J5_charAt : z_code yJ5_charAt cJ5_charAt 2 (Option.some Jvm.ClassFile.FieldType.char) [] := Or.inl ⟨rfl, q2321⟩
theorem zy_J5_charAt : yJ5_charAt.cls ≠ "java/lang/invoke/MethodHandle" ∧ yJ5_charAt.cls ≠ "java/lang/invoke/VarHandle" := ⟨by decide +kernel, by decide +kernel⟩
theorem zl_J5_charAt : (parseMethodDescriptor yJ5_charAt.desc).map (fun d => d.parameters.length) = some 1 := by decide +kernel
theorem zk_J5_setLength : z_code yJ5_setLength cJ5_setLength 2 (Option.none : Option Jvm.ClassFile.FieldType) [] := Or.inl ⟨rfl, q2413⟩
theorem zy_J5_setLength : yJ5_setLength.cls ≠ "java/lang/invoke/MethodHandle" ∧ yJ5_setLength.cls ≠ "java/lang/invoke/VarHandle" := ⟨by decide +kernel, by decide +kernel⟩
theorem zl_J5_setLength : (parseMethodDescriptor yJ5_setLength.desc).map (fun d => d.parameters.length) = some 1 := by decide +kernel
theorem zk_J5_append_4 : z_code yJ5_append_4 cJ5_append_4 3 (Option.some (Jvm.ClassFile.FieldType.object "java/lang/StringBuilder")) [] := Or.inl ⟨rfl, q2567⟩
theorem zy_J5_append_4 : yJ5_append_4.cls ≠ "java/lang/invoke/MethodHandle" ∧ yJ5_append_4.cls ≠ "java/lang/invoke/VarHandle" := ⟨by decide +kernel, by decide +kernel⟩
theorem zl_J5_append_4 : (parseMethodDescriptor yJ5_append_4.desc).map (fun d => d.parameters.length) = some 1 := by decide +kernel
theorem zk_J6_equals : z_code yJ6_equals cJ6_equals 3 (Option.some Jvm.ClassFile.FieldType.boolean) [] := Or.inl ⟨rfl, q648⟩
theorem zy_J6_equals : yJ6_equals.cls ≠ "java/lang/invoke/MethodHandle" ∧ yJ6_equals.cls ≠ "java/lang/invoke/VarHandle" := ⟨by decide +kernel, by decide +kernel⟩
theorem zl_J6_equals : (parseMethodDescriptor yJ6_equals.desc).map (fun d => d.parameters.length) = some 1 := by decide +kernel
theorem zk_J6_hashCode : z_code yJ6_hashCode cJ6_hashCode 2 (Option.some Jvm.ClassFile.FieldType.int) [] := Or.inl ⟨rfl, q843⟩
theorem zy_J6_hashCode : yJ6_hashCode.cls ≠ "java/lang/invoke/MethodHandle" ∧ yJ6_hashCode.cls ≠ "java/lang/invoke/VarHandle" := ⟨by decide +kernel, by decide +kernel⟩
theorem zl_J6_hashCode : (parseMethodDescriptor yJ6_hashCode.desc).map (fun d => d.parameters.length) = some 0 := by decide +kernel
theorem zk_J6_isLatin1 : z_code yJ6_isLatin1 cJ6_isLatin1 1 (Option.some Jvm.ClassFile.FieldType.boolean) [] := Or.inl ⟨rfl, q847⟩
theorem zy_J6_isLatin1 : yJ6_isLatin1.cls ≠ "java/lang/invoke/MethodHandle" ∧ yJ6_isLatin1.cls ≠ "java/lang/invoke/VarHandle" := ⟨by decide +kernel, by decide +kernel⟩
theorem zl_J6_isLatin1 : (parseMethodDescriptor yJ6_isLatin1.desc).map (fun d => d.parameters.length) = some 0 := by decide +kernel
theorem zk_J6_checkBoundsBeginEnd : z_code yJ6_checkBoundsBeginEnd cJ6_checkBoundsBeginEnd 3 (Option.none : Option Jvm.ClassFile.FieldType) [] := Or.inl ⟨rfl, q956⟩
theorem zy_J6_checkBoundsBeginEnd : yJ6_checkBoundsBeginEnd.cls ≠ "java/lang/invoke/MethodHandle" ∧ yJ6_checkBoundsBeginEnd.cls ≠ "java/lang/invoke/VarHandle" := ⟨by decide +kernel, by decide +kernel⟩
theorem zl_J6_checkBoundsBeginEnd : (parseMethodDescriptor yJ6_checkBoundsBeginEnd.desc).map (fun d => d.parameters.length) = some 3 := by decide +kernel
theorem zk_J6_length : z_code yJ6_length cJ6_length 1 (Option.some Jvm.ClassFile.FieldType.int) [] := Or.inl ⟨rfl, q968⟩
theorem zy_J6_length : yJ6_length.cls ≠ "java/lang/invoke/MethodHandle" ∧ yJ6_length.cls ≠ "java/lang/invoke/VarHandle" := ⟨by decide +kernel, by decide +kernel⟩
theorem zl_J6_length : (parseMethodDescriptor yJ6_length.desc).map (fun d => d.parameters.length) = some 0 := by decide +kernel
theorem zk_J6_coder : z_code yJ6_coder cJ6_coder 1 (Option.some Jvm.ClassFile.FieldType.byte) [] := Or.inl ⟨rfl, q972⟩
theorem zy_J6_coder : yJ6_coder.cls ≠ "java/lang/invoke/MethodHandle" ∧ yJ6_coder.cls ≠ "java/lang/invoke/VarHandle" := ⟨by decide +kernel, by decide +kernel⟩
theorem zl_J6_coder : (parseMethodDescriptor yJ6_coder.desc).map (fun d => d.parameters.length) = some 0 := by decide +kernel
theorem zk_J6_checkBoundsOffCount : z_code yJ6_checkBoundsOffCount cJ6_checkBoundsOffCount 3 (Option.some Jvm.ClassFile.FieldType.int) [] := Or.inl ⟨rfl, q997⟩
theorem zy_J6_checkBoundsOffCount : yJ6_checkBoundsOffCount.cls ≠ "java/lang/invoke/MethodHandle" ∧ yJ6_checkBoundsOffCount.cls ≠ "java/lang/invoke/VarHandle" := ⟨by decide +kernel, by decide +kernel⟩
theorem zl_J6_checkBoundsOffCount : (parseMethodDescriptor yJ6_checkBoundsOffCount.desc).map (fun d => d.parameters.length) = some 3 := by decide +kernel
theorem zk_J6_getBytes : z_code yJ6_getBytes cJ6_getBytes 4 (Option.none : Option Jvm.ClassFile.FieldType) [] := Or.inl ⟨rfl, q1004⟩
theorem zy_J6_getBytes : yJ6_getBytes.cls ≠ "java/lang/invoke/MethodHandle" ∧ yJ6_getBytes.cls ≠ "java/lang/invoke/VarHandle" := ⟨by decide +kernel, by decide +kernel⟩
theorem zl_J6_getBytes : (parseMethodDescriptor yJ6_getBytes.desc).map (fun d => d.parameters.length) = some 3 := by decide +kernel
theorem zk_J6_init : z_code yJ6_init cJ6_init 2 (Option.none : Option Jvm.ClassFile.FieldType) [] := Or.inl ⟨rfl, q1040⟩
theorem zy_J6_init : yJ6_init.cls ≠ "java/lang/invoke/MethodHandle" ∧ yJ6_init.cls ≠ "java/lang/invoke/VarHandle" := ⟨by decide +kernel, by decide +kernel⟩
theorem zl_J6_init : (parseMethodDescriptor yJ6_init.desc).map (fun d => d.parameters.length) = some 1 := by decide +kernel
theorem zk_J6_init_2 : z_code yJ6_init_2 cJ6_init_2 5 (Option.none : Option Jvm.ClassFile.FieldType) [] := Or.inl ⟨rfl, q1043⟩
theorem zy_J6_init_2 : yJ6_init_2.cls ≠ "java/lang/invoke/MethodHandle" ∧ yJ6_init_2.cls ≠ "java/lang/invoke/VarHandle" := ⟨by decide +kernel, by decide +kernel⟩
theorem zl_J6_init_2 : (parseMethodDescriptor yJ6_init_2.desc).map (fun d => d.parameters.length) = some 2 := by decide +kernel
theorem zk_J6_indexOf : z_code yJ6_indexOf cJ6_indexOf 2 (Option.some Jvm.ClassFile.FieldType.int) [] := Or.inl ⟨rfl, q1414⟩
theorem zy_J6_indexOf : yJ6_indexOf.cls ≠ "java/lang/invoke/MethodHandle" ∧ yJ6_indexOf.cls ≠ "java/lang/invoke/VarHandle" := ⟨by decide +kernel, by decide +kernel⟩
theorem zl_J6_indexOf : (parseMethodDescriptor yJ6_indexOf.desc).map (fun d => d.parameters.length) = some 1 := by decide +kernel
theorem zk_J6_indexOf_2 : z_code yJ6_indexOf_2 cJ6_indexOf_2 3 (Option.some Jvm.ClassFile.FieldType.int) [] := Or.inl ⟨rfl, q1418⟩
theorem zy_J6_indexOf_2 : yJ6_indexOf_2.cls ≠ "java/lang/invoke/MethodHandle" ∧ yJ6_indexOf_2.cls ≠ "java/lang/invoke/VarHandle" := ⟨by decide +kernel, by decide +kernel⟩
theorem zl_J6_indexOf_2 : (parseMethodDescriptor yJ6_indexOf_2.desc).map (fun d => d.parameters.length) = some 2 := by decide +kernel
theorem zk_J6_checkIndex : z_code yJ6_checkIndex cJ6_checkIndex 2 (Option.none : Option Jvm.ClassFile.FieldType) [] := Or.inl ⟨rfl, q2243⟩
theorem zy_J6_checkIndex : yJ6_checkIndex.cls ≠ "java/lang/invoke/MethodHandle" ∧ yJ6_checkIndex.cls ≠ "java/lang/invoke/VarHandle" := ⟨by decide +kernel, by decide +kernel⟩
theorem zl_J6_checkIndex : (parseMethodDescriptor yJ6_checkIndex.desc).map (fun d => d.parameters.length) = some 2 := by decide +kernel
theorem zk_J6_indexOf_3 : z_code yJ6_indexOf_3 cJ6_indexOf_3 3 (Option.some Jvm.ClassFile.FieldType.int) [] := Or.inl ⟨rfl, q2294⟩
theorem zy_J6_indexOf_3 : yJ6_indexOf_3.cls ≠ "java/lang/invoke/MethodHandle" ∧ yJ6_indexOf_3.cls ≠ "java/lang/invoke/VarHandle" := ⟨by decide +kernel, by decide +kernel⟩
theorem zl_J6_indexOf_3 : (parseMethodDescriptor yJ6_indexOf_3.desc).map (fun d => d.parameters.length) = some 1 := by decide +kernel
theorem zk_J6_substring : z_code yJ6_substring cJ6_substring 2 (Option.some (Jvm.ClassFile.FieldType.object "java/lang/String")) [] := Or.inl ⟨rfl, q2356⟩
theorem zy_J6_substring : yJ6_substring.cls ≠ "java/lang/invoke/MethodHandle" ∧ yJ6_substring.cls ≠ "java/lang/invoke/VarHandle" := ⟨by decide +kernel, by decide +kernel⟩
theorem zl_J6_substring : (parseMethodDescriptor yJ6_substring.desc).map (fun d => d.parameters.length) = some 1 := by decide +kernel
theorem zk_J6_substring_2 : z_code yJ6_substring_2 cJ6_substring_2 5 (Option.some (Jvm.ClassFile.FieldType.object "java/lang/String")) [] := Or.inl ⟨rfl, q2360⟩
theorem zy_J6_substring_2 : yJ6_substring_2.cls ≠ "java/lang/invoke/MethodHandle" ∧ yJ6_substring_2.cls ≠ "java/lang/invoke/VarHandle" := ⟨by decide +kernel, by decide +kernel⟩
theorem zl_J6_substring_2 : (parseMethodDescriptor yJ6_substring_2.desc).map (fun d => d.parameters.length) = some 2 := by decide +kernel
theorem zk_J6_init_3 : z_code yJ6_init_3 cJ6_init_3 3 (Option.none : Option Jvm.ClassFile.FieldType) [] := Or.inl ⟨rfl, q2370⟩
theorem zy_J6_init_3 : yJ6_init_3.cls ≠ "java/lang/invoke/MethodHandle" ∧ yJ6_init_3.cls ≠ "java/lang/invoke/VarHandle" := ⟨by decide +kernel, by decide +kernel⟩
theorem zl_J6_init_3 : (parseMethodDescriptor yJ6_init_3.desc).map (fun d => d.parameters.length) = some 2 := by decide +kernel
theorem zk_J6_charAt : z_code yJ6_charAt cJ6_charAt 2 (Option.some Jvm.ClassFile.FieldType.char) [] := Or.inl ⟨rfl, q2603⟩
theorem zy_J6_charAt : yJ6_charAt.cls ≠ "java/lang/invoke/MethodHandle" ∧ yJ6_charAt.cls ≠ "java/lang/invoke/VarHandle" := ⟨by decide +kernel, by decide +kernel⟩
theorem zl_J6_charAt : (parseMethodDescriptor yJ6_charAt.desc).map (fun d => d.parameters.length) = some 1 := by decide +kernel
theorem zk_J7_newBytesFor : z_code yJ7_newBytesFor cJ7_newBytesFor 1 (Option.some (Jvm.ClassFile.FieldType.array Jvm.ClassFile.FieldType.byte)) [] := Or.inl ⟨rfl, q265⟩
theorem zy_J7_newBytesFor : yJ7_newBytesFor.cls ≠ "java/lang/invoke/MethodHandle" ∧ yJ7_newBytesFor.cls ≠ "java/lang/invoke/VarHandle" := ⟨by decide +kernel, by decide +kernel⟩
theorem zl_J7_newBytesFor : (parseMethodDescriptor yJ7_newBytesFor.desc).map (fun d => d.parameters.length) = some 1 := by decide +kernel
theorem zk_J7_newBytesLength : z_code yJ7_newBytesLength cJ7_newBytesLength 1 (Option.some Jvm.ClassFile.FieldType.int) [] := Or.inl ⟨rfl, q268⟩
theorem zy_J7_newBytesLength : yJ7_newBytesLength.cls ≠ "java/lang/invoke/MethodHandle" ∧ yJ7_newBytesLength.cls ≠ "java/lang/invoke/VarHandle" := ⟨by decide +kernel, by decide +kernel⟩
theorem zl_J7_newBytesLength : (parseMethodDescriptor yJ7_newBytesLength.desc).map (fun d => d.parameters.length) = some 1 := by decide +kernel
theorem zk_J7_getChar : z_code yJ7_getChar cJ7_getChar 2 (Option.some Jvm.ClassFile.FieldType.char) [] := Or.inl ⟨rfl, q875⟩
theorem zy_J7_getChar : yJ7_getChar.cls ≠ "java/lang/invoke/MethodHandle" ∧ yJ7_getChar.cls ≠ "java/lang/invoke/VarHandle" := ⟨by decide +kernel, by decide +kernel⟩
theorem zl_J7_getChar : (parseMethodDescriptor yJ7_getChar.desc).map (fun d => d.parameters.length) = some 2 := by decide +kernel
theorem zk_J7_length : z_code yJ7_length cJ7_length 1 (Option.some Jvm.ClassFile.FieldType.int) [] := Or.inl ⟨rfl, q880⟩
theorem zy_J7_length : yJ7_length.cls ≠ "java/lang/invoke/MethodHandle" ∧ yJ7_length.cls ≠ "java/lang/invoke/VarHandle" := ⟨by decide +kernel, by decide +kernel⟩
theorem zl_J7_length : (parseMethodDescriptor yJ7_length.desc).map (fun d => d.parameters.length) = some 1 := by decide +kernel
theorem zk_J7_putCharsAt : z_code yJ7_putCharsAt cJ7_putCharsAt 7 (Option.some Jvm.ClassFile.FieldType.int) [] := Or.inl ⟨rfl, q950⟩
theorem zy_J7_putCharsAt : yJ7_putCharsAt.cls ≠ "java/lang/invoke/MethodHandle" ∧ yJ7_putCharsAt.cls ≠ "java/lang/invoke/VarHandle" := ⟨by decide +kernel, by decide +kernel⟩
theorem zl_J7_putCharsAt : (parseMethodDescriptor yJ7_putCharsAt.desc).map (fun d => d.parameters.length) = some 6 := by decide +kernel
theorem zk_J7_checkBoundsBeginEnd : z_code yJ7_checkBoundsBeginEnd cJ7_checkBoundsBeginEnd 3 (Option.none : Option Jvm.ClassFile.FieldType) [] := Or.inl ⟨rfl, q953⟩
theorem zy_J7_checkBoundsBeginEnd : yJ7_checkBoundsBeginEnd.cls ≠ "java/lang/invoke/MethodHandle" ∧ yJ7_checkBoundsBeginEnd.cls ≠ "java/lang/invoke/VarHandle" := ⟨by decide +kernel, by decide +kernel⟩
theorem zl_J7_checkBoundsBeginEnd : (parseMethodDescriptor yJ7_checkBoundsBeginEnd.desc).map (fun d => d.parameters.length) = some 3 := by decide +kernel
theorem zk_J7_putChar : z_code yJ7_putChar cJ7_putChar 3 (Option.none : Option Jvm.ClassFile.FieldType) [] := Or.inl ⟨rfl, q964⟩
theorem zy_J7_putChar : yJ7_putChar.cls ≠ "java/lang/invoke/MethodHandle" ∧ yJ7_putChar.cls ≠ "java/lang/invoke/VarHandle" := ⟨by decide +kernel, by decide +kernel⟩
theorem zl_J7_putChar : (parseMethodDescriptor yJ7_putChar.desc).map (fun d => d.parameters.length) = some 3 := by decide +kernel
theorem zk_J7_inflate : z_code yJ7_inflate cJ7_inflate 6 (Option.none : Option Jvm.ClassFile.FieldType) [] := Or.inl ⟨rfl, q991⟩
theorem zy_J7_inflate : yJ7_inflate.cls ≠ "java/lang/invoke/MethodHandle" ∧ yJ7_inflate.cls ≠ "java/lang/invoke/VarHandle" := ⟨by decide +kernel, by decide +kernel⟩
theorem zl_J7_inflate : (parseMethodDescriptor yJ7_inflate.desc).map (fun d => d.parameters.length) = some 5 := by decide +kernel
theorem zk_J7_checkBoundsOffCount : z_code yJ7_checkBoundsOffCount cJ7_checkBoundsOffCount 3 (Option.none : Option Jvm.ClassFile.FieldType) [] := Or.inl ⟨rfl, q994⟩
theorem zy_J7_checkBoundsOffCount : yJ7_checkBoundsOffCount.cls ≠ "java/lang/invoke/MethodHandle" ∧ yJ7_checkBoundsOffCount.cls ≠ "java/lang/invoke/VarHandle" := ⟨by decide +kernel, by decide +kernel⟩
theorem zl_J7_checkBoundsOffCount : (parseMethodDescriptor yJ7_checkBoundsOffCount.desc).map (fun d => d.parameters.length) = some 3 := by decide +kernel
theorem zk_J7_getChars : z_code yJ7_getChars cJ7_getChars 5 (Option.some Jvm.ClassFile.FieldType.int) [] := Or.inl ⟨rfl, q1026⟩
theorem zy_J7_getChars : yJ7_getChars.cls ≠ "java/lang/invoke/MethodHandle" ∧ yJ7_getChars.cls ≠ "java/lang/invoke/VarHandle" := ⟨by decide +kernel, by decide +kernel⟩
theorem zl_J7_getChars : (parseMethodDescriptor yJ7_getChars.desc).map (fun d => d.parameters.length) = some 4 := by decide +kernel
theorem zk_J7_getChars_2 : z_code yJ7_getChars_2 cJ7_getChars_2 7 (Option.some Jvm.ClassFile.FieldType.int) [] := Or.inl ⟨rfl, q1029⟩
theorem zy_J7_getChars_2 : yJ7_getChars_2.cls ≠ "java/lang/invoke/MethodHandle" ∧ yJ7_getChars_2.cls ≠ "java/lang/invoke/VarHandle" := ⟨by decide +kernel, by decide +kernel⟩
theorem zl_J7_getChars_2 : (parseMethodDescriptor yJ7_getChars_2.desc).map (fun d => d.parameters.length) = some 3 := by decide +kernel
theorem zk_J7_compress : z_code yJ7_compress cJ7_compress 6 (Option.some (Jvm.ClassFile.FieldType.array Jvm.ClassFile.FieldType.byte)) [] := Or.inl ⟨rfl, q1091⟩
theorem zy_J7_compress : yJ7_compress.cls ≠ "java/lang/invoke/MethodHandle" ∧ yJ7_compress.cls ≠ "java/lang/invoke/VarHandle" := ⟨by decide +kernel, by decide +kernel⟩
theorem zl_J7_compress : (parseMethodDescriptor yJ7_compress.desc).map (fun d => d.parameters.length) = some 3 := by decide +kernel
theorem zk_J7_compress_2 : z_code yJ7_compress_2 cJ7_compress_2 7 (Option.some Jvm.ClassFile.FieldType.int) [] := Or.inl ⟨rfl, q1094⟩
theorem zy_J7_compress_2 : yJ7_compress_2.cls ≠ "java/lang/invoke/MethodHandle" ∧ yJ7_compress_2.cls ≠ "java/lang/invoke/VarHandle" := ⟨by decide +kernel, by decide +kernel⟩
theorem zl_J7_compress_2 : (parseMethodDescriptor yJ7_compress_2.desc).map (fun d => d.parameters.length) = some 5 := by decide +kernel
theorem zk_J7_coderFromArrayLen : z_code yJ7_coderFromArrayLen cJ7_coderFromArrayLen 2 (Option.some Jvm.ClassFile.FieldType.byte) [] := Or.inl ⟨rfl, q1099⟩
theorem zy_J7_coderFromArrayLen : yJ7_coderFromArrayLen.cls ≠ "java/lang/invoke/MethodHandle" ∧ yJ7_coderFromArrayLen.cls ≠ "java/lang/invoke/VarHandle" := ⟨by decide +kernel, by decide +kernel⟩
theorem zl_J7_coderFromArrayLen : (parseMethodDescriptor yJ7_coderFromArrayLen.desc).map (fun d => d.parameters.length) = some 2 := by decide +kernel
theorem zk_J7_hashCode : z_code yJ7_hashCode cJ7_hashCode 1 (Option.some Jvm.ClassFile.FieldType.int) [] := Or.inl ⟨rfl, q1116⟩
theorem zy_J7_hashCode : yJ7_hashCode.cls ≠ "java/lang/invoke/MethodHandle" ∧ yJ7_hashCode.cls ≠ "java/lang/invoke/VarHandle" := ⟨by decide +kernel, by decide +kernel⟩
theorem zl_J7_hashCode : (parseMethodDescriptor yJ7_hashCode.desc).map (fun d => d.parameters.length) = some 1 := by decide +kernel
theorem zk_J7_indexOf : z_code yJ7_indexOf cJ7_indexOf 4 (Option.some Jvm.ClassFile.FieldType.int) [] := Or.inl ⟨rfl, q1433⟩
theorem zy_J7_indexOf : yJ7_indexOf.cls ≠ "java/lang/invoke/MethodHandle" ∧ yJ7_indexOf.cls ≠ "java/lang/invoke/VarHandle" := ⟨by decide +kernel, by decide +kernel⟩
theorem zl_J7_indexOf : (parseMethodDescriptor yJ7_indexOf.desc).map (fun d => d.parameters.length) = some 4 := by decide +kernel
theorem zk_J7_indexOfChar : z_code yJ7_indexOfChar cJ7_indexOfChar 4 (Option.some Jvm.ClassFile.FieldType.int) [] := Or.inl ⟨rfl, q1439⟩
theorem zy_J7_indexOfChar : yJ7_indexOfChar.cls ≠ "java/lang/invoke/MethodHandle" ∧ yJ7_indexOfChar.cls ≠ "java/lang/invoke/VarHandle" := ⟨by decide +kernel, by decide +kernel⟩
theorem zl_J7_indexOfChar : (parseMethodDescriptor yJ7_indexOfChar.desc).map (fun d => d.parameters.length) = some 4 := by decide +kernel
theorem zk_J7_indexOfCharUnsafe : z_code yJ7_indexOfCharUnsafe cJ7_indexOfCharUnsafe 5 (Option.some Jvm.ClassFile.FieldType.int) [] := Or.inl ⟨rfl, q1442⟩
theorem zy_J7_indexOfCharUnsafe : yJ7_indexOfCharUnsafe.cls ≠ "java/lang/invoke/MethodHandle" ∧ yJ7_indexOfCharUnsafe.cls ≠ "java/lang/invoke/VarHandle" := ⟨by decide +kernel, by decide +kernel⟩
theorem zl_J7_indexOfCharUnsafe : (parseMethodDescriptor yJ7_indexOfCharUnsafe.desc).map (fun d => d.parameters.length) = some 4 := by decide +kernel
theorem zk_J7_indexOfSupplementary : z_code yJ7_indexOfSupplementary cJ7_indexOfSupplementary 7 (Option.some Jvm.ClassFile.FieldType.int) [] := Or.inl ⟨rfl, q1445⟩
theorem zy_J7_indexOfSupplementary : yJ7_indexOfSupplementary.cls ≠ "java/lang/invoke/MethodHandle" ∧ yJ7_indexOfSupplementary.cls ≠ "java/lang/invoke/VarHandle" := ⟨by decide +kernel, by decide +kernel⟩
theorem zl_J7_indexOfSupplementary : (parseMethodDescriptor yJ7_indexOfSupplementary.desc).map (fun d => d.parameters.length) = some 4 := by decide +kernel
theorem zk_J7_putCharSB : z_code yJ7_putCharSB cJ7_putCharSB 3 (Option.none : Option Jvm.ClassFile.FieldType) [] := Or.inl ⟨rfl, q2237⟩
theorem zy_J7_putCharSB : yJ7_putCharSB.cls ≠ "java/lang/invoke/MethodHandle" ∧ yJ7_putCharSB.cls ≠ "java/lang/invoke/VarHandle" := ⟨by decide +kernel, by decide +kernel⟩
theorem zl_J7_putCharSB : (parseMethodDescriptor yJ7_putCharSB.desc).map (fun d => d.parameters.length) = some 3 := by decide +kernel
theorem zk_J7_checkIndex : z_code yJ7_checkIndex cJ7_checkIndex 2 (Option.none : Option Jvm.ClassFile.FieldType) [] := Or.inl ⟨rfl, q2240⟩
theorem zy_J7_checkIndex : yJ7_checkIndex.cls ≠ "java/lang/invoke/MethodHandle" ∧ yJ7_checkIndex.cls ≠ "java/lang/invoke/VarHandle" := ⟨by decide +kernel, by decide +kernel⟩
theorem zl_J7_checkIndex : (parseMethodDescriptor yJ7_checkIndex.desc).map (fun d => d.parameters.length) = some 2 := by decide +kernel
theorem zk_J7_indexOf_2 : z_code yJ7_indexOf_2 cJ7_indexOf_2 2 (Option.some Jvm.ClassFile.FieldType.int) [] := Or.inl ⟨rfl, q2303⟩
theorem zy_J7_indexOf_2 : yJ7_indexOf_2.cls ≠ "java/lang/invoke/MethodHandle" ∧ yJ7_indexOf_2.cls ≠ "java/lang/invoke/VarHandle" := ⟨by decide +kernel, by decide +kernel⟩
theorem zl_J7_indexOf_2 : (parseMethodDescriptor yJ7_indexOf_2.desc).map (fun d => d.parameters.length) = some 2 := by decide +kernel
theorem zk_J7_indexOfUnsafe : z_code yJ7_indexOfUnsafe cJ7_indexOfUnsafe 11 (Option.some Jvm.ClassFile.FieldType.int) [] := Or.inl ⟨rfl, q2306⟩
theorem zy_J7_indexOfUnsafe : yJ7_indexOfUnsafe.cls ≠ "java/lang/invoke/MethodHandle" ∧ yJ7_indexOfUnsafe.cls ≠ "java/lang/invoke/VarHandle" := ⟨by decide +kernel, by decide +kernel⟩
theorem zl_J7_indexOfUnsafe : (parseMethodDescriptor yJ7_indexOfUnsafe.desc).map (fun d => d.parameters.length) = some 5 := by decide +kernel
theorem zk_J7_indexOfLatin1 : z_code yJ7_indexOfLatin1 cJ7_indexOfLatin1 2 (Option.some Jvm.ClassFile.FieldType.int) [] := Or.inl ⟨rfl, q2309⟩
theorem zy_J7_indexOfLatin1 : yJ7_indexOfLatin1.cls ≠ "java/lang/invoke/MethodHandle" ∧ yJ7_indexOfLatin1.cls ≠ "java/lang/invoke/VarHandle" := ⟨by decide +kernel, by decide +kernel⟩
theorem zl_J7_indexOfLatin1 : (parseMethodDescriptor yJ7_indexOfLatin1.desc).map (fun d => d.parameters.length) = some 2 := by decide +kernel
theorem zk_J7_indexOfLatin1Unsafe : z_code yJ7_indexOfLatin1Unsafe cJ7_indexOfLatin1Unsafe 11 (Option.some Jvm.ClassFile.FieldType.int) [] := Or.inl ⟨rfl, q2312⟩
theorem zy_J7_indexOfLatin1Unsafe : yJ7_indexOfLatin1Unsafe.cls ≠ "java/lang/invoke/MethodHandle" ∧ yJ7_indexOfLatin1Unsafe.cls ≠ "java/lang/invoke/VarHandle" := ⟨by decide +kernel, by decide +kernel⟩
theorem zl_J7_indexOfLatin1Unsafe : (parseMethodDescriptor yJ7_indexOfLatin1Unsafe.desc).map (fun d => d.parameters.length) = some 5 := by decide +kernel
theorem zk_J7_newString : z_code yJ7_newString cJ7_newString 5 (Option.some (Jvm.ClassFile.FieldType.object "java/lang/String")) [] := Or.inl ⟨rfl, q2373⟩
theorem zy_J7_newString : yJ7_newString.cls ≠ "java/lang/invoke/MethodHandle" ∧ yJ7_newString.cls ≠ "java/lang/invoke/VarHandle" := ⟨by decide +kernel, by decide +kernel⟩
theorem zl_J7_newString : (parseMethodDescriptor yJ7_newString.desc).map (fun d => d.parameters.length) = some 3 := by decide +kernel
theorem zk_J7_fillNull : z_code yJ7_fillNull cJ7_fillNull 3 (Option.none : Option Jvm.ClassFile.FieldType) [] := Or.inl ⟨rfl, q2460⟩
theorem zy_J7_fillNull : yJ7_fillNull.cls ≠ "java/lang/invoke/MethodHandle" ∧ yJ7_fillNull.cls ≠ "java/lang/invoke/VarHandle" := ⟨by decide +kernel, by decide +kernel⟩
theorem zl_J7_fillNull : (parseMethodDescriptor yJ7_fillNull.desc).map (fun d => d.parameters.length) = some 3 := by decide +kernel
theorem zk_J7_getChars_3 : z_code yJ7_getChars_3 cJ7_getChars_3 6 (Option.some Jvm.ClassFile.FieldType.int) [] := Or.inl ⟨rfl, q2585⟩
theorem zy_J7_getChars_3 : yJ7_getChars_3.cls ≠ "java/lang/invoke/MethodHandle" ∧ yJ7_getChars_3.cls ≠ "java/lang/invoke/VarHandle" := ⟨by decide +kernel, by decide +kernel⟩
theorem zl_J7_getChars_3 : (parseMethodDescriptor yJ7_getChars_3.desc).map (fun d => d.parameters.length) = some 4 := by decide +kernel
theorem zk_J7_getChars_4 : z_code yJ7_getChars_4 cJ7_getChars_4 11 (Option.some Jvm.ClassFile.FieldType.int) [] := Or.inl ⟨rfl, q2588⟩
theorem zy_J7_getChars_4 : yJ7_getChars_4.cls ≠ "java/lang/invoke/MethodHandle" ∧ yJ7_getChars_4.cls ≠ "java/lang/invoke/VarHandle" := ⟨by decide +kernel, by decide +kernel⟩
theorem zl_J7_getChars_4 : (parseMethodDescriptor yJ7_getChars_4.desc).map (fun d => d.parameters.length) = some 3 := by decide +kernel
theorem zk_J7_charAt : z_code yJ7_charAt cJ7_charAt 2 (Option.some Jvm.ClassFile.FieldType.char) [] := Or.inl ⟨rfl, q2610⟩
theorem zy_J7_charAt : yJ7_charAt.cls ≠ "java/lang/invoke/MethodHandle" ∧ yJ7_charAt.cls ≠ "java/lang/invoke/VarHandle" := ⟨by decide +kernel, by decide +kernel⟩
theorem zl_J7_charAt : (parseMethodDescriptor yJ7_charAt.desc).map (fun d => d.parameters.length) = some 2 := by decide +kernel
theorem zk_J8_init : z_code yJ8_init cJ8_init 2 (Option.none : Option Jvm.ClassFile.FieldType) [] := Or.inl ⟨rfl, q352⟩
theorem zy_J8_init : yJ8_init.cls ≠ "java/lang/invoke/MethodHandle" ∧ yJ8_init.cls ≠ "java/lang/invoke/VarHandle" := ⟨by decide +kernel, by decide +kernel⟩
theorem zl_J8_init : (parseMethodDescriptor yJ8_init.desc).map (fun d => d.parameters.length) = some 1 := by decide +kernel
theorem zk_J8_hasNext : z_code yJ8_hasNext cJ8_hasNext 1 (Option.some Jvm.ClassFile.FieldType.boolean) [] := Or.inl ⟨rfl, q376⟩
theorem zy_J8_hasNext : yJ8_hasNext.cls ≠ "java/lang/invoke/MethodHandle" ∧ yJ8_hasNext.cls ≠ "java/lang/invoke/VarHandle" := ⟨by decide +kernel, by decide +kernel⟩
theorem zl_J8_hasNext : (parseMethodDescriptor yJ8_hasNext.desc).map (fun d => d.parameters.length) = some 0 := by decide +kernel
theorem zk_J8_next : z_code yJ8_next cJ8_next 3 (Option.some (Jvm.ClassFile.FieldType.object "java/lang/Object")) [] := Or.inl ⟨rfl, q385⟩
theorem zy_J8_next : yJ8_next.cls ≠ "java/lang/invoke/MethodHandle" ∧ yJ8_next.cls ≠ "java/lang/invoke/VarHandle" := ⟨by decide +kernel, by decide +kernel⟩
theorem zl_J8_next : (parseMethodDescriptor yJ8_next.desc).map (fun d => d.parameters.length) = some 0 := by decide +kernel
theorem zk_J8_checkForComodification : z_code yJ8_checkForComodification cJ8_checkForComodification 1 (Option.none : Option Jvm.ClassFile.FieldType) [] := Or.inl ⟨rfl, q389⟩
theorem zy_J8_checkForComodification : yJ8_checkForComodification.cls ≠ "java/lang/invoke/MethodHandle" ∧ yJ8_checkForComodification.cls ≠ "java/lang/invoke/VarHandle" := ⟨by decide +kernel, by decide +kernel⟩
theorem zl_J8_checkForComodification : (parseMethodDescriptor yJ8_checkForComodification.desc).map (fun d => d.parameters.length) = some 0 := by decide +kernel
theorem zk_J9_init : z_code yJ9_init cJ9_init 1 (Option.none : Option Jvm.ClassFile.FieldType) [] := Or.inl ⟨rfl, q414⟩
theorem zy_J9_init : yJ9_init.cls ≠ "java/lang/invoke/MethodHandle" ∧ yJ9_init.cls ≠ "java/lang/invoke/VarHandle" := ⟨by decide +kernel, by decide +kernel⟩
theorem zl_J9_init : (parseMethodDescriptor yJ9_init.desc).map (fun d => d.parameters.length) = some 0 := by decide +kernel
theorem zk_J9_init_2 : z_code yJ9_init_2 cJ9_init_2 2 (Option.none : Option Jvm.ClassFile.FieldType) [] := Or.inl ⟨rfl, q1086⟩
theorem zy_J9_init_2 : yJ9_init_2.cls ≠ "java/lang/invoke/MethodHandle" ∧ yJ9_init_2.cls ≠ "java/lang/invoke/VarHandle" := ⟨by decide +kernel, by decide +kernel⟩
theorem zl_J9_init_2 : (parseMethodDescriptor yJ9_init_2.desc).map (fun d => d.parameters.length) = some 1 := by decide +kernel
theorem zk_J9_init_3 : z_code yJ9_init_3 cJ9_init_3 5 (Option.none : Option Jvm.ClassFile.FieldType) [] := Or.inl ⟨rfl, q1171⟩
theorem zy_J9_init_3 : yJ9_init_3.cls ≠ "java/lang/invoke/MethodHandle" ∧ yJ9_init_3.cls ≠ "java/lang/invoke/VarHandle" := ⟨by decide +kernel, by decide +kernel⟩
theorem zl_J9_init_3 : (parseMethodDescriptor yJ9_init_3.desc).map (fun d => d.parameters.length) = some 4 := by decide +kernel
theorem zk_J9_init_4 : z_code yJ9_init_4 cJ9_init_4 3 (Option.none : Option Jvm.ClassFile.FieldType) [] := Or.inl ⟨rfl, q1697⟩
theorem zy_J9_init_4 : yJ9_init_4.cls ≠ "java/lang/invoke/MethodHandle" ∧ yJ9_init_4.cls ≠ "java/lang/invoke/VarHandle" := ⟨by decide +kernel, by decide +kernel⟩
theorem zl_J9_init_4 : (parseMethodDescriptor yJ9_init_4.desc).map (fun d => d.parameters.length) = some 2 := by decide +kernel
theorem zk_X0_addRow : z_code yX0_addRow cX0_addRow 6 (Option.some Jvm.ClassFile.FieldType.int) [((0 : Nat), (12 : Nat), (15 : Nat), (13 : Nat)), ((0 : Nat), (12 : Nat), (19 : Nat), (15 : Nat))] := Or.inr q804
theorem zy_X0_addRow : yX0_addRow.cls ≠ "java/lang/invoke/MethodHandle" ∧ yX0_addRow.cls ≠ "java/lang/invoke/VarHandle" := ⟨by decide +kernel, by decide +kernel⟩
theorem zl_X0_addRow : (parseMethodDescriptor yX0_addRow.desc).map (fun d => d.parameters.length) = some 5 := by decide +kernel
theorem zk_X0_removeRow : z_code yX0_removeRow cX0_removeRow 4 (Option.some Jvm.ClassFile.FieldType.int) [((0 : Nat), (9 : Nat), (12 : Nat), (21 : Nat))] := Or.inr q1702
theorem zy_X0_removeRow : yX0_removeRow.cls ≠ "java/lang/invoke/MethodHandle" ∧ yX0_removeRow.cls ≠ "java/lang/invoke/VarHandle" := ⟨by decide +kernel, by decide +kernel⟩
theorem zl_X0_removeRow : (parseMethodDescriptor yX0_removeRow.desc).map (fun d => d.parameters.length) = some 3 := by decide +kernel
theorem zk_X0_beginDay : z_code yX0_beginDay cX0_beginDay 3 (Option.some Jvm.ClassFile.FieldType.int) [((0 : Nat), (8 : Nat), (11 : Nat), (15 : Nat))] := Or.inr q1711
theorem zy_X0_beginDay : yX0_beginDay.cls ≠ "java/lang/invoke/MethodHandle" ∧ yX0_beginDay.cls ≠ "java/lang/invoke/VarHandle" := ⟨by decide +kernel, by decide +kernel⟩
theorem zl_X0_beginDay : (parseMethodDescriptor yX0_beginDay.desc).map (fun d => d.parameters.length) = some 2 := by decide +kernel
theorem zk_X0_rowAt : z_code yX0_rowAt cX0_rowAt 4 (Option.some Jvm.ClassFile.FieldType.int) [((0 : Nat), (9 : Nat), (12 : Nat), (21 : Nat))] := Or.inr q1719
theorem zy_X0_rowAt : yX0_rowAt.cls ≠ "java/lang/invoke/MethodHandle" ∧ yX0_rowAt.cls ≠ "java/lang/invoke/VarHandle" := ⟨by decide +kernel, by decide +kernel⟩
theorem zl_X0_rowAt : (parseMethodDescriptor yX0_rowAt.desc).map (fun d => d.parameters.length) = some 3 := by decide +kernel
theorem zk_X0_dayOf : z_code yX0_dayOf cX0_dayOf 4 (Option.some Jvm.ClassFile.FieldType.int) [((0 : Nat), (9 : Nat), (12 : Nat), (21 : Nat))] := Or.inr q1728
theorem zy_X0_dayOf : yX0_dayOf.cls ≠ "java/lang/invoke/MethodHandle" ∧ yX0_dayOf.cls ≠ "java/lang/invoke/VarHandle" := ⟨by decide +kernel, by decide +kernel⟩
theorem zl_X0_dayOf : (parseMethodDescriptor yX0_dayOf.desc).map (fun d => d.parameters.length) = some 3 := by decide +kernel
theorem zk_X0_groupOf : z_code yX0_groupOf cX0_groupOf 4 (Option.some Jvm.ClassFile.FieldType.int) [((0 : Nat), (9 : Nat), (12 : Nat), (21 : Nat))] := Or.inr q1736
theorem zy_X0_groupOf : yX0_groupOf.cls ≠ "java/lang/invoke/MethodHandle" ∧ yX0_groupOf.cls ≠ "java/lang/invoke/VarHandle" := ⟨by decide +kernel, by decide +kernel⟩
theorem zl_X0_groupOf : (parseMethodDescriptor yX0_groupOf.desc).map (fun d => d.parameters.length) = some 3 := by decide +kernel
theorem zk_X0_rowByAmount : z_code yX0_rowByAmount cX0_rowByAmount 4 (Option.some Jvm.ClassFile.FieldType.int) [((0 : Nat), (9 : Nat), (12 : Nat), (21 : Nat))] := Or.inr q1743
theorem zy_X0_rowByAmount : yX0_rowByAmount.cls ≠ "java/lang/invoke/MethodHandle" ∧ yX0_rowByAmount.cls ≠ "java/lang/invoke/VarHandle" := ⟨by decide +kernel, by decide +kernel⟩
theorem zl_X0_rowByAmount : (parseMethodDescriptor yX0_rowByAmount.desc).map (fun d => d.parameters.length) = some 3 := by decide +kernel
theorem zk_X0_addBase : z_code yX0_addBase cX0_addBase 5 (Option.some Jvm.ClassFile.FieldType.int) [((0 : Nat), (10 : Nat), (13 : Nat), (13 : Nat)), ((0 : Nat), (10 : Nat), (17 : Nat), (15 : Nat))] := Or.inr q1781
theorem zy_X0_addBase : yX0_addBase.cls ≠ "java/lang/invoke/MethodHandle" ∧ yX0_addBase.cls ≠ "java/lang/invoke/VarHandle" := ⟨by decide +kernel, by decide +kernel⟩
theorem zl_X0_addBase : (parseMethodDescriptor yX0_addBase.desc).map (fun d => d.parameters.length) = some 4 := by decide +kernel
theorem zk_X0_addPair : z_code yX0_addPair cX0_addPair 6 (Option.some Jvm.ClassFile.FieldType.int) [((0 : Nat), (12 : Nat), (15 : Nat), (13 : Nat)), ((0 : Nat), (12 : Nat), (19 : Nat), (47 : Nat)), ((0 : Nat), (12 : Nat), (23 : Nat), (15 : Nat))] := Or.inr q1789
theorem zy_X0_addPair : yX0_addPair.cls ≠ "java/lang/invoke/MethodHandle" ∧ yX0_addPair.cls ≠ "java/lang/invoke/VarHandle" := ⟨by decide +kernel, by decide +kernel⟩
theorem zl_X0_addPair : (parseMethodDescriptor yX0_addPair.desc).map (fun d => d.parameters.length) = some 5 := by decide +kernel
theorem zk_X0_addRunning : z_code yX0_addRunning cX0_addRunning 4 (Option.some Jvm.ClassFile.FieldType.int) [((0 : Nat), (9 : Nat), (12 : Nat), (47 : Nat)), ((0 : Nat), (9 : Nat), (15 : Nat), (15 : Nat))] := Or.inr q1813
theorem zy_X0_addRunning : yX0_addRunning.cls ≠ "java/lang/invoke/MethodHandle" ∧ yX0_addRunning.cls ≠ "java/lang/invoke/VarHandle" := ⟨by decide +kernel, by decide +kernel⟩
theorem zl_X0_addRunning : (parseMethodDescriptor yX0_addRunning.desc).map (fun d => d.parameters.length) = some 3 := by decide +kernel
theorem zk_X0_addBounded : z_code yX0_addBounded cX0_addBounded 5 (Option.some Jvm.ClassFile.FieldType.int) [((0 : Nat), (10 : Nat), (13 : Nat), (47 : Nat)), ((0 : Nat), (10 : Nat), (17 : Nat), (13 : Nat)), ((0 : Nat), (10 : Nat), (21 : Nat), (15 : Nat))] := Or.inr q1821
theorem zy_X0_addBounded : yX0_addBounded.cls ≠ "java/lang/invoke/MethodHandle" ∧ yX0_addBounded.cls ≠ "java/lang/invoke/VarHandle" := ⟨by decide +kernel, by decide +kernel⟩
theorem zl_X0_addBounded : (parseMethodDescriptor yX0_addBounded.desc).map (fun d => d.parameters.length) = some 4 := by decide +kernel
theorem zk_X0_removeStep : z_code yX0_removeStep cX0_removeStep 4 (Option.some Jvm.ClassFile.FieldType.int) [((0 : Nat), (9 : Nat), (12 : Nat), (47 : Nat)), ((0 : Nat), (9 : Nat), (15 : Nat), (15 : Nat))] := Or.inr q1829
theorem zy_X0_removeStep : yX0_removeStep.cls ≠ "java/lang/invoke/MethodHandle" ∧ yX0_removeStep.cls ≠ "java/lang/invoke/VarHandle" := ⟨by decide +kernel, by decide +kernel⟩
theorem zl_X0_removeStep : (parseMethodDescriptor yX0_removeStep.desc).map (fun d => d.parameters.length) = some 3 := by decide +kernel
theorem zk_X0_kind : z_code yX0_kind cX0_kind 4 (Option.some Jvm.ClassFile.FieldType.int) [((0 : Nat), (9 : Nat), (12 : Nat), (47 : Nat))] := Or.inr q1837
theorem zy_X0_kind : yX0_kind.cls ≠ "java/lang/invoke/MethodHandle" ∧ yX0_kind.cls ≠ "java/lang/invoke/VarHandle" := ⟨by decide +kernel, by decide +kernel⟩
theorem zl_X0_kind : (parseMethodDescriptor yX0_kind.desc).map (fun d => d.parameters.length) = some 3 := by decide +kernel
theorem zk_X0_dependsOn : z_code yX0_dependsOn cX0_dependsOn 5 (Option.some Jvm.ClassFile.FieldType.int) [((0 : Nat), (17 : Nat), (20 : Nat), (47 : Nat))] := Or.inr q1855
theorem zy_X0_dependsOn : yX0_dependsOn.cls ≠ "java/lang/invoke/MethodHandle" ∧ yX0_dependsOn.cls ≠ "java/lang/invoke/VarHandle" := ⟨by decide +kernel, by decide +kernel⟩
theorem zl_X0_dependsOn : (parseMethodDescriptor yX0_dependsOn.desc).map (fun d => d.parameters.length) = some 4 := by decide +kernel
theorem zk_X0_level : z_code yX0_level cX0_level 4 (Option.some Jvm.ClassFile.FieldType.int) [((0 : Nat), (9 : Nat), (12 : Nat), (47 : Nat))] := Or.inr q1881
theorem zy_X0_level : yX0_level.cls ≠ "java/lang/invoke/MethodHandle" ∧ yX0_level.cls ≠ "java/lang/invoke/VarHandle" := ⟨by decide +kernel, by decide +kernel⟩
theorem zl_X0_level : (parseMethodDescriptor yX0_level.desc).map (fun d => d.parameters.length) = some 3 := by decide +kernel
theorem zk_X0_value : z_code yX0_value cX0_value 6 (Option.some Jvm.ClassFile.FieldType.int) [((0 : Nat), (11 : Nat), (14 : Nat), (47 : Nat)), ((0 : Nat), (11 : Nat), (18 : Nat), (13 : Nat))] := Or.inr q1889
theorem zy_X0_value : yX0_value.cls ≠ "java/lang/invoke/MethodHandle" ∧ yX0_value.cls ≠ "java/lang/invoke/VarHandle" := ⟨by decide +kernel, by decide +kernel⟩
theorem zl_X0_value : (parseMethodDescriptor yX0_value.desc).map (fun d => d.parameters.length) = some 5 := by decide +kernel
theorem zk_X0_valueAnew : z_code yX0_valueAnew cX0_valueAnew 6 (Option.some Jvm.ClassFile.FieldType.int) [((0 : Nat), (11 : Nat), (14 : Nat), (47 : Nat)), ((0 : Nat), (11 : Nat), (18 : Nat), (13 : Nat))] := Or.inr q1899
theorem zy_X0_valueAnew : yX0_valueAnew.cls ≠ "java/lang/invoke/MethodHandle" ∧ yX0_valueAnew.cls ≠ "java/lang/invoke/VarHandle" := ⟨by decide +kernel, by decide +kernel⟩
theorem zl_X0_valueAnew : (parseMethodDescriptor yX0_valueAnew.desc).map (fun d => d.parameters.length) = some 5 := by decide +kernel
theorem zk_X0_total : z_code yX0_total cX0_total 5 (Option.some Jvm.ClassFile.FieldType.int) [((0 : Nat), (9 : Nat), (12 : Nat), (47 : Nat)), ((0 : Nat), (9 : Nat), (16 : Nat), (13 : Nat))] := Or.inr q1917
theorem zy_X0_total : yX0_total.cls ≠ "java/lang/invoke/MethodHandle" ∧ yX0_total.cls ≠ "java/lang/invoke/VarHandle" := ⟨by decide +kernel, by decide +kernel⟩
theorem zl_X0_total : (parseMethodDescriptor yX0_total.desc).map (fun d => d.parameters.length) = some 4 := by decide +kernel
theorem zk_X0_isStale : z_code yX0_isStale cX0_isStale 5 (Option.some Jvm.ClassFile.FieldType.int) [((0 : Nat), (17 : Nat), (20 : Nat), (47 : Nat)), ((0 : Nat), (17 : Nat), (24 : Nat), (13 : Nat))] := Or.inr q1924
theorem zy_X0_isStale : yX0_isStale.cls ≠ "java/lang/invoke/MethodHandle" ∧ yX0_isStale.cls ≠ "java/lang/invoke/VarHandle" := ⟨by decide +kernel, by decide +kernel⟩
theorem zl_X0_isStale : (parseMethodDescriptor yX0_isStale.desc).map (fun d => d.parameters.length) = some 4 := by decide +kernel
theorem zk_X0_repair : z_code yX0_repair cX0_repair 4 (Option.some Jvm.ClassFile.FieldType.int) [((0 : Nat), (9 : Nat), (12 : Nat), (13 : Nat)), ((0 : Nat), (9 : Nat), (15 : Nat), (15 : Nat))] := Or.inr q1932
theorem zy_X0_repair : yX0_repair.cls ≠ "java/lang/invoke/MethodHandle" ∧ yX0_repair.cls ≠ "java/lang/invoke/VarHandle" := ⟨by decide +kernel, by decide +kernel⟩
theorem zl_X0_repair : (parseMethodDescriptor yX0_repair.desc).map (fun d => d.parameters.length) = some 3 := by decide +kernel
theorem zk_X0_rowsBehind : z_code yX0_rowsBehind cX0_rowsBehind 6 (Option.some Jvm.ClassFile.FieldType.int) [((0 : Nat), (12 : Nat), (15 : Nat), (47 : Nat)), ((0 : Nat), (12 : Nat), (19 : Nat), (13 : Nat))] := Or.inr q1940
theorem zy_X0_rowsBehind : yX0_rowsBehind.cls ≠ "java/lang/invoke/MethodHandle" ∧ yX0_rowsBehind.cls ≠ "java/lang/invoke/VarHandle" := ⟨by decide +kernel, by decide +kernel⟩
theorem zl_X0_rowsBehind : (parseMethodDescriptor yX0_rowsBehind.desc).map (fun d => d.parameters.length) = some 5 := by decide +kernel
theorem zk_X0_rowsBehindByMarking : z_code yX0_rowsBehindByMarking cX0_rowsBehindByMarking 6 (Option.some Jvm.ClassFile.FieldType.int) [((0 : Nat), (12 : Nat), (15 : Nat), (47 : Nat)), ((0 : Nat), (12 : Nat), (19 : Nat), (13 : Nat))] := Or.inr q1977
theorem zy_X0_rowsBehindByMarking : yX0_rowsBehindByMarking.cls ≠ "java/lang/invoke/MethodHandle" ∧ yX0_rowsBehindByMarking.cls ≠ "java/lang/invoke/VarHandle" := ⟨by decide +kernel, by decide +kernel⟩
theorem zl_X0_rowsBehindByMarking : (parseMethodDescriptor yX0_rowsBehindByMarking.desc).map (fun d => d.parameters.length) = some 5 := by decide +kernel
theorem zk_X0_reach : z_code yX0_reach cX0_reach 4 (Option.some Jvm.ClassFile.FieldType.int) [((0 : Nat), (9 : Nat), (12 : Nat), (21 : Nat))] := Or.inr q2028
theorem zy_X0_reach : yX0_reach.cls ≠ "java/lang/invoke/MethodHandle" ∧ yX0_reach.cls ≠ "java/lang/invoke/VarHandle" := ⟨by decide +kernel, by decide +kernel⟩
theorem zl_X0_reach : (parseMethodDescriptor yX0_reach.desc).map (fun d => d.parameters.length) = some 3 := by decide +kernel
theorem zk_X0_cost : z_code yX0_cost cX0_cost 5 (Option.some Jvm.ClassFile.FieldType.int) [((0 : Nat), (9 : Nat), (12 : Nat), (47 : Nat)), ((0 : Nat), (9 : Nat), (16 : Nat), (13 : Nat))] := Or.inr q2039
theorem zy_X0_cost : yX0_cost.cls ≠ "java/lang/invoke/MethodHandle" ∧ yX0_cost.cls ≠ "java/lang/invoke/VarHandle" := ⟨by decide +kernel, by decide +kernel⟩
theorem zl_X0_cost : (parseMethodDescriptor yX0_cost.desc).map (fun d => d.parameters.length) = some 4 := by decide +kernel
theorem zk_X0_bestPlan : z_code yX0_bestPlan cX0_bestPlan 4 (Option.some Jvm.ClassFile.FieldType.int) [((0 : Nat), (9 : Nat), (12 : Nat), (13 : Nat))] := Or.inr q2107
theorem zy_X0_bestPlan : yX0_bestPlan.cls ≠ "java/lang/invoke/MethodHandle" ∧ yX0_bestPlan.cls ≠ "java/lang/invoke/VarHandle" := ⟨by decide +kernel, by decide +kernel⟩
theorem zl_X0_bestPlan : (parseMethodDescriptor yX0_bestPlan.desc).map (fun d => d.parameters.length) = some 3 := by decide +kernel
theorem zk_X0_bestPlanByDeciding : z_code yX0_bestPlanByDeciding cX0_bestPlanByDeciding 4 (Option.some Jvm.ClassFile.FieldType.int) [((0 : Nat), (9 : Nat), (12 : Nat), (13 : Nat))] := Or.inr q2126
theorem zy_X0_bestPlanByDeciding : yX0_bestPlanByDeciding.cls ≠ "java/lang/invoke/MethodHandle" ∧ yX0_bestPlanByDeciding.cls ≠ "java/lang/invoke/VarHandle" := ⟨by decide +kernel, by decide +kernel⟩
theorem zl_X0_bestPlanByDeciding : (parseMethodDescriptor yX0_bestPlanByDeciding.desc).map (fun d => d.parameters.length) = some 3 := by decide +kernel
theorem zk_X0_bestCost : z_code yX0_bestCost cX0_bestCost 4 (Option.some Jvm.ClassFile.FieldType.int) [((0 : Nat), (8 : Nat), (11 : Nat), (13 : Nat))] := Or.inr q2164
theorem zy_X0_bestCost : yX0_bestCost.cls ≠ "java/lang/invoke/MethodHandle" ∧ yX0_bestCost.cls ≠ "java/lang/invoke/VarHandle" := ⟨by decide +kernel, by decide +kernel⟩
theorem zl_X0_bestCost : (parseMethodDescriptor yX0_bestCost.desc).map (fun d => d.parameters.length) = some 3 := by decide +kernel
theorem zk_X0_meanAmount : z_code yX0_meanAmount cX0_meanAmount 3 (Option.some Jvm.ClassFile.FieldType.int) [((0 : Nat), (7 : Nat), (10 : Nat), (113 : Nat))] := Or.inr q2172
theorem zy_X0_meanAmount : yX0_meanAmount.cls ≠ "java/lang/invoke/MethodHandle" ∧ yX0_meanAmount.cls ≠ "java/lang/invoke/VarHandle" := ⟨by decide +kernel, by decide +kernel⟩
theorem zl_X0_meanAmount : (parseMethodDescriptor yX0_meanAmount.desc).map (fun d => d.parameters.length) = some 2 := by decide +kernel
theorem zk_X0_staleShare : z_code yX0_staleShare cX0_staleShare 3 (Option.some Jvm.ClassFile.FieldType.int) [((0 : Nat), (8 : Nat), (11 : Nat), (113 : Nat))] := Or.inr q2202
theorem zy_X0_staleShare : yX0_staleShare.cls ≠ "java/lang/invoke/MethodHandle" ∧ yX0_staleShare.cls ≠ "java/lang/invoke/VarHandle" := ⟨by decide +kernel, by decide +kernel⟩
theorem zl_X0_staleShare : (parseMethodDescriptor yX0_staleShare.desc).map (fun d => d.parameters.length) = some 2 := by decide +kernel
theorem zk_X0_feed : z_code yX0_feed cX0_feed 4 (Option.some Jvm.ClassFile.FieldType.int) [((0 : Nat), (9 : Nat), (12 : Nat), (123 : Nat))] := Or.inr q2210
theorem zy_X0_feed : yX0_feed.cls ≠ "java/lang/invoke/MethodHandle" ∧ yX0_feed.cls ≠ "java/lang/invoke/VarHandle" := ⟨by decide +kernel, by decide +kernel⟩
theorem zl_X0_feed : (parseMethodDescriptor yX0_feed.desc).map (fun d => d.parameters.length) = some 3 := by decide +kernel
theorem zk_X0_execute : z_code yX0_execute cX0_execute 3 (Option.some Jvm.ClassFile.FieldType.int) [((0 : Nat), (8 : Nat), (11 : Nat), (13 : Nat)), ((0 : Nat), (8 : Nat), (14 : Nat), (15 : Nat))] := Or.inr q2247
theorem zy_X0_execute : yX0_execute.cls ≠ "java/lang/invoke/MethodHandle" ∧ yX0_execute.cls ≠ "java/lang/invoke/VarHandle" := ⟨by decide +kernel, by decide +kernel⟩
theorem zl_X0_execute : (parseMethodDescriptor yX0_execute.desc).map (fun d => d.parameters.length) = some 2 := by decide +kernel
theorem zk_X0_faultPosition : z_code yX0_faultPosition cX0_faultPosition 3 (Option.some Jvm.ClassFile.FieldType.int) [((0 : Nat), (8 : Nat), (11 : Nat), (21 : Nat))] := Or.inr q2475
theorem zy_X0_faultPosition : yX0_faultPosition.cls ≠ "java/lang/invoke/MethodHandle" ∧ yX0_faultPosition.cls ≠ "java/lang/invoke/VarHandle" := ⟨by decide +kernel, by decide +kernel⟩
theorem zl_X0_faultPosition : (parseMethodDescriptor yX0_faultPosition.desc).map (fun d => d.parameters.length) = some 2 := by decide +kernel
theorem zk_X0_writeStep : z_code yX0_writeStep cX0_writeStep 4 (Option.some Jvm.ClassFile.FieldType.int) [((0 : Nat), (9 : Nat), (12 : Nat), (47 : Nat))] := Or.inr q2482
theorem zy_X0_writeStep : yX0_writeStep.cls ≠ "java/lang/invoke/MethodHandle" ∧ yX0_writeStep.cls ≠ "java/lang/invoke/VarHandle" := ⟨by decide +kernel, by decide +kernel⟩
theorem zl_X0_writeStep : (parseMethodDescriptor yX0_writeStep.desc).map (fun d => d.parameters.length) = some 3 := by decide +kernel
theorem zk_X0_writePartition : z_code yX0_writePartition cX0_writePartition 5 (Option.some Jvm.ClassFile.FieldType.int) [((0 : Nat), (10 : Nat), (13 : Nat), (47 : Nat)), ((0 : Nat), (10 : Nat), (17 : Nat), (13 : Nat))] := Or.inr q2558
theorem zy_X0_writePartition : yX0_writePartition.cls ≠ "java/lang/invoke/MethodHandle" ∧ yX0_writePartition.cls ≠ "java/lang/invoke/VarHandle" := ⟨by decide +kernel, by decide +kernel⟩
theorem zl_X0_writePartition : (parseMethodDescriptor yX0_writePartition.desc).map (fun d => d.parameters.length) = some 4 := by decide +kernel
theorem zk_X0_lineCharacter : z_code yX0_lineCharacter cX0_lineCharacter 4 (Option.some Jvm.ClassFile.FieldType.int) [((0 : Nat), (9 : Nat), (12 : Nat), (47 : Nat))] := Or.inr q2594
theorem zy_X0_lineCharacter : yX0_lineCharacter.cls ≠ "java/lang/invoke/MethodHandle" ∧ yX0_lineCharacter.cls ≠ "java/lang/invoke/VarHandle" := ⟨by decide +kernel, by decide +kernel⟩
theorem zl_X0_lineCharacter : (parseMethodDescriptor yX0_lineCharacter.desc).map (fun d => d.parameters.length) = some 3 := by decide +kernel
theorem zk_X0_denial : z_code yX0_denial cX0_denial 3 (Option.some Jvm.ClassFile.FieldType.int) [((0 : Nat), (8 : Nat), (11 : Nat), (21 : Nat))] := Or.inr q2613
theorem zy_X0_denial : yX0_denial.cls ≠ "java/lang/invoke/MethodHandle" ∧ yX0_denial.cls ≠ "java/lang/invoke/VarHandle" := ⟨by decide +kernel, by decide +kernel⟩
theorem zl_X0_denial : (parseMethodDescriptor yX0_denial.desc).map (fun d => d.parameters.length) = some 2 := by decide +kernel
theorem zk_X0_denialDetail : z_code yX0_denialDetail cX0_denialDetail 3 (Option.some Jvm.ClassFile.FieldType.int) [((0 : Nat), (8 : Nat), (11 : Nat), (21 : Nat))] := Or.inr q2624
theorem zy_X0_denialDetail : yX0_denialDetail.cls ≠ "java/lang/invoke/MethodHandle" ∧ yX0_denialDetail.cls ≠ "java/lang/invoke/VarHandle" := ⟨by decide +kernel, by decide +kernel⟩
theorem zl_X0_denialDetail : (parseMethodDescriptor yX0_denialDetail.desc).map (fun d => d.parameters.length) = some 2 := by decide +kernel
theorem zk_X0_denialCause : z_code yX0_denialCause cX0_denialCause 3 (Option.some Jvm.ClassFile.FieldType.int) [((0 : Nat), (8 : Nat), (11 : Nat), (21 : Nat))] := Or.inr q2631
theorem zy_X0_denialCause : yX0_denialCause.cls ≠ "java/lang/invoke/MethodHandle" ∧ yX0_denialCause.cls ≠ "java/lang/invoke/VarHandle" := ⟨by decide +kernel, by decide +kernel⟩
theorem zl_X0_denialCause : (parseMethodDescriptor yX0_denialCause.desc).map (fun d => d.parameters.length) = some 2 := by decide +kernel
theorem zk_X0_undo : z_code yX0_undo cX0_undo 3 (Option.some Jvm.ClassFile.FieldType.int) [((0 : Nat), (8 : Nat), (11 : Nat), (123 : Nat))] := Or.inr q2651
theorem zy_X0_undo : yX0_undo.cls ≠ "java/lang/invoke/MethodHandle" ∧ yX0_undo.cls ≠ "java/lang/invoke/VarHandle" := ⟨by decide +kernel, by decide +kernel⟩
theorem zl_X0_undo : (parseMethodDescriptor yX0_undo.desc).map (fun d => d.parameters.length) = some 2 := by decide +kernel
theorem zk_X0_restoreSnapshot : z_code yX0_restoreSnapshot cX0_restoreSnapshot 3 (Option.some Jvm.ClassFile.FieldType.int) [((0 : Nat), (8 : Nat), (11 : Nat), (123 : Nat))] := Or.inr q2677
theorem zy_X0_restoreSnapshot : yX0_restoreSnapshot.cls ≠ "java/lang/invoke/MethodHandle" ∧ yX0_restoreSnapshot.cls ≠ "java/lang/invoke/VarHandle" := ⟨by decide +kernel, by decide +kernel⟩
theorem zl_X0_restoreSnapshot : (parseMethodDescriptor yX0_restoreSnapshot.desc).map (fun d => d.parameters.length) = some 2 := by decide +kernel
theorem zk_X1_init : z_code yX1_init cX1_init 1 (Option.none : Option Jvm.ClassFile.FieldType) [] := Or.inl ⟨rfl, q153⟩
theorem zy_X1_init : yX1_init.cls ≠ "java/lang/invoke/MethodHandle" ∧ yX1_init.cls ≠ "java/lang/invoke/VarHandle" := ⟨by decide +kernel, by decide +kernel⟩
theorem zl_X1_init : (parseMethodDescriptor yX1_init.desc).map (fun d => d.parameters.length) = some 0 := by decide +kernel
theorem zk_X1_today : z_code yX1_today cX1_today 1 (Option.some Jvm.ClassFile.FieldType.int) [] := Or.inl ⟨rfl, q312⟩
theorem zy_X1_today : yX1_today.cls ≠ "java/lang/invoke/MethodHandle" ∧ yX1_today.cls ≠ "java/lang/invoke/VarHandle" := ⟨by decide +kernel, by decide +kernel⟩
theorem zl_X1_today : (parseMethodDescriptor yX1_today.desc).map (fun d => d.parameters.length) = some 0 := by decide +kernel
theorem zk_X1_rows : z_code yX1_rows cX1_rows 1 (Option.some Jvm.ClassFile.FieldType.int) [] := Or.inl ⟨rfl, q316⟩
theorem zy_X1_rows : yX1_rows.cls ≠ "java/lang/invoke/MethodHandle" ∧ yX1_rows.cls ≠ "java/lang/invoke/VarHandle" := ⟨by decide +kernel, by decide +kernel⟩
theorem zl_X1_rows : (parseMethodDescriptor yX1_rows.desc).map (fun d => d.parameters.length) = some 0 := by decide +kernel
theorem zk_X1_steps : z_code yX1_steps cX1_steps 1 (Option.some Jvm.ClassFile.FieldType.int) [] := Or.inl ⟨rfl, q330⟩
theorem zy_X1_steps : yX1_steps.cls ≠ "java/lang/invoke/MethodHandle" ∧ yX1_steps.cls ≠ "java/lang/invoke/VarHandle" := ⟨by decide +kernel, by decide +kernel⟩
theorem zl_X1_steps : (parseMethodDescriptor yX1_steps.desc).map (fun d => d.parameters.length) = some 0 := by decide +kernel
theorem zk_X1_stale : z_code yX1_stale cX1_stale 3 (Option.some Jvm.ClassFile.FieldType.int) [] := Or.inl ⟨rfl, q334⟩
theorem zy_X1_stale : yX1_stale.cls ≠ "java/lang/invoke/MethodHandle" ∧ yX1_stale.cls ≠ "java/lang/invoke/VarHandle" := ⟨by decide +kernel, by decide +kernel⟩
theorem zl_X1_stale : (parseMethodDescriptor yX1_stale.desc).map (fun d => d.parameters.length) = some 0 := by decide +kernel
theorem zk_X1_wrong : z_code yX1_wrong cX1_wrong 5 (Option.some Jvm.ClassFile.FieldType.int) [] := Or.inl ⟨rfl, q465⟩
theorem zy_X1_wrong : yX1_wrong.cls ≠ "java/lang/invoke/MethodHandle" ∧ yX1_wrong.cls ≠ "java/lang/invoke/VarHandle" := ⟨by decide +kernel, by decide +kernel⟩
theorem zl_X1_wrong : (parseMethodDescriptor yX1_wrong.desc).map (fun d => d.parameters.length) = some 0 := by decide +kernel
theorem zk_X1_renewed : z_code yX1_renewed cX1_renewed 5 (Option.some (Jvm.ClassFile.FieldType.object "WeirfoldLane$Lane")) [] := Or.inl ⟨rfl, q469⟩
theorem zy_X1_renewed : yX1_renewed.cls ≠ "java/lang/invoke/MethodHandle" ∧ yX1_renewed.cls ≠ "java/lang/invoke/VarHandle" := ⟨by decide +kernel, by decide +kernel⟩
theorem zl_X1_renewed : (parseMethodDescriptor yX1_renewed.desc).map (fun d => d.parameters.length) = some 0 := by decide +kernel
theorem zk_X1_place : z_code yX1_place cX1_place 2 (Option.some Jvm.ClassFile.FieldType.int) [] := Or.inl ⟨rfl, q680⟩
theorem zy_X1_place : yX1_place.cls ≠ "java/lang/invoke/MethodHandle" ∧ yX1_place.cls ≠ "java/lang/invoke/VarHandle" := ⟨by decide +kernel, by decide +kernel⟩
theorem zl_X1_place : (parseMethodDescriptor yX1_place.desc).map (fun d => d.parameters.length) = some 2 := by decide +kernel
theorem zk_X1_added : z_code yX1_added cX1_added 1 (Option.some Jvm.ClassFile.FieldType.int) [] := Or.inl ⟨rfl, q774⟩
theorem zy_X1_added : yX1_added.cls ≠ "java/lang/invoke/MethodHandle" ∧ yX1_added.cls ≠ "java/lang/invoke/VarHandle" := ⟨by decide +kernel, by decide +kernel⟩
theorem zl_X1_added : (parseMethodDescriptor yX1_added.desc).map (fun d => d.parameters.length) = some 0 := by decide +kernel
theorem zk_X1_removed : z_code yX1_removed cX1_removed 1 (Option.some Jvm.ClassFile.FieldType.int) [] := Or.inl ⟨rfl, q778⟩
theorem zy_X1_removed : yX1_removed.cls ≠ "java/lang/invoke/MethodHandle" ∧ yX1_removed.cls ≠ "java/lang/invoke/VarHandle" := ⟨by decide +kernel, by decide +kernel⟩
theorem zl_X1_removed : (parseMethodDescriptor yX1_removed.desc).map (fun d => d.parameters.length) = some 0 := by decide +kernel
theorem zk_X1_late : z_code yX1_late cX1_late 1 (Option.some Jvm.ClassFile.FieldType.int) [] := Or.inl ⟨rfl, q782⟩
theorem zy_X1_late : yX1_late.cls ≠ "java/lang/invoke/MethodHandle" ∧ yX1_late.cls ≠ "java/lang/invoke/VarHandle" := ⟨by decide +kernel, by decide +kernel⟩
theorem zl_X1_late : (parseMethodDescriptor yX1_late.desc).map (fun d => d.parameters.length) = some 0 := by decide +kernel
theorem zk_X1_repaired : z_code yX1_repaired cX1_repaired 1 (Option.some Jvm.ClassFile.FieldType.int) [] := Or.inl ⟨rfl, q786⟩
theorem zy_X1_repaired : yX1_repaired.cls ≠ "java/lang/invoke/MethodHandle" ∧ yX1_repaired.cls ≠ "java/lang/invoke/VarHandle" := ⟨by decide +kernel, by decide +kernel⟩
theorem zl_X1_repaired : (parseMethodDescriptor yX1_repaired.desc).map (fun d => d.parameters.length) = some 0 := by decide +kernel
theorem zk_X1_undoCount : z_code yX1_undoCount cX1_undoCount 1 (Option.some Jvm.ClassFile.FieldType.int) [] := Or.inl ⟨rfl, q790⟩
theorem zy_X1_undoCount : yX1_undoCount.cls ≠ "java/lang/invoke/MethodHandle" ∧ yX1_undoCount.cls ≠ "java/lang/invoke/VarHandle" := ⟨by decide +kernel, by decide +kernel⟩
theorem zl_X1_undoCount : (parseMethodDescriptor yX1_undoCount.desc).map (fun d => d.parameters.length) = some 0 := by decide +kernel
theorem zk_X1_saveSnapshot : z_code yX1_saveSnapshot cX1_saveSnapshot 1 (Option.some Jvm.ClassFile.FieldType.int) [] := Or.inl ⟨rfl, q801⟩
theorem zy_X1_saveSnapshot : yX1_saveSnapshot.cls ≠ "java/lang/invoke/MethodHandle" ∧ yX1_saveSnapshot.cls ≠ "java/lang/invoke/VarHandle" := ⟨by decide +kernel, by decide +kernel⟩
theorem zl_X1_saveSnapshot : (parseMethodDescriptor yX1_saveSnapshot.desc).map (fun d => d.parameters.length) = some 0 := by decide +kernel
theorem zk_X1_addRow : z_code yX1_addRow cX1_addRow 4 (Option.some Jvm.ClassFile.FieldType.int) [] := Or.inl ⟨rfl, q810⟩
theorem zy_X1_addRow : yX1_addRow.cls ≠ "java/lang/invoke/MethodHandle" ∧ yX1_addRow.cls ≠ "java/lang/invoke/VarHandle" := ⟨by decide +kernel, by decide +kernel⟩
theorem zl_X1_addRow : (parseMethodDescriptor yX1_addRow.desc).map (fun d => d.parameters.length) = some 3 := by decide +kernel
theorem zk_X1_commit : z_code yX1_commit cX1_commit 7 (Option.some Jvm.ClassFile.FieldType.int) [((13 : Nat), (36 : Nat), (37 : Nat), (30 : Nat))] := Or.inr q815
theorem zy_X1_commit : yX1_commit.cls ≠ "java/lang/invoke/MethodHandle" ∧ yX1_commit.cls ≠ "java/lang/invoke/VarHandle" := ⟨by decide +kernel, by decide +kernel⟩
theorem zl_X1_commit : (parseMethodDescriptor yX1_commit.desc).map (fun d => d.parameters.length) = some 4 := by decide +kernel
theorem zk_X1_groupNumber : z_code yX1_groupNumber cX1_groupNumber 1 (Option.some Jvm.ClassFile.FieldType.int) [] := Or.inl ⟨rfl, q1133⟩
theorem zy_X1_groupNumber : yX1_groupNumber.cls ≠ "java/lang/invoke/MethodHandle" ∧ yX1_groupNumber.cls ≠ "java/lang/invoke/VarHandle" := ⟨by decide +kernel, by decide +kernel⟩
theorem zl_X1_groupNumber : (parseMethodDescriptor yX1_groupNumber.desc).map (fun d => d.parameters.length) = some 1 := by decide +kernel
theorem zk_X1_requireRange : z_code yX1_requireRange cX1_requireRange 3 (Option.none : Option Jvm.ClassFile.FieldType) [] := Or.inl ⟨rfl, q1136⟩
theorem zy_X1_requireRange : yX1_requireRange.cls ≠ "java/lang/invoke/MethodHandle" ∧ yX1_requireRange.cls ≠ "java/lang/invoke/VarHandle" := ⟨by decide +kernel, by decide +kernel⟩
theorem zl_X1_requireRange : (parseMethodDescriptor yX1_requireRange.desc).map (fun d => d.parameters.length) = some 3 := by decide +kernel
theorem zk_X1_inRange : z_code yX1_inRange cX1_inRange 3 (Option.some Jvm.ClassFile.FieldType.boolean) [] := Or.inl ⟨rfl, q1139⟩
theorem zy_X1_inRange : yX1_inRange.cls ≠ "java/lang/invoke/MethodHandle" ∧ yX1_inRange.cls ≠ "java/lang/invoke/VarHandle" := ⟨by decide +kernel, by decide +kernel⟩
theorem zl_X1_inRange : (parseMethodDescriptor yX1_inRange.desc).map (fun d => d.parameters.length) = some 3 := by decide +kernel
theorem zk_X1_requireArgument : z_code yX1_requireArgument cX1_requireArgument 1 (Option.none : Option Jvm.ClassFile.FieldType) [] := Or.inl ⟨rfl, q1142⟩
theorem zy_X1_requireArgument : yX1_requireArgument.cls ≠ "java/lang/invoke/MethodHandle" ∧ yX1_requireArgument.cls ≠ "java/lang/invoke/VarHandle" := ⟨by decide +kernel, by decide +kernel⟩
theorem zl_X1_requireArgument : (parseMethodDescriptor yX1_requireArgument.desc).map (fun d => d.parameters.length) = some 1 := by decide +kernel
theorem zk_X1_denyUnless : z_code yX1_denyUnless cX1_denyUnless 3 (Option.none : Option Jvm.ClassFile.FieldType) [] := Or.inl ⟨rfl, q1151⟩
theorem zy_X1_denyUnless : yX1_denyUnless.cls ≠ "java/lang/invoke/MethodHandle" ∧ yX1_denyUnless.cls ≠ "java/lang/invoke/VarHandle" := ⟨by decide +kernel, by decide +kernel⟩
theorem zl_X1_denyUnless : (parseMethodDescriptor yX1_denyUnless.desc).map (fun d => d.parameters.length) = some 3 := by decide +kernel
theorem zk_X1_requireElement : z_code yX1_requireElement cX1_requireElement 1 (Option.none : Option Jvm.ClassFile.FieldType) [] := Or.inl ⟨rfl, q1369⟩
theorem zy_X1_requireElement : yX1_requireElement.cls ≠ "java/lang/invoke/MethodHandle" ∧ yX1_requireElement.cls ≠ "java/lang/invoke/VarHandle" := ⟨by decide +kernel, by decide +kernel⟩
theorem zl_X1_requireElement : (parseMethodDescriptor yX1_requireElement.desc).map (fun d => d.parameters.length) = some 1 := by decide +kernel
theorem zk_X1_requireIndex : z_code yX1_requireIndex cX1_requireIndex 2 (Option.none : Option Jvm.ClassFile.FieldType) [] := Or.inl ⟨rfl, q1511⟩
theorem zy_X1_requireIndex : yX1_requireIndex.cls ≠ "java/lang/invoke/MethodHandle" ∧ yX1_requireIndex.cls ≠ "java/lang/invoke/VarHandle" := ⟨by decide +kernel, by decide +kernel⟩
theorem zl_X1_requireIndex : (parseMethodDescriptor yX1_requireIndex.desc).map (fun d => d.parameters.length) = some 2 := by decide +kernel
theorem zk_X1_replaceBy : z_code yX1_replaceBy cX1_replaceBy 4 (Option.some Jvm.ClassFile.FieldType.int) [] := Or.inl ⟨rfl, q1620⟩
theorem zy_X1_replaceBy : yX1_replaceBy.cls ≠ "java/lang/invoke/MethodHandle" ∧ yX1_replaceBy.cls ≠ "java/lang/invoke/VarHandle" := ⟨by decide +kernel, by decide +kernel⟩
theorem zl_X1_replaceBy : (parseMethodDescriptor yX1_replaceBy.desc).map (fun d => d.parameters.length) = some 2 := by decide +kernel
theorem zk_X1_deny : z_code yX1_deny cX1_deny 2 (Option.some (Jvm.ClassFile.FieldType.object "java/lang/UnsupportedOperationException")) [] := Or.inl ⟨rfl, q1676⟩
theorem zy_X1_deny : yX1_deny.cls ≠ "java/lang/invoke/MethodHandle" ∧ yX1_deny.cls ≠ "java/lang/invoke/VarHandle" := ⟨by decide +kernel, by decide +kernel⟩
theorem zl_X1_deny : (parseMethodDescriptor yX1_deny.desc).map (fun d => d.parameters.length) = some 1 := by decide +kernel
theorem zk_X1_removeRow : z_code yX1_removeRow cX1_removeRow 2 (Option.some Jvm.ClassFile.FieldType.int) [] := Or.inl ⟨rfl, q1707⟩
theorem zy_X1_removeRow : yX1_removeRow.cls ≠ "java/lang/invoke/MethodHandle" ∧ yX1_removeRow.cls ≠ "java/lang/invoke/VarHandle" := ⟨by decide +kernel, by decide +kernel⟩
theorem zl_X1_removeRow : (parseMethodDescriptor yX1_removeRow.desc).map (fun d => d.parameters.length) = some 1 := by decide +kernel
theorem zk_X1_beginDay : z_code yX1_beginDay cX1_beginDay 1 (Option.some Jvm.ClassFile.FieldType.int) [] := Or.inl ⟨rfl, q1715⟩
theorem zy_X1_beginDay : yX1_beginDay.cls ≠ "java/lang/invoke/MethodHandle" ∧ yX1_beginDay.cls ≠ "java/lang/invoke/VarHandle" := ⟨by decide +kernel, by decide +kernel⟩
theorem zl_X1_beginDay : (parseMethodDescriptor yX1_beginDay.desc).map (fun d => d.parameters.length) = some 0 := by decide +kernel
theorem zk_X1_rowAt : z_code yX1_rowAt cX1_rowAt 2 (Option.some Jvm.ClassFile.FieldType.int) [] := Or.inl ⟨rfl, q1723⟩
theorem zy_X1_rowAt : yX1_rowAt.cls ≠ "java/lang/invoke/MethodHandle" ∧ yX1_rowAt.cls ≠ "java/lang/invoke/VarHandle" := ⟨by decide +kernel, by decide +kernel⟩
theorem zl_X1_rowAt : (parseMethodDescriptor yX1_rowAt.desc).map (fun d => d.parameters.length) = some 1 := by decide +kernel
theorem zk_X1_dayOf : z_code yX1_dayOf cX1_dayOf 2 (Option.some Jvm.ClassFile.FieldType.int) [] := Or.inl ⟨rfl, q1732⟩
theorem zy_X1_dayOf : yX1_dayOf.cls ≠ "java/lang/invoke/MethodHandle" ∧ yX1_dayOf.cls ≠ "java/lang/invoke/VarHandle" := ⟨by decide +kernel, by decide +kernel⟩
theorem zl_X1_dayOf : (parseMethodDescriptor yX1_dayOf.desc).map (fun d => d.parameters.length) = some 1 := by decide +kernel
theorem zk_X1_groupOf : z_code yX1_groupOf cX1_groupOf 2 (Option.some Jvm.ClassFile.FieldType.char) [] := Or.inl ⟨rfl, q1740⟩
theorem zy_X1_groupOf : yX1_groupOf.cls ≠ "java/lang/invoke/MethodHandle" ∧ yX1_groupOf.cls ≠ "java/lang/invoke/VarHandle" := ⟨by decide +kernel, by decide +kernel⟩
theorem zl_X1_groupOf : (parseMethodDescriptor yX1_groupOf.desc).map (fun d => d.parameters.length) = some 1 := by decide +kernel
theorem zk_X1_rowByAmount : z_code yX1_rowByAmount cX1_rowByAmount 6 (Option.some Jvm.ClassFile.FieldType.int) [] := Or.inl ⟨rfl, q1747⟩
theorem zy_X1_rowByAmount : yX1_rowByAmount.cls ≠ "java/lang/invoke/MethodHandle" ∧ yX1_rowByAmount.cls ≠ "java/lang/invoke/VarHandle" := ⟨by decide +kernel, by decide +kernel⟩
theorem zl_X1_rowByAmount : (parseMethodDescriptor yX1_rowByAmount.desc).map (fun d => d.parameters.length) = some 1 := by decide +kernel
theorem zk_X1_addBase : z_code yX1_addBase cX1_addBase 3 (Option.some Jvm.ClassFile.FieldType.int) [] := Or.inl ⟨rfl, q1785⟩
theorem zy_X1_addBase : yX1_addBase.cls ≠ "java/lang/invoke/MethodHandle" ∧ yX1_addBase.cls ≠ "java/lang/invoke/VarHandle" := ⟨by decide +kernel, by decide +kernel⟩
theorem zl_X1_addBase : (parseMethodDescriptor yX1_addBase.desc).map (fun d => d.parameters.length) = some 2 := by decide +kernel
theorem zk_X1_addPair : z_code yX1_addPair cX1_addPair 4 (Option.some Jvm.ClassFile.FieldType.int) [] := Or.inl ⟨rfl, q1809⟩
theorem zy_X1_addPair : yX1_addPair.cls ≠ "java/lang/invoke/MethodHandle" ∧ yX1_addPair.cls ≠ "java/lang/invoke/VarHandle" := ⟨by decide +kernel, by decide +kernel⟩
theorem zl_X1_addPair : (parseMethodDescriptor yX1_addPair.desc).map (fun d => d.parameters.length) = some 3 := by decide +kernel
theorem zk_X1_addRunning : z_code yX1_addRunning cX1_addRunning 2 (Option.some Jvm.ClassFile.FieldType.int) [] := Or.inl ⟨rfl, q1817⟩
theorem zy_X1_addRunning : yX1_addRunning.cls ≠ "java/lang/invoke/MethodHandle" ∧ yX1_addRunning.cls ≠ "java/lang/invoke/VarHandle" := ⟨by decide +kernel, by decide +kernel⟩
theorem zl_X1_addRunning : (parseMethodDescriptor yX1_addRunning.desc).map (fun d => d.parameters.length) = some 1 := by decide +kernel
theorem zk_X1_addBounded : z_code yX1_addBounded cX1_addBounded 3 (Option.some Jvm.ClassFile.FieldType.int) [] := Or.inl ⟨rfl, q1825⟩
theorem zy_X1_addBounded : yX1_addBounded.cls ≠ "java/lang/invoke/MethodHandle" ∧ yX1_addBounded.cls ≠ "java/lang/invoke/VarHandle" := ⟨by decide +kernel, by decide +kernel⟩
theorem zl_X1_addBounded : (parseMethodDescriptor yX1_addBounded.desc).map (fun d => d.parameters.length) = some 2 := by decide +kernel
theorem zk_X1_removeStep : z_code yX1_removeStep cX1_removeStep 2 (Option.some Jvm.ClassFile.FieldType.int) [] := Or.inl ⟨rfl, q1833⟩
theorem zy_X1_removeStep : yX1_removeStep.cls ≠ "java/lang/invoke/MethodHandle" ∧ yX1_removeStep.cls ≠ "java/lang/invoke/VarHandle" := ⟨by decide +kernel, by decide +kernel⟩
theorem zl_X1_removeStep : (parseMethodDescriptor yX1_removeStep.desc).map (fun d => d.parameters.length) = some 1 := by decide +kernel
theorem zk_X1_kind : z_code yX1_kind cX1_kind 2 (Option.some Jvm.ClassFile.FieldType.char) [] := Or.inl ⟨rfl, q1841⟩
theorem zy_X1_kind : yX1_kind.cls ≠ "java/lang/invoke/MethodHandle" ∧ yX1_kind.cls ≠ "java/lang/invoke/VarHandle" := ⟨by decide +kernel, by decide +kernel⟩
theorem zl_X1_kind : (parseMethodDescriptor yX1_kind.desc).map (fun d => d.parameters.length) = some 1 := by decide +kernel
theorem zk_X1_dependsOn : z_code yX1_dependsOn cX1_dependsOn 4 (Option.some Jvm.ClassFile.FieldType.boolean) [] := Or.inl ⟨rfl, q1859⟩
theorem zy_X1_dependsOn : yX1_dependsOn.cls ≠ "java/lang/invoke/MethodHandle" ∧ yX1_dependsOn.cls ≠ "java/lang/invoke/VarHandle" := ⟨by decide +kernel, by decide +kernel⟩
theorem zl_X1_dependsOn : (parseMethodDescriptor yX1_dependsOn.desc).map (fun d => d.parameters.length) = some 2 := by decide +kernel
theorem zk_X1_level : z_code yX1_level cX1_level 2 (Option.some Jvm.ClassFile.FieldType.int) [] := Or.inl ⟨rfl, q1885⟩
theorem zy_X1_level : yX1_level.cls ≠ "java/lang/invoke/MethodHandle" ∧ yX1_level.cls ≠ "java/lang/invoke/VarHandle" := ⟨by decide +kernel, by decide +kernel⟩
theorem zl_X1_level : (parseMethodDescriptor yX1_level.desc).map (fun d => d.parameters.length) = some 1 := by decide +kernel
theorem zk_X1_value : z_code yX1_value cX1_value 5 (Option.some Jvm.ClassFile.FieldType.long) [] := Or.inl ⟨rfl, q1893⟩
theorem zy_X1_value : yX1_value.cls ≠ "java/lang/invoke/MethodHandle" ∧ yX1_value.cls ≠ "java/lang/invoke/VarHandle" := ⟨by decide +kernel, by decide +kernel⟩
theorem zl_X1_value : (parseMethodDescriptor yX1_value.desc).map (fun d => d.parameters.length) = some 3 := by decide +kernel
theorem zk_X1_valueAnew : z_code yX1_valueAnew cX1_valueAnew 5 (Option.some Jvm.ClassFile.FieldType.long) [] := Or.inl ⟨rfl, q1903⟩
theorem zy_X1_valueAnew : yX1_valueAnew.cls ≠ "java/lang/invoke/MethodHandle" ∧ yX1_valueAnew.cls ≠ "java/lang/invoke/VarHandle" := ⟨by decide +kernel, by decide +kernel⟩
theorem zl_X1_valueAnew : (parseMethodDescriptor yX1_valueAnew.desc).map (fun d => d.parameters.length) = some 3 := by decide +kernel
theorem zk_X1_total : z_code yX1_total cX1_total 7 (Option.some Jvm.ClassFile.FieldType.long) [] := Or.inl ⟨rfl, q1921⟩
theorem zy_X1_total : yX1_total.cls ≠ "java/lang/invoke/MethodHandle" ∧ yX1_total.cls ≠ "java/lang/invoke/VarHandle" := ⟨by decide +kernel, by decide +kernel⟩
theorem zl_X1_total : (parseMethodDescriptor yX1_total.desc).map (fun d => d.parameters.length) = some 2 := by decide +kernel
theorem zk_X1_isStale : z_code yX1_isStale cX1_isStale 4 (Option.some Jvm.ClassFile.FieldType.boolean) [] := Or.inl ⟨rfl, q1928⟩
theorem zy_X1_isStale : yX1_isStale.cls ≠ "java/lang/invoke/MethodHandle" ∧ yX1_isStale.cls ≠ "java/lang/invoke/VarHandle" := ⟨by decide +kernel, by decide +kernel⟩
theorem zl_X1_isStale : (parseMethodDescriptor yX1_isStale.desc).map (fun d => d.parameters.length) = some 2 := by decide +kernel
theorem zk_X1_repair : z_code yX1_repair cX1_repair 2 (Option.some Jvm.ClassFile.FieldType.int) [] := Or.inl ⟨rfl, q1936⟩
theorem zy_X1_repair : yX1_repair.cls ≠ "java/lang/invoke/MethodHandle" ∧ yX1_repair.cls ≠ "java/lang/invoke/VarHandle" := ⟨by decide +kernel, by decide +kernel⟩
theorem zl_X1_repair : (parseMethodDescriptor yX1_repair.desc).map (fun d => d.parameters.length) = some 1 := by decide +kernel
theorem zk_X1_rowsBehind : z_code yX1_rowsBehind cX1_rowsBehind 5 (Option.some Jvm.ClassFile.FieldType.int) [] := Or.inl ⟨rfl, q1944⟩
theorem zy_X1_rowsBehind : yX1_rowsBehind.cls ≠ "java/lang/invoke/MethodHandle" ∧ yX1_rowsBehind.cls ≠ "java/lang/invoke/VarHandle" := ⟨by decide +kernel, by decide +kernel⟩
theorem zl_X1_rowsBehind : (parseMethodDescriptor yX1_rowsBehind.desc).map (fun d => d.parameters.length) = some 3 := by decide +kernel
theorem zk_X1_rowsBehindByMarking : z_code yX1_rowsBehindByMarking cX1_rowsBehindByMarking 10 (Option.some Jvm.ClassFile.FieldType.int) [] := Or.inl ⟨rfl, q1981⟩
theorem zy_X1_rowsBehindByMarking : yX1_rowsBehindByMarking.cls ≠ "java/lang/invoke/MethodHandle" ∧ yX1_rowsBehindByMarking.cls ≠ "java/lang/invoke/VarHandle" := ⟨by decide +kernel, by decide +kernel⟩
theorem zl_X1_rowsBehindByMarking : (parseMethodDescriptor yX1_rowsBehindByMarking.desc).map (fun d => d.parameters.length) = some 3 := by decide +kernel
theorem zk_X1_reach : z_code yX1_reach cX1_reach 2 (Option.some Jvm.ClassFile.FieldType.int) [] := Or.inl ⟨rfl, q2032⟩
theorem zy_X1_reach : yX1_reach.cls ≠ "java/lang/invoke/MethodHandle" ∧ yX1_reach.cls ≠ "java/lang/invoke/VarHandle" := ⟨by decide +kernel, by decide +kernel⟩
theorem zl_X1_reach : (parseMethodDescriptor yX1_reach.desc).map (fun d => d.parameters.length) = some 1 := by decide +kernel
theorem zk_X1_cost : z_code yX1_cost cX1_cost 7 (Option.some Jvm.ClassFile.FieldType.long) [] := Or.inl ⟨rfl, q2043⟩
theorem zy_X1_cost : yX1_cost.cls ≠ "java/lang/invoke/MethodHandle" ∧ yX1_cost.cls ≠ "java/lang/invoke/VarHandle" := ⟨by decide +kernel, by decide +kernel⟩
theorem zl_X1_cost : (parseMethodDescriptor yX1_cost.desc).map (fun d => d.parameters.length) = some 2 := by decide +kernel
theorem zk_X1_plans : z_code yX1_plans cX1_plans 1 (Option.some Jvm.ClassFile.FieldType.int) [] := Or.inl ⟨rfl, q2047⟩
theorem zy_X1_plans : yX1_plans.cls ≠ "java/lang/invoke/MethodHandle" ∧ yX1_plans.cls ≠ "java/lang/invoke/VarHandle" := ⟨by decide +kernel, by decide +kernel⟩
theorem zl_X1_plans : (parseMethodDescriptor yX1_plans.desc).map (fun d => d.parameters.length) = some 0 := by decide +kernel
theorem zk_X1_bestPlan : z_code yX1_bestPlan cX1_bestPlan 9 (Option.some Jvm.ClassFile.FieldType.int) [] := Or.inl ⟨rfl, q2111⟩
theorem zy_X1_bestPlan : yX1_bestPlan.cls ≠ "java/lang/invoke/MethodHandle" ∧ yX1_bestPlan.cls ≠ "java/lang/invoke/VarHandle" := ⟨by decide +kernel, by decide +kernel⟩
theorem zl_X1_bestPlan : (parseMethodDescriptor yX1_bestPlan.desc).map (fun d => d.parameters.length) = some 1 := by decide +kernel
theorem zk_X1_requireSize : z_code yX1_requireSize cX1_requireSize 1 (Option.none : Option Jvm.ClassFile.FieldType) [] := Or.inl ⟨rfl, q2114⟩
theorem zy_X1_requireSize : yX1_requireSize.cls ≠ "java/lang/invoke/MethodHandle" ∧ yX1_requireSize.cls ≠ "java/lang/invoke/VarHandle" := ⟨by decide +kernel, by decide +kernel⟩
theorem zl_X1_requireSize : (parseMethodDescriptor yX1_requireSize.desc).map (fun d => d.parameters.length) = some 1 := by decide +kernel
theorem zk_X1_bestPlanByDeciding : z_code yX1_bestPlanByDeciding cX1_bestPlanByDeciding 3 (Option.some Jvm.ClassFile.FieldType.int) [] := Or.inl ⟨rfl, q2130⟩
theorem zy_X1_bestPlanByDeciding : yX1_bestPlanByDeciding.cls ≠ "java/lang/invoke/MethodHandle" ∧ yX1_bestPlanByDeciding.cls ≠ "java/lang/invoke/VarHandle" := ⟨by decide +kernel, by decide +kernel⟩
theorem zl_X1_bestPlanByDeciding : (parseMethodDescriptor yX1_bestPlanByDeciding.desc).map (fun d => d.parameters.length) = some 1 := by decide +kernel
theorem zk_X1_bestCost : z_code yX1_bestCost cX1_bestCost 2 (Option.some Jvm.ClassFile.FieldType.long) [] := Or.inl ⟨rfl, q2168⟩
theorem zy_X1_bestCost : yX1_bestCost.cls ≠ "java/lang/invoke/MethodHandle" ∧ yX1_bestCost.cls ≠ "java/lang/invoke/VarHandle" := ⟨by decide +kernel, by decide +kernel⟩
theorem zl_X1_bestCost : (parseMethodDescriptor yX1_bestCost.desc).map (fun d => d.parameters.length) = some 1 := by decide +kernel
theorem zk_X1_meanAmount : z_code yX1_meanAmount cX1_meanAmount 4 (Option.some Jvm.ClassFile.FieldType.double) [] := Or.inl ⟨rfl, q2190⟩
theorem zy_X1_meanAmount : yX1_meanAmount.cls ≠ "java/lang/invoke/MethodHandle" ∧ yX1_meanAmount.cls ≠ "java/lang/invoke/VarHandle" := ⟨by decide +kernel, by decide +kernel⟩
theorem zl_X1_meanAmount : (parseMethodDescriptor yX1_meanAmount.desc).map (fun d => d.parameters.length) = some 0 := by decide +kernel
theorem zk_X1_requireDivisor : z_code yX1_requireDivisor cX1_requireDivisor 1 (Option.none : Option Jvm.ClassFile.FieldType) [] := Or.inl ⟨rfl, q2194⟩
theorem zy_X1_requireDivisor : yX1_requireDivisor.cls ≠ "java/lang/invoke/MethodHandle" ∧ yX1_requireDivisor.cls ≠ "java/lang/invoke/VarHandle" := ⟨by decide +kernel, by decide +kernel⟩
theorem zl_X1_requireDivisor : (parseMethodDescriptor yX1_requireDivisor.desc).map (fun d => d.parameters.length) = some 1 := by decide +kernel
theorem zk_X1_staleShare : z_code yX1_staleShare cX1_staleShare 2 (Option.some Jvm.ClassFile.FieldType.float) [] := Or.inl ⟨rfl, q2206⟩
theorem zy_X1_staleShare : yX1_staleShare.cls ≠ "java/lang/invoke/MethodHandle" ∧ yX1_staleShare.cls ≠ "java/lang/invoke/VarHandle" := ⟨by decide +kernel, by decide +kernel⟩
theorem zl_X1_staleShare : (parseMethodDescriptor yX1_staleShare.desc).map (fun d => d.parameters.length) = some 0 := by decide +kernel
theorem zk_X1_feed : z_code yX1_feed cX1_feed 2 (Option.some Jvm.ClassFile.FieldType.int) [] := Or.inl ⟨rfl, q2215⟩
theorem zy_X1_feed : yX1_feed.cls ≠ "java/lang/invoke/MethodHandle" ∧ yX1_feed.cls ≠ "java/lang/invoke/VarHandle" := ⟨by decide +kernel, by decide +kernel⟩
theorem zl_X1_feed : (parseMethodDescriptor yX1_feed.desc).map (fun d => d.parameters.length) = some 1 := by decide +kernel
theorem zk_X1_requireState : z_code yX1_requireState cX1_requireState 1 (Option.none : Option Jvm.ClassFile.FieldType) [] := Or.inl ⟨rfl, q2219⟩
theorem zy_X1_requireState : yX1_requireState.cls ≠ "java/lang/invoke/MethodHandle" ∧ yX1_requireState.cls ≠ "java/lang/invoke/VarHandle" := ⟨by decide +kernel, by decide +kernel⟩
theorem zl_X1_requireState : (parseMethodDescriptor yX1_requireState.desc).map (fun d => d.parameters.length) = some 1 := by decide +kernel
theorem zk_X1_execute : z_code yX1_execute cX1_execute 4 (Option.some Jvm.ClassFile.FieldType.int) [((24 : Nat), (35 : Nat), (38 : Nat), (30 : Nat))] := Or.inr q2251
theorem zy_X1_execute : yX1_execute.cls ≠ "java/lang/invoke/MethodHandle" ∧ yX1_execute.cls ≠ "java/lang/invoke/VarHandle" := ⟨by decide +kernel, by decide +kernel⟩
theorem zl_X1_execute : (parseMethodDescriptor yX1_execute.desc).map (fun d => d.parameters.length) = some 0 := by decide +kernel
theorem zk_X1_parse : z_code yX1_parse cX1_parse 4 (Option.some (Jvm.ClassFile.FieldType.object "java/util/Optional")) [((0 : Nat), (15 : Nat), (25 : Nat), (362 : Nat)), ((0 : Nat), (15 : Nat), (48 : Nat), (0 : Nat)), ((25 : Nat), (38 : Nat), (48 : Nat), (0 : Nat))] := Or.inr q2255
theorem zy_X1_parse : yX1_parse.cls ≠ "java/lang/invoke/MethodHandle" ∧ yX1_parse.cls ≠ "java/lang/invoke/VarHandle" := ⟨by decide +kernel, by decide +kernel⟩
theorem zl_X1_parse : (parseMethodDescriptor yX1_parse.desc).map (fun d => d.parameters.length) = some 0 := by decide +kernel
theorem zk_X1_applyAll : z_code yX1_applyAll cX1_applyAll 6 (Option.none : Option Jvm.ClassFile.FieldType) [((29 : Nat), (37 : Nat), (40 : Nat), (30 : Nat))] := Or.inr q2468
theorem zy_X1_applyAll : yX1_applyAll.cls ≠ "java/lang/invoke/MethodHandle" ∧ yX1_applyAll.cls ≠ "java/lang/invoke/VarHandle" := ⟨by decide +kernel, by decide +kernel⟩
theorem zl_X1_applyAll : (parseMethodDescriptor yX1_applyAll.desc).map (fun d => d.parameters.length) = some 2 := by decide +kernel
theorem zk_X1_applyCommand : z_code yX1_applyCommand cX1_applyCommand 3 (Option.some Jvm.ClassFile.FieldType.int) [((0 : Nat), (5 : Nat), (6 : Nat), (17 : Nat)), ((0 : Nat), (5 : Nat), (6 : Nat), (1 : Nat)), ((0 : Nat), (5 : Nat), (6 : Nat), (20 : Nat))] := Or.inr q2471
theorem zy_X1_applyCommand : yX1_applyCommand.cls ≠ "java/lang/invoke/MethodHandle" ∧ yX1_applyCommand.cls ≠ "java/lang/invoke/VarHandle" := ⟨by decide +kernel, by decide +kernel⟩
theorem zl_X1_applyCommand : (parseMethodDescriptor yX1_applyCommand.desc).map (fun d => d.parameters.length) = some 2 := by decide +kernel
theorem zk_X1_faultPosition : z_code yX1_faultPosition cX1_faultPosition 1 (Option.some Jvm.ClassFile.FieldType.int) [] := Or.inl ⟨rfl, q2479⟩
theorem zy_X1_faultPosition : yX1_faultPosition.cls ≠ "java/lang/invoke/MethodHandle" ∧ yX1_faultPosition.cls ≠ "java/lang/invoke/VarHandle" := ⟨by decide +kernel, by decide +kernel⟩
theorem zl_X1_faultPosition : (parseMethodDescriptor yX1_faultPosition.desc).map (fun d => d.parameters.length) = some 0 := by decide +kernel
theorem zk_X1_writeStep : z_code yX1_writeStep cX1_writeStep 2 (Option.some Jvm.ClassFile.FieldType.int) [] := Or.inl ⟨rfl, q2486⟩
theorem zy_X1_writeStep : yX1_writeStep.cls ≠ "java/lang/invoke/MethodHandle" ∧ yX1_writeStep.cls ≠ "java/lang/invoke/VarHandle" := ⟨by decide +kernel, by decide +kernel⟩
theorem zl_X1_writeStep : (parseMethodDescriptor yX1_writeStep.desc).map (fun d => d.parameters.length) = some 1 := by decide +kernel
theorem zk_X1_writePartition : z_code yX1_writePartition cX1_writePartition 6 (Option.some Jvm.ClassFile.FieldType.int) [] := Or.inl ⟨rfl, q2562⟩
theorem zy_X1_writePartition : yX1_writePartition.cls ≠ "java/lang/invoke/MethodHandle" ∧ yX1_writePartition.cls ≠ "java/lang/invoke/VarHandle" := ⟨by decide +kernel, by decide +kernel⟩
theorem zl_X1_writePartition : (parseMethodDescriptor yX1_writePartition.desc).map (fun d => d.parameters.length) = some 2 := by decide +kernel
theorem zk_X1_lineCharacter : z_code yX1_lineCharacter cX1_lineCharacter 2 (Option.some Jvm.ClassFile.FieldType.char) [] := Or.inl ⟨rfl, q2598⟩
theorem zy_X1_lineCharacter : yX1_lineCharacter.cls ≠ "java/lang/invoke/MethodHandle" ∧ yX1_lineCharacter.cls ≠ "java/lang/invoke/VarHandle" := ⟨by decide +kernel, by decide +kernel⟩
theorem zl_X1_lineCharacter : (parseMethodDescriptor yX1_lineCharacter.desc).map (fun d => d.parameters.length) = some 1 := by decide +kernel
theorem zk_X1_denial : z_code yX1_denial cX1_denial 1 (Option.some Jvm.ClassFile.FieldType.int) [] := Or.inl ⟨rfl, q2617⟩
theorem zy_X1_denial : yX1_denial.cls ≠ "java/lang/invoke/MethodHandle" ∧ yX1_denial.cls ≠ "java/lang/invoke/VarHandle" := ⟨by decide +kernel, by decide +kernel⟩
theorem zl_X1_denial : (parseMethodDescriptor yX1_denial.desc).map (fun d => d.parameters.length) = some 0 := by decide +kernel
theorem zk_X1_latestDenial : z_code yX1_latestDenial cX1_latestDenial 1 (Option.some (Jvm.ClassFile.FieldType.object "WeirfoldLane$Denial")) [] := Or.inl ⟨rfl, q2621⟩
theorem zy_X1_latestDenial : yX1_latestDenial.cls ≠ "java/lang/invoke/MethodHandle" ∧ yX1_latestDenial.cls ≠ "java/lang/invoke/VarHandle" := ⟨by decide +kernel, by decide +kernel⟩
theorem zl_X1_latestDenial : (parseMethodDescriptor yX1_latestDenial.desc).map (fun d => d.parameters.length) = some 0 := by decide +kernel
theorem zk_X1_denialDetail : z_code yX1_denialDetail cX1_denialDetail 1 (Option.some Jvm.ClassFile.FieldType.int) [] := Or.inl ⟨rfl, q2628⟩
theorem zy_X1_denialDetail : yX1_denialDetail.cls ≠ "java/lang/invoke/MethodHandle" ∧ yX1_denialDetail.cls ≠ "java/lang/invoke/VarHandle" := ⟨by decide +kernel, by decide +kernel⟩
theorem zl_X1_denialDetail : (parseMethodDescriptor yX1_denialDetail.desc).map (fun d => d.parameters.length) = some 0 := by decide +kernel
theorem zk_X1_denialCause : z_code yX1_denialCause cX1_denialCause 2 (Option.some Jvm.ClassFile.FieldType.int) [] := Or.inl ⟨rfl, q2635⟩
theorem zy_X1_denialCause : yX1_denialCause.cls ≠ "java/lang/invoke/MethodHandle" ∧ yX1_denialCause.cls ≠ "java/lang/invoke/VarHandle" := ⟨by decide +kernel, by decide +kernel⟩
theorem zl_X1_denialCause : (parseMethodDescriptor yX1_denialCause.desc).map (fun d => d.parameters.length) = some 0 := by decide +kernel
theorem zk_X1_undo : z_code yX1_undo cX1_undo 1 (Option.some Jvm.ClassFile.FieldType.int) [] := Or.inl ⟨rfl, q2655⟩
theorem zy_X1_undo : yX1_undo.cls ≠ "java/lang/invoke/MethodHandle" ∧ yX1_undo.cls ≠ "java/lang/invoke/VarHandle" := ⟨by decide +kernel, by decide +kernel⟩
theorem zl_X1_undo : (parseMethodDescriptor yX1_undo.desc).map (fun d => d.parameters.length) = some 0 := by decide +kernel
theorem zk_X1_restoreSnapshot : z_code yX1_restoreSnapshot cX1_restoreSnapshot 1 (Option.some Jvm.ClassFile.FieldType.int) [] := Or.inl ⟨rfl, q2681⟩
theorem zy_X1_restoreSnapshot : yX1_restoreSnapshot.cls ≠ "java/lang/invoke/MethodHandle" ∧ yX1_restoreSnapshot.cls ≠ "java/lang/invoke/VarHandle" := ⟨by decide +kernel, by decide +kernel⟩
theorem zl_X1_restoreSnapshot : (parseMethodDescriptor yX1_restoreSnapshot.desc).map (fun d => d.parameters.length) = some 0 := by decide +kernel
theorem zk_X10_compute : z_code yX10_compute cX10_compute 9 (Option.some Jvm.ClassFile.FieldType.long) [] := Or.inl ⟨rfl, q705⟩
theorem zy_X10_compute : yX10_compute.cls ≠ "java/lang/invoke/MethodHandle" ∧ yX10_compute.cls ≠ "java/lang/invoke/VarHandle" := ⟨by decide +kernel, by decide +kernel⟩
theorem zl_X10_compute : (parseMethodDescriptor yX10_compute.desc).map (fun d => d.parameters.length) = some 4 := by decide +kernel
theorem zk_X10_takes : z_code yX10_takes cX10_takes 2 (Option.some Jvm.ClassFile.FieldType.boolean) [] := Or.inl ⟨rfl, q723⟩
theorem zy_X10_takes : yX10_takes.cls ≠ "java/lang/invoke/MethodHandle" ∧ yX10_takes.cls ≠ "java/lang/invoke/VarHandle" := ⟨by decide +kernel, by decide +kernel⟩
theorem zl_X10_takes : (parseMethodDescriptor yX10_takes.desc).map (fun d => d.parameters.length) = some 1 := by decide +kernel
theorem zk_X10_level : z_code yX10_level cX10_level 1 (Option.some Jvm.ClassFile.FieldType.int) [] := Or.inl ⟨rfl, q1301⟩
theorem zy_X10_level : yX10_level.cls ≠ "java/lang/invoke/MethodHandle" ∧ yX10_level.cls ≠ "java/lang/invoke/VarHandle" := ⟨by decide +kernel, by decide +kernel⟩
theorem zl_X10_level : (parseMethodDescriptor yX10_level.desc).map (fun d => d.parameters.length) = some 0 := by decide +kernel
theorem zk_X10_isFromStale : z_code yX10_isFromStale cX10_isFromStale 3 (Option.some Jvm.ClassFile.FieldType.boolean) [] := Or.inl ⟨rfl, q1323⟩
theorem zy_X10_isFromStale : yX10_isFromStale.cls ≠ "java/lang/invoke/MethodHandle" ∧ yX10_isFromStale.cls ≠ "java/lang/invoke/VarHandle" := ⟨by decide +kernel, by decide +kernel⟩
theorem zl_X10_isFromStale : (parseMethodDescriptor yX10_isFromStale.desc).map (fun d => d.parameters.length) = some 2 := by decide +kernel
theorem zk_X10_init : z_code yX10_init cX10_init 3 (Option.none : Option Jvm.ClassFile.FieldType) [] := Or.inl ⟨rfl, q1465⟩
theorem zy_X10_init : yX10_init.cls ≠ "java/lang/invoke/MethodHandle" ∧ yX10_init.cls ≠ "java/lang/invoke/VarHandle" := ⟨by decide +kernel, by decide +kernel⟩
theorem zl_X10_init : (parseMethodDescriptor yX10_init.desc).map (fun d => d.parameters.length) = some 2 := by decide +kernel
theorem zk_X10_hasInput : z_code yX10_hasInput cX10_hasInput 2 (Option.some Jvm.ClassFile.FieldType.boolean) [] := Or.inl ⟨rfl, q1589⟩
theorem zy_X10_hasInput : yX10_hasInput.cls ≠ "java/lang/invoke/MethodHandle" ∧ yX10_hasInput.cls ≠ "java/lang/invoke/VarHandle" := ⟨by decide +kernel, by decide +kernel⟩
theorem zl_X10_hasInput : (parseMethodDescriptor yX10_hasInput.desc).map (fun d => d.parameters.length) = some 1 := by decide +kernel
theorem zk_X10_rowsBehind : z_code yX10_rowsBehind cX10_rowsBehind 8 (Option.some Jvm.ClassFile.FieldType.long) [] := Or.inl ⟨rfl, q1953⟩
theorem zy_X10_rowsBehind : yX10_rowsBehind.cls ≠ "java/lang/invoke/MethodHandle" ∧ yX10_rowsBehind.cls ≠ "java/lang/invoke/VarHandle" := ⟨by decide +kernel, by decide +kernel⟩
theorem zl_X10_rowsBehind : (parseMethodDescriptor yX10_rowsBehind.desc).map (fun d => d.parameters.length) = some 3 := by decide +kernel
theorem zk_X10_isMarked : z_code yX10_isMarked cX10_isMarked 4 (Option.some Jvm.ClassFile.FieldType.boolean) [] := Or.inl ⟨rfl, q2007⟩
theorem zy_X10_isMarked : yX10_isMarked.cls ≠ "java/lang/invoke/MethodHandle" ∧ yX10_isMarked.cls ≠ "java/lang/invoke/VarHandle" := ⟨by decide +kernel, by decide +kernel⟩
theorem zl_X10_isMarked : (parseMethodDescriptor yX10_isMarked.desc).map (fun d => d.parameters.length) = some 3 := by decide +kernel
theorem zk_X10_costWith : z_code yX10_costWith cX10_costWith 2 (Option.some Jvm.ClassFile.FieldType.long) [] := Or.inl ⟨rfl, q2092⟩
theorem zy_X10_costWith : yX10_costWith.cls ≠ "java/lang/invoke/MethodHandle" ∧ yX10_costWith.cls ≠ "java/lang/invoke/VarHandle" := ⟨by decide +kernel, by decide +kernel⟩
theorem zl_X10_costWith : (parseMethodDescriptor yX10_costWith.desc).map (fun d => d.parameters.length) = some 1 := by decide +kernel
theorem zk_X10_text : z_code yX10_text cX10_text 2 (Option.some (Jvm.ClassFile.FieldType.object "java/lang/String")) [] := Or.inl ⟨rfl, q2511⟩
theorem zy_X10_text : yX10_text.cls ≠ "java/lang/invoke/MethodHandle" ∧ yX10_text.cls ≠ "java/lang/invoke/VarHandle" := ⟨by decide +kernel, by decide +kernel⟩
theorem zl_X10_text : (parseMethodDescriptor yX10_text.desc).map (fun d => d.parameters.length) = some 1 := by decide +kernel
theorem zk_X11_with : z_code yX11_with cX11_with 4 (Option.some Jvm.ClassFile.FieldType.long) [] := Or.inl ⟨rfl, q738⟩
theorem zy_X11_with : yX11_with.cls ≠ "java/lang/invoke/MethodHandle" ∧ yX11_with.cls ≠ "java/lang/invoke/VarHandle" := ⟨by decide +kernel, by decide +kernel⟩
theorem zl_X11_with : (parseMethodDescriptor yX11_with.desc).map (fun d => d.parameters.length) = some 2 := by decide +kernel
theorem zk_X11_change : z_code yX11_change cX11_change 5 (Option.some Jvm.ClassFile.FieldType.long) [] := Or.inl ⟨rfl, q1277⟩
theorem zy_X11_change : yX11_change.cls ≠ "java/lang/invoke/MethodHandle" ∧ yX11_change.cls ≠ "java/lang/invoke/VarHandle" := ⟨by decide +kernel, by decide +kernel⟩
theorem zl_X11_change : (parseMethodDescriptor yX11_change.desc).map (fun d => d.parameters.length) = some 4 := by decide +kernel
theorem zk_X11_init : z_code yX11_init cX11_init 2 (Option.none : Option Jvm.ClassFile.FieldType) [] := Or.inl ⟨rfl, q1462⟩
theorem zy_X11_init : yX11_init.cls ≠ "java/lang/invoke/MethodHandle" ∧ yX11_init.cls ≠ "java/lang/invoke/VarHandle" := ⟨by decide +kernel, by decide +kernel⟩
theorem zl_X11_init : (parseMethodDescriptor yX11_init.desc).map (fun d => d.parameters.length) = some 1 := by decide +kernel
theorem zk_X12_with : z_code yX12_with cX12_with 4 (Option.some Jvm.ClassFile.FieldType.long) [] := Or.inl ⟨rfl, q729⟩
theorem zy_X12_with : yX12_with.cls ≠ "java/lang/invoke/MethodHandle" ∧ yX12_with.cls ≠ "java/lang/invoke/VarHandle" := ⟨by decide +kernel, by decide +kernel⟩
theorem zl_X12_with : (parseMethodDescriptor yX12_with.desc).map (fun d => d.parameters.length) = some 2 := by decide +kernel
theorem zk_X12_change : z_code yX12_change cX12_change 5 (Option.some Jvm.ClassFile.FieldType.long) [] := Or.inl ⟨rfl, q1254⟩
theorem zy_X12_change : yX12_change.cls ≠ "java/lang/invoke/MethodHandle" ∧ yX12_change.cls ≠ "java/lang/invoke/VarHandle" := ⟨by decide +kernel, by decide +kernel⟩
theorem zl_X12_change : (parseMethodDescriptor yX12_change.desc).map (fun d => d.parameters.length) = some 4 := by decide +kernel
theorem zk_X12_init : z_code yX12_init cX12_init 2 (Option.none : Option Jvm.ClassFile.FieldType) [] := Or.inl ⟨rfl, q1486⟩
theorem zy_X12_init : yX12_init.cls ≠ "java/lang/invoke/MethodHandle" ∧ yX12_init.cls ≠ "java/lang/invoke/VarHandle" := ⟨by decide +kernel, by decide +kernel⟩
theorem zl_X12_init : (parseMethodDescriptor yX12_init.desc).map (fun d => d.parameters.length) = some 1 := by decide +kernel
theorem zk_X13_with : z_code yX13_with cX13_with 4 (Option.some Jvm.ClassFile.FieldType.long) [] := Or.inl ⟨rfl, q732⟩
theorem zy_X13_with : yX13_with.cls ≠ "java/lang/invoke/MethodHandle" ∧ yX13_with.cls ≠ "java/lang/invoke/VarHandle" := ⟨by decide +kernel, by decide +kernel⟩
theorem zl_X13_with : (parseMethodDescriptor yX13_with.desc).map (fun d => d.parameters.length) = some 2 := by decide +kernel
theorem zk_X13_change : z_code yX13_change cX13_change 5 (Option.some Jvm.ClassFile.FieldType.long) [] := Or.inl ⟨rfl, q1261⟩
theorem zy_X13_change : yX13_change.cls ≠ "java/lang/invoke/MethodHandle" ∧ yX13_change.cls ≠ "java/lang/invoke/VarHandle" := ⟨by decide +kernel, by decide +kernel⟩
theorem zl_X13_change : (parseMethodDescriptor yX13_change.desc).map (fun d => d.parameters.length) = some 4 := by decide +kernel
theorem zk_X13_init : z_code yX13_init cX13_init 2 (Option.none : Option Jvm.ClassFile.FieldType) [] := Or.inl ⟨rfl, q1495⟩
theorem zy_X13_init : yX13_init.cls ≠ "java/lang/invoke/MethodHandle" ∧ yX13_init.cls ≠ "java/lang/invoke/VarHandle" := ⟨by decide +kernel, by decide +kernel⟩
theorem zl_X13_init : (parseMethodDescriptor yX13_init.desc).map (fun d => d.parameters.length) = some 1 := by decide +kernel
theorem zk_X14_compute : z_code yX14_compute cX14_compute 5 (Option.some Jvm.ClassFile.FieldType.long) [] := Or.inl ⟨rfl, q740⟩
theorem zy_X14_compute : yX14_compute.cls ≠ "java/lang/invoke/MethodHandle" ∧ yX14_compute.cls ≠ "java/lang/invoke/VarHandle" := ⟨by decide +kernel, by decide +kernel⟩
theorem zl_X14_compute : (parseMethodDescriptor yX14_compute.desc).map (fun d => d.parameters.length) = some 4 := by decide +kernel
theorem zk_X14_change : z_code yX14_change cX14_change 5 (Option.some Jvm.ClassFile.FieldType.long) [] := Or.inl ⟨rfl, q1269⟩
theorem zy_X14_change : yX14_change.cls ≠ "java/lang/invoke/MethodHandle" ∧ yX14_change.cls ≠ "java/lang/invoke/VarHandle" := ⟨by decide +kernel, by decide +kernel⟩
theorem zl_X14_change : (parseMethodDescriptor yX14_change.desc).map (fun d => d.parameters.length) = some 4 := by decide +kernel
theorem zk_X14_level : z_code yX14_level cX14_level 1 (Option.some Jvm.ClassFile.FieldType.int) [] := Or.inl ⟨rfl, q1303⟩
theorem zy_X14_level : yX14_level.cls ≠ "java/lang/invoke/MethodHandle" ∧ yX14_level.cls ≠ "java/lang/invoke/VarHandle" := ⟨by decide +kernel, by decide +kernel⟩
theorem zl_X14_level : (parseMethodDescriptor yX14_level.desc).map (fun d => d.parameters.length) = some 0 := by decide +kernel
theorem zk_X14_isFromStale : z_code yX14_isFromStale cX14_isFromStale 3 (Option.some Jvm.ClassFile.FieldType.boolean) [] := Or.inl ⟨rfl, q1327⟩
theorem zy_X14_isFromStale : yX14_isFromStale.cls ≠ "java/lang/invoke/MethodHandle" ∧ yX14_isFromStale.cls ≠ "java/lang/invoke/VarHandle" := ⟨by decide +kernel, by decide +kernel⟩
theorem zl_X14_isFromStale : (parseMethodDescriptor yX14_isFromStale.desc).map (fun d => d.parameters.length) = some 2 := by decide +kernel
theorem zk_X14_init : z_code yX14_init cX14_init 4 (Option.none : Option Jvm.ClassFile.FieldType) [] := Or.inl ⟨rfl, q1531⟩
theorem zy_X14_init : yX14_init.cls ≠ "java/lang/invoke/MethodHandle" ∧ yX14_init.cls ≠ "java/lang/invoke/VarHandle" := ⟨by decide +kernel, by decide +kernel⟩
theorem zl_X14_init : (parseMethodDescriptor yX14_init.desc).map (fun d => d.parameters.length) = some 3 := by decide +kernel
theorem zk_X14_hasInput : z_code yX14_hasInput cX14_hasInput 2 (Option.some Jvm.ClassFile.FieldType.boolean) [] := Or.inl ⟨rfl, q1593⟩
theorem zy_X14_hasInput : yX14_hasInput.cls ≠ "java/lang/invoke/MethodHandle" ∧ yX14_hasInput.cls ≠ "java/lang/invoke/VarHandle" := ⟨by decide +kernel, by decide +kernel⟩
theorem zl_X14_hasInput : (parseMethodDescriptor yX14_hasInput.desc).map (fun d => d.parameters.length) = some 1 := by decide +kernel
theorem zk_X14_rowsBehind : z_code yX14_rowsBehind cX14_rowsBehind 4 (Option.some Jvm.ClassFile.FieldType.long) [] := Or.inl ⟨rfl, q1959⟩
theorem zy_X14_rowsBehind : yX14_rowsBehind.cls ≠ "java/lang/invoke/MethodHandle" ∧ yX14_rowsBehind.cls ≠ "java/lang/invoke/VarHandle" := ⟨by decide +kernel, by decide +kernel⟩
theorem zl_X14_rowsBehind : (parseMethodDescriptor yX14_rowsBehind.desc).map (fun d => d.parameters.length) = some 3 := by decide +kernel
theorem zk_X14_isMarked : z_code yX14_isMarked cX14_isMarked 4 (Option.some Jvm.ClassFile.FieldType.boolean) [] := Or.inl ⟨rfl, q2011⟩
theorem zy_X14_isMarked : yX14_isMarked.cls ≠ "java/lang/invoke/MethodHandle" ∧ yX14_isMarked.cls ≠ "java/lang/invoke/VarHandle" := ⟨by decide +kernel, by decide +kernel⟩
theorem zl_X14_isMarked : (parseMethodDescriptor yX14_isMarked.desc).map (fun d => d.parameters.length) = some 3 := by decide +kernel
theorem zk_X14_costWith : z_code yX14_costWith cX14_costWith 2 (Option.some Jvm.ClassFile.FieldType.long) [] := Or.inl ⟨rfl, q2096⟩
theorem zy_X14_costWith : yX14_costWith.cls ≠ "java/lang/invoke/MethodHandle" ∧ yX14_costWith.cls ≠ "java/lang/invoke/VarHandle" := ⟨by decide +kernel, by decide +kernel⟩
theorem zl_X14_costWith : (parseMethodDescriptor yX14_costWith.desc).map (fun d => d.parameters.length) = some 1 := by decide +kernel
theorem zk_X14_text : z_code yX14_text cX14_text 2 (Option.some (Jvm.ClassFile.FieldType.object "java/lang/String")) [] := Or.inl ⟨rfl, q2527⟩
theorem zy_X14_text : yX14_text.cls ≠ "java/lang/invoke/MethodHandle" ∧ yX14_text.cls ≠ "java/lang/invoke/VarHandle" := ⟨by decide +kernel, by decide +kernel⟩
theorem zl_X14_text : (parseMethodDescriptor yX14_text.desc).map (fun d => d.parameters.length) = some 1 := by decide +kernel
theorem zk_X15_input : z_code yX15_input cX15_input 1 (Option.some (Jvm.ClassFile.FieldType.object "WeirfoldLane$Step")) [] := Or.inl ⟨rfl, q692⟩
theorem zy_X15_input : yX15_input.cls ≠ "java/lang/invoke/MethodHandle" ∧ yX15_input.cls ≠ "java/lang/invoke/VarHandle" := ⟨by decide +kernel, by decide +kernel⟩
theorem zl_X15_input : (parseMethodDescriptor yX15_input.desc).map (fun d => d.parameters.length) = some 0 := by decide +kernel
theorem zk_X15_level : z_code yX15_level cX15_level 1 (Option.some Jvm.ClassFile.FieldType.int) [] := Or.inl ⟨rfl, q1298⟩
theorem zy_X15_level : yX15_level.cls ≠ "java/lang/invoke/MethodHandle" ∧ yX15_level.cls ≠ "java/lang/invoke/VarHandle" := ⟨by decide +kernel, by decide +kernel⟩
theorem zl_X15_level : (parseMethodDescriptor yX15_level.desc).map (fun d => d.parameters.length) = some 0 := by decide +kernel
theorem zk_X15_init : z_code yX15_init cX15_init 3 (Option.none : Option Jvm.ClassFile.FieldType) [] := Or.inl ⟨rfl, q1555⟩
theorem zy_X15_init : yX15_init.cls ≠ "java/lang/invoke/MethodHandle" ∧ yX15_init.cls ≠ "java/lang/invoke/VarHandle" := ⟨by decide +kernel, by decide +kernel⟩
theorem zl_X15_init : (parseMethodDescriptor yX15_init.desc).map (fun d => d.parameters.length) = some 2 := by decide +kernel
theorem zk_X15_hasInput : z_code yX15_hasInput cX15_hasInput 2 (Option.some Jvm.ClassFile.FieldType.boolean) [] := Or.inl ⟨rfl, q1586⟩
theorem zy_X15_hasInput : yX15_hasInput.cls ≠ "java/lang/invoke/MethodHandle" ∧ yX15_hasInput.cls ≠ "java/lang/invoke/VarHandle" := ⟨by decide +kernel, by decide +kernel⟩
theorem zl_X15_hasInput : (parseMethodDescriptor yX15_hasInput.desc).map (fun d => d.parameters.length) = some 1 := by decide +kernel
theorem zk_X16_compute : z_code yX16_compute cX16_compute 8 (Option.some Jvm.ClassFile.FieldType.long) [] := Or.inl ⟨rfl, q750⟩
theorem zy_X16_compute : yX16_compute.cls ≠ "java/lang/invoke/MethodHandle" ∧ yX16_compute.cls ≠ "java/lang/invoke/VarHandle" := ⟨by decide +kernel, by decide +kernel⟩
theorem zl_X16_compute : (parseMethodDescriptor yX16_compute.desc).map (fun d => d.parameters.length) = some 4 := by decide +kernel
theorem zk_X16_change : z_code yX16_change cX16_change 5 (Option.some Jvm.ClassFile.FieldType.long) [] := Or.inl ⟨rfl, q1273⟩
theorem zy_X16_change : yX16_change.cls ≠ "java/lang/invoke/MethodHandle" ∧ yX16_change.cls ≠ "java/lang/invoke/VarHandle" := ⟨by decide +kernel, by decide +kernel⟩
theorem zl_X16_change : (parseMethodDescriptor yX16_change.desc).map (fun d => d.parameters.length) = some 4 := by decide +kernel
theorem zk_X16_isFromStale : z_code yX16_isFromStale cX16_isFromStale 5 (Option.some Jvm.ClassFile.FieldType.boolean) [] := Or.inl ⟨rfl, q1331⟩
theorem zy_X16_isFromStale : yX16_isFromStale.cls ≠ "java/lang/invoke/MethodHandle" ∧ yX16_isFromStale.cls ≠ "java/lang/invoke/VarHandle" := ⟨by decide +kernel, by decide +kernel⟩
theorem zl_X16_isFromStale : (parseMethodDescriptor yX16_isFromStale.desc).map (fun d => d.parameters.length) = some 2 := by decide +kernel
theorem zk_X16_init : z_code yX16_init cX16_init 2 (Option.none : Option Jvm.ClassFile.FieldType) [] := Or.inl ⟨rfl, q1552⟩
theorem zy_X16_init : yX16_init.cls ≠ "java/lang/invoke/MethodHandle" ∧ yX16_init.cls ≠ "java/lang/invoke/VarHandle" := ⟨by decide +kernel, by decide +kernel⟩
theorem zl_X16_init : (parseMethodDescriptor yX16_init.desc).map (fun d => d.parameters.length) = some 1 := by decide +kernel
theorem zk_X16_rowsBehind : z_code yX16_rowsBehind cX16_rowsBehind 7 (Option.some Jvm.ClassFile.FieldType.long) [] := Or.inl ⟨rfl, q1962⟩
theorem zy_X16_rowsBehind : yX16_rowsBehind.cls ≠ "java/lang/invoke/MethodHandle" ∧ yX16_rowsBehind.cls ≠ "java/lang/invoke/VarHandle" := ⟨by decide +kernel, by decide +kernel⟩
theorem zl_X16_rowsBehind : (parseMethodDescriptor yX16_rowsBehind.desc).map (fun d => d.parameters.length) = some 3 := by decide +kernel
theorem zk_X16_isMarked : z_code yX16_isMarked cX16_isMarked 6 (Option.some Jvm.ClassFile.FieldType.boolean) [] := Or.inl ⟨rfl, q2015⟩
theorem zy_X16_isMarked : yX16_isMarked.cls ≠ "java/lang/invoke/MethodHandle" ∧ yX16_isMarked.cls ≠ "java/lang/invoke/VarHandle" := ⟨by decide +kernel, by decide +kernel⟩
theorem zl_X16_isMarked : (parseMethodDescriptor yX16_isMarked.desc).map (fun d => d.parameters.length) = some 3 := by decide +kernel
theorem zk_X16_costWith : z_code yX16_costWith cX16_costWith 2 (Option.some Jvm.ClassFile.FieldType.long) [] := Or.inl ⟨rfl, q2100⟩
theorem zy_X16_costWith : yX16_costWith.cls ≠ "java/lang/invoke/MethodHandle" ∧ yX16_costWith.cls ≠ "java/lang/invoke/VarHandle" := ⟨by decide +kernel, by decide +kernel⟩
theorem zl_X16_costWith : (parseMethodDescriptor yX16_costWith.desc).map (fun d => d.parameters.length) = some 1 := by decide +kernel
theorem zk_X16_text : z_code yX16_text cX16_text 2 (Option.some (Jvm.ClassFile.FieldType.object "java/lang/String")) [] := Or.inl ⟨rfl, q2541⟩
theorem zy_X16_text : yX16_text.cls ≠ "java/lang/invoke/MethodHandle" ∧ yX16_text.cls ≠ "java/lang/invoke/VarHandle" := ⟨by decide +kernel, by decide +kernel⟩
theorem zl_X16_text : (parseMethodDescriptor yX16_text.desc).map (fun d => d.parameters.length) = some 1 := by decide +kernel
theorem zk_X17_compute : z_code yX17_compute cX17_compute 5 (Option.some Jvm.ClassFile.FieldType.long) [] := Or.inl ⟨rfl, q686⟩
theorem zy_X17_compute : yX17_compute.cls ≠ "java/lang/invoke/MethodHandle" ∧ yX17_compute.cls ≠ "java/lang/invoke/VarHandle" := ⟨by decide +kernel, by decide +kernel⟩
theorem zl_X17_compute : (parseMethodDescriptor yX17_compute.desc).map (fun d => d.parameters.length) = some 4 := by decide +kernel
theorem zk_X17_bounded : z_code yX17_bounded cX17_bounded 3 (Option.some Jvm.ClassFile.FieldType.long) [] := Or.inl ⟨rfl, q760⟩
theorem zy_X17_bounded : yX17_bounded.cls ≠ "java/lang/invoke/MethodHandle" ∧ yX17_bounded.cls ≠ "java/lang/invoke/VarHandle" := ⟨by decide +kernel, by decide +kernel⟩
theorem zl_X17_bounded : (parseMethodDescriptor yX17_bounded.desc).map (fun d => d.parameters.length) = some 1 := by decide +kernel
theorem zk_X17_change : z_code yX17_change cX17_change 7 (Option.some Jvm.ClassFile.FieldType.long) [] := Or.inl ⟨rfl, q1244⟩
theorem zy_X17_change : yX17_change.cls ≠ "java/lang/invoke/MethodHandle" ∧ yX17_change.cls ≠ "java/lang/invoke/VarHandle" := ⟨by decide +kernel, by decide +kernel⟩
theorem zl_X17_change : (parseMethodDescriptor yX17_change.desc).map (fun d => d.parameters.length) = some 4 := by decide +kernel
theorem zk_X17_isFromStale : z_code yX17_isFromStale cX17_isFromStale 3 (Option.some Jvm.ClassFile.FieldType.boolean) [] := Or.inl ⟨rfl, q1316⟩
theorem zy_X17_isFromStale : yX17_isFromStale.cls ≠ "java/lang/invoke/MethodHandle" ∧ yX17_isFromStale.cls ≠ "java/lang/invoke/VarHandle" := ⟨by decide +kernel, by decide +kernel⟩
theorem zl_X17_isFromStale : (parseMethodDescriptor yX17_isFromStale.desc).map (fun d => d.parameters.length) = some 2 := by decide +kernel
theorem zk_X17_init : z_code yX17_init cX17_init 3 (Option.none : Option Jvm.ClassFile.FieldType) [] := Or.inl ⟨rfl, q1569⟩
theorem zy_X17_init : yX17_init.cls ≠ "java/lang/invoke/MethodHandle" ∧ yX17_init.cls ≠ "java/lang/invoke/VarHandle" := ⟨by decide +kernel, by decide +kernel⟩
theorem zl_X17_init : (parseMethodDescriptor yX17_init.desc).map (fun d => d.parameters.length) = some 2 := by decide +kernel
theorem zk_X17_rowsBehind : z_code yX17_rowsBehind cX17_rowsBehind 4 (Option.some Jvm.ClassFile.FieldType.long) [] := Or.inl ⟨rfl, q1950⟩
theorem zy_X17_rowsBehind : yX17_rowsBehind.cls ≠ "java/lang/invoke/MethodHandle" ∧ yX17_rowsBehind.cls ≠ "java/lang/invoke/VarHandle" := ⟨by decide +kernel, by decide +kernel⟩
theorem zl_X17_rowsBehind : (parseMethodDescriptor yX17_rowsBehind.desc).map (fun d => d.parameters.length) = some 3 := by decide +kernel
theorem zk_X17_isMarked : z_code yX17_isMarked cX17_isMarked 4 (Option.some Jvm.ClassFile.FieldType.boolean) [] := Or.inl ⟨rfl, q1998⟩
theorem zy_X17_isMarked : yX17_isMarked.cls ≠ "java/lang/invoke/MethodHandle" ∧ yX17_isMarked.cls ≠ "java/lang/invoke/VarHandle" := ⟨by decide +kernel, by decide +kernel⟩
theorem zl_X17_isMarked : (parseMethodDescriptor yX17_isMarked.desc).map (fun d => d.parameters.length) = some 3 := by decide +kernel
theorem zk_X17_costWith : z_code yX17_costWith cX17_costWith 2 (Option.some Jvm.ClassFile.FieldType.long) [] := Or.inl ⟨rfl, q2083⟩
theorem zy_X17_costWith : yX17_costWith.cls ≠ "java/lang/invoke/MethodHandle" ∧ yX17_costWith.cls ≠ "java/lang/invoke/VarHandle" := ⟨by decide +kernel, by decide +kernel⟩
theorem zl_X17_costWith : (parseMethodDescriptor yX17_costWith.desc).map (fun d => d.parameters.length) = some 1 := by decide +kernel
theorem zk_X17_text : z_code yX17_text cX17_text 2 (Option.some (Jvm.ClassFile.FieldType.object "java/lang/String")) [] := Or.inl ⟨rfl, q2495⟩
theorem zy_X17_text : yX17_text.cls ≠ "java/lang/invoke/MethodHandle" ∧ yX17_text.cls ≠ "java/lang/invoke/VarHandle" := ⟨by decide +kernel, by decide +kernel⟩
theorem zl_X17_text : (parseMethodDescriptor yX17_text.desc).map (fun d => d.parameters.length) = some 1 := by decide +kernel
theorem zk_X18_number : z_code yX18_number cX18_number 4 (Option.some Jvm.ClassFile.FieldType.long) [] := Or.inl ⟨rfl, q702⟩
theorem zy_X18_number : yX18_number.cls ≠ "java/lang/invoke/MethodHandle" ∧ yX18_number.cls ≠ "java/lang/invoke/VarHandle" := ⟨by decide +kernel, by decide +kernel⟩
theorem zl_X18_number : (parseMethodDescriptor yX18_number.desc).map (fun d => d.parameters.length) = some 3 := by decide +kernel
theorem zk_X18_init : z_code yX18_init cX18_init 2 (Option.none : Option Jvm.ClassFile.FieldType) [] := Or.inl ⟨rfl, q1908⟩
theorem zy_X18_init : yX18_init.cls ≠ "java/lang/invoke/MethodHandle" ∧ yX18_init.cls ≠ "java/lang/invoke/VarHandle" := ⟨by decide +kernel, by decide +kernel⟩
theorem zl_X18_init : (parseMethodDescriptor yX18_init.desc).map (fun d => d.parameters.length) = some 1 := by decide +kernel
theorem zk_X19_init : z_code yX19_init cX19_init 5 (Option.none : Option Jvm.ClassFile.FieldType) [] := Or.inl ⟨rfl, q1986⟩
theorem zy_X19_init : yX19_init.cls ≠ "java/lang/invoke/MethodHandle" ∧ yX19_init.cls ≠ "java/lang/invoke/VarHandle" := ⟨by decide +kernel, by decide +kernel⟩
theorem zl_X19_init : (parseMethodDescriptor yX19_init.desc).map (fun d => d.parameters.length) = some 2 := by decide +kernel
theorem zk_X19_has : z_code yX19_has cX19_has 3 (Option.some Jvm.ClassFile.FieldType.boolean) [] := Or.inl ⟨rfl, q2002⟩
theorem zy_X19_has : yX19_has.cls ≠ "java/lang/invoke/MethodHandle" ∧ yX19_has.cls ≠ "java/lang/invoke/VarHandle" := ⟨by decide +kernel, by decide +kernel⟩
theorem zl_X19_has : (parseMethodDescriptor yX19_has.desc).map (fun d => d.parameters.length) = some 2 := by decide +kernel
theorem zk_X19_count : z_code yX19_count cX19_count 6 (Option.some Jvm.ClassFile.FieldType.int) [] := Or.inl ⟨rfl, q2036⟩
theorem zy_X19_count : yX19_count.cls ≠ "java/lang/invoke/MethodHandle" ∧ yX19_count.cls ≠ "java/lang/invoke/VarHandle" := ⟨by decide +kernel, by decide +kernel⟩
theorem zl_X19_count : (parseMethodDescriptor yX19_count.desc).map (fun d => d.parameters.length) = some 0 := by decide +kernel
theorem zk_X2_init : z_code yX2_init cX2_init 1 (Option.none : Option Jvm.ClassFile.FieldType) [] := Or.inl ⟨rfl, q161⟩
theorem zy_X2_init : yX2_init.cls ≠ "java/lang/invoke/MethodHandle" ∧ yX2_init.cls ≠ "java/lang/invoke/VarHandle" := ⟨by decide +kernel, by decide +kernel⟩
theorem zl_X2_init : (parseMethodDescriptor yX2_init.desc).map (fun d => d.parameters.length) = some 0 := by decide +kernel
theorem zk_X2_staleOn : z_code yX2_staleOn cX2_staleOn 5 (Option.some Jvm.ClassFile.FieldType.int) [] := Or.inl ⟨rfl, q338⟩
theorem zy_X2_staleOn : yX2_staleOn.cls ≠ "java/lang/invoke/MethodHandle" ∧ yX2_staleOn.cls ≠ "java/lang/invoke/VarHandle" := ⟨by decide +kernel, by decide +kernel⟩
theorem zl_X2_staleOn : (parseMethodDescriptor yX2_staleOn.desc).map (fun d => d.parameters.length) = some 1 := by decide +kernel
theorem zk_X2_init_2 : z_code yX2_init_2 cX2_init_2 4 (Option.none : Option Jvm.ClassFile.FieldType) [] := Or.inl ⟨rfl, q472⟩
theorem zy_X2_init_2 : yX2_init_2.cls ≠ "java/lang/invoke/MethodHandle" ∧ yX2_init_2.cls ≠ "java/lang/invoke/VarHandle" := ⟨by decide +kernel, by decide +kernel⟩
theorem zl_X2_init_2 : (parseMethodDescriptor yX2_init_2.desc).map (fun d => d.parameters.length) = some 1 := by decide +kernel
theorem zk_X2_computePartition : z_code yX2_computePartition cX2_computePartition 5 (Option.none : Option Jvm.ClassFile.FieldType) [] := Or.inl ⟨rfl, q595⟩
theorem zy_X2_computePartition : yX2_computePartition.cls ≠ "java/lang/invoke/MethodHandle" ∧ yX2_computePartition.cls ≠ "java/lang/invoke/VarHandle" := ⟨by decide +kernel, by decide +kernel⟩
theorem zl_X2_computePartition : (parseMethodDescriptor yX2_computePartition.desc).map (fun d => d.parameters.length) = some 2 := by decide +kernel
theorem zk_X2_viewOf : z_code yX2_viewOf cX2_viewOf 2 (Option.some (Jvm.ClassFile.FieldType.object "WeirfoldLane$View")) [] := Or.inl ⟨rfl, q599⟩
theorem zy_X2_viewOf : yX2_viewOf.cls ≠ "java/lang/invoke/MethodHandle" ∧ yX2_viewOf.cls ≠ "java/lang/invoke/VarHandle" := ⟨by decide +kernel, by decide +kernel⟩
theorem zl_X2_viewOf : (parseMethodDescriptor yX2_viewOf.desc).map (fun d => d.parameters.length) = some 1 := by decide +kernel
theorem zk_X2_indexOf : z_code yX2_indexOf cX2_indexOf 2 (Option.some Jvm.ClassFile.FieldType.int) [] := Or.inl ⟨rfl, q603⟩
theorem zy_X2_indexOf : yX2_indexOf.cls ≠ "java/lang/invoke/MethodHandle" ∧ yX2_indexOf.cls ≠ "java/lang/invoke/VarHandle" := ⟨by decide +kernel, by decide +kernel⟩
theorem zl_X2_indexOf : (parseMethodDescriptor yX2_indexOf.desc).map (fun d => d.parameters.length) = some 1 := by decide +kernel
theorem zk_X2_number : z_code yX2_number cX2_number 4 (Option.some Jvm.ClassFile.FieldType.long) [] := Or.inl ⟨rfl, q748⟩
theorem zy_X2_number : yX2_number.cls ≠ "java/lang/invoke/MethodHandle" ∧ yX2_number.cls ≠ "java/lang/invoke/VarHandle" := ⟨by decide +kernel, by decide +kernel⟩
theorem zl_X2_number : (parseMethodDescriptor yX2_number.desc).map (fun d => d.parameters.length) = some 3 := by decide +kernel
theorem zk_X2_addRow : z_code yX2_addRow cX2_addRow 6 (Option.some Jvm.ClassFile.FieldType.int) [] := Or.inl ⟨rfl, q1130⟩
theorem zy_X2_addRow : yX2_addRow.cls ≠ "java/lang/invoke/MethodHandle" ∧ yX2_addRow.cls ≠ "java/lang/invoke/VarHandle" := ⟨by decide +kernel, by decide +kernel⟩
theorem zl_X2_addRow : (parseMethodDescriptor yX2_addRow.desc).map (fun d => d.parameters.length) = some 3 := by decide +kernel
theorem zk_X2_follow : z_code yX2_follow cX2_follow 3 (Option.none : Option Jvm.ClassFile.FieldType) [] := Or.inl ⟨rfl, q1222⟩
theorem zy_X2_follow : yX2_follow.cls ≠ "java/lang/invoke/MethodHandle" ∧ yX2_follow.cls ≠ "java/lang/invoke/VarHandle" := ⟨by decide +kernel, by decide +kernel⟩
theorem zl_X2_follow : (parseMethodDescriptor yX2_follow.desc).map (fun d => d.parameters.length) = some 2 := by decide +kernel
theorem zk_X2_carry : z_code yX2_carry cX2_carry 6 (Option.none : Option Jvm.ClassFile.FieldType) [] := Or.inl ⟨rfl, q1226⟩
theorem zy_X2_carry : yX2_carry.cls ≠ "java/lang/invoke/MethodHandle" ∧ yX2_carry.cls ≠ "java/lang/invoke/VarHandle" := ⟨by decide +kernel, by decide +kernel⟩
theorem zl_X2_carry : (parseMethodDescriptor yX2_carry.desc).map (fun d => d.parameters.length) = some 2 := by decide +kernel
theorem zk_X2_spoil : z_code yX2_spoil cX2_spoil 6 (Option.none : Option Jvm.ClassFile.FieldType) [] := Or.inl ⟨rfl, q1292⟩
theorem zy_X2_spoil : yX2_spoil.cls ≠ "java/lang/invoke/MethodHandle" ∧ yX2_spoil.cls ≠ "java/lang/invoke/VarHandle" := ⟨by decide +kernel, by decide +kernel⟩
theorem zl_X2_spoil : (parseMethodDescriptor yX2_spoil.desc).map (fun d => d.parameters.length) = some 1 := by decide +kernel
theorem zk_X2_isStale : z_code yX2_isStale cX2_isStale 3 (Option.some Jvm.ClassFile.FieldType.boolean) [] := Or.inl ⟨rfl, q1320⟩
theorem zy_X2_isStale : yX2_isStale.cls ≠ "java/lang/invoke/MethodHandle" ∧ yX2_isStale.cls ≠ "java/lang/invoke/VarHandle" := ⟨by decide +kernel, by decide +kernel⟩
theorem zl_X2_isStale : (parseMethodDescriptor yX2_isStale.desc).map (fun d => d.parameters.length) = some 2 := by decide +kernel
theorem zk_X2_removeRow : z_code yX2_removeRow cX2_removeRow 4 (Option.some Jvm.ClassFile.FieldType.int) [] := Or.inl ⟨rfl, q1337⟩
theorem zy_X2_removeRow : yX2_removeRow.cls ≠ "java/lang/invoke/MethodHandle" ∧ yX2_removeRow.cls ≠ "java/lang/invoke/VarHandle" := ⟨by decide +kernel, by decide +kernel⟩
theorem zl_X2_removeRow : (parseMethodDescriptor yX2_removeRow.desc).map (fun d => d.parameters.length) = some 1 := by decide +kernel
theorem zk_X2_row : z_code yX2_row cX2_row 5 (Option.some (Jvm.ClassFile.FieldType.object "WeirfoldLane$Row")) [] := Or.inl ⟨rfl, q1341⟩
theorem zy_X2_row : yX2_row.cls ≠ "java/lang/invoke/MethodHandle" ∧ yX2_row.cls ≠ "java/lang/invoke/VarHandle" := ⟨by decide +kernel, by decide +kernel⟩
theorem zl_X2_row : (parseMethodDescriptor yX2_row.desc).map (fun d => d.parameters.length) = some 1 := by decide +kernel
theorem zk_X2_beginDay : z_code yX2_beginDay cX2_beginDay 3 (Option.some Jvm.ClassFile.FieldType.int) [] := Or.inl ⟨rfl, q1399⟩
theorem zy_X2_beginDay : yX2_beginDay.cls ≠ "java/lang/invoke/MethodHandle" ∧ yX2_beginDay.cls ≠ "java/lang/invoke/VarHandle" := ⟨by decide +kernel, by decide +kernel⟩
theorem zl_X2_beginDay : (parseMethodDescriptor yX2_beginDay.desc).map (fun d => d.parameters.length) = some 0 := by decide +kernel
theorem zk_X2_beginPartition : z_code yX2_beginPartition cX2_beginPartition 3 (Option.none : Option Jvm.ClassFile.FieldType) [] := Or.inl ⟨rfl, q1403⟩
theorem zy_X2_beginPartition : yX2_beginPartition.cls ≠ "java/lang/invoke/MethodHandle" ∧ yX2_beginPartition.cls ≠ "java/lang/invoke/VarHandle" := ⟨by decide +kernel, by decide +kernel⟩
theorem zl_X2_beginPartition : (parseMethodDescriptor yX2_beginPartition.desc).map (fun d => d.parameters.length) = some 2 := by decide +kernel
theorem zk_X2_addBase : z_code yX2_addBase cX2_addBase 3 (Option.some Jvm.ClassFile.FieldType.int) [] := Or.inl ⟨rfl, q1409⟩
theorem zy_X2_addBase : yX2_addBase.cls ≠ "java/lang/invoke/MethodHandle" ∧ yX2_addBase.cls ≠ "java/lang/invoke/VarHandle" := ⟨by decide +kernel, by decide +kernel⟩
theorem zl_X2_addBase : (parseMethodDescriptor yX2_addBase.desc).map (fun d => d.parameters.length) = some 2 := by decide +kernel
theorem zk_X2_add : z_code yX2_add cX2_add 3 (Option.some Jvm.ClassFile.FieldType.int) [] := Or.inl ⟨rfl, q1480⟩
theorem zy_X2_add : yX2_add.cls ≠ "java/lang/invoke/MethodHandle" ∧ yX2_add.cls ≠ "java/lang/invoke/VarHandle" := ⟨by decide +kernel, by decide +kernel⟩
theorem zl_X2_add : (parseMethodDescriptor yX2_add.desc).map (fun d => d.parameters.length) = some 1 := by decide +kernel
theorem zk_X2_addPair : z_code yX2_addPair cX2_addPair 5 (Option.some Jvm.ClassFile.FieldType.int) [] := Or.inl ⟨rfl, q1503⟩
theorem zy_X2_addPair : yX2_addPair.cls ≠ "java/lang/invoke/MethodHandle" ∧ yX2_addPair.cls ≠ "java/lang/invoke/VarHandle" := ⟨by decide +kernel, by decide +kernel⟩
theorem zl_X2_addPair : (parseMethodDescriptor yX2_addPair.desc).map (fun d => d.parameters.length) = some 3 := by decide +kernel
theorem zk_X2_step : z_code yX2_step cX2_step 2 (Option.some (Jvm.ClassFile.FieldType.object "WeirfoldLane$Step")) [] := Or.inl ⟨rfl, q1508⟩
theorem zy_X2_step : yX2_step.cls ≠ "java/lang/invoke/MethodHandle" ∧ yX2_step.cls ≠ "java/lang/invoke/VarHandle" := ⟨by decide +kernel, by decide +kernel⟩
theorem zl_X2_step : (parseMethodDescriptor yX2_step.desc).map (fun d => d.parameters.length) = some 1 := by decide +kernel
theorem zk_X2_addRunning : z_code yX2_addRunning cX2_addRunning 2 (Option.some Jvm.ClassFile.FieldType.int) [] := Or.inl ⟨rfl, q1547⟩
theorem zy_X2_addRunning : yX2_addRunning.cls ≠ "java/lang/invoke/MethodHandle" ∧ yX2_addRunning.cls ≠ "java/lang/invoke/VarHandle" := ⟨by decide +kernel, by decide +kernel⟩
theorem zl_X2_addRunning : (parseMethodDescriptor yX2_addRunning.desc).map (fun d => d.parameters.length) = some 1 := by decide +kernel
theorem zk_X2_addBounded : z_code yX2_addBounded cX2_addBounded 4 (Option.some Jvm.ClassFile.FieldType.int) [] := Or.inl ⟨rfl, q1565⟩
theorem zy_X2_addBounded : yX2_addBounded.cls ≠ "java/lang/invoke/MethodHandle" ∧ yX2_addBounded.cls ≠ "java/lang/invoke/VarHandle" := ⟨by decide +kernel, by decide +kernel⟩
theorem zl_X2_addBounded : (parseMethodDescriptor yX2_addBounded.desc).map (fun d => d.parameters.length) = some 2 := by decide +kernel
theorem zk_X2_removeStep : z_code yX2_removeStep cX2_removeStep 5 (Option.some Jvm.ClassFile.FieldType.int) [] := Or.inl ⟨rfl, q1580⟩
theorem zy_X2_removeStep : yX2_removeStep.cls ≠ "java/lang/invoke/MethodHandle" ∧ yX2_removeStep.cls ≠ "java/lang/invoke/VarHandle" := ⟨by decide +kernel, by decide +kernel⟩
theorem zl_X2_removeStep : (parseMethodDescriptor yX2_removeStep.desc).map (fun d => d.parameters.length) = some 1 := by decide +kernel
theorem zk_X2_repair : z_code yX2_repair cX2_repair 6 (Option.some Jvm.ClassFile.FieldType.int) [] := Or.inl ⟨rfl, q1608⟩
theorem zy_X2_repair : yX2_repair.cls ≠ "java/lang/invoke/MethodHandle" ∧ yX2_repair.cls ≠ "java/lang/invoke/VarHandle" := ⟨by decide +kernel, by decide +kernel⟩
theorem zl_X2_repair : (parseMethodDescriptor yX2_repair.desc).map (fun d => d.parameters.length) = some 1 := by decide +kernel
theorem zk_X2_requireDay : z_code yX2_requireDay cX2_requireDay 2 (Option.none : Option Jvm.ClassFile.FieldType) [] := Or.inl ⟨rfl, q1612⟩
theorem zy_X2_requireDay : yX2_requireDay.cls ≠ "java/lang/invoke/MethodHandle" ∧ yX2_requireDay.cls ≠ "java/lang/invoke/VarHandle" := ⟨by decide +kernel, by decide +kernel⟩
theorem zl_X2_requireDay : (parseMethodDescriptor yX2_requireDay.desc).map (fun d => d.parameters.length) = some 1 := by decide +kernel
theorem zk_X2_firstStaleDay : z_code yX2_firstStaleDay cX2_firstStaleDay 4 (Option.some Jvm.ClassFile.FieldType.int) [] := Or.inl ⟨rfl, q1616⟩
theorem zy_X2_firstStaleDay : yX2_firstStaleDay.cls ≠ "java/lang/invoke/MethodHandle" ∧ yX2_firstStaleDay.cls ≠ "java/lang/invoke/VarHandle" := ⟨by decide +kernel, by decide +kernel⟩
theorem zl_X2_firstStaleDay : (parseMethodDescriptor yX2_firstStaleDay.desc).map (fun d => d.parameters.length) = some 0 := by decide +kernel
theorem zk_X20_init : z_code yX20_init cX20_init 2 (Option.none : Option Jvm.ClassFile.FieldType) [] := Or.inl ⟨rfl, q2052⟩
theorem zy_X20_init : yX20_init.cls ≠ "java/lang/invoke/MethodHandle" ∧ yX20_init.cls ≠ "java/lang/invoke/VarHandle" := ⟨by decide +kernel, by decide +kernel⟩
theorem zl_X20_init : (parseMethodDescriptor yX20_init.desc).map (fun d => d.parameters.length) = some 1 := by decide +kernel
theorem zk_X20_findAll : z_code yX20_findAll cX20_findAll 5 (Option.some Jvm.ClassFile.FieldType.long) [] := Or.inl ⟨rfl, q2070⟩
theorem zy_X20_findAll : yX20_findAll.cls ≠ "java/lang/invoke/MethodHandle" ∧ yX20_findAll.cls ≠ "java/lang/invoke/VarHandle" := ⟨by decide +kernel, by decide +kernel⟩
theorem zl_X20_findAll : (parseMethodDescriptor yX20_findAll.desc).map (fun d => d.parameters.length) = some 1 := by decide +kernel
theorem zk_X20_find : z_code yX20_find cX20_find 3 (Option.some Jvm.ClassFile.FieldType.long) [] := Or.inl ⟨rfl, q2074⟩
theorem zy_X20_find : yX20_find.cls ≠ "java/lang/invoke/MethodHandle" ∧ yX20_find.cls ≠ "java/lang/invoke/VarHandle" := ⟨by decide +kernel, by decide +kernel⟩
theorem zl_X20_find : (parseMethodDescriptor yX20_find.desc).map (fun d => d.parameters.length) = some 2 := by decide +kernel
theorem zk_X20_of : z_code yX20_of cX20_of 2 (Option.some Jvm.ClassFile.FieldType.long) [] := Or.inl ⟨rfl, q2087⟩
theorem zy_X20_of : yX20_of.cls ≠ "java/lang/invoke/MethodHandle" ∧ yX20_of.cls ≠ "java/lang/invoke/VarHandle" := ⟨by decide +kernel, by decide +kernel⟩
theorem zl_X20_of : (parseMethodDescriptor yX20_of.desc).map (fun d => d.parameters.length) = some 1 := by decide +kernel
theorem zk_X21_init : z_code yX21_init cX21_init 2 (Option.none : Option Jvm.ClassFile.FieldType) [] := Or.inl ⟨rfl, q2135⟩
theorem zy_X21_init : yX21_init.cls ≠ "java/lang/invoke/MethodHandle" ∧ yX21_init.cls ≠ "java/lang/invoke/VarHandle" := ⟨by decide +kernel, by decide +kernel⟩
theorem zl_X21_init : (parseMethodDescriptor yX21_init.desc).map (fun d => d.parameters.length) = some 1 := by decide +kernel
theorem zk_X21_decide : z_code yX21_decide cX21_decide 8 (Option.none : Option Jvm.ClassFile.FieldType) [] := Or.inl ⟨rfl, q2159⟩
theorem zy_X21_decide : yX21_decide.cls ≠ "java/lang/invoke/MethodHandle" ∧ yX21_decide.cls ≠ "java/lang/invoke/VarHandle" := ⟨by decide +kernel, by decide +kernel⟩
theorem zl_X21_decide : (parseMethodDescriptor yX21_decide.desc).map (fun d => d.parameters.length) = some 4 := by decide +kernel
theorem zk_X22_init : z_code yX22_init cX22_init 2 (Option.none : Option Jvm.ClassFile.FieldType) [] := Or.inl ⟨rfl, q2261⟩
theorem zy_X22_init : yX22_init.cls ≠ "java/lang/invoke/MethodHandle" ∧ yX22_init.cls ≠ "java/lang/invoke/VarHandle" := ⟨by decide +kernel, by decide +kernel⟩
theorem zl_X22_init : (parseMethodDescriptor yX22_init.desc).map (fun d => d.parameters.length) = some 1 := by decide +kernel
theorem zk_X22_text : z_code yX22_text cX22_text 3 (Option.some (Jvm.ClassFile.FieldType.object "java/util/List")) [] := Or.inl ⟨rfl, q2273⟩
theorem zy_X22_text : yX22_text.cls ≠ "java/lang/invoke/MethodHandle" ∧ yX22_text.cls ≠ "java/lang/invoke/VarHandle" := ⟨by decide +kernel, by decide +kernel⟩
theorem zl_X22_text : (parseMethodDescriptor yX22_text.desc).map (fun d => d.parameters.length) = some 0 := by decide +kernel
theorem zk_X22_command : z_code yX22_command cX22_command 7 (Option.some (Jvm.ClassFile.FieldType.object "WeirfoldLane$Change")) [] := Or.inl ⟨rfl, q2279⟩
theorem zy_X22_command : yX22_command.cls ≠ "java/lang/invoke/MethodHandle" ∧ yX22_command.cls ≠ "java/lang/invoke/VarHandle" := ⟨by decide +kernel, by decide +kernel⟩
theorem zl_X22_command : (parseMethodDescriptor yX22_command.desc).map (fun d => d.parameters.length) = some 0 := by decide +kernel
theorem zk_X22_word : z_code yX22_word cX22_word 5 (Option.some (Jvm.ClassFile.FieldType.object "java/lang/String")) [] := Or.inl ⟨rfl, q2283⟩
theorem zy_X22_word : yX22_word.cls ≠ "java/lang/invoke/MethodHandle" ∧ yX22_word.cls ≠ "java/lang/invoke/VarHandle" := ⟨by decide +kernel, by decide +kernel⟩
theorem zl_X22_word : (parseMethodDescriptor yX22_word.desc).map (fun d => d.parameters.length) = some 0 := by decide +kernel
theorem zk_X22_isAt : z_code yX22_isAt cX22_isAt 2 (Option.some Jvm.ClassFile.FieldType.boolean) [] := Or.inl ⟨rfl, q2316⟩
theorem zy_X22_isAt : yX22_isAt.cls ≠ "java/lang/invoke/MethodHandle" ∧ yX22_isAt.cls ≠ "java/lang/invoke/VarHandle" := ⟨by decide +kernel, by decide +kernel⟩
theorem zl_X22_isAt : (parseMethodDescriptor yX22_isAt.desc).map (fun d => d.parameters.length) = some 1 := by decide +kernel
theorem zk_X22_take : z_code yX22_take cX22_take 2 (Option.some Jvm.ClassFile.FieldType.char) [] := Or.inl ⟨rfl, q2352⟩
theorem zy_X22_take : yX22_take.cls ≠ "java/lang/invoke/MethodHandle" ∧ yX22_take.cls ≠ "java/lang/invoke/VarHandle" := ⟨by decide +kernel, by decide +kernel⟩
theorem zl_X22_take : (parseMethodDescriptor yX22_take.desc).map (fun d => d.parameters.length) = some 1 := by decide +kernel
theorem zk_X22_digit : z_code yX22_digit cX22_digit 1 (Option.some Jvm.ClassFile.FieldType.int) [] := Or.inl ⟨rfl, q2394⟩
theorem zy_X22_digit : yX22_digit.cls ≠ "java/lang/invoke/MethodHandle" ∧ yX22_digit.cls ≠ "java/lang/invoke/VarHandle" := ⟨by decide +kernel, by decide +kernel⟩
theorem zl_X22_digit : (parseMethodDescriptor yX22_digit.desc).map (fun d => d.parameters.length) = some 0 := by decide +kernel
theorem zk_X22_numberAfterSpace : z_code yX22_numberAfterSpace cX22_numberAfterSpace 2 (Option.some Jvm.ClassFile.FieldType.int) [] := Or.inl ⟨rfl, q2399⟩
theorem zy_X22_numberAfterSpace : yX22_numberAfterSpace.cls ≠ "java/lang/invoke/MethodHandle" ∧ yX22_numberAfterSpace.cls ≠ "java/lang/invoke/VarHandle" := ⟨by decide +kernel, by decide +kernel⟩
theorem zl_X22_numberAfterSpace : (parseMethodDescriptor yX22_numberAfterSpace.desc).map (fun d => d.parameters.length) = some 0 := by decide +kernel
theorem zk_X22_number : z_code yX22_number cX22_number 2 (Option.some Jvm.ClassFile.FieldType.int) [] := Or.inl ⟨rfl, q2403⟩
theorem zy_X22_number : yX22_number.cls ≠ "java/lang/invoke/MethodHandle" ∧ yX22_number.cls ≠ "java/lang/invoke/VarHandle" := ⟨by decide +kernel, by decide +kernel⟩
theorem zl_X22_number : (parseMethodDescriptor yX22_number.desc).map (fun d => d.parameters.length) = some 0 := by decide +kernel
theorem zk_X23_init : z_code yX23_init cX23_init 2 (Option.none : Option Jvm.ClassFile.FieldType) [] := Or.inl ⟨rfl, q2341⟩
theorem zy_X23_init : yX23_init.cls ≠ "java/lang/invoke/MethodHandle" ∧ yX23_init.cls ≠ "java/lang/invoke/VarHandle" := ⟨by decide +kernel, by decide +kernel⟩
theorem zl_X23_init : (parseMethodDescriptor yX23_init.desc).map (fun d => d.parameters.length) = some 1 := by decide +kernel
theorem zk_X3_init : z_code yX3_init cX3_init 1 (Option.none : Option Jvm.ClassFile.FieldType) [] := Or.inl ⟨rfl, q2693⟩
theorem zy_X3_init : yX3_init.cls ≠ "java/lang/invoke/MethodHandle" ∧ yX3_init.cls ≠ "java/lang/invoke/VarHandle" := ⟨by decide +kernel, by decide +kernel⟩
theorem zl_X3_init : (parseMethodDescriptor yX3_init.desc).map (fun d => d.parameters.length) = some 0 := by decide +kernel
theorem zk_X3_thrown : z_code yX3_thrown cX3_thrown 1 (Option.some Jvm.ClassFile.FieldType.int) [] := Or.inl ⟨rfl, q2787⟩
theorem zy_X3_thrown : yX3_thrown.cls ≠ "java/lang/invoke/MethodHandle" ∧ yX3_thrown.cls ≠ "java/lang/invoke/VarHandle" := ⟨by decide +kernel, by decide +kernel⟩
theorem zl_X3_thrown : (parseMethodDescriptor yX3_thrown.desc).map (fun d => d.parameters.length) = some 0 := by decide +kernel
theorem zk_X3_addRow : z_code yX3_addRow cX3_addRow 5 (Option.some Jvm.ClassFile.FieldType.int) [] := Or.inl ⟨rfl, q2791⟩
theorem zy_X3_addRow : yX3_addRow.cls ≠ "java/lang/invoke/MethodHandle" ∧ yX3_addRow.cls ≠ "java/lang/invoke/VarHandle" := ⟨by decide +kernel, by decide +kernel⟩
theorem zl_X3_addRow : (parseMethodDescriptor yX3_addRow.desc).map (fun d => d.parameters.length) = some 3 := by decide +kernel
theorem zk_X3_begin : z_code yX3_begin cX3_begin 1 (Option.none : Option Jvm.ClassFile.FieldType) [] := Or.inl ⟨rfl, q2795⟩
theorem zy_X3_begin : yX3_begin.cls ≠ "java/lang/invoke/MethodHandle" ∧ yX3_begin.cls ≠ "java/lang/invoke/VarHandle" := ⟨by decide +kernel, by decide +kernel⟩
theorem zl_X3_begin : (parseMethodDescriptor yX3_begin.desc).map (fun d => d.parameters.length) = some 0 := by decide +kernel
theorem zk_X3_copy : z_code yX3_copy cX3_copy 5 (Option.none : Option Jvm.ClassFile.FieldType) [] := Or.inl ⟨rfl, q2798⟩
theorem zy_X3_copy : yX3_copy.cls ≠ "java/lang/invoke/MethodHandle" ∧ yX3_copy.cls ≠ "java/lang/invoke/VarHandle" := ⟨by decide +kernel, by decide +kernel⟩
theorem zl_X3_copy : (parseMethodDescriptor yX3_copy.desc).map (fun d => d.parameters.length) = some 4 := by decide +kernel
theorem zk_X3_copyKept : z_code yX3_copyKept cX3_copyKept 5 (Option.none : Option Jvm.ClassFile.FieldType) [] := Or.inl ⟨rfl, q2801⟩
theorem zy_X3_copyKept : yX3_copyKept.cls ≠ "java/lang/invoke/MethodHandle" ∧ yX3_copyKept.cls ≠ "java/lang/invoke/VarHandle" := ⟨by decide +kernel, by decide +kernel⟩
theorem zl_X3_copyKept : (parseMethodDescriptor yX3_copyKept.desc).map (fun d => d.parameters.length) = some 4 := by decide +kernel
theorem zk_X3_cannotRow : z_code yX3_cannotRow cX3_cannotRow 4 (Option.some Jvm.ClassFile.FieldType.int) [] := Or.inl ⟨rfl, q2805⟩
theorem zy_X3_cannotRow : yX3_cannotRow.cls ≠ "java/lang/invoke/MethodHandle" ∧ yX3_cannotRow.cls ≠ "java/lang/invoke/VarHandle" := ⟨by decide +kernel, by decide +kernel⟩
theorem zl_X3_cannotRow : (parseMethodDescriptor yX3_cannotRow.desc).map (fun d => d.parameters.length) = some 3 := by decide +kernel
theorem zk_X3_isGroup : z_code yX3_isGroup cX3_isGroup 1 (Option.some Jvm.ClassFile.FieldType.boolean) [] := Or.inl ⟨rfl, q2808⟩
theorem zy_X3_isGroup : yX3_isGroup.cls ≠ "java/lang/invoke/MethodHandle" ∧ yX3_isGroup.cls ≠ "java/lang/invoke/VarHandle" := ⟨by decide +kernel, by decide +kernel⟩
theorem zl_X3_isGroup : (parseMethodDescriptor yX3_isGroup.desc).map (fun d => d.parameters.length) = some 1 := by decide +kernel
theorem zk_X3_in : z_code yX3_in cX3_in 3 (Option.some Jvm.ClassFile.FieldType.boolean) [] := Or.inl ⟨rfl, q2811⟩
theorem zy_X3_in : yX3_in.cls ≠ "java/lang/invoke/MethodHandle" ∧ yX3_in.cls ≠ "java/lang/invoke/VarHandle" := ⟨by decide +kernel, by decide +kernel⟩
theorem zl_X3_in : (parseMethodDescriptor yX3_in.desc).map (fun d => d.parameters.length) = some 3 := by decide +kernel
theorem zk_X3_deny : z_code yX3_deny cX3_deny 4 (Option.some Jvm.ClassFile.FieldType.int) [] := Or.inl ⟨rfl, q2815⟩
theorem zy_X3_deny : yX3_deny.cls ≠ "java/lang/invoke/MethodHandle" ∧ yX3_deny.cls ≠ "java/lang/invoke/VarHandle" := ⟨by decide +kernel, by decide +kernel⟩
theorem zl_X3_deny : (parseMethodDescriptor yX3_deny.desc).map (fun d => d.parameters.length) = some 3 := by decide +kernel
theorem zk_X3_fail : z_code yX3_fail cX3_fail 2 (Option.some Jvm.ClassFile.FieldType.int) [] := Or.inl ⟨rfl, q2819⟩
theorem zy_X3_fail : yX3_fail.cls ≠ "java/lang/invoke/MethodHandle" ∧ yX3_fail.cls ≠ "java/lang/invoke/VarHandle" := ⟨by decide +kernel, by decide +kernel⟩
theorem zl_X3_fail : (parseMethodDescriptor yX3_fail.desc).map (fun d => d.parameters.length) = some 1 := by decide +kernel
theorem zk_X3_newRow : z_code yX3_newRow cX3_newRow 6 (Option.some Jvm.ClassFile.FieldType.int) [] := Or.inl ⟨rfl, q2823⟩
theorem zy_X3_newRow : yX3_newRow.cls ≠ "java/lang/invoke/MethodHandle" ∧ yX3_newRow.cls ≠ "java/lang/invoke/VarHandle" := ⟨by decide +kernel, by decide +kernel⟩
theorem zl_X3_newRow : (parseMethodDescriptor yX3_newRow.desc).map (fun d => d.parameters.length) = some 3 := by decide +kernel
theorem zk_X3_touched : z_code yX3_touched cX3_touched 4 (Option.none : Option Jvm.ClassFile.FieldType) [] := Or.inl ⟨rfl, q2827⟩
theorem zy_X3_touched : yX3_touched.cls ≠ "java/lang/invoke/MethodHandle" ∧ yX3_touched.cls ≠ "java/lang/invoke/VarHandle" := ⟨by decide +kernel, by decide +kernel⟩
theorem zl_X3_touched : (parseMethodDescriptor yX3_touched.desc).map (fun d => d.parameters.length) = some 1 := by decide +kernel
theorem zk_X3_isStaleNow : z_code yX3_isStaleNow cX3_isStaleNow 3 (Option.some Jvm.ClassFile.FieldType.boolean) [] := Or.inl ⟨rfl, q2831⟩
theorem zy_X3_isStaleNow : yX3_isStaleNow.cls ≠ "java/lang/invoke/MethodHandle" ∧ yX3_isStaleNow.cls ≠ "java/lang/invoke/VarHandle" := ⟨by decide +kernel, by decide +kernel⟩
theorem zl_X3_isStaleNow : (parseMethodDescriptor yX3_isStaleNow.desc).map (fun d => d.parameters.length) = some 2 := by decide +kernel
theorem zk_X3_compute : z_code yX3_compute cX3_compute 4 (Option.none : Option Jvm.ClassFile.FieldType) [] := Or.inl ⟨rfl, q2835⟩
theorem zy_X3_compute : yX3_compute.cls ≠ "java/lang/invoke/MethodHandle" ∧ yX3_compute.cls ≠ "java/lang/invoke/VarHandle" := ⟨by decide +kernel, by decide +kernel⟩
theorem zl_X3_compute : (parseMethodDescriptor yX3_compute.desc).map (fun d => d.parameters.length) = some 2 := by decide +kernel
theorem zk_X3_at : z_code yX3_at cX3_at 3 (Option.some Jvm.ClassFile.FieldType.int) [] := Or.inl ⟨rfl, q2838⟩
theorem zy_X3_at : yX3_at.cls ≠ "java/lang/invoke/MethodHandle" ∧ yX3_at.cls ≠ "java/lang/invoke/VarHandle" := ⟨by decide +kernel, by decide +kernel⟩
theorem zl_X3_at : (parseMethodDescriptor yX3_at.desc).map (fun d => d.parameters.length) = some 3 := by decide +kernel
theorem zk_X3_made : z_code yX3_made cX3_made 10 (Option.some Jvm.ClassFile.FieldType.long) [] := Or.inl ⟨rfl, q2842⟩
theorem zy_X3_made : yX3_made.cls ≠ "java/lang/invoke/MethodHandle" ∧ yX3_made.cls ≠ "java/lang/invoke/VarHandle" := ⟨by decide +kernel, by decide +kernel⟩
theorem zl_X3_made : (parseMethodDescriptor yX3_made.desc).map (fun d => d.parameters.length) = some 4 := by decide +kernel
theorem zk_X3_isBase : z_code yX3_isBase cX3_isBase 2 (Option.some Jvm.ClassFile.FieldType.boolean) [] := Or.inl ⟨rfl, q2846⟩
theorem zy_X3_isBase : yX3_isBase.cls ≠ "java/lang/invoke/MethodHandle" ∧ yX3_isBase.cls ≠ "java/lang/invoke/VarHandle" := ⟨by decide +kernel, by decide +kernel⟩
theorem zl_X3_isBase : (parseMethodDescriptor yX3_isBase.desc).map (fun d => d.parameters.length) = some 1 := by decide +kernel
theorem zk_X3_s : z_code yX3_s cX3_s 3 (Option.some Jvm.ClassFile.FieldType.int) [] := Or.inl ⟨rfl, q2850⟩
theorem zy_X3_s : yX3_s.cls ≠ "java/lang/invoke/MethodHandle" ∧ yX3_s.cls ≠ "java/lang/invoke/VarHandle" := ⟨by decide +kernel, by decide +kernel⟩
theorem zl_X3_s : (parseMethodDescriptor yX3_s.desc).map (fun d => d.parameters.length) = some 2 := by decide +kernel
theorem zk_X3_ofRows : z_code yX3_ofRows cX3_ofRows 9 (Option.some Jvm.ClassFile.FieldType.long) [] := Or.inl ⟨rfl, q2854⟩
theorem zy_X3_ofRows : yX3_ofRows.cls ≠ "java/lang/invoke/MethodHandle" ∧ yX3_ofRows.cls ≠ "java/lang/invoke/VarHandle" := ⟨by decide +kernel, by decide +kernel⟩
theorem zl_X3_ofRows : (parseMethodDescriptor yX3_ofRows.desc).map (fun d => d.parameters.length) = some 3 := by decide +kernel
theorem zk_X3_counts : z_code yX3_counts cX3_counts 5 (Option.some Jvm.ClassFile.FieldType.boolean) [] := Or.inl ⟨rfl, q2858⟩
theorem zy_X3_counts : yX3_counts.cls ≠ "java/lang/invoke/MethodHandle" ∧ yX3_counts.cls ≠ "java/lang/invoke/VarHandle" := ⟨by decide +kernel, by decide +kernel⟩
theorem zl_X3_counts : (parseMethodDescriptor yX3_counts.desc).map (fun d => d.parameters.length) = some 4 := by decide +kernel
theorem zk_X3_r : z_code yX3_r cX3_r 3 (Option.some Jvm.ClassFile.FieldType.int) [] := Or.inl ⟨rfl, q2862⟩
theorem zy_X3_r : yX3_r.cls ≠ "java/lang/invoke/MethodHandle" ∧ yX3_r.cls ≠ "java/lang/invoke/VarHandle" := ⟨by decide +kernel, by decide +kernel⟩
theorem zl_X3_r : (parseMethodDescriptor yX3_r.desc).map (fun d => d.parameters.length) = some 2 := by decide +kernel
theorem zk_X3_mark : z_code yX3_mark cX3_mark 4 (Option.none : Option Jvm.ClassFile.FieldType) [] := Or.inl ⟨rfl, q2866⟩
theorem zy_X3_mark : yX3_mark.cls ≠ "java/lang/invoke/MethodHandle" ∧ yX3_mark.cls ≠ "java/lang/invoke/VarHandle" := ⟨by decide +kernel, by decide +kernel⟩
theorem zl_X3_mark : (parseMethodDescriptor yX3_mark.desc).map (fun d => d.parameters.length) = some 3 := by decide +kernel
theorem zk_X3_isFromStale : z_code yX3_isFromStale cX3_isFromStale 5 (Option.some Jvm.ClassFile.FieldType.boolean) [] := Or.inl ⟨rfl, q2870⟩
theorem zy_X3_isFromStale : yX3_isFromStale.cls ≠ "java/lang/invoke/MethodHandle" ∧ yX3_isFromStale.cls ≠ "java/lang/invoke/VarHandle" := ⟨by decide +kernel, by decide +kernel⟩
theorem zl_X3_isFromStale : (parseMethodDescriptor yX3_isFromStale.desc).map (fun d => d.parameters.length) = some 2 := by decide +kernel
theorem zk_X3_commit : z_code yX3_commit cX3_commit 3 (Option.some Jvm.ClassFile.FieldType.int) [] := Or.inl ⟨rfl, q2874⟩
theorem zy_X3_commit : yX3_commit.cls ≠ "java/lang/invoke/MethodHandle" ∧ yX3_commit.cls ≠ "java/lang/invoke/VarHandle" := ⟨by decide +kernel, by decide +kernel⟩
theorem zl_X3_commit : (parseMethodDescriptor yX3_commit.desc).map (fun d => d.parameters.length) = some 1 := by decide +kernel
theorem zk_X3_removeRow : z_code yX3_removeRow cX3_removeRow 2 (Option.some Jvm.ClassFile.FieldType.int) [] := Or.inl ⟨rfl, q2878⟩
theorem zy_X3_removeRow : yX3_removeRow.cls ≠ "java/lang/invoke/MethodHandle" ∧ yX3_removeRow.cls ≠ "java/lang/invoke/VarHandle" := ⟨by decide +kernel, by decide +kernel⟩
theorem zl_X3_removeRow : (parseMethodDescriptor yX3_removeRow.desc).map (fun d => d.parameters.length) = some 1 := by decide +kernel
theorem zk_X3_row : z_code yX3_row cX3_row 3 (Option.some Jvm.ClassFile.FieldType.int) [] := Or.inl ⟨rfl, q2882⟩
theorem zy_X3_row : yX3_row.cls ≠ "java/lang/invoke/MethodHandle" ∧ yX3_row.cls ≠ "java/lang/invoke/VarHandle" := ⟨by decide +kernel, by decide +kernel⟩
theorem zl_X3_row : (parseMethodDescriptor yX3_row.desc).map (fun d => d.parameters.length) = some 1 := by decide +kernel
theorem zk_X3_goneRow : z_code yX3_goneRow cX3_goneRow 6 (Option.some Jvm.ClassFile.FieldType.int) [] := Or.inl ⟨rfl, q2886⟩
theorem zy_X3_goneRow : yX3_goneRow.cls ≠ "java/lang/invoke/MethodHandle" ∧ yX3_goneRow.cls ≠ "java/lang/invoke/VarHandle" := ⟨by decide +kernel, by decide +kernel⟩
theorem zl_X3_goneRow : (parseMethodDescriptor yX3_goneRow.desc).map (fun d => d.parameters.length) = some 1 := by decide +kernel
theorem zk_X3_beginDay : z_code yX3_beginDay cX3_beginDay 2 (Option.some Jvm.ClassFile.FieldType.int) [] := Or.inl ⟨rfl, q2890⟩
theorem zy_X3_beginDay : yX3_beginDay.cls ≠ "java/lang/invoke/MethodHandle" ∧ yX3_beginDay.cls ≠ "java/lang/invoke/VarHandle" := ⟨by decide +kernel, by decide +kernel⟩
theorem zl_X3_beginDay : (parseMethodDescriptor yX3_beginDay.desc).map (fun d => d.parameters.length) = some 0 := by decide +kernel
theorem zk_X3_cannotBegin : z_code yX3_cannotBegin cX3_cannotBegin 1 (Option.some Jvm.ClassFile.FieldType.int) [] := Or.inl ⟨rfl, q2894⟩
theorem zy_X3_cannotBegin : yX3_cannotBegin.cls ≠ "java/lang/invoke/MethodHandle" ∧ yX3_cannotBegin.cls ≠ "java/lang/invoke/VarHandle" := ⟨by decide +kernel, by decide +kernel⟩
theorem zl_X3_cannotBegin : (parseMethodDescriptor yX3_cannotBegin.desc).map (fun d => d.parameters.length) = some 0 := by decide +kernel
theorem zk_X3_begins : z_code yX3_begins cX3_begins 3 (Option.some Jvm.ClassFile.FieldType.int) [] := Or.inl ⟨rfl, q2898⟩
theorem zy_X3_begins : yX3_begins.cls ≠ "java/lang/invoke/MethodHandle" ∧ yX3_begins.cls ≠ "java/lang/invoke/VarHandle" := ⟨by decide +kernel, by decide +kernel⟩
theorem zl_X3_begins : (parseMethodDescriptor yX3_begins.desc).map (fun d => d.parameters.length) = some 0 := by decide +kernel
theorem zk_X3_judged : z_code yX3_judged cX3_judged 3 (Option.some Jvm.ClassFile.FieldType.int) [] := Or.inl ⟨rfl, q2902⟩
theorem zy_X3_judged : yX3_judged.cls ≠ "java/lang/invoke/MethodHandle" ∧ yX3_judged.cls ≠ "java/lang/invoke/VarHandle" := ⟨by decide +kernel, by decide +kernel⟩
theorem zl_X3_judged : (parseMethodDescriptor yX3_judged.desc).map (fun d => d.parameters.length) = some 2 := by decide +kernel
theorem zk_X3_addBase : z_code yX3_addBase cX3_addBase 4 (Option.some Jvm.ClassFile.FieldType.int) [] := Or.inl ⟨rfl, q2906⟩
theorem zy_X3_addBase : yX3_addBase.cls ≠ "java/lang/invoke/MethodHandle" ∧ yX3_addBase.cls ≠ "java/lang/invoke/VarHandle" := ⟨by decide +kernel, by decide +kernel⟩
theorem zl_X3_addBase : (parseMethodDescriptor yX3_addBase.desc).map (fun d => d.parameters.length) = some 2 := by decide +kernel
theorem zk_X3_cannotBase : z_code yX3_cannotBase cX3_cannotBase 4 (Option.some Jvm.ClassFile.FieldType.int) [] := Or.inl ⟨rfl, q2910⟩
theorem zy_X3_cannotBase : yX3_cannotBase.cls ≠ "java/lang/invoke/MethodHandle" ∧ yX3_cannotBase.cls ≠ "java/lang/invoke/VarHandle" := ⟨by decide +kernel, by decide +kernel⟩
theorem zl_X3_cannotBase : (parseMethodDescriptor yX3_cannotBase.desc).map (fun d => d.parameters.length) = some 2 := by decide +kernel
theorem zk_X3_cannotStep : z_code yX3_cannotStep cX3_cannotStep 2 (Option.some Jvm.ClassFile.FieldType.int) [] := Or.inl ⟨rfl, q2914⟩
theorem zy_X3_cannotStep : yX3_cannotStep.cls ≠ "java/lang/invoke/MethodHandle" ∧ yX3_cannotStep.cls ≠ "java/lang/invoke/VarHandle" := ⟨by decide +kernel, by decide +kernel⟩
theorem zl_X3_cannotStep : (parseMethodDescriptor yX3_cannotStep.desc).map (fun d => d.parameters.length) = some 1 := by decide +kernel
theorem zk_X3_newStep : z_code yX3_newStep cX3_newStep 9 (Option.some Jvm.ClassFile.FieldType.int) [] := Or.inl ⟨rfl, q2918⟩
theorem zy_X3_newStep : yX3_newStep.cls ≠ "java/lang/invoke/MethodHandle" ∧ yX3_newStep.cls ≠ "java/lang/invoke/VarHandle" := ⟨by decide +kernel, by decide +kernel⟩
theorem zl_X3_newStep : (parseMethodDescriptor yX3_newStep.desc).map (fun d => d.parameters.length) = some 4 := by decide +kernel
theorem zk_X3_addPair : z_code yX3_addPair cX3_addPair 5 (Option.some Jvm.ClassFile.FieldType.int) [] := Or.inl ⟨rfl, q2922⟩
theorem zy_X3_addPair : yX3_addPair.cls ≠ "java/lang/invoke/MethodHandle" ∧ yX3_addPair.cls ≠ "java/lang/invoke/VarHandle" := ⟨by decide +kernel, by decide +kernel⟩
theorem zl_X3_addPair : (parseMethodDescriptor yX3_addPair.desc).map (fun d => d.parameters.length) = some 3 := by decide +kernel
theorem zk_X3_cannotPair : z_code yX3_cannotPair cX3_cannotPair 4 (Option.some Jvm.ClassFile.FieldType.int) [] := Or.inl ⟨rfl, q2926⟩
theorem zy_X3_cannotPair : yX3_cannotPair.cls ≠ "java/lang/invoke/MethodHandle" ∧ yX3_cannotPair.cls ≠ "java/lang/invoke/VarHandle" := ⟨by decide +kernel, by decide +kernel⟩
theorem zl_X3_cannotPair : (parseMethodDescriptor yX3_cannotPair.desc).map (fun d => d.parameters.length) = some 3 := by decide +kernel
theorem zk_X3_isStep : z_code yX3_isStep cX3_isStep 2 (Option.some Jvm.ClassFile.FieldType.boolean) [] := Or.inl ⟨rfl, q2930⟩
theorem zy_X3_isStep : yX3_isStep.cls ≠ "java/lang/invoke/MethodHandle" ∧ yX3_isStep.cls ≠ "java/lang/invoke/VarHandle" := ⟨by decide +kernel, by decide +kernel⟩
theorem zl_X3_isStep : (parseMethodDescriptor yX3_isStep.desc).map (fun d => d.parameters.length) = some 1 := by decide +kernel
theorem zk_X3_addRunning : z_code yX3_addRunning cX3_addRunning 3 (Option.some Jvm.ClassFile.FieldType.int) [] := Or.inl ⟨rfl, q2934⟩
theorem zy_X3_addRunning : yX3_addRunning.cls ≠ "java/lang/invoke/MethodHandle" ∧ yX3_addRunning.cls ≠ "java/lang/invoke/VarHandle" := ⟨by decide +kernel, by decide +kernel⟩
theorem zl_X3_addRunning : (parseMethodDescriptor yX3_addRunning.desc).map (fun d => d.parameters.length) = some 1 := by decide +kernel
theorem zk_X3_cannotRun : z_code yX3_cannotRun cX3_cannotRun 2 (Option.some Jvm.ClassFile.FieldType.int) [] := Or.inl ⟨rfl, q2938⟩
theorem zy_X3_cannotRun : yX3_cannotRun.cls ≠ "java/lang/invoke/MethodHandle" ∧ yX3_cannotRun.cls ≠ "java/lang/invoke/VarHandle" := ⟨by decide +kernel, by decide +kernel⟩
theorem zl_X3_cannotRun : (parseMethodDescriptor yX3_cannotRun.desc).map (fun d => d.parameters.length) = some 1 := by decide +kernel
theorem zk_X3_addBounded : z_code yX3_addBounded cX3_addBounded 4 (Option.some Jvm.ClassFile.FieldType.int) [] := Or.inl ⟨rfl, q2942⟩
theorem zy_X3_addBounded : yX3_addBounded.cls ≠ "java/lang/invoke/MethodHandle" ∧ yX3_addBounded.cls ≠ "java/lang/invoke/VarHandle" := ⟨by decide +kernel, by decide +kernel⟩
theorem zl_X3_addBounded : (parseMethodDescriptor yX3_addBounded.desc).map (fun d => d.parameters.length) = some 2 := by decide +kernel
theorem zk_X3_cannotKeep : z_code yX3_cannotKeep cX3_cannotKeep 3 (Option.some Jvm.ClassFile.FieldType.int) [] := Or.inl ⟨rfl, q2946⟩
theorem zy_X3_cannotKeep : yX3_cannotKeep.cls ≠ "java/lang/invoke/MethodHandle" ∧ yX3_cannotKeep.cls ≠ "java/lang/invoke/VarHandle" := ⟨by decide +kernel, by decide +kernel⟩
theorem zl_X3_cannotKeep : (parseMethodDescriptor yX3_cannotKeep.desc).map (fun d => d.parameters.length) = some 2 := by decide +kernel
theorem zk_X3_removeStep : z_code yX3_removeStep cX3_removeStep 3 (Option.some Jvm.ClassFile.FieldType.int) [] := Or.inl ⟨rfl, q2950⟩
theorem zy_X3_removeStep : yX3_removeStep.cls ≠ "java/lang/invoke/MethodHandle" ∧ yX3_removeStep.cls ≠ "java/lang/invoke/VarHandle" := ⟨by decide +kernel, by decide +kernel⟩
theorem zl_X3_removeStep : (parseMethodDescriptor yX3_removeStep.desc).map (fun d => d.parameters.length) = some 1 := by decide +kernel
theorem zk_X3_cannotCut : z_code yX3_cannotCut cX3_cannotCut 3 (Option.some Jvm.ClassFile.FieldType.int) [] := Or.inl ⟨rfl, q2954⟩
theorem zy_X3_cannotCut : yX3_cannotCut.cls ≠ "java/lang/invoke/MethodHandle" ∧ yX3_cannotCut.cls ≠ "java/lang/invoke/VarHandle" := ⟨by decide +kernel, by decide +kernel⟩
theorem zl_X3_cannotCut : (parseMethodDescriptor yX3_cannotCut.desc).map (fun d => d.parameters.length) = some 1 := by decide +kernel
theorem zk_X3_isInput : z_code yX3_isInput cX3_isInput 3 (Option.some Jvm.ClassFile.FieldType.boolean) [] := Or.inl ⟨rfl, q2958⟩
theorem zy_X3_isInput : yX3_isInput.cls ≠ "java/lang/invoke/MethodHandle" ∧ yX3_isInput.cls ≠ "java/lang/invoke/VarHandle" := ⟨by decide +kernel, by decide +kernel⟩
theorem zl_X3_isInput : (parseMethodDescriptor yX3_isInput.desc).map (fun d => d.parameters.length) = some 2 := by decide +kernel
theorem zk_X3_cut : z_code yX3_cut cX3_cut 4 (Option.some Jvm.ClassFile.FieldType.int) [] := Or.inl ⟨rfl, q2962⟩
theorem zy_X3_cut : yX3_cut.cls ≠ "java/lang/invoke/MethodHandle" ∧ yX3_cut.cls ≠ "java/lang/invoke/VarHandle" := ⟨by decide +kernel, by decide +kernel⟩
theorem zl_X3_cut : (parseMethodDescriptor yX3_cut.desc).map (fun d => d.parameters.length) = some 1 := by decide +kernel
theorem zk_X3_repair : z_code yX3_repair cX3_repair 3 (Option.some Jvm.ClassFile.FieldType.int) [] := Or.inl ⟨rfl, q2966⟩
theorem zy_X3_repair : yX3_repair.cls ≠ "java/lang/invoke/MethodHandle" ∧ yX3_repair.cls ≠ "java/lang/invoke/VarHandle" := ⟨by decide +kernel, by decide +kernel⟩
theorem zl_X3_repair : (parseMethodDescriptor yX3_repair.desc).map (fun d => d.parameters.length) = some 1 := by decide +kernel
theorem zk_X3_cannotRepair : z_code yX3_cannotRepair cX3_cannotRepair 4 (Option.some Jvm.ClassFile.FieldType.int) [] := Or.inl ⟨rfl, q2970⟩
theorem zy_X3_cannotRepair : yX3_cannotRepair.cls ≠ "java/lang/invoke/MethodHandle" ∧ yX3_cannotRepair.cls ≠ "java/lang/invoke/VarHandle" := ⟨by decide +kernel, by decide +kernel⟩
theorem zl_X3_cannotRepair : (parseMethodDescriptor yX3_cannotRepair.desc).map (fun d => d.parameters.length) = some 1 := by decide +kernel
theorem zk_X3_isDay : z_code yX3_isDay cX3_isDay 2 (Option.some Jvm.ClassFile.FieldType.boolean) [] := Or.inl ⟨rfl, q2974⟩
theorem zy_X3_isDay : yX3_isDay.cls ≠ "java/lang/invoke/MethodHandle" ∧ yX3_isDay.cls ≠ "java/lang/invoke/VarHandle" := ⟨by decide +kernel, by decide +kernel⟩
theorem zl_X3_isDay : (parseMethodDescriptor yX3_isDay.desc).map (fun d => d.parameters.length) = some 1 := by decide +kernel
theorem zk_X3_repairs : z_code yX3_repairs cX3_repairs 4 (Option.some Jvm.ClassFile.FieldType.int) [] := Or.inl ⟨rfl, q2978⟩
theorem zy_X3_repairs : yX3_repairs.cls ≠ "java/lang/invoke/MethodHandle" ∧ yX3_repairs.cls ≠ "java/lang/invoke/VarHandle" := ⟨by decide +kernel, by decide +kernel⟩
theorem zl_X3_repairs : (parseMethodDescriptor yX3_repairs.desc).map (fun d => d.parameters.length) = some 1 := by decide +kernel
theorem zk_X3_today : z_code yX3_today cX3_today 1 (Option.some Jvm.ClassFile.FieldType.int) [] := Or.inl ⟨rfl, q2982⟩
theorem zy_X3_today : yX3_today.cls ≠ "java/lang/invoke/MethodHandle" ∧ yX3_today.cls ≠ "java/lang/invoke/VarHandle" := ⟨by decide +kernel, by decide +kernel⟩
theorem zl_X3_today : (parseMethodDescriptor yX3_today.desc).map (fun d => d.parameters.length) = some 0 := by decide +kernel
theorem zk_X3_plain : z_code yX3_plain cX3_plain 2 (Option.some Jvm.ClassFile.FieldType.int) [] := Or.inl ⟨rfl, q2986⟩
theorem zy_X3_plain : yX3_plain.cls ≠ "java/lang/invoke/MethodHandle" ∧ yX3_plain.cls ≠ "java/lang/invoke/VarHandle" := ⟨by decide +kernel, by decide +kernel⟩
theorem zl_X3_plain : (parseMethodDescriptor yX3_plain.desc).map (fun d => d.parameters.length) = some 1 := by decide +kernel
theorem zk_X3_rows : z_code yX3_rows cX3_rows 1 (Option.some Jvm.ClassFile.FieldType.int) [] := Or.inl ⟨rfl, q2990⟩
theorem zy_X3_rows : yX3_rows.cls ≠ "java/lang/invoke/MethodHandle" ∧ yX3_rows.cls ≠ "java/lang/invoke/VarHandle" := ⟨by decide +kernel, by decide +kernel⟩
theorem zl_X3_rows : (parseMethodDescriptor yX3_rows.desc).map (fun d => d.parameters.length) = some 0 := by decide +kernel
theorem zk_X3_rowAt : z_code yX3_rowAt cX3_rowAt 2 (Option.some Jvm.ClassFile.FieldType.int) [] := Or.inl ⟨rfl, q2994⟩
theorem zy_X3_rowAt : yX3_rowAt.cls ≠ "java/lang/invoke/MethodHandle" ∧ yX3_rowAt.cls ≠ "java/lang/invoke/VarHandle" := ⟨by decide +kernel, by decide +kernel⟩
theorem zl_X3_rowAt : (parseMethodDescriptor yX3_rowAt.desc).map (fun d => d.parameters.length) = some 1 := by decide +kernel
theorem zk_X3_checked : z_code yX3_checked cX3_checked 2 (Option.some Jvm.ClassFile.FieldType.int) [] := Or.inl ⟨rfl, q2998⟩
theorem zy_X3_checked : yX3_checked.cls ≠ "java/lang/invoke/MethodHandle" ∧ yX3_checked.cls ≠ "java/lang/invoke/VarHandle" := ⟨by decide +kernel, by decide +kernel⟩
theorem zl_X3_checked : (parseMethodDescriptor yX3_checked.desc).map (fun d => d.parameters.length) = some 1 := by decide +kernel
theorem zk_X3_dayOf : z_code yX3_dayOf cX3_dayOf 2 (Option.some Jvm.ClassFile.FieldType.int) [] := Or.inl ⟨rfl, q3002⟩
theorem zy_X3_dayOf : yX3_dayOf.cls ≠ "java/lang/invoke/MethodHandle" ∧ yX3_dayOf.cls ≠ "java/lang/invoke/VarHandle" := ⟨by decide +kernel, by decide +kernel⟩
theorem zl_X3_dayOf : (parseMethodDescriptor yX3_dayOf.desc).map (fun d => d.parameters.length) = some 1 := by decide +kernel
theorem zk_X3_groupOf : z_code yX3_groupOf cX3_groupOf 2 (Option.some Jvm.ClassFile.FieldType.char) [] := Or.inl ⟨rfl, q3006⟩
theorem zy_X3_groupOf : yX3_groupOf.cls ≠ "java/lang/invoke/MethodHandle" ∧ yX3_groupOf.cls ≠ "java/lang/invoke/VarHandle" := ⟨by decide +kernel, by decide +kernel⟩
theorem zl_X3_groupOf : (parseMethodDescriptor yX3_groupOf.desc).map (fun d => d.parameters.length) = some 1 := by decide +kernel
theorem zk_X3_rowByAmount : z_code yX3_rowByAmount cX3_rowByAmount 5 (Option.some Jvm.ClassFile.FieldType.int) [] := Or.inl ⟨rfl, q3010⟩
theorem zy_X3_rowByAmount : yX3_rowByAmount.cls ≠ "java/lang/invoke/MethodHandle" ∧ yX3_rowByAmount.cls ≠ "java/lang/invoke/VarHandle" := ⟨by decide +kernel, by decide +kernel⟩
theorem zl_X3_rowByAmount : (parseMethodDescriptor yX3_rowByAmount.desc).map (fun d => d.parameters.length) = some 1 := by decide +kernel
theorem zk_X3_steps : z_code yX3_steps cX3_steps 1 (Option.some Jvm.ClassFile.FieldType.int) [] := Or.inl ⟨rfl, q3014⟩
theorem zy_X3_steps : yX3_steps.cls ≠ "java/lang/invoke/MethodHandle" ∧ yX3_steps.cls ≠ "java/lang/invoke/VarHandle" := ⟨by decide +kernel, by decide +kernel⟩
theorem zl_X3_steps : (parseMethodDescriptor yX3_steps.desc).map (fun d => d.parameters.length) = some 0 := by decide +kernel
theorem zk_X3_kind : z_code yX3_kind cX3_kind 2 (Option.some Jvm.ClassFile.FieldType.char) [] := Or.inl ⟨rfl, q3018⟩
theorem zy_X3_kind : yX3_kind.cls ≠ "java/lang/invoke/MethodHandle" ∧ yX3_kind.cls ≠ "java/lang/invoke/VarHandle" := ⟨by decide +kernel, by decide +kernel⟩
theorem zl_X3_kind : (parseMethodDescriptor yX3_kind.desc).map (fun d => d.parameters.length) = some 1 := by decide +kernel
theorem zk_X3_dependsOn : z_code yX3_dependsOn cX3_dependsOn 3 (Option.some Jvm.ClassFile.FieldType.boolean) [] := Or.inl ⟨rfl, q3022⟩
theorem zy_X3_dependsOn : yX3_dependsOn.cls ≠ "java/lang/invoke/MethodHandle" ∧ yX3_dependsOn.cls ≠ "java/lang/invoke/VarHandle" := ⟨by decide +kernel, by decide +kernel⟩
theorem zl_X3_dependsOn : (parseMethodDescriptor yX3_dependsOn.desc).map (fun d => d.parameters.length) = some 2 := by decide +kernel
theorem zk_X3_layReached : z_code yX3_layReached cX3_layReached 2 (Option.none : Option Jvm.ClassFile.FieldType) [] := Or.inl ⟨rfl, q3026⟩
theorem zy_X3_layReached : yX3_layReached.cls ≠ "java/lang/invoke/MethodHandle" ∧ yX3_layReached.cls ≠ "java/lang/invoke/VarHandle" := ⟨by decide +kernel, by decide +kernel⟩
theorem zl_X3_layReached : (parseMethodDescriptor yX3_layReached.desc).map (fun d => d.parameters.length) = some 0 := by decide +kernel
theorem zk_X3_level : z_code yX3_level cX3_level 5 (Option.some Jvm.ClassFile.FieldType.int) [] := Or.inl ⟨rfl, q3030⟩
theorem zy_X3_level : yX3_level.cls ≠ "java/lang/invoke/MethodHandle" ∧ yX3_level.cls ≠ "java/lang/invoke/VarHandle" := ⟨by decide +kernel, by decide +kernel⟩
theorem zl_X3_level : (parseMethodDescriptor yX3_level.desc).map (fun d => d.parameters.length) = some 1 := by decide +kernel
theorem zk_X3_value : z_code yX3_value cX3_value 4 (Option.some Jvm.ClassFile.FieldType.long) [] := Or.inl ⟨rfl, q3034⟩
theorem zy_X3_value : yX3_value.cls ≠ "java/lang/invoke/MethodHandle" ∧ yX3_value.cls ≠ "java/lang/invoke/VarHandle" := ⟨by decide +kernel, by decide +kernel⟩
theorem zl_X3_value : (parseMethodDescriptor yX3_value.desc).map (fun d => d.parameters.length) = some 3 := by decide +kernel
theorem zk_X3_cannotAsk : z_code yX3_cannotAsk cX3_cannotAsk 4 (Option.some Jvm.ClassFile.FieldType.int) [] := Or.inl ⟨rfl, q3038⟩
theorem zy_X3_cannotAsk : yX3_cannotAsk.cls ≠ "java/lang/invoke/MethodHandle" ∧ yX3_cannotAsk.cls ≠ "java/lang/invoke/VarHandle" := ⟨by decide +kernel, by decide +kernel⟩
theorem zl_X3_cannotAsk : (parseMethodDescriptor yX3_cannotAsk.desc).map (fun d => d.parameters.length) = some 3 := by decide +kernel
theorem zk_X3_valueAnew : z_code yX3_valueAnew cX3_valueAnew 4 (Option.some Jvm.ClassFile.FieldType.long) [] := Or.inl ⟨rfl, q3042⟩
theorem zy_X3_valueAnew : yX3_valueAnew.cls ≠ "java/lang/invoke/MethodHandle" ∧ yX3_valueAnew.cls ≠ "java/lang/invoke/VarHandle" := ⟨by decide +kernel, by decide +kernel⟩
theorem zl_X3_valueAnew : (parseMethodDescriptor yX3_valueAnew.desc).map (fun d => d.parameters.length) = some 3 := by decide +kernel
theorem zk_X3_layAnew : z_code yX3_layAnew cX3_layAnew 4 (Option.none : Option Jvm.ClassFile.FieldType) [] := Or.inl ⟨rfl, q3046⟩
theorem zy_X3_layAnew : yX3_layAnew.cls ≠ "java/lang/invoke/MethodHandle" ∧ yX3_layAnew.cls ≠ "java/lang/invoke/VarHandle" := ⟨by decide +kernel, by decide +kernel⟩
theorem zl_X3_layAnew : (parseMethodDescriptor yX3_layAnew.desc).map (fun d => d.parameters.length) = some 0 := by decide +kernel
theorem zk_X3_total : z_code yX3_total cX3_total 6 (Option.some Jvm.ClassFile.FieldType.long) [] := Or.inl ⟨rfl, q3050⟩
theorem zy_X3_total : yX3_total.cls ≠ "java/lang/invoke/MethodHandle" ∧ yX3_total.cls ≠ "java/lang/invoke/VarHandle" := ⟨by decide +kernel, by decide +kernel⟩
theorem zl_X3_total : (parseMethodDescriptor yX3_total.desc).map (fun d => d.parameters.length) = some 2 := by decide +kernel
theorem zk_X3_isStale : z_code yX3_isStale cX3_isStale 3 (Option.some Jvm.ClassFile.FieldType.boolean) [] := Or.inl ⟨rfl, q3054⟩
theorem zy_X3_isStale : yX3_isStale.cls ≠ "java/lang/invoke/MethodHandle" ∧ yX3_isStale.cls ≠ "java/lang/invoke/VarHandle" := ⟨by decide +kernel, by decide +kernel⟩
theorem zl_X3_isStale : (parseMethodDescriptor yX3_isStale.desc).map (fun d => d.parameters.length) = some 2 := by decide +kernel
theorem zk_X3_stale : z_code yX3_stale cX3_stale 1 (Option.some Jvm.ClassFile.FieldType.int) [] := Or.inl ⟨rfl, q3058⟩
theorem zy_X3_stale : yX3_stale.cls ≠ "java/lang/invoke/MethodHandle" ∧ yX3_stale.cls ≠ "java/lang/invoke/VarHandle" := ⟨by decide +kernel, by decide +kernel⟩
theorem zl_X3_stale : (parseMethodDescriptor yX3_stale.desc).map (fun d => d.parameters.length) = some 0 := by decide +kernel
theorem zk_X3_staleCount : z_code yX3_staleCount cX3_staleCount 4 (Option.some Jvm.ClassFile.FieldType.int) [] := Or.inl ⟨rfl, q3062⟩
theorem zy_X3_staleCount : yX3_staleCount.cls ≠ "java/lang/invoke/MethodHandle" ∧ yX3_staleCount.cls ≠ "java/lang/invoke/VarHandle" := ⟨by decide +kernel, by decide +kernel⟩
theorem zl_X3_staleCount : (parseMethodDescriptor yX3_staleCount.desc).map (fun d => d.parameters.length) = some 0 := by decide +kernel
theorem zk_X3_wrong : z_code yX3_wrong cX3_wrong 5 (Option.some Jvm.ClassFile.FieldType.int) [] := Or.inl ⟨rfl, q3066⟩
theorem zy_X3_wrong : yX3_wrong.cls ≠ "java/lang/invoke/MethodHandle" ∧ yX3_wrong.cls ≠ "java/lang/invoke/VarHandle" := ⟨by decide +kernel, by decide +kernel⟩
theorem zl_X3_wrong : (parseMethodDescriptor yX3_wrong.desc).map (fun d => d.parameters.length) = some 0 := by decide +kernel
theorem zk_X3_rowsBehind : z_code yX3_rowsBehind cX3_rowsBehind 4 (Option.some Jvm.ClassFile.FieldType.int) [] := Or.inl ⟨rfl, q3070⟩
theorem zy_X3_rowsBehind : yX3_rowsBehind.cls ≠ "java/lang/invoke/MethodHandle" ∧ yX3_rowsBehind.cls ≠ "java/lang/invoke/VarHandle" := ⟨by decide +kernel, by decide +kernel⟩
theorem zl_X3_rowsBehind : (parseMethodDescriptor yX3_rowsBehind.desc).map (fun d => d.parameters.length) = some 3 := by decide +kernel
theorem zk_X3_count : z_code yX3_count cX3_count 6 (Option.some Jvm.ClassFile.FieldType.int) [] := Or.inl ⟨rfl, q3074⟩
theorem zy_X3_count : yX3_count.cls ≠ "java/lang/invoke/MethodHandle" ∧ yX3_count.cls ≠ "java/lang/invoke/VarHandle" := ⟨by decide +kernel, by decide +kernel⟩
theorem zl_X3_count : (parseMethodDescriptor yX3_count.desc).map (fun d => d.parameters.length) = some 3 := by decide +kernel
theorem zk_X3_layBehind : z_code yX3_layBehind cX3_layBehind 6 (Option.none : Option Jvm.ClassFile.FieldType) [] := Or.inl ⟨rfl, q3078⟩
theorem zy_X3_layBehind : yX3_layBehind.cls ≠ "java/lang/invoke/MethodHandle" ∧ yX3_layBehind.cls ≠ "java/lang/invoke/VarHandle" := ⟨by decide +kernel, by decide +kernel⟩
theorem zl_X3_layBehind : (parseMethodDescriptor yX3_layBehind.desc).map (fun d => d.parameters.length) = some 1 := by decide +kernel
theorem zk_X3_ownRows : z_code yX3_ownRows cX3_ownRows 7 (Option.some Jvm.ClassFile.FieldType.long) [] := Or.inl ⟨rfl, q3082⟩
theorem zy_X3_ownRows : yX3_ownRows.cls ≠ "java/lang/invoke/MethodHandle" ∧ yX3_ownRows.cls ≠ "java/lang/invoke/VarHandle" := ⟨by decide +kernel, by decide +kernel⟩
theorem zl_X3_ownRows : (parseMethodDescriptor yX3_ownRows.desc).map (fun d => d.parameters.length) = some 3 := by decide +kernel
theorem zk_X3_rowsBehindByMarking : z_code yX3_rowsBehindByMarking cX3_rowsBehindByMarking 4 (Option.some Jvm.ClassFile.FieldType.int) [] := Or.inl ⟨rfl, q3086⟩
theorem zy_X3_rowsBehindByMarking : yX3_rowsBehindByMarking.cls ≠ "java/lang/invoke/MethodHandle" ∧ yX3_rowsBehindByMarking.cls ≠ "java/lang/invoke/VarHandle" := ⟨by decide +kernel, by decide +kernel⟩
theorem zl_X3_rowsBehindByMarking : (parseMethodDescriptor yX3_rowsBehindByMarking.desc).map (fun d => d.parameters.length) = some 3 := by decide +kernel
theorem zk_X3_reach : z_code yX3_reach cX3_reach 6 (Option.some Jvm.ClassFile.FieldType.int) [] := Or.inl ⟨rfl, q3090⟩
theorem zy_X3_reach : yX3_reach.cls ≠ "java/lang/invoke/MethodHandle" ∧ yX3_reach.cls ≠ "java/lang/invoke/VarHandle" := ⟨by decide +kernel, by decide +kernel⟩
theorem zl_X3_reach : (parseMethodDescriptor yX3_reach.desc).map (fun d => d.parameters.length) = some 1 := by decide +kernel
theorem zk_X3_cost : z_code yX3_cost cX3_cost 3 (Option.some Jvm.ClassFile.FieldType.long) [] := Or.inl ⟨rfl, q3094⟩
theorem zy_X3_cost : yX3_cost.cls ≠ "java/lang/invoke/MethodHandle" ∧ yX3_cost.cls ≠ "java/lang/invoke/VarHandle" := ⟨by decide +kernel, by decide +kernel⟩
theorem zl_X3_cost : (parseMethodDescriptor yX3_cost.desc).map (fun d => d.parameters.length) = some 2 := by decide +kernel
theorem zk_X3_layCosts : z_code yX3_layCosts cX3_layCosts 7 (Option.none : Option Jvm.ClassFile.FieldType) [] := Or.inl ⟨rfl, q3098⟩
theorem zy_X3_layCosts : yX3_layCosts.cls ≠ "java/lang/invoke/MethodHandle" ∧ yX3_layCosts.cls ≠ "java/lang/invoke/VarHandle" := ⟨by decide +kernel, by decide +kernel⟩
theorem zl_X3_layCosts : (parseMethodDescriptor yX3_layCosts.desc).map (fun d => d.parameters.length) = some 1 := by decide +kernel
theorem zk_X3_bestPlan : z_code yX3_bestPlan cX3_bestPlan 2 (Option.some Jvm.ClassFile.FieldType.int) [] := Or.inl ⟨rfl, q3103⟩
theorem zy_X3_bestPlan : yX3_bestPlan.cls ≠ "java/lang/invoke/MethodHandle" ∧ yX3_bestPlan.cls ≠ "java/lang/invoke/VarHandle" := ⟨by decide +kernel, by decide +kernel⟩
theorem zl_X3_bestPlan : (parseMethodDescriptor yX3_bestPlan.desc).map (fun d => d.parameters.length) = some 1 := by decide +kernel
theorem zk_X3_bestOf : z_code yX3_bestOf cX3_bestOf 2 (Option.some Jvm.ClassFile.FieldType.int) [] := Or.inl ⟨rfl, q3107⟩
theorem zy_X3_bestOf : yX3_bestOf.cls ≠ "java/lang/invoke/MethodHandle" ∧ yX3_bestOf.cls ≠ "java/lang/invoke/VarHandle" := ⟨by decide +kernel, by decide +kernel⟩
theorem zl_X3_bestOf : (parseMethodDescriptor yX3_bestOf.desc).map (fun d => d.parameters.length) = some 1 := by decide +kernel
theorem zk_X3_best : z_code yX3_best cX3_best 4 (Option.some Jvm.ClassFile.FieldType.int) [] := Or.inl ⟨rfl, q3111⟩
theorem zy_X3_best : yX3_best.cls ≠ "java/lang/invoke/MethodHandle" ∧ yX3_best.cls ≠ "java/lang/invoke/VarHandle" := ⟨by decide +kernel, by decide +kernel⟩
theorem zl_X3_best : (parseMethodDescriptor yX3_best.desc).map (fun d => d.parameters.length) = some 1 := by decide +kernel
theorem zk_X3_many : z_code yX3_many cX3_many 3 (Option.some Jvm.ClassFile.FieldType.int) [] := Or.inl ⟨rfl, q3114⟩
theorem zy_X3_many : yX3_many.cls ≠ "java/lang/invoke/MethodHandle" ∧ yX3_many.cls ≠ "java/lang/invoke/VarHandle" := ⟨by decide +kernel, by decide +kernel⟩
theorem zl_X3_many : (parseMethodDescriptor yX3_many.desc).map (fun d => d.parameters.length) = some 1 := by decide +kernel
theorem zk_X3_whole : z_code yX3_whole cX3_whole 5 (Option.some Jvm.ClassFile.FieldType.long) [] := Or.inl ⟨rfl, q3118⟩
theorem zy_X3_whole : yX3_whole.cls ≠ "java/lang/invoke/MethodHandle" ∧ yX3_whole.cls ≠ "java/lang/invoke/VarHandle" := ⟨by decide +kernel, by decide +kernel⟩
theorem zl_X3_whole : (parseMethodDescriptor yX3_whole.desc).map (fun d => d.parameters.length) = some 1 := by decide +kernel
theorem zk_X3_bestPlanByDeciding : z_code yX3_bestPlanByDeciding cX3_bestPlanByDeciding 2 (Option.some Jvm.ClassFile.FieldType.int) [] := Or.inl ⟨rfl, q3122⟩
theorem zy_X3_bestPlanByDeciding : yX3_bestPlanByDeciding.cls ≠ "java/lang/invoke/MethodHandle" ∧ yX3_bestPlanByDeciding.cls ≠ "java/lang/invoke/VarHandle" := ⟨by decide +kernel, by decide +kernel⟩
theorem zl_X3_bestPlanByDeciding : (parseMethodDescriptor yX3_bestPlanByDeciding.desc).map (fun d => d.parameters.length) = some 1 := by decide +kernel
theorem zk_X3_bestCost : z_code yX3_bestCost cX3_bestCost 2 (Option.some Jvm.ClassFile.FieldType.long) [] := Or.inl ⟨rfl, q3126⟩
theorem zy_X3_bestCost : yX3_bestCost.cls ≠ "java/lang/invoke/MethodHandle" ∧ yX3_bestCost.cls ≠ "java/lang/invoke/VarHandle" := ⟨by decide +kernel, by decide +kernel⟩
theorem zl_X3_bestCost : (parseMethodDescriptor yX3_bestCost.desc).map (fun d => d.parameters.length) = some 1 := by decide +kernel
theorem zk_X3_added : z_code yX3_added cX3_added 1 (Option.some Jvm.ClassFile.FieldType.int) [] := Or.inl ⟨rfl, q3130⟩
theorem zy_X3_added : yX3_added.cls ≠ "java/lang/invoke/MethodHandle" ∧ yX3_added.cls ≠ "java/lang/invoke/VarHandle" := ⟨by decide +kernel, by decide +kernel⟩
theorem zl_X3_added : (parseMethodDescriptor yX3_added.desc).map (fun d => d.parameters.length) = some 0 := by decide +kernel
theorem zk_X3_removed : z_code yX3_removed cX3_removed 1 (Option.some Jvm.ClassFile.FieldType.int) [] := Or.inl ⟨rfl, q3134⟩
theorem zy_X3_removed : yX3_removed.cls ≠ "java/lang/invoke/MethodHandle" ∧ yX3_removed.cls ≠ "java/lang/invoke/VarHandle" := ⟨by decide +kernel, by decide +kernel⟩
theorem zl_X3_removed : (parseMethodDescriptor yX3_removed.desc).map (fun d => d.parameters.length) = some 0 := by decide +kernel
theorem zk_X3_late : z_code yX3_late cX3_late 1 (Option.some Jvm.ClassFile.FieldType.int) [] := Or.inl ⟨rfl, q3138⟩
theorem zy_X3_late : yX3_late.cls ≠ "java/lang/invoke/MethodHandle" ∧ yX3_late.cls ≠ "java/lang/invoke/VarHandle" := ⟨by decide +kernel, by decide +kernel⟩
theorem zl_X3_late : (parseMethodDescriptor yX3_late.desc).map (fun d => d.parameters.length) = some 0 := by decide +kernel
theorem zk_X3_repaired : z_code yX3_repaired cX3_repaired 1 (Option.some Jvm.ClassFile.FieldType.int) [] := Or.inl ⟨rfl, q3142⟩
theorem zy_X3_repaired : yX3_repaired.cls ≠ "java/lang/invoke/MethodHandle" ∧ yX3_repaired.cls ≠ "java/lang/invoke/VarHandle" := ⟨by decide +kernel, by decide +kernel⟩
theorem zl_X3_repaired : (parseMethodDescriptor yX3_repaired.desc).map (fun d => d.parameters.length) = some 0 := by decide +kernel
theorem zk_X3_meanAmount : z_code yX3_meanAmount cX3_meanAmount 3 (Option.some Jvm.ClassFile.FieldType.double) [] := Or.inl ⟨rfl, q3146⟩
theorem zy_X3_meanAmount : yX3_meanAmount.cls ≠ "java/lang/invoke/MethodHandle" ∧ yX3_meanAmount.cls ≠ "java/lang/invoke/VarHandle" := ⟨by decide +kernel, by decide +kernel⟩
theorem zl_X3_meanAmount : (parseMethodDescriptor yX3_meanAmount.desc).map (fun d => d.parameters.length) = some 0 := by decide +kernel
theorem zk_X3_staleShare : z_code yX3_staleShare cX3_staleShare 1 (Option.some Jvm.ClassFile.FieldType.float) [] := Or.inl ⟨rfl, q3150⟩
theorem zy_X3_staleShare : yX3_staleShare.cls ≠ "java/lang/invoke/MethodHandle" ∧ yX3_staleShare.cls ≠ "java/lang/invoke/VarHandle" := ⟨by decide +kernel, by decide +kernel⟩
theorem zl_X3_staleShare : (parseMethodDescriptor yX3_staleShare.desc).map (fun d => d.parameters.length) = some 0 := by decide +kernel
theorem zk_X3_denial : z_code yX3_denial cX3_denial 1 (Option.some Jvm.ClassFile.FieldType.int) [] := Or.inl ⟨rfl, q3154⟩
theorem zy_X3_denial : yX3_denial.cls ≠ "java/lang/invoke/MethodHandle" ∧ yX3_denial.cls ≠ "java/lang/invoke/VarHandle" := ⟨by decide +kernel, by decide +kernel⟩
theorem zl_X3_denial : (parseMethodDescriptor yX3_denial.desc).map (fun d => d.parameters.length) = some 0 := by decide +kernel
theorem zk_X3_denialDetail : z_code yX3_denialDetail cX3_denialDetail 1 (Option.some Jvm.ClassFile.FieldType.int) [] := Or.inl ⟨rfl, q3158⟩
theorem zy_X3_denialDetail : yX3_denialDetail.cls ≠ "java/lang/invoke/MethodHandle" ∧ yX3_denialDetail.cls ≠ "java/lang/invoke/VarHandle" := ⟨by decide +kernel, by decide +kernel⟩
theorem zl_X3_denialDetail : (parseMethodDescriptor yX3_denialDetail.desc).map (fun d => d.parameters.length) = some 0 := by decide +kernel
theorem zk_X3_denialCause : z_code yX3_denialCause cX3_denialCause 1 (Option.some Jvm.ClassFile.FieldType.int) [] := Or.inl ⟨rfl, q3162⟩
theorem zy_X3_denialCause : yX3_denialCause.cls ≠ "java/lang/invoke/MethodHandle" ∧ yX3_denialCause.cls ≠ "java/lang/invoke/VarHandle" := ⟨by decide +kernel, by decide +kernel⟩
theorem zl_X3_denialCause : (parseMethodDescriptor yX3_denialCause.desc).map (fun d => d.parameters.length) = some 0 := by decide +kernel
theorem zk_X3_writeStep : z_code yX3_writeStep cX3_writeStep 3 (Option.some Jvm.ClassFile.FieldType.int) [] := Or.inl ⟨rfl, q3166⟩
theorem zy_X3_writeStep : yX3_writeStep.cls ≠ "java/lang/invoke/MethodHandle" ∧ yX3_writeStep.cls ≠ "java/lang/invoke/VarHandle" := ⟨by decide +kernel, by decide +kernel⟩
theorem zl_X3_writeStep : (parseMethodDescriptor yX3_writeStep.desc).map (fun d => d.parameters.length) = some 1 := by decide +kernel
theorem zk_X3_writeNumber : z_code yX3_writeNumber cX3_writeNumber 7 (Option.none : Option Jvm.ClassFile.FieldType) [] := Or.inl ⟨rfl, q3170⟩
theorem zy_X3_writeNumber : yX3_writeNumber.cls ≠ "java/lang/invoke/MethodHandle" ∧ yX3_writeNumber.cls ≠ "java/lang/invoke/VarHandle" := ⟨by decide +kernel, by decide +kernel⟩
theorem zl_X3_writeNumber : (parseMethodDescriptor yX3_writeNumber.desc).map (fun d => d.parameters.length) = some 1 := by decide +kernel
theorem zk_X3_write : z_code yX3_write cX3_write 2 (Option.none : Option Jvm.ClassFile.FieldType) [] := Or.inl ⟨rfl, q3174⟩
theorem zy_X3_write : yX3_write.cls ≠ "java/lang/invoke/MethodHandle" ∧ yX3_write.cls ≠ "java/lang/invoke/VarHandle" := ⟨by decide +kernel, by decide +kernel⟩
theorem zl_X3_write : (parseMethodDescriptor yX3_write.desc).map (fun d => d.parameters.length) = some 1 := by decide +kernel
theorem zk_X3_writePartition : z_code yX3_writePartition cX3_writePartition 4 (Option.some Jvm.ClassFile.FieldType.int) [] := Or.inl ⟨rfl, q3180⟩
theorem zy_X3_writePartition : yX3_writePartition.cls ≠ "java/lang/invoke/MethodHandle" ∧ yX3_writePartition.cls ≠ "java/lang/invoke/VarHandle" := ⟨by decide +kernel, by decide +kernel⟩
theorem zl_X3_writePartition : (parseMethodDescriptor yX3_writePartition.desc).map (fun d => d.parameters.length) = some 2 := by decide +kernel
theorem zk_X3_lineCharacter : z_code yX3_lineCharacter cX3_lineCharacter 2 (Option.some Jvm.ClassFile.FieldType.char) [] := Or.inl ⟨rfl, q3184⟩
theorem zy_X3_lineCharacter : yX3_lineCharacter.cls ≠ "java/lang/invoke/MethodHandle" ∧ yX3_lineCharacter.cls ≠ "java/lang/invoke/VarHandle" := ⟨by decide +kernel, by decide +kernel⟩
theorem zl_X3_lineCharacter : (parseMethodDescriptor yX3_lineCharacter.desc).map (fun d => d.parameters.length) = some 1 := by decide +kernel
theorem zk_X3_feed : z_code yX3_feed cX3_feed 2 (Option.some Jvm.ClassFile.FieldType.int) [] := Or.inl ⟨rfl, q3188⟩
theorem zy_X3_feed : yX3_feed.cls ≠ "java/lang/invoke/MethodHandle" ∧ yX3_feed.cls ≠ "java/lang/invoke/VarHandle" := ⟨by decide +kernel, by decide +kernel⟩
theorem zl_X3_feed : (parseMethodDescriptor yX3_feed.desc).map (fun d => d.parameters.length) = some 1 := by decide +kernel
theorem zk_X3_execute : z_code yX3_execute cX3_execute 5 (Option.some Jvm.ClassFile.FieldType.int) [] := Or.inl ⟨rfl, q3192⟩
theorem zy_X3_execute : yX3_execute.cls ≠ "java/lang/invoke/MethodHandle" ∧ yX3_execute.cls ≠ "java/lang/invoke/VarHandle" := ⟨by decide +kernel, by decide +kernel⟩
theorem zl_X3_execute : (parseMethodDescriptor yX3_execute.desc).map (fun d => d.parameters.length) = some 0 := by decide +kernel
theorem zk_X3_parse : z_code yX3_parse cX3_parse 1 (Option.none : Option Jvm.ClassFile.FieldType) [] := Or.inl ⟨rfl, q3196⟩
theorem zy_X3_parse : yX3_parse.cls ≠ "java/lang/invoke/MethodHandle" ∧ yX3_parse.cls ≠ "java/lang/invoke/VarHandle" := ⟨by decide +kernel, by decide +kernel⟩
theorem zl_X3_parse : (parseMethodDescriptor yX3_parse.desc).map (fun d => d.parameters.length) = some 0 := by decide +kernel
theorem zk_X3_command : z_code yX3_command cX3_command 2 (Option.none : Option Jvm.ClassFile.FieldType) [] := Or.inl ⟨rfl, q3200⟩
theorem zy_X3_command : yX3_command.cls ≠ "java/lang/invoke/MethodHandle" ∧ yX3_command.cls ≠ "java/lang/invoke/VarHandle" := ⟨by decide +kernel, by decide +kernel⟩
theorem zl_X3_command : (parseMethodDescriptor yX3_command.desc).map (fun d => d.parameters.length) = some 0 := by decide +kernel
theorem zk_X3_word : z_code yX3_word cX3_word 4 (Option.some Jvm.ClassFile.FieldType.int) [] := Or.inl ⟨rfl, q3204⟩
theorem zy_X3_word : yX3_word.cls ≠ "java/lang/invoke/MethodHandle" ∧ yX3_word.cls ≠ "java/lang/invoke/VarHandle" := ⟨by decide +kernel, by decide +kernel⟩
theorem zl_X3_word : (parseMethodDescriptor yX3_word.desc).map (fun d => d.parameters.length) = some 0 := by decide +kernel
theorem zk_X3_spelled : z_code yX3_spelled cX3_spelled 2 (Option.some Jvm.ClassFile.FieldType.int) [] := Or.inl ⟨rfl, q3207⟩
theorem zy_X3_spelled : yX3_spelled.cls ≠ "java/lang/invoke/MethodHandle" ∧ yX3_spelled.cls ≠ "java/lang/invoke/VarHandle" := ⟨by decide +kernel, by decide +kernel⟩
theorem zl_X3_spelled : (parseMethodDescriptor yX3_spelled.desc).map (fun d => d.parameters.length) = some 2 := by decide +kernel
theorem zk_X3_pick : z_code yX3_pick cX3_pick 7 (Option.some Jvm.ClassFile.FieldType.int) [] := Or.inl ⟨rfl, q3210⟩
theorem zy_X3_pick : yX3_pick.cls ≠ "java/lang/invoke/MethodHandle" ∧ yX3_pick.cls ≠ "java/lang/invoke/VarHandle" := ⟨by decide +kernel, by decide +kernel⟩
theorem zl_X3_pick : (parseMethodDescriptor yX3_pick.desc).map (fun d => d.parameters.length) = some 7 := by decide +kernel
theorem zk_X3_readsRest : z_code yX3_readsRest cX3_readsRest 2 (Option.none : Option Jvm.ClassFile.FieldType) [] := Or.inl ⟨rfl, q3214⟩
theorem zy_X3_readsRest : yX3_readsRest.cls ≠ "java/lang/invoke/MethodHandle" ∧ yX3_readsRest.cls ≠ "java/lang/invoke/VarHandle" := ⟨by decide +kernel, by decide +kernel⟩
theorem zl_X3_readsRest : (parseMethodDescriptor yX3_readsRest.desc).map (fun d => d.parameters.length) = some 1 := by decide +kernel
theorem zk_X3_sign : z_code yX3_sign cX3_sign 2 (Option.none : Option Jvm.ClassFile.FieldType) [] := Or.inl ⟨rfl, q3218⟩
theorem zy_X3_sign : yX3_sign.cls ≠ "java/lang/invoke/MethodHandle" ∧ yX3_sign.cls ≠ "java/lang/invoke/VarHandle" := ⟨by decide +kernel, by decide +kernel⟩
theorem zl_X3_sign : (parseMethodDescriptor yX3_sign.desc).map (fun d => d.parameters.length) = some 1 := by decide +kernel
theorem zk_X3_mark_2 : z_code yX3_mark_2 cX3_mark_2 1 (Option.some Jvm.ClassFile.FieldType.int) [] := Or.inl ⟨rfl, q3222⟩
theorem zy_X3_mark_2 : yX3_mark_2.cls ≠ "java/lang/invoke/MethodHandle" ∧ yX3_mark_2.cls ≠ "java/lang/invoke/VarHandle" := ⟨by decide +kernel, by decide +kernel⟩
theorem zl_X3_mark_2 : (parseMethodDescriptor yX3_mark_2.desc).map (fun d => d.parameters.length) = some 0 := by decide +kernel
theorem zk_X3_group : z_code yX3_group cX3_group 2 (Option.some Jvm.ClassFile.FieldType.int) [] := Or.inl ⟨rfl, q3226⟩
theorem zy_X3_group : yX3_group.cls ≠ "java/lang/invoke/MethodHandle" ∧ yX3_group.cls ≠ "java/lang/invoke/VarHandle" := ⟨by decide +kernel, by decide +kernel⟩
theorem zl_X3_group : (parseMethodDescriptor yX3_group.desc).map (fun d => d.parameters.length) = some 0 := by decide +kernel
theorem zk_X3_put : z_code yX3_put cX3_put 3 (Option.none : Option Jvm.ClassFile.FieldType) [] := Or.inl ⟨rfl, q3230⟩
theorem zy_X3_put : yX3_put.cls ≠ "java/lang/invoke/MethodHandle" ∧ yX3_put.cls ≠ "java/lang/invoke/VarHandle" := ⟨by decide +kernel, by decide +kernel⟩
theorem zl_X3_put : (parseMethodDescriptor yX3_put.desc).map (fun d => d.parameters.length) = some 2 := by decide +kernel
theorem zk_X3_digits : z_code yX3_digits cX3_digits 4 (Option.some Jvm.ClassFile.FieldType.int) [] := Or.inl ⟨rfl, q3234⟩
theorem zy_X3_digits : yX3_digits.cls ≠ "java/lang/invoke/MethodHandle" ∧ yX3_digits.cls ≠ "java/lang/invoke/VarHandle" := ⟨by decide +kernel, by decide +kernel⟩
theorem zl_X3_digits : (parseMethodDescriptor yX3_digits.desc).map (fun d => d.parameters.length) = some 1 := by decide +kernel
theorem zk_X3_behindBlank : z_code yX3_behindBlank cX3_behindBlank 2 (Option.some Jvm.ClassFile.FieldType.int) [] := Or.inl ⟨rfl, q3238⟩
theorem zy_X3_behindBlank : yX3_behindBlank.cls ≠ "java/lang/invoke/MethodHandle" ∧ yX3_behindBlank.cls ≠ "java/lang/invoke/VarHandle" := ⟨by decide +kernel, by decide +kernel⟩
theorem zl_X3_behindBlank : (parseMethodDescriptor yX3_behindBlank.desc).map (fun d => d.parameters.length) = some 1 := by decide +kernel
theorem zk_X3_oneOf : z_code yX3_oneOf cX3_oneOf 5 (Option.some Jvm.ClassFile.FieldType.int) [] := Or.inl ⟨rfl, q3242⟩
theorem zy_X3_oneOf : yX3_oneOf.cls ≠ "java/lang/invoke/MethodHandle" ∧ yX3_oneOf.cls ≠ "java/lang/invoke/VarHandle" := ⟨by decide +kernel, by decide +kernel⟩
theorem zl_X3_oneOf : (parseMethodDescriptor yX3_oneOf.desc).map (fun d => d.parameters.length) = some 3 := by decide +kernel
theorem zk_X3_why : z_code yX3_why cX3_why 5 (Option.some Jvm.ClassFile.FieldType.int) [] := Or.inl ⟨rfl, q3246⟩
theorem zy_X3_why : yX3_why.cls ≠ "java/lang/invoke/MethodHandle" ∧ yX3_why.cls ≠ "java/lang/invoke/VarHandle" := ⟨by decide +kernel, by decide +kernel⟩
theorem zl_X3_why : (parseMethodDescriptor yX3_why.desc).map (fun d => d.parameters.length) = some 4 := by decide +kernel
theorem zk_X3_does : z_code yX3_does cX3_does 5 (Option.some Jvm.ClassFile.FieldType.int) [] := Or.inl ⟨rfl, q3250⟩
theorem zy_X3_does : yX3_does.cls ≠ "java/lang/invoke/MethodHandle" ∧ yX3_does.cls ≠ "java/lang/invoke/VarHandle" := ⟨by decide +kernel, by decide +kernel⟩
theorem zl_X3_does : (parseMethodDescriptor yX3_does.desc).map (fun d => d.parameters.length) = some 4 := by decide +kernel
theorem zk_X3_denied : z_code yX3_denied cX3_denied 1 (Option.some Jvm.ClassFile.FieldType.int) [] := Or.inl ⟨rfl, q3253⟩
theorem zy_X3_denied : yX3_denied.cls ≠ "java/lang/invoke/MethodHandle" ∧ yX3_denied.cls ≠ "java/lang/invoke/VarHandle" := ⟨by decide +kernel, by decide +kernel⟩
theorem zl_X3_denied : (parseMethodDescriptor yX3_denied.desc).map (fun d => d.parameters.length) = some 1 := by decide +kernel
theorem zk_X3_faultPosition : z_code yX3_faultPosition cX3_faultPosition 1 (Option.some Jvm.ClassFile.FieldType.int) [] := Or.inl ⟨rfl, q3257⟩
theorem zy_X3_faultPosition : yX3_faultPosition.cls ≠ "java/lang/invoke/MethodHandle" ∧ yX3_faultPosition.cls ≠ "java/lang/invoke/VarHandle" := ⟨by decide +kernel, by decide +kernel⟩
theorem zl_X3_faultPosition : (parseMethodDescriptor yX3_faultPosition.desc).map (fun d => d.parameters.length) = some 0 := by decide +kernel
theorem zk_X3_undo : z_code yX3_undo cX3_undo 1 (Option.some Jvm.ClassFile.FieldType.int) [] := Or.inl ⟨rfl, q3261⟩
theorem zy_X3_undo : yX3_undo.cls ≠ "java/lang/invoke/MethodHandle" ∧ yX3_undo.cls ≠ "java/lang/invoke/VarHandle" := ⟨by decide +kernel, by decide +kernel⟩
theorem zl_X3_undo : (parseMethodDescriptor yX3_undo.desc).map (fun d => d.parameters.length) = some 0 := by decide +kernel
theorem zk_X3_undoCount : z_code yX3_undoCount cX3_undoCount 1 (Option.some Jvm.ClassFile.FieldType.int) [] := Or.inl ⟨rfl, q3265⟩
theorem zy_X3_undoCount : yX3_undoCount.cls ≠ "java/lang/invoke/MethodHandle" ∧ yX3_undoCount.cls ≠ "java/lang/invoke/VarHandle" := ⟨by decide +kernel, by decide +kernel⟩
theorem zl_X3_undoCount : (parseMethodDescriptor yX3_undoCount.desc).map (fun d => d.parameters.length) = some 0 := by decide +kernel
theorem zk_X3_saveSnapshot : z_code yX3_saveSnapshot cX3_saveSnapshot 1 (Option.some Jvm.ClassFile.FieldType.int) [] := Or.inl ⟨rfl, q3269⟩
theorem zy_X3_saveSnapshot : yX3_saveSnapshot.cls ≠ "java/lang/invoke/MethodHandle" ∧ yX3_saveSnapshot.cls ≠ "java/lang/invoke/VarHandle" := ⟨by decide +kernel, by decide +kernel⟩
theorem zl_X3_saveSnapshot : (parseMethodDescriptor yX3_saveSnapshot.desc).map (fun d => d.parameters.length) = some 0 := by decide +kernel
theorem zk_X3_restoreSnapshot : z_code yX3_restoreSnapshot cX3_restoreSnapshot 1 (Option.some Jvm.ClassFile.FieldType.int) [] := Or.inl ⟨rfl, q3273⟩
theorem zy_X3_restoreSnapshot : yX3_restoreSnapshot.cls ≠ "java/lang/invoke/MethodHandle" ∧ yX3_restoreSnapshot.cls ≠ "java/lang/invoke/VarHandle" := ⟨by decide +kernel, by decide +kernel⟩
theorem zl_X3_restoreSnapshot : (parseMethodDescriptor yX3_restoreSnapshot.desc).map (fun d => d.parameters.length) = some 0 := by decide +kernel
theorem zk_X4_copy : z_code yX4_copy cX4_copy 2 (Option.some (Jvm.ClassFile.FieldType.object "WeirfoldLane$View")) [] := Or.inl ⟨rfl, q564⟩
theorem zy_X4_copy : yX4_copy.cls ≠ "java/lang/invoke/MethodHandle" ∧ yX4_copy.cls ≠ "java/lang/invoke/VarHandle" := ⟨by decide +kernel, by decide +kernel⟩
theorem zl_X4_copy : (parseMethodDescriptor yX4_copy.desc).map (fun d => d.parameters.length) = some 0 := by decide +kernel
theorem zk_X4_init : z_code yX4_init cX4_init 1 (Option.none : Option Jvm.ClassFile.FieldType) [] := Or.inl ⟨rfl, q569⟩
theorem zy_X4_init : yX4_init.cls ≠ "java/lang/invoke/MethodHandle" ∧ yX4_init.cls ≠ "java/lang/invoke/VarHandle" := ⟨by decide +kernel, by decide +kernel⟩
theorem zl_X4_init : (parseMethodDescriptor yX4_init.desc).map (fun d => d.parameters.length) = some 0 := by decide +kernel
theorem zk_X5_init : z_code yX5_init cX5_init 5 (Option.none : Option Jvm.ClassFile.FieldType) [] := Or.inl ⟨rfl, q821⟩
theorem zy_X5_init : yX5_init.cls ≠ "java/lang/invoke/MethodHandle" ∧ yX5_init.cls ≠ "java/lang/invoke/VarHandle" := ⟨by decide +kernel, by decide +kernel⟩
theorem zl_X5_init : (parseMethodDescriptor yX5_init.desc).map (fun d => d.parameters.length) = some 4 := by decide +kernel
theorem zk_X5_apply : z_code yX5_apply cX5_apply 4 (Option.some Jvm.ClassFile.FieldType.int) [] := Or.inl ⟨rfl, q839⟩
theorem zy_X5_apply : yX5_apply.cls ≠ "java/lang/invoke/MethodHandle" ∧ yX5_apply.cls ≠ "java/lang/invoke/VarHandle" := ⟨by decide +kernel, by decide +kernel⟩
theorem zl_X5_apply : (parseMethodDescriptor yX5_apply.desc).map (fun d => d.parameters.length) = some 1 := by decide +kernel
theorem zk_X6_init : z_code yX6_init cX6_init 3 (Option.none : Option Jvm.ClassFile.FieldType) [] := Or.inl ⟨rfl, q1162⟩
theorem zy_X6_init : yX6_init.cls ≠ "java/lang/invoke/MethodHandle" ∧ yX6_init.cls ≠ "java/lang/invoke/VarHandle" := ⟨by decide +kernel, by decide +kernel⟩
theorem zl_X6_init : (parseMethodDescriptor yX6_init.desc).map (fun d => d.parameters.length) = some 2 := by decide +kernel
theorem zk_X6_init_2 : z_code yX6_init_2 cX6_init_2 4 (Option.none : Option Jvm.ClassFile.FieldType) [] := Or.inl ⟨rfl, q1165⟩
theorem zy_X6_init_2 : yX6_init_2.cls ≠ "java/lang/invoke/MethodHandle" ∧ yX6_init_2.cls ≠ "java/lang/invoke/VarHandle" := ⟨by decide +kernel, by decide +kernel⟩
theorem zl_X6_init_2 : (parseMethodDescriptor yX6_init_2.desc).map (fun d => d.parameters.length) = some 3 := by decide +kernel
theorem zk_X6_behind : z_code yX6_behind cX6_behind 3 (Option.some (Jvm.ClassFile.FieldType.object "java/util/Optional")) [] := Or.inl ⟨rfl, q2639⟩
theorem zy_X6_behind : yX6_behind.cls ≠ "java/lang/invoke/MethodHandle" ∧ yX6_behind.cls ≠ "java/lang/invoke/VarHandle" := ⟨by decide +kernel, by decide +kernel⟩
theorem zl_X6_behind : (parseMethodDescriptor yX6_behind.desc).map (fun d => d.parameters.length) = some 0 := by decide +kernel
theorem zk_X7_isOf : z_code yX7_isOf cX7_isOf 3 (Option.some Jvm.ClassFile.FieldType.boolean) [] := Or.inl ⟨rfl, q716⟩
theorem zy_X7_isOf : yX7_isOf.cls ≠ "java/lang/invoke/MethodHandle" ∧ yX7_isOf.cls ≠ "java/lang/invoke/VarHandle" := ⟨by decide +kernel, by decide +kernel⟩
theorem zl_X7_isOf : (parseMethodDescriptor yX7_isOf.desc).map (fun d => d.parameters.length) = some 2 := by decide +kernel
theorem zk_X7_init : z_code yX7_init cX7_init 5 (Option.none : Option Jvm.ClassFile.FieldType) [] := Or.inl ⟨rfl, q1187⟩
theorem zy_X7_init : yX7_init.cls ≠ "java/lang/invoke/MethodHandle" ∧ yX7_init.cls ≠ "java/lang/invoke/VarHandle" := ⟨by decide +kernel, by decide +kernel⟩
theorem zl_X7_init : (parseMethodDescriptor yX7_init.desc).map (fun d => d.parameters.length) = some 4 := by decide +kernel
theorem zk_X8_init : z_code yX8_init cX8_init 6 (Option.none : Option Jvm.ClassFile.FieldType) [] := Or.inl ⟨rfl, q1231⟩
theorem zy_X8_init : yX8_init.cls ≠ "java/lang/invoke/MethodHandle" ∧ yX8_init.cls ≠ "java/lang/invoke/VarHandle" := ⟨by decide +kernel, by decide +kernel⟩
theorem zl_X8_init : (parseMethodDescriptor yX8_init.desc).map (fun d => d.parameters.length) = some 3 := by decide +kernel
theorem zk_X8_of : z_code yX8_of cX8_of 2 (Option.some Jvm.ClassFile.FieldType.long) [] := Or.inl ⟨rfl, q1249⟩
theorem zy_X8_of : yX8_of.cls ≠ "java/lang/invoke/MethodHandle" ∧ yX8_of.cls ≠ "java/lang/invoke/VarHandle" := ⟨by decide +kernel, by decide +kernel⟩
theorem zl_X8_of : (parseMethodDescriptor yX8_of.desc).map (fun d => d.parameters.length) = some 1 := by decide +kernel
theorem zk_X9_init : z_code yX9_init cX9_init 2 (Option.none : Option Jvm.ClassFile.FieldType) [] := Or.inl ⟨rfl, q1468⟩
theorem zy_X9_init : yX9_init.cls ≠ "java/lang/invoke/MethodHandle" ∧ yX9_init.cls ≠ "java/lang/invoke/VarHandle" := ⟨by decide +kernel, by decide +kernel⟩
theorem zl_X9_init : (parseMethodDescriptor yX9_init.desc).map (fun d => d.parameters.length) = some 1 := by decide +kernel
theorem zk_X9_kind : z_code yX9_kind cX9_kind 1 (Option.some Jvm.ClassFile.FieldType.char) [] := Or.inl ⟨rfl, q1852⟩
theorem zy_X9_kind : yX9_kind.cls ≠ "java/lang/invoke/MethodHandle" ∧ yX9_kind.cls ≠ "java/lang/invoke/VarHandle" := ⟨by decide +kernel, by decide +kernel⟩
theorem zl_X9_kind : (parseMethodDescriptor yX9_kind.desc).map (fun d => d.parameters.length) = some 0 := by decide +kernel
theorem zk_X9_dependsOn : z_code yX9_dependsOn cX9_dependsOn 6 (Option.some Jvm.ClassFile.FieldType.boolean) [] := Or.inl ⟨rfl, q1869⟩
theorem zy_X9_dependsOn : yX9_dependsOn.cls ≠ "java/lang/invoke/MethodHandle" ∧ yX9_dependsOn.cls ≠ "java/lang/invoke/VarHandle" := ⟨by decide +kernel, by decide +kernel⟩
theorem zl_X9_dependsOn : (parseMethodDescriptor yX9_dependsOn.desc).map (fun d => d.parameters.length) = some 2 := by decide +kernel
theorem zpl_RJ0 : plainName RJ0 = true := by decide +kernel
theorem zpl_RJ1 : plainName RJ1 = true := by decide +kernel
theorem zpl_RJ10 : plainName RJ10 = true := by decide +kernel
theorem zpl_RJ11 : plainName RJ11 = true := by decide +kernel
theorem zpl_RJ12 : plainName RJ12 = true := by decide +kernel
theorem zpl_RJ13 : plainName RJ13 = true := by decide +kernel
theorem zpl_RJ15 : plainName RJ15 = true := by decide +kernel
theorem zpl_RJ16 : plainName RJ16 = true := by decide +kernel
theorem zpl_RJ17 : plainName RJ17 = true := by decide +kernel
theorem zpl_RJ18 : plainName RJ18 = true := by decide +kernel
theorem zpl_RJ19 : plainName RJ19 = true := by decide +kernel
theorem zpl_RJ2 : plainName RJ2 = true := by decide +kernel
theorem zpl_RJ20 : plainName RJ20 = true := by decide +kernel
theorem zpl_RJ21 : plainName RJ21 = true := by decide +kernel
theorem zpl_RJ22 : plainName RJ22 = true := by decide +kernel
theorem zpl_RJ23 : plainName RJ23 = true := by decide +kernel
theorem zpl_RJ24 : plainName RJ24 = true := by decide +kernel
theorem zpl_RJ25 : plainName RJ25 = true := by decide +kernel
theorem zpl_RJ26 : plainName RJ26 = true := by decide +kernel
theorem zpl_RJ27 : plainName RJ27 = true := by decide +kernel
theorem zpl_RJ28 : plainName RJ28 = true := by decide +kernel
theorem zpl_RJ29 : plainName RJ29 = true := by decide +kernel
theorem zpl_RJ3 : plainName RJ3 = true := by decide +kernel
theorem zpl_RJ31 : plainName RJ31 = true := by decide +kernel
theorem zpl_RJ4 : plainName RJ4 = true := by decide +kernel
theorem zpl_RJ5 : plainName RJ5 = true := by decide +kernel
theorem zpl_RJ6 : plainName RJ6 = true := by decide +kernel
theorem zpl_RJ7 : plainName RJ7 = true := by decide +kernel
theorem zpl_RJ8 : plainName RJ8 = true := by decide +kernel
theorem zpl_RJ9 : plainName RJ9 = true := by decide +kernel
theorem zpl_RX0 : plainName RX0 = true := by decide +kernel
theorem zpl_RX1 : plainName RX1 = true := by decide +kernel
theorem zpl_RX10 : plainName RX10 = true := by decide +kernel
theorem zpl_RX11 : plainName RX11 = true := by decide +kernel
theorem zpl_RX12 : plainName RX12 = true := by decide +kernel
theorem zpl_RX13 : plainName RX13 = true := by decide +kernel
theorem zpl_RX14 : plainName RX14 = true := by decide +kernel
theorem zpl_RX15 : plainName RX15 = true := by decide +kernel
theorem zpl_RX16 : plainName RX16 = true := by decide +kernel
theorem zpl_RX17 : plainName RX17 = true := by decide +kernel
theorem zpl_RX18 : plainName RX18 = true := by decide +kernel
theorem zpl_RX19 : plainName RX19 = true := by decide +kernel
theorem zpl_RX2 : plainName RX2 = true := by decide +kernel
theorem zpl_RX20 : plainName RX20 = true := by decide +kernel
theorem zpl_RX21 : plainName RX21 = true := by decide +kernel
theorem zpl_RX22 : plainName RX22 = true := by decide +kernel
theorem zpl_RX23 : plainName RX23 = true := by decide +kernel
theorem zpl_RX3 : plainName RX3 = true := by decide +kernel
theorem zpl_RX4 : plainName RX4 = true := by decide +kernel
theorem zpl_RX5 : plainName RX5 = true := by decide +kernel
theorem zpl_RX6 : plainName RX6 = true := by decide +kernel
theorem zpl_RX7 : plainName RX7 = true := by decide +kernel
theorem zpl_RX8 : plainName RX8 = true := by decide +kernel
theorem zpl_RX9 : plainName RX9 = true := by decide +kernel
theorem zx0 : (⟨"java/util/List", "size", "()I"⟩ : MethodName) ∈ zIf := List.mem_of_getElem? (i := 0) rfl
theorem zxl0 : (parseMethodDescriptor "()I").map (fun d => d.parameters.length) = some 0 := by decide +kernel
theorem zx1 : (⟨"java/util/List", "iterator", "()Ljava/util/Iterator;"⟩ : MethodName) ∈ zIf := List.mem_of_getElem? (i := 1) rfl
theorem zxl1 : (parseMethodDescriptor "()Ljava/util/Iterator;").map (fun d => d.parameters.length) = some 0 := by decide +kernel
theorem zx2 : (⟨"java/util/Iterator", "hasNext", "()Z"⟩ : MethodName) ∈ zIf := List.mem_of_getElem? (i := 2) rfl
theorem zxl2 : (parseMethodDescriptor "()Z").map (fun d => d.parameters.length) = some 0 := by decide +kernel
theorem zx3 : (⟨"java/util/Iterator", "next", "()Ljava/lang/Object;"⟩ : MethodName) ∈ zIf := List.mem_of_getElem? (i := 3) rfl
theorem zxl3 : (parseMethodDescriptor "()Ljava/lang/Object;").map (fun d => d.parameters.length) = some 0 := by decide +kernel
theorem zx4 : (⟨"java/util/List", "add", "(Ljava/lang/Object;)Z"⟩ : MethodName) ∈ zIf := List.mem_of_getElem? (i := 4) rfl
theorem zxl4 : (parseMethodDescriptor "(Ljava/lang/Object;)Z").map (fun d => d.parameters.length) = some 1 := by decide +kernel
theorem zx5 : (⟨"java/util/List", "indexOf", "(Ljava/lang/Object;)I"⟩ : MethodName) ∈ zIf := List.mem_of_getElem? (i := 5) rfl
theorem zxl5 : (parseMethodDescriptor "(Ljava/lang/Object;)I").map (fun d => d.parameters.length) = some 1 := by decide +kernel
theorem zx6 : (⟨"java/util/List", "get", "(I)Ljava/lang/Object;"⟩ : MethodName) ∈ zIf := List.mem_of_getElem? (i := 6) rfl
theorem zxl6 : (parseMethodDescriptor "(I)Ljava/lang/Object;").map (fun d => d.parameters.length) = some 1 := by decide +kernel
theorem zx7 : (⟨"WeirfoldLane$Numbers", "number", "(LWeirfoldLane$Step;II)J"⟩ : MethodName) ∈ zIf := List.mem_of_getElem? (i := 7) rfl
theorem zxl7 : (parseMethodDescriptor "(LWeirfoldLane$Step;II)J").map (fun d => d.parameters.length) = some 3 := by decide +kernel
theorem zx8 : (⟨"jdk/internal/access/JavaLangAccess", "getUTF16Char", "([BI)C"⟩ : MethodName) ∈ zIf := List.mem_of_getElem? (i := 8) rfl
theorem zxl8 : (parseMethodDescriptor "([BI)C").map (fun d => d.parameters.length) = some 2 := by decide +kernel
theorem zx9 : (⟨"java/util/List", "remove", "(Ljava/lang/Object;)Z"⟩ : MethodName) ∈ zIf := List.mem_of_getElem? (i := 9) rfl
theorem zxl9 : (parseMethodDescriptor "(Ljava/lang/Object;)Z").map (fun d => d.parameters.length) = some 1 := by decide +kernel
theorem zx10 : (⟨"java/util/List", "remove", "(I)Ljava/lang/Object;"⟩ : MethodName) ∈ zIf := List.mem_of_getElem? (i := 10) rfl
theorem zxl10 : (parseMethodDescriptor "(I)Ljava/lang/Object;").map (fun d => d.parameters.length) = some 1 := by decide +kernel
theorem zx11 : (⟨"java/util/List", "add", "(ILjava/lang/Object;)V"⟩ : MethodName) ∈ zIf := List.mem_of_getElem? (i := 11) rfl
theorem zxl11 : (parseMethodDescriptor "(ILjava/lang/Object;)V").map (fun d => d.parameters.length) = some 2 := by decide +kernel
theorem zf_RX1_41 (b : Bool) : z_fl RX1 41 ("WeirfoldLane", "lane", "LWeirfoldLane$Lane;", b) := ⟨"WeirfoldLane", Or.inl rfl, Or.inl q286⟩
theorem zf_RX1_48 (b : Bool) : z_fl RX1 48 ("WeirfoldLane", "past", "Ljava/util/ArrayDeque;", b) := ⟨"WeirfoldLane", Or.inl rfl, Or.inl q287⟩
theorem zf_RX1_55 (b : Bool) : z_fl RX1 55 ("WeirfoldLane", "buffer", "Ljava/lang/StringBuilder;", b) := ⟨"WeirfoldLane", Or.inl rfl, Or.inl q289⟩
theorem zf_RX1_61 (b : Bool) : z_fl RX1 61 ("WeirfoldLane", "line", "Ljava/lang/String;", b) := ⟨"WeirfoldLane", Or.inl rfl, Or.inl q290⟩
theorem zf_RX1_65 (b : Bool) : z_fl RX1 65 ("WeirfoldLane", "fault", "I", b) := ⟨"WeirfoldLane", Or.inl rfl, Or.inl q291⟩
theorem zf_RX1_81 (b : Bool) : z_fl RX1 81 ("WeirfoldLane", "denied", "LWeirfoldLane$Denial;", b) := ⟨"WeirfoldLane", Or.inl rfl, Or.inl q292⟩
theorem zf_RX1_120 (b : Bool) : z_fl RX1 120 ("WeirfoldLane$Lane", "today", "I", b) := ⟨"WeirfoldLane$Lane", Or.inl rfl, Or.inr ⟨_, q208⟩⟩
theorem zf_RX1_123 (b : Bool) : z_fl RX1 123 ("WeirfoldLane$Lane", "rows", "Ljava/util/List;", b) := ⟨"WeirfoldLane$Lane", Or.inl rfl, Or.inr ⟨_, q196⟩⟩
theorem zf_RX1_139 (b : Bool) : z_fl RX1 139 ("WeirfoldLane$Row", "number", "I", b) := ⟨"WeirfoldLane$Row", Or.inl rfl, Or.inr ⟨_, q1191⟩⟩
theorem zf_RX1_145 (b : Bool) : z_fl RX1 145 ("WeirfoldLane$Row", "day", "I", b) := ⟨"WeirfoldLane$Row", Or.inl rfl, Or.inr ⟨_, q1198⟩⟩
theorem zf_RX1_148 (b : Bool) : z_fl RX1 148 ("WeirfoldLane$Row", "group", "I", b) := ⟨"WeirfoldLane$Row", Or.inl rfl, Or.inr ⟨_, q1203⟩⟩
theorem zf_RX1_166 (b : Bool) : z_fl RX1 166 ("WeirfoldLane$Row", "amount", "I", b) := ⟨"WeirfoldLane$Row", Or.inl rfl, Or.inr ⟨_, q1209⟩⟩
theorem zf_RX1_183 (b : Bool) : z_fl RX1 183 ("WeirfoldLane$Lane", "steps", "Ljava/util/List;", b) := ⟨"WeirfoldLane$Lane", Or.inl rfl, Or.inr ⟨_, q202⟩⟩
theorem zf_RX1_240 (b : Bool) : z_fl RX1 240 ("WeirfoldLane$Lane", "views", "Ljava/util/List;", b) := ⟨"WeirfoldLane$Lane", Or.inl rfl, Or.inr ⟨_, q205⟩⟩
theorem zf_RX1_245 (b : Bool) : z_fl RX1 245 ("WeirfoldLane$View", "numbers", "[J", b) := ⟨"WeirfoldLane$View", Or.inl rfl, Or.inr ⟨_, q573⟩⟩
theorem zf_RX1_306 (b : Bool) : z_fl RX1 306 ("WeirfoldLane$Decider", "best", "I", b) := ⟨"WeirfoldLane$Decider", Or.inl rfl, Or.inr ⟨_, q2145⟩⟩
theorem zf_RX1_312 (b : Bool) : z_fl RX1 312 ("WeirfoldLane$Lane", "added", "I", b) := ⟨"WeirfoldLane$Lane", Or.inl rfl, Or.inr ⟨_, q210⟩⟩
theorem zf_RX1_315 (b : Bool) : z_fl RX1 315 ("WeirfoldLane$Lane", "removed", "I", b) := ⟨"WeirfoldLane$Lane", Or.inl rfl, Or.inr ⟨_, q212⟩⟩
theorem zf_RX1_318 (b : Bool) : z_fl RX1 318 ("WeirfoldLane$Lane", "late", "I", b) := ⟨"WeirfoldLane$Lane", Or.inl rfl, Or.inr ⟨_, q214⟩⟩
theorem zf_RX1_321 (b : Bool) : z_fl RX1 321 ("WeirfoldLane$Lane", "repaired", "I", b) := ⟨"WeirfoldLane$Lane", Or.inl rfl, Or.inr ⟨_, q216⟩⟩
theorem zf_RX1_364 (b : Bool) : z_fl RX1 364 ("WeirfoldLane$SyntaxFault", "position", "I", b) := ⟨"WeirfoldLane$SyntaxFault", Or.inl rfl, Or.inr ⟨_, q2344⟩⟩
theorem zf_RX1_426 (b : Bool) : z_fl RX1 426 ("WeirfoldLane$Denial", "number", "I", b) := ⟨"WeirfoldLane$Denial", Or.inl rfl, Or.inr ⟨_, q1173⟩⟩
theorem zf_RX1_427 (b : Bool) : z_fl RX1 427 ("WeirfoldLane$Denial", "detail", "I", b) := ⟨"WeirfoldLane$Denial", Or.inl rfl, Or.inr ⟨_, q1175⟩⟩
theorem zf_RX1_439 (b : Bool) : z_fl RX1 439 ("WeirfoldLane", "snapshot", "LWeirfoldLane$Lane;", b) := ⟨"WeirfoldLane", Or.inl rfl, Or.inl q293⟩
theorem zf_RX18_7 (b : Bool) : z_fl RX18 7 ("WeirfoldLane$Anew", "lane", "LWeirfoldLane$Lane;", b) := ⟨"WeirfoldLane$Anew", Or.inl rfl, Or.inl q1910⟩
theorem zf_RX18_13 (b : Bool) : z_fl RX18 13 ("WeirfoldLane$Lane", "rows", "Ljava/util/List;", b) := ⟨"WeirfoldLane$Lane", Or.inl rfl, Or.inr ⟨_, q194⟩⟩
theorem zf_RX10_7 (b : Bool) : z_fl RX10 7 ("WeirfoldLane$BaseStep", "bound", "I", b) := ⟨"WeirfoldLane$BaseStep", Or.inl rfl, Or.inl q1470⟩
theorem zf_RX10_13 (b : Bool) : z_fl RX10 13 ("WeirfoldLane$Row", "amount", "I", b) := ⟨"WeirfoldLane$Row", Or.inl rfl, Or.inr ⟨_, q1205⟩⟩
theorem zf_RX10_54 (b : Bool) : z_fl RX10 54 ("WeirfoldLane$Row", "day", "I", b) := ⟨"WeirfoldLane$Row", Or.inl rfl, Or.inr ⟨_, q1196⟩⟩
theorem zf_RX10_57 (b : Bool) : z_fl RX10 57 ("WeirfoldLane$Costs", "rows", "I", b) := ⟨"WeirfoldLane$Costs", Or.inl rfl, Or.inr ⟨_, q2058⟩⟩
theorem zf_RX17_7 (b : Bool) : z_fl RX17 7 ("WeirfoldLane$BoundedStep", "bound", "I", b) := ⟨"WeirfoldLane$BoundedStep", Or.inl rfl, Or.inl q1571⟩
theorem zf_RX17_27 (b : Bool) : z_fl RX17 27 ("WeirfoldLane$Row", "day", "I", b) := ⟨"WeirfoldLane$Row", Or.inl rfl, Or.inr ⟨_, q1195⟩⟩
theorem zf_RX17_32 (b : Bool) : z_fl RX17 32 ("WeirfoldLane$Row", "group", "I", b) := ⟨"WeirfoldLane$Row", Or.inl rfl, Or.inr ⟨_, q1201⟩⟩
theorem zf_RX5_7 (b : Bool) : z_fl RX5 7 ("WeirfoldLane$Change", "word", "Ljava/lang/String;", b) := ⟨"WeirfoldLane$Change", Or.inl rfl, Or.inl q823⟩
theorem zf_RX5_13 (b : Bool) : z_fl RX5 13 ("WeirfoldLane$Change", "sign", "C", b) := ⟨"WeirfoldLane$Change", Or.inl rfl, Or.inl q824⟩
theorem zf_RX5_17 (b : Bool) : z_fl RX5 17 ("WeirfoldLane$Change", "first", "I", b) := ⟨"WeirfoldLane$Change", Or.inl rfl, Or.inl q825⟩
theorem zf_RX5_21 (b : Bool) : z_fl RX5 21 ("WeirfoldLane$Change", "second", "I", b) := ⟨"WeirfoldLane$Change", Or.inl rfl, Or.inl q826⟩
theorem zf_RX8_9 (b : Bool) : z_fl RX8 9 ("WeirfoldLane$Changes", "changes", "[J", b) := ⟨"WeirfoldLane$Changes", Or.inl rfl, Or.inl q1282⟩
theorem zf_RX8_15 (b : Bool) : z_fl RX8 15 ("WeirfoldLane$Lane", "steps", "Ljava/util/List;", b) := ⟨"WeirfoldLane$Lane", Or.inl rfl, Or.inr ⟨_, q197⟩⟩
theorem zf_RX8_21 (b : Bool) : z_fl RX8 21 ("WeirfoldLane$Changes", "steps", "Ljava/util/List;", b) := ⟨"WeirfoldLane$Changes", Or.inl rfl, Or.inl q1281⟩
theorem zf_RX8_28 (b : Bool) : z_fl RX8 28 ("WeirfoldLane$Lane", "views", "Ljava/util/List;", b) := ⟨"WeirfoldLane$Lane", Or.inl rfl, Or.inr ⟨_, q204⟩⟩
theorem zf_RX8_37 (b : Bool) : z_fl RX8 37 ("WeirfoldLane$View", "isStale", "[Z", b) := ⟨"WeirfoldLane$View", Or.inl rfl, Or.inr ⟨_, q575⟩⟩
theorem zf_RX8_41 (b : Bool) : z_fl RX8 41 ("WeirfoldLane$Row", "day", "I", b) := ⟨"WeirfoldLane$Row", Or.inl rfl, Or.inr ⟨_, q1193⟩⟩
theorem zf_RX20_9 (b : Bool) : z_fl RX20 9 ("WeirfoldLane$Costs", "costs", "[J", b) := ⟨"WeirfoldLane$Costs", Or.inl rfl, Or.inl q2059⟩
theorem zf_RX20_15 (b : Bool) : z_fl RX20 15 ("WeirfoldLane$Lane", "steps", "Ljava/util/List;", b) := ⟨"WeirfoldLane$Lane", Or.inl rfl, Or.inr ⟨_, q199⟩⟩
theorem zf_RX20_21 (b : Bool) : z_fl RX20 21 ("WeirfoldLane$Costs", "steps", "Ljava/util/List;", b) := ⟨"WeirfoldLane$Costs", Or.inl rfl, Or.inl q2056⟩
theorem zf_RX20_22 (b : Bool) : z_fl RX20 22 ("WeirfoldLane$Lane", "rows", "Ljava/util/List;", b) := ⟨"WeirfoldLane$Lane", Or.inl rfl, Or.inr ⟨_, q193⟩⟩
theorem zf_RX20_31 (b : Bool) : z_fl RX20 31 ("WeirfoldLane$Costs", "rows", "I", b) := ⟨"WeirfoldLane$Costs", Or.inl rfl, Or.inl q2057⟩
theorem zf_RX21_12 (b : Bool) : z_fl RX21 12 ("WeirfoldLane$Decider", "costs", "LWeirfoldLane$Costs;", b) := ⟨"WeirfoldLane$Decider", Or.inl rfl, Or.inl q2142⟩
theorem zf_RX21_18 (b : Bool) : z_fl RX21 18 ("WeirfoldLane$Lane", "steps", "Ljava/util/List;", b) := ⟨"WeirfoldLane$Lane", Or.inl rfl, Or.inr ⟨_, q200⟩⟩
theorem zf_RX21_30 (b : Bool) : z_fl RX21 30 ("WeirfoldLane$Decider", "steps", "I", b) := ⟨"WeirfoldLane$Decider", Or.inl rfl, Or.inl q2143⟩
theorem zf_RX21_37 (b : Bool) : z_fl RX21 37 ("WeirfoldLane$Decider", "least", "J", b) := ⟨"WeirfoldLane$Decider", Or.inl rfl, Or.inl q2146⟩
theorem zf_RX21_41 (b : Bool) : z_fl RX21 41 ("WeirfoldLane$Decider", "best", "I", b) := ⟨"WeirfoldLane$Decider", Or.inl rfl, Or.inl q2144⟩
theorem zf_RX6_12 (b : Bool) : z_fl RX6 12 ("WeirfoldLane$Denial", "number", "I", b) := ⟨"WeirfoldLane$Denial", Or.inl rfl, Or.inl q1172⟩
theorem zf_RX6_16 (b : Bool) : z_fl RX6 16 ("WeirfoldLane$Denial", "detail", "I", b) := ⟨"WeirfoldLane$Denial", Or.inl rfl, Or.inl q1174⟩
theorem zf_RX13_7 (b : Bool) : z_fl RX13 7 ("WeirfoldLane$Row", "amount", "I", b) := ⟨"WeirfoldLane$Row", Or.inl rfl, Or.inr ⟨_, q1206⟩⟩
theorem zf_RX13_19 (b : Bool) : z_fl RX13 19 ("WeirfoldLane$Lane", "rows", "Ljava/util/List;", b) := ⟨"WeirfoldLane$Lane", Or.inl rfl, Or.inr ⟨_, q195⟩⟩
theorem zf_RX13_25 (b : Bool) : z_fl RX13 25 ("WeirfoldLane$Row", "day", "I", b) := ⟨"WeirfoldLane$Row", Or.inl rfl, Or.inr ⟨_, q1194⟩⟩
theorem zf_RX13_28 (b : Bool) : z_fl RX13 28 ("WeirfoldLane$Row", "group", "I", b) := ⟨"WeirfoldLane$Row", Or.inl rfl, Or.inr ⟨_, q1200⟩⟩
theorem zf_RX2_12 (b : Bool) : z_fl RX2 12 ("WeirfoldLane$Lane", "rows", "Ljava/util/List;", b) := ⟨"WeirfoldLane$Lane", Or.inl rfl, Or.inl q192⟩
theorem zf_RX2_18 (b : Bool) : z_fl RX2 18 ("WeirfoldLane$Lane", "steps", "Ljava/util/List;", b) := ⟨"WeirfoldLane$Lane", Or.inl rfl, Or.inl q201⟩
theorem zf_RX2_21 (b : Bool) : z_fl RX2 21 ("WeirfoldLane$Lane", "views", "Ljava/util/List;", b) := ⟨"WeirfoldLane$Lane", Or.inl rfl, Or.inl q203⟩
theorem zf_RX2_54 (b : Bool) : z_fl RX2 54 ("WeirfoldLane$Lane", "today", "I", b) := ⟨"WeirfoldLane$Lane", Or.inl rfl, Or.inl q207⟩
theorem zf_RX2_58 (b : Bool) : z_fl RX2 58 ("WeirfoldLane$Lane", "added", "I", b) := ⟨"WeirfoldLane$Lane", Or.inl rfl, Or.inl q209⟩
theorem zf_RX2_61 (b : Bool) : z_fl RX2 61 ("WeirfoldLane$Lane", "removed", "I", b) := ⟨"WeirfoldLane$Lane", Or.inl rfl, Or.inl q211⟩
theorem zf_RX2_64 (b : Bool) : z_fl RX2 64 ("WeirfoldLane$Lane", "late", "I", b) := ⟨"WeirfoldLane$Lane", Or.inl rfl, Or.inl q213⟩
theorem zf_RX2_67 (b : Bool) : z_fl RX2 67 ("WeirfoldLane$Lane", "repaired", "I", b) := ⟨"WeirfoldLane$Lane", Or.inl rfl, Or.inl q215⟩
theorem zf_RX2_93 (b : Bool) : z_fl RX2 93 ("WeirfoldLane$View", "numbers", "[J", b) := ⟨"WeirfoldLane$View", Or.inl rfl, Or.inr ⟨_, q572⟩⟩
theorem zf_RX2_101 (b : Bool) : z_fl RX2 101 ("WeirfoldLane$View", "isStale", "[Z", b) := ⟨"WeirfoldLane$View", Or.inl rfl, Or.inr ⟨_, q576⟩⟩
theorem zf_RX2_111 (b : Bool) : z_fl RX2 111 ("WeirfoldLane$Row", "number", "I", b) := ⟨"WeirfoldLane$Row", Or.inl rfl, Or.inr ⟨_, q1190⟩⟩
theorem zf_RX2_148 (b : Bool) : z_fl RX2 148 ("WeirfoldLane$Row", "day", "I", b) := ⟨"WeirfoldLane$Row", Or.inl rfl, Or.inr ⟨_, q1197⟩⟩
theorem zf_RX2_151 (b : Bool) : z_fl RX2 151 ("WeirfoldLane$Row", "group", "I", b) := ⟨"WeirfoldLane$Row", Or.inl rfl, Or.inr ⟨_, q1202⟩⟩
theorem zf_RX2_189 (b : Bool) : z_fl RX2 189 ("WeirfoldLane$Row", "amount", "I", b) := ⟨"WeirfoldLane$Row", Or.inl rfl, Or.inr ⟨_, q1208⟩⟩
theorem zf_RX19_9 (b : Bool) : z_fl RX19 9 ("WeirfoldLane$Marks", "isMarked", "[Z", b) := ⟨"WeirfoldLane$Marks", Or.inl rfl, Or.inl q2019⟩
theorem zf_RX19_15 (b : Bool) : z_fl RX19 15 ("WeirfoldLane$Lane", "steps", "Ljava/util/List;", b) := ⟨"WeirfoldLane$Lane", Or.inl rfl, Or.inr ⟨_, q198⟩⟩
theorem zf_RX19_21 (b : Bool) : z_fl RX19 21 ("WeirfoldLane$Marks", "steps", "Ljava/util/List;", b) := ⟨"WeirfoldLane$Marks", Or.inl rfl, Or.inl q2018⟩
theorem zf_RX19_28 (b : Bool) : z_fl RX19 28 ("WeirfoldLane$Lane", "today", "I", b) := ⟨"WeirfoldLane$Lane", Or.inl rfl, Or.inr ⟨_, q206⟩⟩
theorem zf_RX14_7 (b : Bool) : z_fl RX14 7 ("WeirfoldLane$PairStep", "first", "LWeirfoldLane$Step;", b) := ⟨"WeirfoldLane$PairStep", Or.inl rfl, Or.inl q1533⟩
theorem zf_RX14_13 (b : Bool) : z_fl RX14 13 ("WeirfoldLane$PairStep", "second", "LWeirfoldLane$Step;", b) := ⟨"WeirfoldLane$PairStep", Or.inl rfl, Or.inl q1534⟩
theorem zf_RX14_16 (b : Bool) : z_fl RX14 16 ("WeirfoldLane$PairStep", "sign", "I", b) := ⟨"WeirfoldLane$PairStep", Or.inl rfl, Or.inl q1535⟩
theorem zf_RX22_1 (b : Bool) : z_fl RX22 1 ("WeirfoldLane$Parser", "this$0", "LWeirfoldLane;", b) := ⟨"WeirfoldLane$Parser", Or.inl rfl, Or.inl q2264⟩
theorem zf_RX22_13 (b : Bool) : z_fl RX22 13 ("WeirfoldLane$Parser", "position", "I", b) := ⟨"WeirfoldLane$Parser", Or.inl rfl, Or.inl q2263⟩
theorem zf_RX22_17 (b : Bool) : z_fl RX22 17 ("WeirfoldLane", "buffer", "Ljava/lang/StringBuilder;", b) := ⟨"WeirfoldLane", Or.inl rfl, Or.inr ⟨_, q288⟩⟩
theorem zf_RX7_7 (b : Bool) : z_fl RX7 7 ("WeirfoldLane$Row", "number", "I", b) := ⟨"WeirfoldLane$Row", Or.inl rfl, Or.inl q1189⟩
theorem zf_RX7_13 (b : Bool) : z_fl RX7 13 ("WeirfoldLane$Row", "day", "I", b) := ⟨"WeirfoldLane$Row", Or.inl rfl, Or.inl q1192⟩
theorem zf_RX7_16 (b : Bool) : z_fl RX7 16 ("WeirfoldLane$Row", "group", "I", b) := ⟨"WeirfoldLane$Row", Or.inl rfl, Or.inl q1199⟩
theorem zf_RX7_19 (b : Bool) : z_fl RX7 19 ("WeirfoldLane$Row", "amount", "I", b) := ⟨"WeirfoldLane$Row", Or.inl rfl, Or.inl q1204⟩
theorem zf_RX15_7 (b : Bool) : z_fl RX15 7 ("WeirfoldLane$SingleStep", "input", "LWeirfoldLane$Step;", b) := ⟨"WeirfoldLane$SingleStep", Or.inl rfl, Or.inl q1557⟩
theorem zf_RX9_7 (b : Bool) : z_fl RX9 7 ("WeirfoldLane$Step", "kind", "C", b) := ⟨"WeirfoldLane$Step", Or.inl rfl, Or.inl q1471⟩
theorem zf_RX11_7 (b : Bool) : z_fl RX11 7 ("WeirfoldLane$Row", "amount", "I", b) := ⟨"WeirfoldLane$Row", Or.inl rfl, Or.inr ⟨_, q1207⟩⟩
theorem zf_RX23_7 (b : Bool) : z_fl RX23 7 ("WeirfoldLane$SyntaxFault", "position", "I", b) := ⟨"WeirfoldLane$SyntaxFault", Or.inl rfl, Or.inl q2343⟩
theorem zf_RX4_9 (b : Bool) : z_fl RX4 9 ("WeirfoldLane$View", "numbers", "[J", b) := ⟨"WeirfoldLane$View", Or.inl rfl, Or.inl q571⟩
theorem zf_RX4_15 (b : Bool) : z_fl RX4 15 ("WeirfoldLane$View", "isStale", "[Z", b) := ⟨"WeirfoldLane$View", Or.inl rfl, Or.inl q574⟩
theorem zf_RX3_7 (b : Bool) : z_fl RX3 7 ("WeirfoldLaneModel", "now", "[I", b) := ⟨"WeirfoldLaneModel", Or.inl rfl, Or.inl q2695⟩
theorem zf_RX3_13 (b : Bool) : z_fl RX3 13 ("WeirfoldLaneModel", "before", "[I", b) := ⟨"WeirfoldLaneModel", Or.inl rfl, Or.inl q2696⟩
theorem zf_RX3_16 (b : Bool) : z_fl RX3 16 ("WeirfoldLaneModel", "saved", "[I", b) := ⟨"WeirfoldLaneModel", Or.inl rfl, Or.inl q2697⟩
theorem zf_RX3_19 (b : Bool) : z_fl RX3 19 ("WeirfoldLaneModel", "history", "[I", b) := ⟨"WeirfoldLaneModel", Or.inl rfl, Or.inl q2698⟩
theorem zf_RX3_22 (b : Bool) : z_fl RX3 22 ("WeirfoldLaneModel", "reached", "[I", b) := ⟨"WeirfoldLaneModel", Or.inl rfl, Or.inl q2699⟩
theorem zf_RX3_25 (b : Bool) : z_fl RX3 25 ("WeirfoldLaneModel", "kept", "[J", b) := ⟨"WeirfoldLaneModel", Or.inl rfl, Or.inl q2700⟩
theorem zf_RX3_29 (b : Bool) : z_fl RX3 29 ("WeirfoldLaneModel", "keptBefore", "[J", b) := ⟨"WeirfoldLaneModel", Or.inl rfl, Or.inl q2701⟩
theorem zf_RX3_32 (b : Bool) : z_fl RX3 32 ("WeirfoldLaneModel", "keptSaved", "[J", b) := ⟨"WeirfoldLaneModel", Or.inl rfl, Or.inl q2702⟩
theorem zf_RX3_35 (b : Bool) : z_fl RX3 35 ("WeirfoldLaneModel", "keptHistory", "[J", b) := ⟨"WeirfoldLaneModel", Or.inl rfl, Or.inl q2703⟩
theorem zf_RX3_38 (b : Bool) : z_fl RX3 38 ("WeirfoldLaneModel", "anew", "[J", b) := ⟨"WeirfoldLaneModel", Or.inl rfl, Or.inl q2704⟩
theorem zf_RX3_41 (b : Bool) : z_fl RX3 41 ("WeirfoldLaneModel", "behind", "[J", b) := ⟨"WeirfoldLaneModel", Or.inl rfl, Or.inl q2705⟩
theorem zf_RX3_44 (b : Bool) : z_fl RX3 44 ("WeirfoldLaneModel", "costs", "[J", b) := ⟨"WeirfoldLaneModel", Or.inl rfl, Or.inl q2706⟩
theorem zf_RX3_47 (b : Bool) : z_fl RX3 47 ("WeirfoldLaneModel", "thrown", "I", b) := ⟨"WeirfoldLaneModel", Or.inl rfl, Or.inl q2707⟩
theorem zf_RX3_51 (b : Bool) : z_fl RX3 51 ("WeirfoldLaneModel", "depth", "I", b) := ⟨"WeirfoldLaneModel", Or.inl rfl, Or.inl q2708⟩
theorem zf_RX3_54 (b : Bool) : z_fl RX3 54 ("WeirfoldLaneModel", "wrongAt", "I", b) := ⟨"WeirfoldLaneModel", Or.inl rfl, Or.inl q2709⟩
theorem zf_RX3_57 (b : Bool) : z_fl RX3 57 ("WeirfoldLaneModel", "reason", "I", b) := ⟨"WeirfoldLaneModel", Or.inl rfl, Or.inl q2710⟩
theorem zf_RX3_60 (b : Bool) : z_fl RX3 60 ("WeirfoldLaneModel", "detail", "I", b) := ⟨"WeirfoldLaneModel", Or.inl rfl, Or.inl q2711⟩
theorem zf_RX3_63 (b : Bool) : z_fl RX3 63 ("WeirfoldLaneModel", "cause", "I", b) := ⟨"WeirfoldLaneModel", Or.inl rfl, Or.inl q2712⟩
theorem zf_RX3_66 (b : Bool) : z_fl RX3 66 ("WeirfoldLaneModel", "isSaved", "Z", b) := ⟨"WeirfoldLaneModel", Or.inl rfl, Or.inl q2713⟩
theorem zf_RX3_70 (b : Bool) : z_fl RX3 70 ("WeirfoldLaneModel", "line", "[I", b) := ⟨"WeirfoldLaneModel", Or.inl rfl, Or.inl q2714⟩
theorem zf_RX3_73 (b : Bool) : z_fl RX3 73 ("WeirfoldLaneModel", "lineLength", "I", b) := ⟨"WeirfoldLaneModel", Or.inl rfl, Or.inl q2715⟩
theorem zf_RX3_76 (b : Bool) : z_fl RX3 76 ("WeirfoldLaneModel", "input", "[I", b) := ⟨"WeirfoldLaneModel", Or.inl rfl, Or.inl q2716⟩
theorem zf_RX3_79 (b : Bool) : z_fl RX3 79 ("WeirfoldLaneModel", "kinds", "[I", b) := ⟨"WeirfoldLaneModel", Or.inl rfl, Or.inl q2717⟩
theorem zf_RX3_82 (b : Bool) : z_fl RX3 82 ("WeirfoldLaneModel", "numbers", "[I", b) := ⟨"WeirfoldLaneModel", Or.inl rfl, Or.inl q2718⟩
theorem zf_RX3_85 (b : Bool) : z_fl RX3 85 ("WeirfoldLaneModel", "length", "I", b) := ⟨"WeirfoldLaneModel", Or.inl rfl, Or.inl q2719⟩
theorem zf_RX3_88 (b : Bool) : z_fl RX3 88 ("WeirfoldLaneModel", "textLength", "I", b) := ⟨"WeirfoldLaneModel", Or.inl rfl, Or.inl q2720⟩
theorem zf_RX3_91 (b : Bool) : z_fl RX3 91 ("WeirfoldLaneModel", "at", "I", b) := ⟨"WeirfoldLaneModel", Or.inl rfl, Or.inl q2721⟩
theorem zf_RX3_94 (b : Bool) : z_fl RX3 94 ("WeirfoldLaneModel", "commands", "I", b) := ⟨"WeirfoldLaneModel", Or.inl rfl, Or.inl q2722⟩
theorem zf_RX3_97 (b : Bool) : z_fl RX3 97 ("WeirfoldLaneModel", "isWrong", "Z", b) := ⟨"WeirfoldLaneModel", Or.inl rfl, Or.inl q2723⟩
theorem zf_RJ4_15 (b : Bool) : z_fl RJ4 15 ("java/lang/AbstractStringBuilder", "value", "[B", b) := ⟨"java/lang/AbstractStringBuilder", Or.inl rfl, Or.inl q270⟩
theorem zf_RJ4_18 (b : Bool) : z_fl RJ4 18 ("java/lang/String", "COMPACT_STRINGS", "Z", b) := ⟨"java/lang/String", Or.inl rfl, Or.inl q261⟩
theorem zf_RJ4_22 (b : Bool) : z_fl RJ4 22 ("java/lang/AbstractStringBuilder", "coder", "B", b) := ⟨"java/lang/AbstractStringBuilder", Or.inl rfl, Or.inl q271⟩
theorem zf_RJ4_73 (b : Bool) : z_fl RJ4 73 ("java/lang/AbstractStringBuilder", "maybeLatin1", "Z", b) := ⟨"java/lang/AbstractStringBuilder", Or.inl rfl, Or.inl q272⟩
theorem zf_RJ4_79 (b : Bool) : z_fl RJ4 79 ("java/lang/AbstractStringBuilder", "count", "I", b) := ⟨"java/lang/AbstractStringBuilder", Or.inl rfl, Or.inl q274⟩
theorem zf_RJ19_83 (b : Bool) : z_fl RJ19 83 ("java/lang/Integer", "DigitOnes", "[B", b) := ⟨"java/lang/Integer", Or.inl rfl, Or.inl q1020⟩
theorem zf_RJ19_87 (b : Bool) : z_fl RJ19 87 ("java/lang/Integer", "DigitTens", "[B", b) := ⟨"java/lang/Integer", Or.inl rfl, Or.inl q1022⟩
theorem zf_RJ27_133 (b : Bool) : z_fl RJ27 133 ("java/lang/Integer", "DigitOnes", "[B", b) := ⟨"java/lang/Integer", Or.inl rfl, Or.inl q2581⟩
theorem zf_RJ27_137 (b : Bool) : z_fl RJ27 137 ("java/lang/Integer", "DigitTens", "[B", b) := ⟨"java/lang/Integer", Or.inl rfl, Or.inl q2582⟩
theorem zf_RJ6_9 (b : Bool) : z_fl RJ6 9 ("java/lang/String", "value", "[B", b) := ⟨"java/lang/String", Or.inl rfl, Or.inl q1100⟩
theorem zf_RJ6_15 (b : Bool) : z_fl RJ6 15 ("java/lang/String", "coder", "B", b) := ⟨"java/lang/String", Or.inl rfl, Or.inl q1101⟩
theorem zf_RJ6_19 (b : Bool) : z_fl RJ6 19 ("java/lang/String", "hash", "I", b) := ⟨"java/lang/String", Or.inl rfl, Or.inl q1102⟩
theorem zf_RJ6_23 (b : Bool) : z_fl RJ6 23 ("java/lang/String", "hashIsZero", "Z", b) := ⟨"java/lang/String", Or.inl rfl, Or.inl q1103⟩
theorem zf_RJ6_38 (b : Bool) : z_fl RJ6 38 ("java/lang/String", "COMPACT_STRINGS", "Z", b) := ⟨"java/lang/String", Or.inl rfl, Or.inl q650⟩
theorem zf_RJ6_1048 (b : Bool) : z_fl RJ6 1048 ("java/lang/AbstractStringBuilder", "maybeLatin1", "Z", b) := ⟨"java/lang/AbstractStringBuilder", Or.inl rfl, Or.inl q273⟩
theorem zf_RJ6_1053 (b : Bool) : z_fl RJ6 1053 ("jdk/internal/util/Preconditions", "SIOOBE_FORMATTER", "Ljava/util/function/BiFunction;", b) := ⟨"jdk/internal/util/Preconditions", Or.inl rfl, Or.inl q957⟩
theorem zf_RJ7_44 (b : Bool) : z_fl RJ7 44 ("java/lang/StringUTF16", "$assertionsDisabled", "Z", b) := ⟨"java/lang/StringUTF16", Or.inl rfl, Or.inl q876⟩
theorem zf_RJ7_59 (b : Bool) : z_fl RJ7 59 ("java/lang/StringUTF16", "HI_BYTE_SHIFT", "I", b) := ⟨"java/lang/StringUTF16", Or.inl rfl, Or.inl q881⟩
theorem zf_RJ7_63 (b : Bool) : z_fl RJ7 63 ("java/lang/StringUTF16", "LO_BYTE_SHIFT", "I", b) := ⟨"java/lang/StringUTF16", Or.inl rfl, Or.inl q883⟩
theorem zf_RJ7_251 (b : Bool) : z_fl RJ7 251 ("java/lang/String", "COMPACT_STRINGS", "Z", b) := ⟨"java/lang/String", Or.inl rfl, Or.inl q2375⟩
theorem zf_RJ7_403 (b : Bool) : z_fl RJ7 403 ("java/lang/Integer", "DigitOnes", "[B", b) := ⟨"java/lang/Integer", Or.inl rfl, Or.inl q1030⟩
theorem zf_RJ7_407 (b : Bool) : z_fl RJ7 407 ("java/lang/Integer", "DigitTens", "[B", b) := ⟨"java/lang/Integer", Or.inl rfl, Or.inl q1031⟩
theorem zf_RJ9_7 (b : Bool) : z_fl RJ9 7 ("java/lang/Throwable", "cause", "Ljava/lang/Throwable;", b) := ⟨"java/lang/Throwable", Or.inl rfl, Or.inl q450⟩
theorem zf_RJ9_13 (b : Bool) : z_fl RJ9 13 ("java/lang/Throwable", "UNASSIGNED_STACK", "[Ljava/lang/StackTraceElement;", b) := ⟨"java/lang/Throwable", Or.inl rfl, Or.inl q416⟩
theorem zf_RJ9_17 (b : Bool) : z_fl RJ9 17 ("java/lang/Throwable", "stackTrace", "[Ljava/lang/StackTraceElement;", b) := ⟨"java/lang/Throwable", Or.inl rfl, Or.inl q451⟩
theorem zf_RJ9_20 (b : Bool) : z_fl RJ9 20 ("java/lang/Throwable", "SUPPRESSED_SENTINEL", "Ljava/util/List;", b) := ⟨"java/lang/Throwable", Or.inl rfl, Or.inl q418⟩
theorem zf_RJ9_24 (b : Bool) : z_fl RJ9 24 ("java/lang/Throwable", "suppressedExceptions", "Ljava/util/List;", b) := ⟨"java/lang/Throwable", Or.inl rfl, Or.inl q452⟩
theorem zf_RJ9_31 (b : Bool) : z_fl RJ9 31 ("java/lang/Throwable", "detailMessage", "Ljava/lang/String;", b) := ⟨"java/lang/Throwable", Or.inl rfl, Or.inl q449⟩
theorem zf_RJ9_198 (b : Bool) : z_fl RJ9 198 ("java/lang/Throwable", "backtrace", "Ljava/lang/Object;", b) := ⟨"java/lang/Throwable", Or.inl rfl, Or.inl q448⟩
theorem zf_RJ1_7 (b : Bool) : z_fl RJ1 7 ("java/util/AbstractList", "modCount", "I", b) := ⟨"java/util/AbstractList", Or.inl rfl, Or.inl q181⟩
theorem zf_RJ3_3 (b : Bool) : z_fl RJ3 3 ("java/util/ArrayDeque", "elements", "[Ljava/lang/Object;", b) := ⟨"java/util/ArrayDeque", Or.inl rfl, Or.inl q242⟩
theorem zf_RJ3_20 (b : Bool) : z_fl RJ3 20 ("java/util/ArrayDeque", "tail", "I", b) := ⟨"java/util/ArrayDeque", Or.inl rfl, Or.inl q244⟩
theorem zf_RJ3_24 (b : Bool) : z_fl RJ3 24 ("java/util/ArrayDeque", "head", "I", b) := ⟨"java/util/ArrayDeque", Or.inl rfl, Or.inl q243⟩
theorem zf_RJ2_9 (b : Bool) : z_fl RJ2 9 ("java/util/ArrayList", "elementData", "[Ljava/lang/Object;", b) := ⟨"java/util/ArrayList", Or.inl rfl, Or.inl q177⟩
theorem zf_RJ2_39 (b : Bool) : z_fl RJ2 39 ("java/util/ArrayList", "DEFAULTCAPACITY_EMPTY_ELEMENTDATA", "[Ljava/lang/Object;", b) := ⟨"java/util/ArrayList", Or.inl rfl, Or.inl q175⟩
theorem zf_RJ2_48 (b : Bool) : z_fl RJ2 48 ("java/util/ArrayList", "size", "I", b) := ⟨"java/util/ArrayList", Or.inl rfl, Or.inl q180⟩
theorem zf_RJ2_63 (b : Bool) : z_fl RJ2 63 ("java/util/AbstractList", "modCount", "I", b) := ⟨"java/util/ArrayList", Or.inr q183, Or.inl q184⟩
theorem zf_RJ8_1 (b : Bool) : z_fl RJ8 1 ("java/util/ArrayList$Itr", "this$0", "Ljava/util/ArrayList;", b) := ⟨"java/util/ArrayList$Itr", Or.inl rfl, Or.inl q357⟩
theorem zf_RJ8_13 (b : Bool) : z_fl RJ8 13 ("java/util/ArrayList$Itr", "lastRet", "I", b) := ⟨"java/util/ArrayList$Itr", Or.inl rfl, Or.inl q355⟩
theorem zf_RJ8_17 (b : Bool) : z_fl RJ8 17 ("java/util/AbstractList", "modCount", "I", b) := ⟨"java/util/ArrayList", Or.inr q183, Or.inl q182⟩
theorem zf_RJ8_22 (b : Bool) : z_fl RJ8 22 ("java/util/ArrayList$Itr", "expectedModCount", "I", b) := ⟨"java/util/ArrayList$Itr", Or.inl rfl, Or.inl q356⟩
theorem zf_RJ8_25 (b : Bool) : z_fl RJ8 25 ("java/util/ArrayList$Itr", "cursor", "I", b) := ⟨"java/util/ArrayList$Itr", Or.inl rfl, Or.inl q354⟩
theorem zf_RJ8_28 (b : Bool) : z_fl RJ8 28 ("java/util/ArrayList", "size", "I", b) := ⟨"java/util/ArrayList", Or.inl rfl, Or.inr ⟨_, q179⟩⟩
theorem zf_RJ8_37 (b : Bool) : z_fl RJ8 37 ("java/util/ArrayList", "elementData", "[Ljava/lang/Object;", b) := ⟨"java/util/ArrayList", Or.inl rfl, Or.inl q178⟩
theorem zf_RJ21_1 (b : Bool) : z_fl RJ21 1 ("java/util/Optional", "EMPTY", "Ljava/util/Optional;", b) := ⟨"java/util/Optional", Or.inl rfl, Or.inl q1345⟩
theorem zf_RJ21_13 (b : Bool) : z_fl RJ21 13 ("java/util/Optional", "value", "Ljava/lang/Object;", b) := ⟨"java/util/Optional", Or.inl rfl, Or.inl q1359⟩
theorem zf_RJ13_106 (b : Bool) : z_fl RJ13 106 ("jdk/internal/util/ArraysSupport", "JLA", "Ljdk/internal/access/JavaLangAccess;", b) := ⟨"jdk/internal/util/ArraysSupport", Or.inl rfl, Or.inl q861⟩
theorem zdf_X1 : ∀ j, j < 7 → defaultValue (tyX1 j) = vp_V [.null, .null, .null, .null, .int (nI 0), .null, .null] j := by decide +kernel
theorem zdf_X2 : ∀ j, j < 8 → defaultValue (tyX2 j) = vp_V [.null, .null, .null, .int (nI 0), .int (nI 0), .int (nI 0), .int (nI 0), .int (nI 0)] j := by decide +kernel
theorem zdf_X3 : ∀ j, j < 29 → defaultValue (tyX3 j) = vp_V [.null, .null, .null, .null, .null, .null, .null, .null, .null, .null, .null, .null, .int (nI 0), .int (nI 0), .int (nI 0), .int (nI 0), .int (nI 0), .int (nI 0), .int (nI 0), .null, .int (nI 0), .null, .null, .null, .int (nI 0), .int (nI 0), .int (nI 0), .int (nI 0), .int (nI 0)] j := by decide +kernel
theorem zdf_X4 : ∀ j, j < 2 → defaultValue (tyX4 j) = vp_V [.null, .null] j := by decide +kernel
theorem zdf_X5 : ∀ j, j < 4 → defaultValue (tyX5 j) = vp_V [.null, .int (nI 0), .int (nI 0), .int (nI 0)] j := by decide +kernel
theorem zdf_X6 : ∀ j, j < 8 → defaultValue (tyX6 j) = vp_V [.null, .null, .null, .null, .null, .int (nI 0), .int (nI 0), .int (nI 0)] j := by decide +kernel
theorem zdf_X7 : ∀ j, j < 4 → defaultValue (tyX7 j) = vp_V [.int (nI 0), .int (nI 0), .int (nI 0), .int (nI 0)] j := by decide +kernel
theorem zdf_X8 : ∀ j, j < 2 → defaultValue (tyX8 j) = vp_V [.null, .null] j := by decide +kernel
theorem zdf_X11 : ∀ j, j < 2 → defaultValue (tyX11 j) = vp_V [.int (nI 0), .int (nI 0)] j := by decide +kernel
theorem zdf_X12 : ∀ j, j < 2 → defaultValue (tyX12 j) = vp_V [.int (nI 0), .int (nI 0)] j := by decide +kernel
theorem zdf_X13 : ∀ j, j < 2 → defaultValue (tyX13 j) = vp_V [.int (nI 0), .int (nI 0)] j := by decide +kernel
theorem zdf_X14 : ∀ j, j < 4 → defaultValue (tyX14 j) = vp_V [.int (nI 0), .null, .null, .int (nI 0)] j := by decide +kernel
theorem zdf_X16 : ∀ j, j < 2 → defaultValue (tyX16 j) = vp_V [.null, .int (nI 0)] j := by decide +kernel
theorem zdf_X17 : ∀ j, j < 3 → defaultValue (tyX17 j) = vp_V [.null, .int (nI 0), .int (nI 0)] j := by decide +kernel
theorem zdf_X18 : ∀ j, j < 1 → defaultValue (tyX18 j) = vp_V [.null] j := by decide +kernel
theorem zdf_X19 : ∀ j, j < 2 → defaultValue (tyX19 j) = vp_V [.null, .null] j := by decide +kernel
theorem zdf_X20 : ∀ j, j < 3 → defaultValue (tyX20 j) = vp_V [.null, .int (nI 0), .null] j := by decide +kernel
theorem zdf_X21 : ∀ j, j < 4 → defaultValue (tyX21 j) = vp_V [.null, .int (nI 0), .int (nI 0), .long 0] j := by decide +kernel
theorem zdf_X22 : ∀ j, j < 2 → defaultValue (tyX22 j) = vp_V [.int (nI 0), .null] j := by decide +kernel
theorem zdf_X23 : ∀ j, j < 7 → defaultValue (tyX23 j) = vp_V [.null, .null, .null, .null, .null, .int (nI 0), .int (nI 0)] j := by decide +kernel
theorem zdf_J2 : ∀ j, j < 3 → defaultValue (tyJ2 j) = vp_V [.int (nI 0), .null, .int (nI 0)] j := by decide +kernel
theorem zdf_J3 : ∀ j, j < 3 → defaultValue (tyJ3 j) = vp_V [.null, .int (nI 0), .int (nI 0)] j := by decide +kernel
theorem zdf_J5 : ∀ j, j < 4 → defaultValue (tyJ5 j) = vp_V [.null, .int (nI 0), .int (nI 0), .int (nI 0)] j := by decide +kernel
theorem zdf_J6 : ∀ j, j < 4 → defaultValue (tyJ6 j) = vp_V [.null, .int (nI 0), .int (nI 0), .int (nI 0)] j := by decide +kernel
theorem zdf_J8 : ∀ j, j < 4 → defaultValue (tyJ8 j) = vp_V [.int (nI 0), .int (nI 0), .int (nI 0), .null] j := by decide +kernel
theorem zdf_J21 : ∀ j, j < 1 → defaultValue (tyJ21 j) = vp_V [.null] j := by decide +kernel
theorem zdf_J25 : ∀ j, j < 6 → defaultValue (tyJ25 j) = vp_V [.null, .null, .null, .null, .null, .int (nI 0)] j := by decide +kernel

