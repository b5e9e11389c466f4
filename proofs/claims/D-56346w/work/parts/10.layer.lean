/-! the lists that the layer stands on: by program out of claim/names and claim/WORDS.tsv -/
set_option maxRecDepth 100000
def z_T0 : u_T := fun _ => ("", "", "", false)
/-- classes, by number: 0 WeirfoldLane, 1 WeirfoldLane$Lane, 2 WeirfoldLaneModel, 3 WeirfoldLane$View, 4 WeirfoldLane$Change, 5 WeirfoldLane$Denial, 6 WeirfoldLane$Row, 7 WeirfoldLane$Changes, 8 WeirfoldLane$SumStep, 9 WeirfoldLane$CountStep, 10 WeirfoldLane$GreatestStep, 11 WeirfoldLane$PairStep, 12 WeirfoldLane$RunningStep, 13 WeirfoldLane$BoundedStep, 14 WeirfoldLane$Anew, 15 WeirfoldLane$Marks, 16 WeirfoldLane$Costs, 17 WeirfoldLane$Decider, 18 WeirfoldLane$Parser, 19 WeirfoldLane$SyntaxFault, 20 java/util/ArrayList, 21 java/util/ArrayDeque, 22 java/lang/StringBuilder, 23 java/lang/String, 24 java/util/ArrayList$Itr, 25 java/util/Optional, 26 java/util/NoSuchElementException, 27 java/lang/IllegalArgumentException, 28 java/lang/IndexOutOfBoundsException, 29 java/lang/IllegalStateException, 30 java/lang/UnsupportedOperationException, 31 java/lang/ArithmeticException, 32 java/lang/System$2 -/
def zCL : List vw_C := [(RX1, TX1, 7), (RX2, TX2, 8), (RX3, TX3, 29), (RX4, TX4, 2), (RX5, TX5, 4), (RX6, TX6, 8), (RX7, TX7, 4), (RX8, TX8, 2), (RX11, TX11, 2), (RX12, TX12, 2), (RX13, TX13, 2), (RX14, TX14, 4), (RX16, TX16, 2), (RX17, TX17, 3), (RX18, TX18, 1), (RX19, TX19, 2), (RX20, TX20, 3), (RX21, TX21, 4), (RX22, TX22, 2), (RX23, TX23, 7), (RJ2, TJ2, 3), (RJ3, TJ3, 3), (RJ5, TJ5, 4), (RJ6, TJ6, 4), (RJ8, TJ8, 4), (RJ21, TJ21, 1), (RJ12, z_T0, 0), (RJ17, z_T0, 0), (RJ23, z_T0, 0), (RJ24, z_T0, 0), (RJ25, TJ25, 6), (RJ28, z_T0, 0), (RJ31, z_T0, 0)]
theorem zc0 : zCL[0]? = some (RX1, TX1, 7) := rfl
theorem zc1 : zCL[1]? = some (RX2, TX2, 8) := rfl
theorem zc2 : zCL[2]? = some (RX3, TX3, 29) := rfl
theorem zc3 : zCL[3]? = some (RX4, TX4, 2) := rfl
theorem zc4 : zCL[4]? = some (RX5, TX5, 4) := rfl
theorem zc5 : zCL[5]? = some (RX6, TX6, 8) := rfl
theorem zc6 : zCL[6]? = some (RX7, TX7, 4) := rfl
theorem zc7 : zCL[7]? = some (RX8, TX8, 2) := rfl
theorem zc8 : zCL[8]? = some (RX11, TX11, 2) := rfl
theorem zc9 : zCL[9]? = some (RX12, TX12, 2) := rfl
theorem zc10 : zCL[10]? = some (RX13, TX13, 2) := rfl
theorem zc11 : zCL[11]? = some (RX14, TX14, 4) := rfl
theorem zc12 : zCL[12]? = some (RX16, TX16, 2) := rfl
theorem zc13 : zCL[13]? = some (RX17, TX17, 3) := rfl
theorem zc14 : zCL[14]? = some (RX18, TX18, 1) := rfl
theorem zc15 : zCL[15]? = some (RX19, TX19, 2) := rfl
theorem zc16 : zCL[16]? = some (RX20, TX20, 3) := rfl
theorem zc17 : zCL[17]? = some (RX21, TX21, 4) := rfl
theorem zc18 : zCL[18]? = some (RX22, TX22, 2) := rfl
theorem zc19 : zCL[19]? = some (RX23, TX23, 7) := rfl
theorem zc20 : zCL[20]? = some (RJ2, TJ2, 3) := rfl
theorem zc21 : zCL[21]? = some (RJ3, TJ3, 3) := rfl
theorem zc22 : zCL[22]? = some (RJ5, TJ5, 4) := rfl
theorem zc23 : zCL[23]? = some (RJ6, TJ6, 4) := rfl
theorem zc24 : zCL[24]? = some (RJ8, TJ8, 4) := rfl
theorem zc25 : zCL[25]? = some (RJ21, TJ21, 1) := rfl
theorem zc26 : zCL[26]? = some (RJ12, z_T0, 0) := rfl
theorem zc27 : zCL[27]? = some (RJ17, z_T0, 0) := rfl
theorem zc28 : zCL[28]? = some (RJ23, z_T0, 0) := rfl
theorem zc29 : zCL[29]? = some (RJ24, z_T0, 0) := rfl
theorem zc30 : zCL[30]? = some (RJ25, TJ25, 6) := rfl
theorem zc31 : zCL[31]? = some (RJ28, z_T0, 0) := rfl
theorem zc32 : zCL[32]? = some (RJ31, z_T0, 0) := rfl
def zIfs : List MethodName := [⟨"java/util/List", "size", "()I"⟩, ⟨"java/util/List", "iterator", "()Ljava/util/Iterator;"⟩, ⟨"java/util/Iterator", "hasNext", "()Z"⟩, ⟨"java/util/Iterator", "next", "()Ljava/lang/Object;"⟩, ⟨"java/util/List", "add", "(Ljava/lang/Object;)Z"⟩, ⟨"java/util/List", "indexOf", "(Ljava/lang/Object;)I"⟩, ⟨"java/util/List", "get", "(I)Ljava/lang/Object;"⟩, ⟨"WeirfoldLane$Numbers", "number", "(LWeirfoldLane$Step;II)J"⟩, ⟨"jdk/internal/access/JavaLangAccess", "getUTF16Char", "([BI)C"⟩, ⟨"java/util/List", "remove", "(Ljava/lang/Object;)Z"⟩, ⟨"java/util/List", "remove", "(I)Ljava/lang/Object;"⟩, ⟨"java/util/List", "add", "(ILjava/lang/Object;)V"⟩]
/-- String constants: class, entry, text -/
def zStr : List (String × Nat × String) := [("WeirfoldLane", 59, ""), ("WeirfoldLane", 110, "row"), ("jdk/internal/util/ArraysSupport", 92, "unrecognized basic type: "), ("java/util/Arrays", 337, " > "), ("WeirfoldLane$Change", 30, "row"), ("WeirfoldLane$Change", 36, "gone"), ("WeirfoldLane$Change", 38, "next"), ("WeirfoldLane$Change", 40, "base"), ("WeirfoldLane$Change", 42, "pair"), ("WeirfoldLane$Change", 44, "run"), ("WeirfoldLane$Change", 46, "keep"), ("WeirfoldLane$Change", 48, "cut"), ("java/util/Optional", 28, "No value present"), ("WeirfoldLane$Lane", 200, "snx"), ("WeirfoldLane$Lane", 221, "+-"), ("java/util/ArrayDeque", 35, "Sorry, deque too big"), ("WeirfoldLane", 116, "gone"), ("WeirfoldLane", 118, "next"), ("java/util/ArrayList", 201, "Index: "), ("java/util/ArrayList", 203, ", Size: "), ("WeirfoldLane", 173, "base"), ("WeirfoldLane", 175, "pair"), ("WeirfoldLane", 177, "run"), ("WeirfoldLane", 179, "keep"), ("WeirfoldLane", 181, "cut"), ("WeirfoldLane", 249, "repair"), ("WeirfoldLane$Parser", 62, " row gone next base pair run keep cut repair "), ("WeirfoldLane$Parser", 64, "abcdefghijklmnopqrstuvwxyz"), ("WeirfoldLane$Parser", 57, " "), ("java/lang/StringLatin1", 151, ""), ("java/lang/StringUTF16", 295, ""), ("WeirfoldLane$Parser", 88, "next"), ("WeirfoldLane$Parser", 102, "row"), ("WeirfoldLane$Parser", 104, "gone"), ("WeirfoldLane$Parser", 106, "base"), ("WeirfoldLane$Parser", 108, "pair"), ("WeirfoldLane$Parser", 110, "keep"), ("WeirfoldLane$Parser", 112, "abcde"), ("WeirfoldLane$Parser", 48, "0123456789"), ("WeirfoldLane$Parser", 117, "snx"), ("WeirfoldLane$Parser", 119, "+-"), ("WeirfoldLane$Parser", 133, ";"), ("java/lang/StringIndexOutOfBoundsException", 13, "String index out of range: "), ("java/util/Arrays", 48, "fromIndex("), ("java/util/Arrays", 57, ") > toIndex("), ("java/util/Arrays", 59, ")"), ("java/lang/ArrayIndexOutOfBoundsException", 13, "Array index out of range: "), ("WeirfoldLane", 393, ":"), ("WeirfoldLane$BoundedStep", 67, ""), ("WeirfoldLane$BoundedStep", 87, ">"), ("WeirfoldLane$BaseStep", 67, ""), ("WeirfoldLane$PairStep", 65, ""), ("WeirfoldLane$RunningStep", 54, ""), ("WeirfoldLane", 408, ","), ("WeirfoldLane", 413, "!")]
/-- pairs of classes that are not castable -/
def zNc : List (String × String) := [("WeirfoldLane", "WeirfoldLane$Denial"), ("WeirfoldLane", "WeirfoldLane$SyntaxFault"), ("WeirfoldLane", "[B"), ("WeirfoldLane", "java/lang/ArithmeticException"), ("WeirfoldLane", "java/lang/IllegalArgumentException"), ("WeirfoldLane", "java/lang/IllegalStateException"), ("WeirfoldLane", "java/lang/IndexOutOfBoundsException"), ("WeirfoldLane", "java/lang/String"), ("WeirfoldLane", "java/lang/UnsupportedOperationException"), ("WeirfoldLane", "java/util/NoSuchElementException"), ("WeirfoldLane$Anew", "WeirfoldLane$Denial"), ("WeirfoldLane$Anew", "WeirfoldLane$SyntaxFault"), ("WeirfoldLane$Anew", "[B"), ("WeirfoldLane$Anew", "java/lang/ArithmeticException"), ("WeirfoldLane$Anew", "java/lang/IllegalArgumentException"), ("WeirfoldLane$Anew", "java/lang/IllegalStateException"), ("WeirfoldLane$Anew", "java/lang/IndexOutOfBoundsException"), ("WeirfoldLane$Anew", "java/lang/String"), ("WeirfoldLane$Anew", "java/lang/UnsupportedOperationException"), ("WeirfoldLane$Anew", "java/util/NoSuchElementException"), ("WeirfoldLane$BoundedStep", "WeirfoldLane$Denial"), ("WeirfoldLane$BoundedStep", "WeirfoldLane$SyntaxFault"), ("WeirfoldLane$BoundedStep", "[B"), ("WeirfoldLane$BoundedStep", "java/lang/ArithmeticException"), ("WeirfoldLane$BoundedStep", "java/lang/IllegalArgumentException"), ("WeirfoldLane$BoundedStep", "java/lang/IllegalStateException"), ("WeirfoldLane$BoundedStep", "java/lang/IndexOutOfBoundsException"), ("WeirfoldLane$BoundedStep", "java/lang/String"), ("WeirfoldLane$BoundedStep", "java/lang/UnsupportedOperationException"), ("WeirfoldLane$BoundedStep", "java/util/NoSuchElementException"), ("WeirfoldLane$Change", "WeirfoldLane$Denial"), ("WeirfoldLane$Change", "WeirfoldLane$SyntaxFault"), ("WeirfoldLane$Change", "[B"), ("WeirfoldLane$Change", "java/lang/ArithmeticException"), ("WeirfoldLane$Change", "java/lang/IllegalArgumentException"), ("WeirfoldLane$Change", "java/lang/IllegalStateException"), ("WeirfoldLane$Change", "java/lang/IndexOutOfBoundsException"), ("WeirfoldLane$Change", "java/lang/String"), ("WeirfoldLane$Change", "java/lang/UnsupportedOperationException"), ("WeirfoldLane$Change", "java/util/NoSuchElementException"), ("WeirfoldLane$Changes", "WeirfoldLane$Denial"), ("WeirfoldLane$Changes", "WeirfoldLane$SyntaxFault"), ("WeirfoldLane$Changes", "[B"), ("WeirfoldLane$Changes", "java/lang/ArithmeticException"), ("WeirfoldLane$Changes", "java/lang/IllegalArgumentException"), ("WeirfoldLane$Changes", "java/lang/IllegalStateException"), ("WeirfoldLane$Changes", "java/lang/IndexOutOfBoundsException"), ("WeirfoldLane$Changes", "java/lang/String"), ("WeirfoldLane$Changes", "java/lang/UnsupportedOperationException"), ("WeirfoldLane$Changes", "java/util/NoSuchElementException"), ("WeirfoldLane$Costs", "WeirfoldLane$Denial"), ("WeirfoldLane$Costs", "WeirfoldLane$SyntaxFault"), ("WeirfoldLane$Costs", "[B"), ("WeirfoldLane$Costs", "java/lang/ArithmeticException"), ("WeirfoldLane$Costs", "java/lang/IllegalArgumentException"), ("WeirfoldLane$Costs", "java/lang/IllegalStateException"), ("WeirfoldLane$Costs", "java/lang/IndexOutOfBoundsException"), ("WeirfoldLane$Costs", "java/lang/String"), ("WeirfoldLane$Costs", "java/lang/UnsupportedOperationException"), ("WeirfoldLane$Costs", "java/util/NoSuchElementException"), ("WeirfoldLane$CountStep", "WeirfoldLane$Denial"), ("WeirfoldLane$CountStep", "WeirfoldLane$SyntaxFault"), ("WeirfoldLane$CountStep", "[B"), ("WeirfoldLane$CountStep", "java/lang/ArithmeticException"), ("WeirfoldLane$CountStep", "java/lang/IllegalArgumentException"), ("WeirfoldLane$CountStep", "java/lang/IllegalStateException"), ("WeirfoldLane$CountStep", "java/lang/IndexOutOfBoundsException"), ("WeirfoldLane$CountStep", "java/lang/String"), ("WeirfoldLane$CountStep", "java/lang/UnsupportedOperationException"), ("WeirfoldLane$CountStep", "java/util/NoSuchElementException"), ("WeirfoldLane$Decider", "WeirfoldLane$Denial"), ("WeirfoldLane$Decider", "WeirfoldLane$SyntaxFault"), ("WeirfoldLane$Decider", "[B"), ("WeirfoldLane$Decider", "java/lang/ArithmeticException"), ("WeirfoldLane$Decider", "java/lang/IllegalArgumentException"), ("WeirfoldLane$Decider", "java/lang/IllegalStateException"), ("WeirfoldLane$Decider", "java/lang/IndexOutOfBoundsException"), ("WeirfoldLane$Decider", "java/lang/String"), ("WeirfoldLane$Decider", "java/lang/UnsupportedOperationException"), ("WeirfoldLane$Decider", "java/util/NoSuchElementException"), ("WeirfoldLane$Denial", "WeirfoldLane$SyntaxFault"), ("WeirfoldLane$Denial", "[B"), ("WeirfoldLane$Denial", "java/lang/ArithmeticException"), ("WeirfoldLane$Denial", "java/lang/IllegalArgumentException"), ("WeirfoldLane$Denial", "java/lang/IllegalStateException"), ("WeirfoldLane$Denial", "java/lang/IndexOutOfBoundsException"), ("WeirfoldLane$Denial", "java/lang/String"), ("WeirfoldLane$Denial", "java/lang/UnsupportedOperationException"), ("WeirfoldLane$Denial", "java/util/NoSuchElementException"), ("WeirfoldLane$GreatestStep", "WeirfoldLane$Denial"), ("WeirfoldLane$GreatestStep", "WeirfoldLane$SyntaxFault"), ("WeirfoldLane$GreatestStep", "[B"), ("WeirfoldLane$GreatestStep", "java/lang/ArithmeticException"), ("WeirfoldLane$GreatestStep", "java/lang/IllegalArgumentException"), ("WeirfoldLane$GreatestStep", "java/lang/IllegalStateException"), ("WeirfoldLane$GreatestStep", "java/lang/IndexOutOfBoundsException"), ("WeirfoldLane$GreatestStep", "java/lang/String"), ("WeirfoldLane$GreatestStep", "java/lang/UnsupportedOperationException"), ("WeirfoldLane$GreatestStep", "java/util/NoSuchElementException"), ("WeirfoldLane$Lane", "WeirfoldLane$Denial"), ("WeirfoldLane$Lane", "WeirfoldLane$SyntaxFault"), ("WeirfoldLane$Lane", "[B"), ("WeirfoldLane$Lane", "java/lang/ArithmeticException"), ("WeirfoldLane$Lane", "java/lang/IllegalArgumentException"), ("WeirfoldLane$Lane", "java/lang/IllegalStateException"), ("WeirfoldLane$Lane", "java/lang/IndexOutOfBoundsException"), ("WeirfoldLane$Lane", "java/lang/String"), ("WeirfoldLane$Lane", "java/lang/UnsupportedOperationException"), ("WeirfoldLane$Lane", "java/util/NoSuchElementException"), ("WeirfoldLane$Marks", "WeirfoldLane$Denial"), ("WeirfoldLane$Marks", "WeirfoldLane$SyntaxFault"), ("WeirfoldLane$Marks", "[B"), ("WeirfoldLane$Marks", "java/lang/ArithmeticException"), ("WeirfoldLane$Marks", "java/lang/IllegalArgumentException"), ("WeirfoldLane$Marks", "java/lang/IllegalStateException"), ("WeirfoldLane$Marks", "java/lang/IndexOutOfBoundsException"), ("WeirfoldLane$Marks", "java/lang/String"), ("WeirfoldLane$Marks", "java/lang/UnsupportedOperationException"), ("WeirfoldLane$Marks", "java/util/NoSuchElementException"), ("WeirfoldLane$PairStep", "WeirfoldLane$Denial"), ("WeirfoldLane$PairStep", "WeirfoldLane$SyntaxFault"), ("WeirfoldLane$PairStep", "[B"), ("WeirfoldLane$PairStep", "java/lang/ArithmeticException"), ("WeirfoldLane$PairStep", "java/lang/IllegalArgumentException"), ("WeirfoldLane$PairStep", "java/lang/IllegalStateException"), ("WeirfoldLane$PairStep", "java/lang/IndexOutOfBoundsException"), ("WeirfoldLane$PairStep", "java/lang/String"), ("WeirfoldLane$PairStep", "java/lang/UnsupportedOperationException"), ("WeirfoldLane$PairStep", "java/util/NoSuchElementException"), ("WeirfoldLane$Parser", "WeirfoldLane$Denial"), ("WeirfoldLane$Parser", "WeirfoldLane$SyntaxFault"), ("WeirfoldLane$Parser", "[B"), ("WeirfoldLane$Parser", "java/lang/ArithmeticException"), ("WeirfoldLane$Parser", "java/lang/IllegalArgumentException"), ("WeirfoldLane$Parser", "java/lang/IllegalStateException"), ("WeirfoldLane$Parser", "java/lang/IndexOutOfBoundsException"), ("WeirfoldLane$Parser", "java/lang/String"), ("WeirfoldLane$Parser", "java/lang/UnsupportedOperationException"), ("WeirfoldLane$Parser", "java/util/NoSuchElementException"), ("WeirfoldLane$Row", "WeirfoldLane$Denial"), ("WeirfoldLane$Row", "WeirfoldLane$SyntaxFault"), ("WeirfoldLane$Row", "[B"), ("WeirfoldLane$Row", "java/lang/ArithmeticException"), ("WeirfoldLane$Row", "java/lang/IllegalArgumentException"), ("WeirfoldLane$Row", "java/lang/IllegalStateException"), ("WeirfoldLane$Row", "java/lang/IndexOutOfBoundsException"), ("WeirfoldLane$Row", "java/lang/String"), ("WeirfoldLane$Row", "java/lang/UnsupportedOperationException"), ("WeirfoldLane$Row", "java/util/NoSuchElementException"), ("WeirfoldLane$RunningStep", "WeirfoldLane$Denial"), ("WeirfoldLane$RunningStep", "WeirfoldLane$SyntaxFault"), ("WeirfoldLane$RunningStep", "[B"), ("WeirfoldLane$RunningStep", "java/lang/ArithmeticException"), ("WeirfoldLane$RunningStep", "java/lang/IllegalArgumentException"), ("WeirfoldLane$RunningStep", "java/lang/IllegalStateException"), ("WeirfoldLane$RunningStep", "java/lang/IndexOutOfBoundsException"), ("WeirfoldLane$RunningStep", "java/lang/String"), ("WeirfoldLane$RunningStep", "java/lang/UnsupportedOperationException"), ("WeirfoldLane$RunningStep", "java/util/NoSuchElementException"), ("WeirfoldLane$SumStep", "WeirfoldLane$Denial"), ("WeirfoldLane$SumStep", "WeirfoldLane$SyntaxFault"), ("WeirfoldLane$SumStep", "[B"), ("WeirfoldLane$SumStep", "java/lang/ArithmeticException"), ("WeirfoldLane$SumStep", "java/lang/IllegalArgumentException"), ("WeirfoldLane$SumStep", "java/lang/IllegalStateException"), ("WeirfoldLane$SumStep", "java/lang/IndexOutOfBoundsException"), ("WeirfoldLane$SumStep", "java/lang/String"), ("WeirfoldLane$SumStep", "java/lang/UnsupportedOperationException"), ("WeirfoldLane$SumStep", "java/util/NoSuchElementException"), ("WeirfoldLane$SyntaxFault", "WeirfoldLane$Denial"), ("WeirfoldLane$SyntaxFault", "[B"), ("WeirfoldLane$SyntaxFault", "java/lang/ArithmeticException"), ("WeirfoldLane$SyntaxFault", "java/lang/IllegalArgumentException"), ("WeirfoldLane$SyntaxFault", "java/lang/IllegalStateException"), ("WeirfoldLane$SyntaxFault", "java/lang/IndexOutOfBoundsException"), ("WeirfoldLane$SyntaxFault", "java/lang/String"), ("WeirfoldLane$SyntaxFault", "java/lang/UnsupportedOperationException"), ("WeirfoldLane$SyntaxFault", "java/util/NoSuchElementException"), ("WeirfoldLane$View", "WeirfoldLane$Denial"), ("WeirfoldLane$View", "WeirfoldLane$SyntaxFault"), ("WeirfoldLane$View", "[B"), ("WeirfoldLane$View", "java/lang/ArithmeticException"), ("WeirfoldLane$View", "java/lang/IllegalArgumentException"), ("WeirfoldLane$View", "java/lang/IllegalStateException"), ("WeirfoldLane$View", "java/lang/IndexOutOfBoundsException"), ("WeirfoldLane$View", "java/lang/String"), ("WeirfoldLane$View", "java/lang/UnsupportedOperationException"), ("WeirfoldLane$View", "java/util/NoSuchElementException"), ("WeirfoldLaneModel", "WeirfoldLane$Denial"), ("WeirfoldLaneModel", "WeirfoldLane$SyntaxFault"), ("WeirfoldLaneModel", "[B"), ("WeirfoldLaneModel", "java/lang/ArithmeticException"), ("WeirfoldLaneModel", "java/lang/IllegalArgumentException"), ("WeirfoldLaneModel", "java/lang/IllegalStateException"), ("WeirfoldLaneModel", "java/lang/IndexOutOfBoundsException"), ("WeirfoldLaneModel", "java/lang/String"), ("WeirfoldLaneModel", "java/lang/UnsupportedOperationException"), ("WeirfoldLaneModel", "java/util/NoSuchElementException"), ("[B", "WeirfoldLane$Denial"), ("[B", "java/lang/String"), ("[C", "WeirfoldLane$Denial"), ("[C", "[B"), ("[C", "java/lang/String"), ("[D", "WeirfoldLane$Denial"), ("[D", "[B"), ("[D", "java/lang/String"), ("[I", "WeirfoldLane$Denial"), ("[I", "[B"), ("[I", "java/lang/String"), ("[J", "WeirfoldLane$Denial"), ("[J", "[B"), ("[J", "java/lang/String"), ("[Ljava/lang/Object;", "WeirfoldLane$Denial"), ("[Ljava/lang/Object;", "[B"), ("[Ljava/lang/Object;", "java/lang/String"), ("[S", "WeirfoldLane$Denial"), ("[S", "[B"), ("[S", "java/lang/String"), ("[Z", "WeirfoldLane$Denial"), ("[Z", "[B"), ("[Z", "java/lang/String"), ("java/lang/ArithmeticException", "WeirfoldLane$Denial"), ("java/lang/ArithmeticException", "WeirfoldLane$SyntaxFault"), ("java/lang/ArithmeticException", "[B"), ("java/lang/ArithmeticException", "java/lang/IllegalArgumentException"), ("java/lang/ArithmeticException", "java/lang/IllegalStateException"), ("java/lang/ArithmeticException", "java/lang/IndexOutOfBoundsException"), ("java/lang/ArithmeticException", "java/lang/String"), ("java/lang/ArithmeticException", "java/lang/UnsupportedOperationException"), ("java/lang/ArithmeticException", "java/util/NoSuchElementException"), ("java/lang/ArrayIndexOutOfBoundsException", "WeirfoldLane$Denial"), ("java/lang/ArrayIndexOutOfBoundsException", "WeirfoldLane$SyntaxFault"), ("java/lang/ArrayIndexOutOfBoundsException", "[B"), ("java/lang/ArrayIndexOutOfBoundsException", "java/lang/ArithmeticException"), ("java/lang/ArrayIndexOutOfBoundsException", "java/lang/IllegalArgumentException"), ("java/lang/ArrayIndexOutOfBoundsException", "java/lang/IllegalStateException"), ("java/lang/ArrayIndexOutOfBoundsException", "java/lang/String"), ("java/lang/ArrayIndexOutOfBoundsException", "java/lang/UnsupportedOperationException"), ("java/lang/ArrayIndexOutOfBoundsException", "java/util/NoSuchElementException"), ("java/lang/IllegalArgumentException", "WeirfoldLane$Denial"), ("java/lang/IllegalArgumentException", "WeirfoldLane$SyntaxFault"), ("java/lang/IllegalArgumentException", "[B"), ("java/lang/IllegalArgumentException", "java/lang/ArithmeticException"), ("java/lang/IllegalArgumentException", "java/lang/IllegalStateException"), ("java/lang/IllegalArgumentException", "java/lang/IndexOutOfBoundsException"), ("java/lang/IllegalArgumentException", "java/lang/String"), ("java/lang/IllegalArgumentException", "java/lang/UnsupportedOperationException"), ("java/lang/IllegalArgumentException", "java/util/NoSuchElementException"), ("java/lang/IllegalStateException", "WeirfoldLane$Denial"), ("java/lang/IllegalStateException", "WeirfoldLane$SyntaxFault"), ("java/lang/IllegalStateException", "[B"), ("java/lang/IllegalStateException", "java/lang/ArithmeticException"), ("java/lang/IllegalStateException", "java/lang/IllegalArgumentException"), ("java/lang/IllegalStateException", "java/lang/IndexOutOfBoundsException"), ("java/lang/IllegalStateException", "java/lang/String"), ("java/lang/IllegalStateException", "java/lang/UnsupportedOperationException"), ("java/lang/IllegalStateException", "java/util/NoSuchElementException"), ("java/lang/IndexOutOfBoundsException", "WeirfoldLane$Denial"), ("java/lang/IndexOutOfBoundsException", "WeirfoldLane$SyntaxFault"), ("java/lang/IndexOutOfBoundsException", "[B"), ("java/lang/IndexOutOfBoundsException", "java/lang/ArithmeticException"), ("java/lang/IndexOutOfBoundsException", "java/lang/IllegalArgumentException"), ("java/lang/IndexOutOfBoundsException", "java/lang/IllegalStateException"), ("java/lang/IndexOutOfBoundsException", "java/lang/String"), ("java/lang/IndexOutOfBoundsException", "java/lang/UnsupportedOperationException"), ("java/lang/IndexOutOfBoundsException", "java/util/NoSuchElementException"), ("java/lang/Integer", "java/lang/String"), ("java/lang/String", "WeirfoldLane$Denial"), ("java/lang/String", "WeirfoldLane$SyntaxFault"), ("java/lang/String", "[B"), ("java/lang/String", "java/lang/ArithmeticException"), ("java/lang/String", "java/lang/IllegalArgumentException"), ("java/lang/String", "java/lang/IllegalStateException"), ("java/lang/String", "java/lang/IndexOutOfBoundsException"), ("java/lang/String", "java/lang/UnsupportedOperationException"), ("java/lang/String", "java/util/NoSuchElementException"), ("java/lang/StringBuilder", "WeirfoldLane$Denial"), ("java/lang/StringBuilder", "WeirfoldLane$SyntaxFault"), ("java/lang/StringBuilder", "[B"), ("java/lang/StringBuilder", "java/lang/ArithmeticException"), ("java/lang/StringBuilder", "java/lang/IllegalArgumentException"), ("java/lang/StringBuilder", "java/lang/IllegalStateException"), ("java/lang/StringBuilder", "java/lang/IndexOutOfBoundsException"), ("java/lang/StringBuilder", "java/lang/String"), ("java/lang/StringBuilder", "java/lang/UnsupportedOperationException"), ("java/lang/StringBuilder", "java/util/NoSuchElementException"), ("java/lang/StringIndexOutOfBoundsException", "WeirfoldLane$Denial"), ("java/lang/StringIndexOutOfBoundsException", "WeirfoldLane$SyntaxFault"), ("java/lang/StringIndexOutOfBoundsException", "[B"), ("java/lang/StringIndexOutOfBoundsException", "java/lang/ArithmeticException"), ("java/lang/StringIndexOutOfBoundsException", "java/lang/IllegalArgumentException"), ("java/lang/StringIndexOutOfBoundsException", "java/lang/IllegalStateException"), ("java/lang/StringIndexOutOfBoundsException", "java/lang/String"), ("java/lang/StringIndexOutOfBoundsException", "java/lang/UnsupportedOperationException"), ("java/lang/StringIndexOutOfBoundsException", "java/util/NoSuchElementException"), ("java/lang/System$2", "WeirfoldLane$Denial"), ("java/lang/System$2", "WeirfoldLane$SyntaxFault"), ("java/lang/System$2", "[B"), ("java/lang/System$2", "java/lang/ArithmeticException"), ("java/lang/System$2", "java/lang/IllegalArgumentException"), ("java/lang/System$2", "java/lang/IllegalStateException"), ("java/lang/System$2", "java/lang/IndexOutOfBoundsException"), ("java/lang/System$2", "java/lang/String"), ("java/lang/System$2", "java/lang/UnsupportedOperationException"), ("java/lang/System$2", "java/util/NoSuchElementException"), ("java/lang/Throwable", "WeirfoldLane$Denial"), ("java/lang/Throwable", "[B"), ("java/lang/Throwable", "java/lang/String"), ("java/lang/UnsupportedOperationException", "WeirfoldLane$Denial"), ("java/lang/UnsupportedOperationException", "WeirfoldLane$SyntaxFault"), ("java/lang/UnsupportedOperationException", "[B"), ("java/lang/UnsupportedOperationException", "java/lang/ArithmeticException"), ("java/lang/UnsupportedOperationException", "java/lang/IllegalArgumentException"), ("java/lang/UnsupportedOperationException", "java/lang/IllegalStateException"), ("java/lang/UnsupportedOperationException", "java/lang/IndexOutOfBoundsException"), ("java/lang/UnsupportedOperationException", "java/lang/String"), ("java/lang/UnsupportedOperationException", "java/util/NoSuchElementException"), ("java/util/ArrayDeque", "WeirfoldLane$Denial"), ("java/util/ArrayDeque", "WeirfoldLane$SyntaxFault"), ("java/util/ArrayDeque", "[B"), ("java/util/ArrayDeque", "java/lang/ArithmeticException"), ("java/util/ArrayDeque", "java/lang/IllegalArgumentException"), ("java/util/ArrayDeque", "java/lang/IllegalStateException"), ("java/util/ArrayDeque", "java/lang/IndexOutOfBoundsException"), ("java/util/ArrayDeque", "java/lang/String"), ("java/util/ArrayDeque", "java/lang/UnsupportedOperationException"), ("java/util/ArrayDeque", "java/util/NoSuchElementException"), ("java/util/ArrayList", "WeirfoldLane$Denial"), ("java/util/ArrayList", "WeirfoldLane$SyntaxFault"), ("java/util/ArrayList", "[B"), ("java/util/ArrayList", "java/lang/ArithmeticException"), ("java/util/ArrayList", "java/lang/IllegalArgumentException"), ("java/util/ArrayList", "java/lang/IllegalStateException"), ("java/util/ArrayList", "java/lang/IndexOutOfBoundsException"), ("java/util/ArrayList", "java/lang/String"), ("java/util/ArrayList", "java/lang/UnsupportedOperationException"), ("java/util/ArrayList", "java/util/NoSuchElementException"), ("java/util/ArrayList$Itr", "WeirfoldLane$Denial"), ("java/util/ArrayList$Itr", "WeirfoldLane$SyntaxFault"), ("java/util/ArrayList$Itr", "[B"), ("java/util/ArrayList$Itr", "java/lang/ArithmeticException"), ("java/util/ArrayList$Itr", "java/lang/IllegalArgumentException"), ("java/util/ArrayList$Itr", "java/lang/IllegalStateException"), ("java/util/ArrayList$Itr", "java/lang/IndexOutOfBoundsException"), ("java/util/ArrayList$Itr", "java/lang/String"), ("java/util/ArrayList$Itr", "java/lang/UnsupportedOperationException"), ("java/util/ArrayList$Itr", "java/util/NoSuchElementException"), ("java/util/NoSuchElementException", "WeirfoldLane$Denial"), ("java/util/NoSuchElementException", "WeirfoldLane$SyntaxFault"), ("java/util/NoSuchElementException", "[B"), ("java/util/NoSuchElementException", "java/lang/ArithmeticException"), ("java/util/NoSuchElementException", "java/lang/IllegalArgumentException"), ("java/util/NoSuchElementException", "java/lang/IllegalStateException"), ("java/util/NoSuchElementException", "java/lang/IndexOutOfBoundsException"), ("java/util/NoSuchElementException", "java/lang/String"), ("java/util/NoSuchElementException", "java/lang/UnsupportedOperationException"), ("java/util/Optional", "WeirfoldLane$Denial"), ("java/util/Optional", "WeirfoldLane$SyntaxFault"), ("java/util/Optional", "[B"), ("java/util/Optional", "java/lang/ArithmeticException"), ("java/util/Optional", "java/lang/IllegalArgumentException"), ("java/util/Optional", "java/lang/IllegalStateException"), ("java/util/Optional", "java/lang/IndexOutOfBoundsException"), ("java/util/Optional", "java/lang/String"), ("java/util/Optional", "java/lang/UnsupportedOperationException"), ("java/util/Optional", "java/util/NoSuchElementException")]
abbrev zG : Type := va_G × (Nat → ClassId) × (Nat → Nat) × (Nat → Option va_E) × Heap
/-- null as 0, an address as one more -/
def z_nr (x : Nat) : Value := bif Nat.beq x 0 then .null else .ref (x - 1)
/-- statics: class, name, descriptor, value (places 1000.. of the addresses) -/
def zSts (G : zG) : List (String × String × String × Value) := [("java/lang/String", "COMPACT_STRINGS", "Z", .int 1), ("java/lang/StringUTF16", "$assertionsDisabled", "Z", .int 1), ("java/lang/StringUTF16", "HI_BYTE_SHIFT", "I", .int 0), ("java/lang/StringUTF16", "LO_BYTE_SHIFT", "I", .int 8), ("java/lang/Integer", "DigitOnes", "[B", .ref (G.2.2.1 1000)), ("java/lang/Integer", "DigitTens", "[B", .ref (G.2.2.1 1001)), ("java/util/ArrayList", "DEFAULTCAPACITY_EMPTY_ELEMENTDATA", "[Ljava/lang/Object;", .ref (G.2.2.1 1002)), ("java/util/Optional", "EMPTY", "Ljava/util/Optional;", .ref (G.2.2.1 1003)), ("jdk/internal/util/ArraysSupport", "JLA", "Ljdk/internal/access/JavaLangAccess;", .ref (G.2.2.1 1004)), ("java/lang/Throwable", "UNASSIGNED_STACK", "[Ljava/lang/StackTraceElement;", z_nr (G.2.2.1 1006)), ("jdk/internal/util/Preconditions", "SIOOBE_FORMATTER", "Ljava/util/function/BiFunction;", z_nr (G.2.2.1 1007))]

/-! ===== THE Z LAYER: an abstract heap (address -> cell), a judgement z_V over it, one rule an instruction, contracts z_C ===== -/
set_option maxRecDepth 100000
abbrev zH : Type := Nat → Option va_E
def z_n0 (G : zG) : Nat := G.2.2.2.2.size
def z_up (h : zH) (a : Nat) (e : va_E) : zH := fun x => if x = a then some e else h x
theorem z_up_s {h : zH} {a : Nat} {e : va_E} : z_up h a e a = some e := if_pos rfl
theorem z_up_n {h : zH} {a b : Nat} {e : va_E} (hb : b ≠ a) : z_up h a e b = h b := if_neg hb
def zTy : List FieldType := [.int, .long, .boolean, .byte, .double, .object "java/lang/Object"]
abbrev zTys (G : zG) : List (ClassId × FieldType) := [(G.2.1 0, .int), (G.2.1 1, .long), (G.2.1 2, .boolean), (G.2.1 3, .byte), (G.2.1 4, .double), (G.2.1 5, .object "java/lang/Object")]
abbrev zAr : Type := (Nat → Int32) ⊕ (Nat → Int64) ⊕ (Nat → UInt32) ⊕ (Nat → UInt64) ⊕ (Nat → Option Nat)
def z_el (x : zAr) (j : Nat) : Value := match x with
  | .inl f => .int (f j)
  | .inr (.inl f) => .long (f j)
  | .inr (.inr (.inl f)) => .float (f j)
  | .inr (.inr (.inr (.inl f))) => .double (f j)
  | .inr (.inr (.inr (.inr f))) => va_rf (f j)
theorem z_cell (cA : ClassId) (n : Nat) (x : zAr) : vp_cell cA (n, x) = arrV cA n (z_el x) := by
  rcases x with f | f | f | f | f <;> rfl
/-- arrays: ints, longs, booleans, bytes, doubles, references -/
abbrev z_ai (G : zG) (n : Nat) (f : Nat → Int32) : va_E := .inl (G.2.1 0, n, .inl f)
abbrev z_al (G : zG) (n : Nat) (f : Nat → Int64) : va_E := .inl (G.2.1 1, n, .inr (.inl f))
abbrev z_az (G : zG) (n : Nat) (f : Nat → Int32) : va_E := .inl (G.2.1 2, n, .inl f)
abbrev z_ab (G : zG) (n : Nat) (f : Nat → Int32) : va_E := .inl (G.2.1 3, n, .inl f)
abbrev z_ad (G : zG) (n : Nat) (f : Nat → UInt64) : va_E := .inl (G.2.1 4, n, .inr (.inr (.inr (.inl f))))
abbrev z_ao (G : zG) (n : Nat) (f : Nat → Option Nat) : va_E := .inl (G.2.1 5, n, .inr (.inr (.inr (.inr f))))
abbrev z_ob (ci : Nat) (fs : List Value) : va_E := .inr (ci, fs)
/-- a constant cell, as the start has it: it is never written -/
def z_wk (G : zG) (U : State) (a : Nat) (e : va_E) : Prop := match e with
  | .inl x => ∃ (kk : Nat) (ty : FieldType), zTy[kk]? = some ty ∧ x.1 = G.2.1 kk ∧ va_T ty a x.2.1 (z_el x.2.2) (fun _ => False) U G.2.2.2.2
  | .inr o => ∃ r : vw_C, zCL[o.1]? = some r ∧ va_O r.1 a (fun _ => False) U G.2.2.2.2 ∧ ∀ (k : Nat) (v : Value), k < r.2.2 → o.2[k]? = some v → va_OF (r.2.1 k).1 (r.2.1 k).2.1 (r.2.1 k).2.2.1 v a (fun _ => False) U G.2.2.2.2
theorem z_wk.moved {G : zG} {u U : State} {a : Nat} {e : va_E} (hvm : u.vm.Alike U.vm) (h : z_wk G u a e) : z_wk G U a e := by
  rcases e with x | o
  · obtain ⟨kk, ty, h1, h2, h3⟩ := h
    exact ⟨kk, ty, h1, h2, va_T.moved hvm h3⟩
  · obtain ⟨r, h1, h2, h3⟩ := h
    exact ⟨r, h1, va_O.moved hvm h2, fun k v hk hv => va_OF.moved hvm (h3 k v hk hv)⟩
/-- the abstract heap h, with n addresses used, stands for H -/
def z_R (G : zG) (h : zH) (n : Nat) (H : Heap) : Prop := H.size = n ∧ z_n0 G ≤ n ∧ (∀ a : Nat, a < z_n0 G → H[a]? = G.2.2.2.2[a]?) ∧ (∀ (a : Nat) (e : va_E), h a = some e → va_at G.1 zCL (a, e) H ∨ G.2.2.2.1 a = some e) ∧ ∀ (a : Nat) (cell : Cell), z_n0 G ≤ a → H[a]? = some cell → cell.monitor = {}
/-- words of the tables that hold all through a run -/
def z_mv : Cond → Bool
  | .fieldLinkNest _ _ _ _ _ _ => true
  | .methodLinkNest _ _ _ _ => true
  | .publicMethod _ => true
  | .privateMethod _ => true
  | .unhidden _ _ _ => true
  | .castable _ _ => true
  | .declares _ => true
  | w => goodWord w
theorem z_tr {c : Cond} (hc : c.onTables = true) {u U : State} (h : c.before #[] (u.setVm U.vm) = true) : c.before #[] U = true := va_tabs hc (rfl : (u.setVm U.vm).vm = U.vm) h
theorem z_mv_go {w : Cond} (hm : z_mv w = true) {s U : State} (hW : s.WarmedH U.vm) (h : w.before #[] s = true) : w.before #[] U = true := by
  cases w
  case fieldLinkNest a i b n d h9 => exact va_Nw.warmF hW h
  case methodLinkNest a i x h9 => exact va_Nw.warmM hW h
  case publicMethod y => exact z_tr rfl (by rw [Cond.publicMethod_setVm hW.alike]; exact h)
  case privateMethod y => exact z_tr rfl (by rw [Cond.privateMethod_setVm hW.alike]; exact h)
  case unhidden a b c => exact z_tr rfl (by rw [Cond.unhidden_setVm hW.alike]; exact h)
  case castable a b => exact z_tr rfl (by rw [Cond.castable_setVm hW.alike]; exact h)
  case declares y => exact z_tr rfl (by rw [Cond.declares_setVm hW.alike]; exact h)
  all_goals exact word_at hW (good_of_word hm) h
/-- interface methods that calls name -/
def zIf : List MethodName := zIfs
theorem zIf_ok : ∀ x ∈ zIf, x.cls ≠ "java/lang/invoke/MethodHandle" ∧ x.cls ≠ "java/lang/invoke/VarHandle" := by decide +kernel
/-- statics that are read: class, name, descriptor, value -/
abbrev zStT : Type := String × String × String × Value
/-- what holds of the tables and the constants, all through a run -/
def z_Wd (G : zG) (U : State) : Prop := va_K G.1 zCL (zTys G) U ∧ (∀ w ∈ lw_tbl, z_mv w = true → w.before #[] U = true) ∧ (∀ x ∈ zIf, (Cond.declares x).before #[] U = true ∧ (Cond.interfaceMethod x.cls x.cls x.name x.desc).before #[] U = true) ∧
  (∀ (a : Nat) (e : va_E), G.2.2.2.1 a = some e → a < z_n0 G ∧ z_wk G U a e) ∧ (∀ (i : Nat) (q : String × Nat × String), zStr[i]? = some q → vk_R q.1 q.2.1 q.2.2 (G.2.2.1 i) U) ∧
  (∀ (i : Nat) (q : zStT), (zSts G)[i]? = some q → va_Z q.1 q.2.1 q.2.2.1 q.2.2.2 (fun _ => False) U G.2.2.2.2) ∧ (∀ q ∈ zNc, va_Nc q.1 q.2 U) ∧ va_AO "java/lang/Object" U ∧ va_Mi "[Ljava/lang/Object;" (G.2.2.1 1005) U ∧
  vx_Zq Bundle.tN "UNASSIGNED_STACK" Bundle.steD (fun _ => False) U G.2.2.2.2 ∧ vx_Zq Bundle.tN "SUPPRESSED_SENTINEL" Bundle.listD (fun _ => False) U G.2.2.2.2
theorem z_Wd.warm {G : zG} {s U : State} (hW : s.WarmedH U.vm) (h : z_Wd G s) : z_Wd G U := by
  obtain ⟨h1, h2, h3, h4, h5, h6, h7, h7a, h7b, h8, h9⟩ := h
  refine ⟨va_K.moved hW.alike h1, fun w hw hm => z_mv_go hm hW (h2 w hw hm), fun x hx => ?_, fun a e he => ⟨(h4 a e he).1, (h4 a e he).2.moved hW.alike⟩, fun i q hq => vk_R.warm hW (h5 i q hq), fun i q hq => va_Z.moved hW.alike (h6 i q hq), fun q hq => va_Nc.moved hW.alike (h7 q hq), va_AO.moved hW.alike h7a, va_Mi.moved hW.alike h7b, vx_Zq.moved hW.alike h8, vx_Zq.moved hW.alike h9⟩
  obtain ⟨g1, g2⟩ := h3 x hx
  obtain ⟨r, meth, hn, -⟩ := Cond.declares_spec g1
  exact ⟨z_tr rfl (by rw [Cond.declares_setVm hW.alike]; exact g1), z_tr rfl (by rw [Cond.interfaceMethod_setVm hW.alike (r := r) hn (zIf_ok x hx)]; exact g2)⟩
/-- a word, at any arguments -/
theorem z_Wd.w {G : zG} {s : State} (h : z_Wd G s) {w : Cond} (hw : w ∈ lw_tbl) (hm : z_mv w = true) (ht : w.onTables = true) (args : Array Value) : w.before args s = true := va_tabs ht rfl (h.2.1 w hw hm)
theorem z_mv_good {w : Cond} (h : goodWord w = true) : z_mv w = true := by
  cases w <;> first | rfl | exact h
theorem z_Wd.g {G : zG} {s : State} (h : z_Wd G s) (args : Array Value) : ∀ w ∈ lw_all, w.before args s = true := fun w hw =>
  word_at (State.WarmedH.refl s) (good_of_word (List.mem_filter.mp hw).2) (h.2.1 w (lw_all_tbl hw) (z_mv_good (List.mem_filter.mp hw).2))
abbrev zQ : Type := Outcome → zH → Nat → Prop
/-- how a method ends: the heap is some h' again, only cells of the law were written -/
def z_E (G : zG) (Q : zQ) (mc ms : Nat) : Array Value → State → Outcome → State → Prop := fun _ st o t =>
  ((∃ v, o = .returned v) ∨ ∃ q, o = .threw q) ∧ (∃ h' : zH, z_R G h' t.heap.size t.heap ∧ Q o h' t.heap.size) ∧ ∃ L : List Loc, st.WarmedH t.vm ∧ st.sameButNew ({ t with vm := st.vm } : State) L mc ms ∧ ∀ q ∈ L, z_n0 G ≤ q.base
def z_Pc (G : zG) (av : List Value) (h : zH) (n : Nat) : Array Value → State → Prop := fun a U => a = av.toArray ∧ z_R G h n U.heap ∧ z_Wd G U
abbrev z_rm (r mc ms : Nat) : Room := { frames := r, cells := mc, slots := ms, locals := 200 * r }
/-- CONTRACT: y, called with args at the heap h (n addresses used), ends with Q; its frames go r deep; at most mc cells of ms slots are new -/
def z_C (l : Launch) (G : zG) (y : MethodName) (r mc ms : Nat) (av : List Value) (h : zH) (n : Nat) (Q : zQ) : Prop :=
  l.flags = flags0 → MetFree l y (headSpec lw_all (z_rm r mc ms)) (z_Pc G av h n) (fun _ _ _ _ _ => True) (z_E G Q mc ms)
/-- a method under walk: launch, numbers, class, code, locals, answer, name, handlers, room, end -/
abbrev zM : Type := Launch × zG × String × ByteArray × Nat × Option FieldType × String × List (Nat × Nat × Nat × Nat) × Room × zQ
def zm_l (M : zM) : Launch := M.1
def zm_G (M : zM) : zG := M.2.1
def zm_o (M : zM) : String := M.2.2.1
def zm_c (M : zM) : ByteArray := M.2.2.2.1
def zm_n (M : zM) : Nat := M.2.2.2.2.1
def zm_r (M : zM) : Option FieldType := M.2.2.2.2.2.1
def zm_m (M : zM) : String := M.2.2.2.2.2.2.1
def zm_h (M : zM) : List (Nat × Nat × Nat × Nat) := M.2.2.2.2.2.2.2.1
def zm_R (M : zM) : Room := M.2.2.2.2.2.2.2.2.1
def zm_Q (M : zM) : zQ := M.2.2.2.2.2.2.2.2.2
def z_At (M : zM) (p : Program) (e : Env) (s : State) (m : MethodId) (args : Array Value) (meth : Method) (c : Code) : Prop :=
  p.tables.exec = Jvm.exec ∧ c.code = zm_c M ∧ c.maxLocals = zm_n M ∧ s.vm.findClass (zm_o M) = some m.cls ∧ z_Wd (zm_G M) s ∧ meth.sig.returnType = zm_r M ∧ meth.locks = false ∧ meth.name = zm_m M ∧ c.exceptionTable.toList = tableOf (zm_h M) ∧ z_n0 (zm_G M) ≤ s.heap.size ∧ (∀ a : Nat, a < z_n0 (zm_G M) → s.heap[a]? = (zm_G M).2.2.2.2[a]?) ∧ (zm_l M).flags = flags0
def z_MQ (M : zM) (below : List Frame) (a : Array Value) (s : State) : State → Prop := fun t => ∃ o, t.status = .running ∧ Ended t below o ∧ z_E (zm_G M) (zm_Q M) (zm_R M).cells (zm_R M).slots a s o t
/-- THE JUDGEMENT: from pc, with locals lv, stack st, heap h of n, and b cells, f slots left to make, the method comes to its end -/
def z_V (M : zM) (h : zH) (n b f : Nat) (pc : Nat) (lv : List (Nat × Value)) (st : List Value) : Prop :=
  ∀ (p : Program) (e : Env) (s : State) (m : MethodId) (args : Array Value) (below : List Frame) (meth : Method) (c : Code), z_At M p e s m args meth c →
  ∀ (H : Heap) (locs : List Loc) (ls : Array Slot) (k j : Nat), z_R (zm_G M) h n H → s.heap.size ≤ n → (∀ q ∈ locs, z_n0 (zm_G M) ≤ q.base) → lv_has ls (zm_n M) lv → k + b ≤ (zm_R M).cells → j + f ≤ (zm_R M).slots →
  W p (zm_l M) e (zm_R M) s m args below meth c H locs k j (z_MQ M below args s) (F0 m pc ls st)
/-- the same with q thrown at pc -/
def z_X (M : zM) (h : zH) (n b f : Nat) (pc : Nat) (lv : List (Nat × Value)) (q : Nat) : Prop :=
  ∀ (p : Program) (e : Env) (s : State) (m : MethodId) (args : Array Value) (below : List Frame) (meth : Method) (c : Code), z_At M p e s m args meth c →
  ∀ (H : Heap) (locs : List Loc) (ls : Array Slot) (k j : Nat) (rest : List Value), z_R (zm_G M) h n H → s.heap.size ≤ n → (∀ q ∈ locs, z_n0 (zm_G M) ≤ q.base) → lv_has ls (zm_n M) lv → k + b ≤ (zm_R M).cells → j + f ≤ (zm_R M).slots →
  vx_W p (zm_l M) e (zm_R M) s m args below meth c H locs k j (z_MQ M below args s) (F0 m pc ls rest) q
def z_lk (i : Nat) : List (Nat × Value) → Option Value
  | [] => none
  | q :: l => bif Nat.beq q.1 i then some q.2 else z_lk i l
theorem z_lk_at {ls : Array Slot} {nL : Nat} {i : Nat} {v : Value} : ∀ {lv : List (Nat × Value)}, lv_has ls nL lv → z_lk i lv = some v → ls[i]? = some (.val v)
  | [], _, h => by cases h
  | q :: l, hl, h => by
    unfold z_lk at h
    cases hq : Nat.beq q.1 i with
    | true =>
      rw [hq] at h
      have e1 := Nat.eq_of_beq_eq_true hq
      have e2 : q.2 = v := Option.some.inj h
      rw [← e1, ← e2]
      exact hl.2.2 q List.mem_cons_self
    | false =>
      rw [hq] at h
      exact z_lk_at (lv := l) ⟨hl.1, hl.2.1, fun q hq => hl.2.2 q (List.mem_cons_of_mem _ hq)⟩ h
section ZV
variable {M : zM} {h : zH} {n b f pc : Nat} {lv : List (Nat × Value)} {rest : List Value} {cc : ByteArray}
/-- a step of the machine that leaves the heap -/
theorem z_go {pc' : Nat} {lv' : List (Nat × Value)} {st st' : List Value}
    (step : ∀ {p : Program} {e : Env} {s : State} {m : MethodId} {args : Array Value} {below : List Frame} {meth : Method} {c : Code} {H : Heap} {locs : List Loc} {ls : Array Slot} {k j : Nat} {Q : State → Prop}, z_At M p e s m args meth c → lv_has ls (zm_n M) lv →
      (∀ ls' : Array Slot, lv_has ls' (zm_n M) lv' → W p (zm_l M) e (zm_R M) s m args below meth c H locs k j Q (F0 m pc' ls' st')) → W p (zm_l M) e (zm_R M) s m args below meth c H locs k j Q (F0 m pc ls st))
    (kk : z_V M h n b f pc' lv' st') : z_V M h n b f pc lv st :=
  fun p e s m args below meth c A H locs ls k j hR hsz hlo hl hk hj => step A hl fun ls' hl' => kk p e s m args below meth c A H locs ls' k j hR hsz hlo hl' hk hj
/-- a branch -/
theorem z_br {t1 t2 : Nat} {st st' : List Value} {c1 c2 : Prop}
    (step : ∀ {p : Program} {e : Env} {s : State} {m : MethodId} {args : Array Value} {below : List Frame} {meth : Method} {c : Code} {H : Heap} {locs : List Loc} {ls : Array Slot} {k j : Nat} {Q : State → Prop}, z_At M p e s m args meth c → lv_has ls (zm_n M) lv →
      (c1 → W p (zm_l M) e (zm_R M) s m args below meth c H locs k j Q (F0 m t1 ls st')) → (c2 → W p (zm_l M) e (zm_R M) s m args below meth c H locs k j Q (F0 m t2 ls st')) → W p (zm_l M) e (zm_R M) s m args below meth c H locs k j Q (F0 m pc ls st))
    (k1 : c1 → z_V M h n b f t1 lv st') (k2 : c2 → z_V M h n b f t2 lv st') : z_V M h n b f pc lv st :=
  fun p e s m args below meth c A H locs ls k j hR hsz hlo hl hk hj => step A hl (fun q => k1 q p e s m args below meth c A H locs ls k j hR hsz hlo hl hk hj) (fun q => k2 q p e s m args below meth c A H locs ls k j hR hsz hlo hl hk hj)
/-- fewer locals, in any order -/
theorem z_lv {lv' : List (Nat × Value)} {st : List Value} (ks : List Nat) (hl : lv_pick lv ks = lv') (kk : z_V M h n b f pc lv' st) : z_V M h n b f pc lv st :=
  fun p e s m args below meth c A H locs ls k j hR hsz hlo hl0 hk hj => kk p e s m args below meth c A H locs ls k j hR hsz hlo (lv_sub hl0 ks hl) hk hj
/-- fewer cells left -/
theorem z_bf {b' f' : Nat} {st : List Value} (h1 : b' ≤ b) (h2 : f' ≤ f) (kk : z_V M h n b' f' pc lv st) : z_V M h n b f pc lv st :=
  fun p e s m args below meth c A H locs ls k j hR hsz hlo hl0 hk hj => kk p e s m args below meth c A H locs ls k j hR hsz hlo hl0 (by omega) (by omega)
theorem z_topi {x : Int32} (k : ∀ y : Int32, y = x → z_V M h n b f pc lv (.int y :: rest)) : z_V M h n b f pc lv (.int x :: rest) := k x rfl
theorem z_topl {x : Int64} (k : ∀ y : Int64, y = x → z_V M h n b f pc lv (.long y :: rest)) : z_V M h n b f pc lv (.long x :: rest) := k x rfl
theorem z_toI {x y : Int32} (e : x = y) (k : z_V M h n b f pc lv (.int y :: rest)) : z_V M h n b f pc lv (.int x :: rest) := e ▸ k
theorem z_toL {x y : Int64} (e : x = y) (k : z_V M h n b f pc lv (.long y :: rest)) : z_V M h n b f pc lv (.long x :: rest) := e ▸ k
theorem z_iconst (hb : zm_c M = cc) {v : Int} {x : Int32} (d : decode cc pc = .ok (.iconst v, 1)) (hv : Int32.ofInt v = x) (kk : z_V M h n b f (pc + 1) lv (.int x :: rest)) : z_V M h n b f pc lv (rest) := z_go (fun A hl k => lv_iconst A.1 (A.2.1.trans hb) d hv (k _ hl)) kk
theorem z_bipush (hb : zm_c M = cc) {v : Int} {x : Int32} (d : decode cc pc = .ok (.bipush v, 2)) (hv : (Int8.ofInt v).toInt32 = x) (kk : z_V M h n b f (pc + 2) lv (.int x :: rest)) : z_V M h n b f pc lv (rest) := z_go (fun A hl k => lv_bipush A.1 (A.2.1.trans hb) d hv (k _ hl)) kk
theorem z_sipush (hb : zm_c M = cc) {v : Int} {x : Int32} (d : decode cc pc = .ok (.sipush v, 3)) (hv : (Int16.ofInt v).toInt32 = x) (kk : z_V M h n b f (pc + 3) lv (.int x :: rest)) : z_V M h n b f pc lv (rest) := z_go (fun A hl k => lv_sipush A.1 (A.2.1.trans hb) d hv (k _ hl)) kk
theorem z_lconst (hb : zm_c M = cc) {v : Fin 2} {x : Int64} (d : decode cc pc = .ok (.lconst v, 1)) (hv : Int64.ofNat (v : Nat) = x) (kk : z_V M h n b f (pc + 1) lv (.long x :: rest)) : z_V M h n b f pc lv (rest) := z_go (fun A hl k => lv_lconst A.1 (A.2.1.trans hb) d hv (k _ hl)) kk
theorem z_fconst0 (hb : zm_c M = cc) (d : decode cc pc = .ok (.fconst 0, 1)) (kk : z_V M h n b f (pc + 1) lv (.float 0 :: rest)) : z_V M h n b f pc lv (rest) := z_go (fun A hl k => lv_fconst0 A.1 (A.2.1.trans hb) d (k _ hl)) kk
theorem z_dconst0 (hb : zm_c M = cc) (d : decode cc pc = .ok (.dconst 0, 1)) (kk : z_V M h n b f (pc + 1) lv (.double 0 :: rest)) : z_V M h n b f pc lv (rest) := z_go (fun A hl k => lv_dconst0 A.1 (A.2.1.trans hb) d (k _ hl)) kk
theorem z_null (hb : zm_c M = cc) (d : decode cc pc = .ok (.aconst_null, 1)) (kk : z_V M h n b f (pc + 1) lv (.null :: rest)) : z_V M h n b f pc lv (rest) := z_go (fun A hl k => lv_null A.1 (A.2.1.trans hb) d (k _ hl)) kk
theorem z_iload_n (hb : zm_c M = cc) {k : Fin 4} {x : Int32} (d : decode cc pc = .ok (.iload_n k, 1)) (hl : z_lk (k : Nat) lv = some (.int x)) (kk : z_V M h n b f (pc + 1) lv (.int x :: rest)) : z_V M h n b f pc lv rest := z_go (fun A hl0 k => lv_iload_n A.1 (A.2.1.trans hb) d rfl (z_lk_at hl0 hl) (k _ hl0)) kk
theorem z_iload (hb : zm_c M = cc) {i : Nat} {x : Int32} (d : decode cc pc = .ok (.iload i, 2)) (hl : z_lk i lv = some (.int x)) (kk : z_V M h n b f (pc + 2) lv (.int x :: rest)) : z_V M h n b f pc lv rest := z_go (fun A hl0 k => lv_iload A.1 (A.2.1.trans hb) d (z_lk_at hl0 hl) (k _ hl0)) kk
theorem z_istore_n (hb : zm_c M = cc) {k : Fin 4} {x : Int32} {lv' : List (Nat × Value)} (d : decode cc pc = .ok (.istore_n k, 1)) (hn : (k : Nat) < zm_n M) (hl : ((k : Nat), Value.int x) :: lv.filter (fun q => !(q.1 == (k : Nat)) && !(q.1 + 1 == (k : Nat) && q.2.category == 2)) = lv') (kk : z_V M h n b f (pc + 1) lv' rest) : z_V M h n b f pc lv (.int x :: rest) := z_go (fun A hl0 k => lv_istore_n A.1 (A.2.1.trans hb) d rfl hl0 hn hl k) kk
theorem z_istore (hb : zm_c M = cc) {i : Nat} {x : Int32} {lv' : List (Nat × Value)} (d : decode cc pc = .ok (.istore i, 2)) (hn : i < zm_n M) (hl : (i, Value.int x) :: lv.filter (fun q => !(q.1 == i) && !(q.1 + 1 == i && q.2.category == 2)) = lv') (kk : z_V M h n b f (pc + 2) lv' rest) : z_V M h n b f pc lv (.int x :: rest) := z_go (fun A hl0 k => lv_istore A.1 (A.2.1.trans hb) d hl0 hn hl k) kk
theorem z_lload_n (hb : zm_c M = cc) {k : Fin 4} {x : Int64} (d : decode cc pc = .ok (.lload_n k, 1)) (hl : z_lk (k : Nat) lv = some (.long x)) (kk : z_V M h n b f (pc + 1) lv (.long x :: rest)) : z_V M h n b f pc lv rest := z_go (fun A hl0 k => lv_lload_n A.1 (A.2.1.trans hb) d rfl (z_lk_at hl0 hl) (k _ hl0)) kk
theorem z_lload (hb : zm_c M = cc) {i : Nat} {x : Int64} (d : decode cc pc = .ok (.lload i, 2)) (hl : z_lk i lv = some (.long x)) (kk : z_V M h n b f (pc + 2) lv (.long x :: rest)) : z_V M h n b f pc lv rest := z_go (fun A hl0 k => lv_lload A.1 (A.2.1.trans hb) d (z_lk_at hl0 hl) (k _ hl0)) kk
theorem z_lstore_n (hb : zm_c M = cc) {k : Fin 4} {x : Int64} {lv' : List (Nat × Value)} (d : decode cc pc = .ok (.lstore_n k, 1)) (hn : (k : Nat) + 1 < zm_n M) (hl : ((k : Nat), Value.long x) :: lv.filter (fun q => !(q.1 == (k : Nat)) && (!(q.1 == (k : Nat) + 1) && !(q.1 + 1 == (k : Nat) && q.2.category == 2))) = lv') (kk : z_V M h n b f (pc + 1) lv' rest) : z_V M h n b f pc lv (.long x :: rest) := z_go (fun A hl0 k => lv_lstore_n A.1 (A.2.1.trans hb) d rfl hl0 hn hl k) kk
theorem z_lstore (hb : zm_c M = cc) {i : Nat} {x : Int64} {lv' : List (Nat × Value)} (d : decode cc pc = .ok (.lstore i, 2)) (hn : i + 1 < zm_n M) (hl : (i, Value.long x) :: lv.filter (fun q => !(q.1 == i) && (!(q.1 == i + 1) && !(q.1 + 1 == i && q.2.category == 2))) = lv') (kk : z_V M h n b f (pc + 2) lv' rest) : z_V M h n b f pc lv (.long x :: rest) := z_go (fun A hl0 k => lv_lstore A.1 (A.2.1.trans hb) d hl0 hn hl k) kk
theorem z_aload_n (hb : zm_c M = cc) {k : Fin 4} {x : Nat} (d : decode cc pc = .ok (.aload_n k, 1)) (hl : z_lk (k : Nat) lv = some (.ref x)) (kk : z_V M h n b f (pc + 1) lv (.ref x :: rest)) : z_V M h n b f pc lv rest := z_go (fun A hl0 k => lv_aload_n A.1 (A.2.1.trans hb) d rfl (z_lk_at hl0 hl) (k _ hl0)) kk
theorem z_aload (hb : zm_c M = cc) {i : Nat} {x : Nat} (d : decode cc pc = .ok (.aload i, 2)) (hl : z_lk i lv = some (.ref x)) (kk : z_V M h n b f (pc + 2) lv (.ref x :: rest)) : z_V M h n b f pc lv rest := z_go (fun A hl0 k => lv_aload A.1 (A.2.1.trans hb) d (z_lk_at hl0 hl) (k _ hl0)) kk
theorem z_astore_n (hb : zm_c M = cc) {k : Fin 4} {x : Nat} {lv' : List (Nat × Value)} (d : decode cc pc = .ok (.astore_n k, 1)) (hn : (k : Nat) < zm_n M) (hl : ((k : Nat), Value.ref x) :: lv.filter (fun q => !(q.1 == (k : Nat)) && !(q.1 + 1 == (k : Nat) && q.2.category == 2)) = lv') (kk : z_V M h n b f (pc + 1) lv' rest) : z_V M h n b f pc lv (.ref x :: rest) := z_go (fun A hl0 k => lv_astore_n A.1 (A.2.1.trans hb) d rfl hl0 hn hl k) kk
theorem z_astore (hb : zm_c M = cc) {i : Nat} {x : Nat} {lv' : List (Nat × Value)} (d : decode cc pc = .ok (.astore i, 2)) (hn : i < zm_n M) (hl : (i, Value.ref x) :: lv.filter (fun q => !(q.1 == i) && !(q.1 + 1 == i && q.2.category == 2)) = lv') (kk : z_V M h n b f (pc + 2) lv' rest) : z_V M h n b f pc lv (.ref x :: rest) := z_go (fun A hl0 k => lv_astore A.1 (A.2.1.trans hb) d hl0 hn hl k) kk
theorem z_fload_n (hb : zm_c M = cc) {k : Fin 4} {x : UInt32} (d : decode cc pc = .ok (.fload_n k, 1)) (hl : z_lk (k : Nat) lv = some (.float x)) (kk : z_V M h n b f (pc + 1) lv (.float x :: rest)) : z_V M h n b f pc lv rest := z_go (fun A hl0 k => lv_fload_n A.1 (A.2.1.trans hb) d rfl (z_lk_at hl0 hl) (k _ hl0)) kk
theorem z_fload (hb : zm_c M = cc) {i : Nat} {x : UInt32} (d : decode cc pc = .ok (.fload i, 2)) (hl : z_lk i lv = some (.float x)) (kk : z_V M h n b f (pc + 2) lv (.float x :: rest)) : z_V M h n b f pc lv rest := z_go (fun A hl0 k => lv_fload A.1 (A.2.1.trans hb) d (z_lk_at hl0 hl) (k _ hl0)) kk
theorem z_fstore_n (hb : zm_c M = cc) {k : Fin 4} {x : UInt32} {lv' : List (Nat × Value)} (d : decode cc pc = .ok (.fstore_n k, 1)) (hn : (k : Nat) < zm_n M) (hl : ((k : Nat), Value.float x) :: lv.filter (fun q => !(q.1 == (k : Nat)) && !(q.1 + 1 == (k : Nat) && q.2.category == 2)) = lv') (kk : z_V M h n b f (pc + 1) lv' rest) : z_V M h n b f pc lv (.float x :: rest) := z_go (fun A hl0 k => lv_fstore_n A.1 (A.2.1.trans hb) d rfl hl0 hn hl k) kk
theorem z_fstore (hb : zm_c M = cc) {i : Nat} {x : UInt32} {lv' : List (Nat × Value)} (d : decode cc pc = .ok (.fstore i, 2)) (hn : i < zm_n M) (hl : (i, Value.float x) :: lv.filter (fun q => !(q.1 == i) && !(q.1 + 1 == i && q.2.category == 2)) = lv') (kk : z_V M h n b f (pc + 2) lv' rest) : z_V M h n b f pc lv (.float x :: rest) := z_go (fun A hl0 k => lv_fstore A.1 (A.2.1.trans hb) d hl0 hn hl k) kk
theorem z_dload_n (hb : zm_c M = cc) {k : Fin 4} {x : UInt64} (d : decode cc pc = .ok (.dload_n k, 1)) (hl : z_lk (k : Nat) lv = some (.double x)) (kk : z_V M h n b f (pc + 1) lv (.double x :: rest)) : z_V M h n b f pc lv rest := z_go (fun A hl0 k => lv_dload_n A.1 (A.2.1.trans hb) d rfl (z_lk_at hl0 hl) (k _ hl0)) kk
theorem z_dload (hb : zm_c M = cc) {i : Nat} {x : UInt64} (d : decode cc pc = .ok (.dload i, 2)) (hl : z_lk i lv = some (.double x)) (kk : z_V M h n b f (pc + 2) lv (.double x :: rest)) : z_V M h n b f pc lv rest := z_go (fun A hl0 k => lv_dload A.1 (A.2.1.trans hb) d (z_lk_at hl0 hl) (k _ hl0)) kk
theorem z_dstore_n (hb : zm_c M = cc) {k : Fin 4} {x : UInt64} {lv' : List (Nat × Value)} (d : decode cc pc = .ok (.dstore_n k, 1)) (hn : (k : Nat) + 1 < zm_n M) (hl : ((k : Nat), Value.double x) :: lv.filter (fun q => !(q.1 == (k : Nat)) && (!(q.1 == (k : Nat) + 1) && !(q.1 + 1 == (k : Nat) && q.2.category == 2))) = lv') (kk : z_V M h n b f (pc + 1) lv' rest) : z_V M h n b f pc lv (.double x :: rest) := z_go (fun A hl0 k => lv_dstore_n A.1 (A.2.1.trans hb) d rfl hl0 hn hl k) kk
theorem z_dstore (hb : zm_c M = cc) {i : Nat} {x : UInt64} {lv' : List (Nat × Value)} (d : decode cc pc = .ok (.dstore i, 2)) (hn : i + 1 < zm_n M) (hl : (i, Value.double x) :: lv.filter (fun q => !(q.1 == i) && (!(q.1 == i + 1) && !(q.1 + 1 == i && q.2.category == 2))) = lv') (kk : z_V M h n b f (pc + 2) lv' rest) : z_V M h n b f pc lv (.double x :: rest) := z_go (fun A hl0 k => lv_dstore A.1 (A.2.1.trans hb) d hl0 hn hl k) kk
theorem z_aload_nN (hb : zm_c M = cc) {k : Fin 4} (d : decode cc pc = .ok (.aload_n k, 1)) (hl : z_lk (k : Nat) lv = some .null) (kk : z_V M h n b f (pc + 1) lv (.null :: rest)) : z_V M h n b f pc lv rest := z_go (fun A hl0 k => lv_aload_nN A.1 (A.2.1.trans hb) d rfl (z_lk_at hl0 hl) (k _ hl0)) kk
theorem z_aloadN (hb : zm_c M = cc) {i : Nat} (d : decode cc pc = .ok (.aload i, 2)) (hl : z_lk i lv = some .null) (kk : z_V M h n b f (pc + 2) lv (.null :: rest)) : z_V M h n b f pc lv rest := z_go (fun A hl0 k => lv_aloadN A.1 (A.2.1.trans hb) d (z_lk_at hl0 hl) (k _ hl0)) kk
theorem z_astore_nN (hb : zm_c M = cc) {k : Fin 4} {lv' : List (Nat × Value)} (d : decode cc pc = .ok (.astore_n k, 1)) (hn : (k : Nat) < zm_n M) (hl : ((k : Nat), Value.null) :: lv.filter (fun q => !(q.1 == (k : Nat)) && !(q.1 + 1 == (k : Nat) && q.2.category == 2)) = lv') (kk : z_V M h n b f (pc + 1) lv' rest) : z_V M h n b f pc lv (.null :: rest) := z_go (fun A hl0 k => lv_astore_nN A.1 (A.2.1.trans hb) d rfl hl0 hn hl k) kk
theorem z_astoreN (hb : zm_c M = cc) {i : Nat} {lv' : List (Nat × Value)} (d : decode cc pc = .ok (.astore i, 2)) (hn : i < zm_n M) (hl : (i, Value.null) :: lv.filter (fun q => !(q.1 == i) && !(q.1 + 1 == i && q.2.category == 2)) = lv') (kk : z_V M h n b f (pc + 2) lv' rest) : z_V M h n b f pc lv (.null :: rest) := z_go (fun A hl0 k => lv_astoreN A.1 (A.2.1.trans hb) d hl0 hn hl k) kk
theorem z_iinc (hb : zm_c M = cc) {i k0 : Nat} {v : Int} {x y : Int32} {lv' : List (Nat × Value)} (d : decode cc pc = .ok (.iinc i v, 3)) (hk : lv[k0]? = some (i, .int x)) (hv : x + Int32.ofInt v = y) (hn : i < zm_n M) (hl : (i, Value.int y) :: lv.filter (fun q => !(q.1 == i) && !(q.1 + 1 == i && q.2.category == 2)) = lv') (kk : z_V M h n b f (pc + 3) lv' rest) : z_V M h n b f pc lv rest := z_go (fun A hl0 k => lv_iinc A.1 (A.2.1.trans hb) d hl0 hk hv hn hl k) kk
theorem z_iadd (hb : zm_c M = cc) {x y : Int32} (d : decode cc pc = .ok (.iadd, 1)) (kk : z_V M h n b f (pc + 1) lv (.int (x + y) :: rest)) : z_V M h n b f pc lv (.int y :: .int x :: rest) := z_go (fun A hl k => lv_iadd A.1 (A.2.1.trans hb) d (k _ hl)) kk
theorem z_isub (hb : zm_c M = cc) {x y : Int32} (d : decode cc pc = .ok (.isub, 1)) (kk : z_V M h n b f (pc + 1) lv (.int (x - y) :: rest)) : z_V M h n b f pc lv (.int y :: .int x :: rest) := z_go (fun A hl k => lv_isub A.1 (A.2.1.trans hb) d (k _ hl)) kk
theorem z_imul (hb : zm_c M = cc) {x y : Int32} (d : decode cc pc = .ok (.imul, 1)) (kk : z_V M h n b f (pc + 1) lv (.int (x * y) :: rest)) : z_V M h n b f pc lv (.int y :: .int x :: rest) := z_go (fun A hl k => lv_imul A.1 (A.2.1.trans hb) d (k _ hl)) kk
theorem z_iand (hb : zm_c M = cc) {x y : Int32} (d : decode cc pc = .ok (.iand, 1)) (kk : z_V M h n b f (pc + 1) lv (.int (x &&& y) :: rest)) : z_V M h n b f pc lv (.int y :: .int x :: rest) := z_go (fun A hl k => lv_iand A.1 (A.2.1.trans hb) d (k _ hl)) kk
theorem z_ior (hb : zm_c M = cc) {x y : Int32} (d : decode cc pc = .ok (.ior, 1)) (kk : z_V M h n b f (pc + 1) lv (.int (x ||| y) :: rest)) : z_V M h n b f pc lv (.int y :: .int x :: rest) := z_go (fun A hl k => lv_ior A.1 (A.2.1.trans hb) d (k _ hl)) kk
theorem z_ixor (hb : zm_c M = cc) {x y : Int32} (d : decode cc pc = .ok (.ixor, 1)) (kk : z_V M h n b f (pc + 1) lv (.int (x ^^^ y) :: rest)) : z_V M h n b f pc lv (.int y :: .int x :: rest) := z_go (fun A hl k => lv_ixor A.1 (A.2.1.trans hb) d (k _ hl)) kk
theorem z_ishl (hb : zm_c M = cc) {x y : Int32} (d : decode cc pc = .ok (.ishl, 1)) (kk : z_V M h n b f (pc + 1) lv (.int (x <<< (y &&& 31)) :: rest)) : z_V M h n b f pc lv (.int y :: .int x :: rest) := z_go (fun A hl k => lv_ishl A.1 (A.2.1.trans hb) d (k _ hl)) kk
theorem z_ishr (hb : zm_c M = cc) {x y : Int32} (d : decode cc pc = .ok (.ishr, 1)) (kk : z_V M h n b f (pc + 1) lv (.int (x >>> (y &&& 31)) :: rest)) : z_V M h n b f pc lv (.int y :: .int x :: rest) := z_go (fun A hl k => lv_ishr A.1 (A.2.1.trans hb) d (k _ hl)) kk
theorem z_ladd (hb : zm_c M = cc) {x y : Int64} (d : decode cc pc = .ok (.ladd, 1)) (kk : z_V M h n b f (pc + 1) lv (.long (x + y) :: rest)) : z_V M h n b f pc lv (.long y :: .long x :: rest) := z_go (fun A hl k => lv_ladd A.1 (A.2.1.trans hb) d (k _ hl)) kk
theorem z_lsub (hb : zm_c M = cc) {x y : Int64} (d : decode cc pc = .ok (.lsub, 1)) (kk : z_V M h n b f (pc + 1) lv (.long (x - y) :: rest)) : z_V M h n b f pc lv (.long y :: .long x :: rest) := z_go (fun A hl k => lv_lsub A.1 (A.2.1.trans hb) d (k _ hl)) kk
theorem z_lmul (hb : zm_c M = cc) {x y : Int64} (d : decode cc pc = .ok (.lmul, 1)) (kk : z_V M h n b f (pc + 1) lv (.long (x * y) :: rest)) : z_V M h n b f pc lv (.long y :: .long x :: rest) := z_go (fun A hl k => lv_lmul A.1 (A.2.1.trans hb) d (k _ hl)) kk
theorem z_land (hb : zm_c M = cc) {x y : Int64} (d : decode cc pc = .ok (.land, 1)) (kk : z_V M h n b f (pc + 1) lv (.long (x &&& y) :: rest)) : z_V M h n b f pc lv (.long y :: .long x :: rest) := z_go (fun A hl k => lv_land A.1 (A.2.1.trans hb) d (k _ hl)) kk
theorem z_lor (hb : zm_c M = cc) {x y : Int64} (d : decode cc pc = .ok (.lor, 1)) (kk : z_V M h n b f (pc + 1) lv (.long (x ||| y) :: rest)) : z_V M h n b f pc lv (.long y :: .long x :: rest) := z_go (fun A hl k => lv_lor A.1 (A.2.1.trans hb) d (k _ hl)) kk
theorem z_lxor (hb : zm_c M = cc) {x y : Int64} (d : decode cc pc = .ok (.lxor, 1)) (kk : z_V M h n b f (pc + 1) lv (.long (x ^^^ y) :: rest)) : z_V M h n b f pc lv (.long y :: .long x :: rest) := z_go (fun A hl k => lv_lxor A.1 (A.2.1.trans hb) d (k _ hl)) kk
theorem z_idiv (hb : zm_c M = cc) {x y : Int32} (d : decode cc pc = .ok (.idiv, 1)) (hne : ¬ y = 0) (kk : z_V M h n b f (pc + 1) lv (.int (x / y) :: rest)) : z_V M h n b f pc lv (.int y :: .int x :: rest) := z_go (fun A hl k => lv_idiv A.1 (A.2.1.trans hb) d hne (k _ hl)) kk
theorem z_irem (hb : zm_c M = cc) {x y : Int32} (d : decode cc pc = .ok (.irem, 1)) (hne : ¬ y = 0) (kk : z_V M h n b f (pc + 1) lv (.int (x - x / y * y) :: rest)) : z_V M h n b f pc lv (.int y :: .int x :: rest) := z_go (fun A hl k => lv_irem A.1 (A.2.1.trans hb) d hne (k _ hl)) kk
theorem z_ldiv (hb : zm_c M = cc) {x y : Int64} (d : decode cc pc = .ok (.ldiv, 1)) (hne : ¬ y = 0) (kk : z_V M h n b f (pc + 1) lv (.long (x / y) :: rest)) : z_V M h n b f pc lv (.long y :: .long x :: rest) := z_go (fun A hl k => lv_ldiv A.1 (A.2.1.trans hb) d hne (k _ hl)) kk
theorem z_lrem (hb : zm_c M = cc) {x y : Int64} (d : decode cc pc = .ok (.lrem, 1)) (hne : ¬ y = 0) (kk : z_V M h n b f (pc + 1) lv (.long (x - x / y * y) :: rest)) : z_V M h n b f pc lv (.long y :: .long x :: rest) := z_go (fun A hl k => lv_lrem A.1 (A.2.1.trans hb) d hne (k _ hl)) kk
theorem z_ineg (hb : zm_c M = cc) {x : Int32} (d : decode cc pc = .ok (.ineg, 1)) (kk : z_V M h n b f (pc + 1) lv (.int (-x) :: rest)) : z_V M h n b f pc lv (.int x :: rest) := z_go (fun A hl k => lv_ineg A.1 (A.2.1.trans hb) d (k _ hl)) kk
theorem z_lneg (hb : zm_c M = cc) {x : Int64} (d : decode cc pc = .ok (.lneg, 1)) (kk : z_V M h n b f (pc + 1) lv (.long (-x) :: rest)) : z_V M h n b f pc lv (.long x :: rest) := z_go (fun A hl k => lv_lneg A.1 (A.2.1.trans hb) d (k _ hl)) kk
theorem z_i2l (hb : zm_c M = cc) {x : Int32} {v : Int64} (d : decode cc pc = .ok (.i2l, 1)) (hv : x.toInt64 = v) (kk : z_V M h n b f (pc + 1) lv (.long v :: rest)) : z_V M h n b f pc lv (.int x :: rest) := z_go (fun A hl k => lv_i2l A.1 (A.2.1.trans hb) d hv (k _ hl)) kk
theorem z_l2i (hb : zm_c M = cc) {x : Int64} {v : Int32} (d : decode cc pc = .ok (.l2i, 1)) (hv : x.toInt32 = v) (kk : z_V M h n b f (pc + 1) lv (.int v :: rest)) : z_V M h n b f pc lv (.long x :: rest) := z_go (fun A hl k => lv_l2i A.1 (A.2.1.trans hb) d hv (k _ hl)) kk
theorem z_i2b (hb : zm_c M = cc) {x v : Int32} (d : decode cc pc = .ok (.i2b, 1)) (hv : x.toInt8.toInt32 = v) (kk : z_V M h n b f (pc + 1) lv (.int v :: rest)) : z_V M h n b f pc lv (.int x :: rest) := z_go (fun A hl k => lv_i2b A.1 (A.2.1.trans hb) d hv (k _ hl)) kk
theorem z_i2s (hb : zm_c M = cc) {x v : Int32} (d : decode cc pc = .ok (.i2s, 1)) (hv : x.toInt16.toInt32 = v) (kk : z_V M h n b f (pc + 1) lv (.int v :: rest)) : z_V M h n b f pc lv (.int x :: rest) := z_go (fun A hl k => lv_i2s A.1 (A.2.1.trans hb) d hv (k _ hl)) kk
theorem z_i2c (hb : zm_c M = cc) {x v : Int32} (d : decode cc pc = .ok (.i2c, 1)) (hv : (x.toUInt32 % 65536).toInt32 = v) (kk : z_V M h n b f (pc + 1) lv (.int v :: rest)) : z_V M h n b f pc lv (.int x :: rest) := z_go (fun A hl k => lv_i2c A.1 (A.2.1.trans hb) d hv (k _ hl)) kk
theorem z_iushr (hb : zm_c M = cc) {x y v : Int32} (d : decode cc pc = .ok (.iushr, 1)) (hv : (x.toUInt32 >>> (y.toUInt32 &&& Int32.toUInt32 31)).toInt32 = v) (kk : z_V M h n b f (pc + 1) lv (.int v :: rest)) : z_V M h n b f pc lv (.int y :: .int x :: rest) := z_go (fun A hl k => lv_iushr A.1 (A.2.1.trans hb) d hv (k _ hl)) kk
theorem z_lushr (hb : zm_c M = cc) {x v : Int64} {y : Int32} (d : decode cc pc = .ok (.lushr, 1)) (hv : (x.toUInt64 >>> (y.toInt64.toUInt64 &&& Int64.toUInt64 63)).toInt64 = v) (kk : z_V M h n b f (pc + 1) lv (.long v :: rest)) : z_V M h n b f pc lv (.int y :: .long x :: rest) := z_go (fun A hl k => lv_lushr A.1 (A.2.1.trans hb) d hv (k _ hl)) kk
theorem z_lshl (hb : zm_c M = cc) {x v : Int64} {y : Int32} (d : decode cc pc = .ok (.lshl, 1)) (hv : x <<< (y.toInt64 &&& 63) = v) (kk : z_V M h n b f (pc + 1) lv (.long v :: rest)) : z_V M h n b f pc lv (.int y :: .long x :: rest) := z_go (fun A hl k => lv_lshl A.1 (A.2.1.trans hb) d hv (k _ hl)) kk
theorem z_lshr (hb : zm_c M = cc) {x v : Int64} {y : Int32} (d : decode cc pc = .ok (.lshr, 1)) (hv : x >>> (y.toInt64 &&& 63) = v) (kk : z_V M h n b f (pc + 1) lv (.long v :: rest)) : z_V M h n b f pc lv (.int y :: .long x :: rest) := z_go (fun A hl k => lv_lshr A.1 (A.2.1.trans hb) d hv (k _ hl)) kk
theorem z_i2d (hb : zm_c M = cc) {x : Int32} (d : decode cc pc = .ok (.i2d, 1)) (kk : z_V M h n b f (pc + 1) lv (.double (FP.i2d x) :: rest)) : z_V M h n b f pc lv (.int x :: rest) := z_go (fun A hl k => lv_i2d A.1 (A.2.1.trans hb) d (k _ hl)) kk
theorem z_i2f (hb : zm_c M = cc) {x : Int32} (d : decode cc pc = .ok (.i2f, 1)) (kk : z_V M h n b f (pc + 1) lv (.float (FP.i2f x) :: rest)) : z_V M h n b f pc lv (.int x :: rest) := z_go (fun A hl k => lv_i2f A.1 (A.2.1.trans hb) d (k _ hl)) kk
theorem z_f2d (hb : zm_c M = cc) {x : UInt32} (d : decode cc pc = .ok (.f2d, 1)) (hne : vf_n64 (FP.f2d x)) (kk : z_V M h n b f (pc + 1) lv (.double (FP.f2d x) :: rest)) : z_V M h n b f pc lv (.float x :: rest) := z_go (fun A hl k => lv_f2d A.1 (A.2.1.trans hb) d hne (k _ hl)) kk
theorem z_ddiv (hb : zm_c M = cc) {x y : UInt64} (d : decode cc pc = .ok (.ddiv, 1)) (hne : vf_n64 (FP.ddiv x y)) (kk : z_V M h n b f (pc + 1) lv (.double (FP.ddiv x y) :: rest)) : z_V M h n b f pc lv (.double y :: .double x :: rest) := z_go (fun A hl k => lv_ddiv A.1 (A.2.1.trans hb) d hne (k _ hl)) kk
theorem z_fdiv (hb : zm_c M = cc) {x y : UInt32} (d : decode cc pc = .ok (.fdiv, 1)) (hne : vf_n32 (FP.fdiv x y)) (kk : z_V M h n b f (pc + 1) lv (.float (FP.fdiv x y) :: rest)) : z_V M h n b f pc lv (.float y :: .float x :: rest) := z_go (fun A hl k => lv_fdiv A.1 (A.2.1.trans hb) d hne (k _ hl)) kk
theorem z_lcmp (hb : zm_c M = cc) {x y : Int64} (d : decode cc pc = .ok (.lcmp, 1)) (kk : z_V M h n b f (pc + 1) lv (.int (lg_cmp x y) :: rest)) : z_V M h n b f pc lv (.long y :: .long x :: rest) := z_go (fun A hl k => W.lcmp A.1 (A.2.1.trans hb) d (k _ hl)) kk
theorem z_dcmp (hb : zm_c M = cc) {x y : UInt64} {op : CmpOp} (d : decode cc pc = .ok (.dcmp op, 1)) (kk : z_V M h n b f (pc + 1) lv (.int (Op.cmpValue (FP.dcmp x y) op) :: rest)) : z_V M h n b f pc lv (.double y :: .double x :: rest) := z_go (fun A hl k => lv_dcmp A.1 (A.2.1.trans hb) d (k _ hl)) kk
theorem z_fcmp (hb : zm_c M = cc) {x y : UInt32} {op : CmpOp} (d : decode cc pc = .ok (.fcmp op, 1)) (kk : z_V M h n b f (pc + 1) lv (.int (Op.cmpValue (FP.fcmp x y) op) :: rest)) : z_V M h n b f pc lv (.float y :: .float x :: rest) := z_go (fun A hl k => lv_fcmp A.1 (A.2.1.trans hb) d (k _ hl)) kk
theorem z_dup (hb : zm_c M = cc) {va : Value} (d : decode cc pc = .ok (.dup, 1)) (hva : va.category = 1) (kk : z_V M h n b f (pc + 1) lv (va :: va :: rest)) : z_V M h n b f pc lv (va :: rest) := z_go (fun A hl k => lv_dup A.1 (A.2.1.trans hb) d hva (k _ hl)) kk
theorem z_pop (hb : zm_c M = cc) {va : Value} (d : decode cc pc = .ok (.pop, 1)) (hva : va.category = 1) (kk : z_V M h n b f (pc + 1) lv (rest)) : z_V M h n b f pc lv (va :: rest) := z_go (fun A hl k => lv_pop A.1 (A.2.1.trans hb) d hva (k _ hl)) kk
theorem z_pop2_2 (hb : zm_c M = cc) {va : Value} (d : decode cc pc = .ok (.pop2, 1)) (hva : va.category = 2) (kk : z_V M h n b f (pc + 1) lv (rest)) : z_V M h n b f pc lv (va :: rest) := z_go (fun A hl k => lv_pop2_2 A.1 (A.2.1.trans hb) d hva (k _ hl)) kk
theorem z_dup_x1 (hb : zm_c M = cc) {va vb : Value} (d : decode cc pc = .ok (.dup_x1, 1)) (hva : va.category = 1) (hvb : vb.category = 1) (kk : z_V M h n b f (pc + 1) lv (va :: vb :: va :: rest)) : z_V M h n b f pc lv (va :: vb :: rest) := z_go (fun A hl k => lv_dup_x1 A.1 (A.2.1.trans hb) d hva hvb (k _ hl)) kk
theorem z_dup_x2 (hb : zm_c M = cc) {va vb vd : Value} (d : decode cc pc = .ok (.dup_x2, 1)) (hva : va.category = 1) (hvb : vb.category = 1) (hvd : vd.category = 1) (kk : z_V M h n b f (pc + 1) lv (va :: vb :: vd :: va :: rest)) : z_V M h n b f pc lv (va :: vb :: vd :: rest) := z_go (fun A hl k => lv_dup_x2 A.1 (A.2.1.trans hb) d hva hvb hvd (k _ hl)) kk
theorem z_dup2_11 (hb : zm_c M = cc) {va vb : Value} (d : decode cc pc = .ok (.dup2, 1)) (hva : va.category = 1) (hvb : vb.category = 1) (kk : z_V M h n b f (pc + 1) lv (va :: vb :: va :: vb :: rest)) : z_V M h n b f pc lv (va :: vb :: rest) := z_go (fun A hl k => lv_dup2_11 A.1 (A.2.1.trans hb) d hva hvb (k _ hl)) kk
theorem z_dup2_2 (hb : zm_c M = cc) {va : Value} (d : decode cc pc = .ok (.dup2, 1)) (hva : va.category = 2) (kk : z_V M h n b f (pc + 1) lv (va :: va :: rest)) : z_V M h n b f pc lv (va :: rest) := z_go (fun A hl k => lv_dup2_2 A.1 (A.2.1.trans hb) d hva (k _ hl)) kk
theorem z_dup2_x1_2 (hb : zm_c M = cc) {va vb : Value} (d : decode cc pc = .ok (.dup2_x1, 1)) (hva : va.category = 2) (hvb : vb.category = 1) (kk : z_V M h n b f (pc + 1) lv (va :: vb :: va :: rest)) : z_V M h n b f pc lv (va :: vb :: rest) := z_go (fun A hl k => lv_dup2_x1_2 A.1 (A.2.1.trans hb) d hva hvb (k _ hl)) kk
theorem z_dup2_x2_2 (hb : zm_c M = cc) {va vb vd : Value} (d : decode cc pc = .ok (.dup2_x2, 1)) (hva : va.category = 2) (hvb : vb.category = 1) (hvd : vd.category = 1) (kk : z_V M h n b f (pc + 1) lv (va :: vb :: vd :: va :: rest)) : z_V M h n b f pc lv (va :: vb :: vd :: rest) := z_go (fun A hl k => lv_dup2_x2_2 A.1 (A.2.1.trans hb) d hva hvb hvd (k _ hl)) kk
theorem z_icmp_eq (hb : zm_c M = cc) {x y : Int32} {off : Int} {tgt : Nat} (d : decode cc pc = .ok (.if_icmp .eq off, 3)) (ht : (pc : Int) + off = (tgt : Int)) (kt : x = y → z_V M h n b f tgt lv rest) (kf : ¬ x = y → z_V M h n b f (pc + 3) lv rest) : z_V M h n b f pc lv (.int y :: .int x :: rest) := z_br (fun A hl k1 k2 => lv_icmp_eq A.1 (A.2.1.trans hb) d ht k1 k2) kt kf
theorem z_if_eq (hb : zm_c M = cc) {x : Int32} {off : Int} {tgt : Nat} (d : decode cc pc = .ok (.ifCond .eq off, 3)) (ht : (pc : Int) + off = (tgt : Int)) (kt : x = 0 → z_V M h n b f tgt lv rest) (kf : ¬ x = 0 → z_V M h n b f (pc + 3) lv rest) : z_V M h n b f pc lv (.int x :: rest) := z_br (fun A hl k1 k2 => lv_if_eq A.1 (A.2.1.trans hb) d ht k1 k2) kt kf
theorem z_icmp_ne (hb : zm_c M = cc) {x y : Int32} {off : Int} {tgt : Nat} (d : decode cc pc = .ok (.if_icmp .ne off, 3)) (ht : (pc : Int) + off = (tgt : Int)) (kt : ¬ x = y → z_V M h n b f tgt lv rest) (kf : x = y → z_V M h n b f (pc + 3) lv rest) : z_V M h n b f pc lv (.int y :: .int x :: rest) := z_br (fun A hl k1 k2 => lv_icmp_ne A.1 (A.2.1.trans hb) d ht k1 k2) kt kf
theorem z_if_ne (hb : zm_c M = cc) {x : Int32} {off : Int} {tgt : Nat} (d : decode cc pc = .ok (.ifCond .ne off, 3)) (ht : (pc : Int) + off = (tgt : Int)) (kt : ¬ x = 0 → z_V M h n b f tgt lv rest) (kf : x = 0 → z_V M h n b f (pc + 3) lv rest) : z_V M h n b f pc lv (.int x :: rest) := z_br (fun A hl k1 k2 => lv_if_ne A.1 (A.2.1.trans hb) d ht k1 k2) kt kf
theorem z_icmp_lt (hb : zm_c M = cc) {x y : Int32} {off : Int} {tgt : Nat} (d : decode cc pc = .ok (.if_icmp .lt off, 3)) (ht : (pc : Int) + off = (tgt : Int)) (kt : x < y → z_V M h n b f tgt lv rest) (kf : ¬ x < y → z_V M h n b f (pc + 3) lv rest) : z_V M h n b f pc lv (.int y :: .int x :: rest) := z_br (fun A hl k1 k2 => lv_icmp_lt A.1 (A.2.1.trans hb) d ht k1 k2) kt kf
theorem z_if_lt (hb : zm_c M = cc) {x : Int32} {off : Int} {tgt : Nat} (d : decode cc pc = .ok (.ifCond .lt off, 3)) (ht : (pc : Int) + off = (tgt : Int)) (kt : x < 0 → z_V M h n b f tgt lv rest) (kf : ¬ x < 0 → z_V M h n b f (pc + 3) lv rest) : z_V M h n b f pc lv (.int x :: rest) := z_br (fun A hl k1 k2 => lv_if_lt A.1 (A.2.1.trans hb) d ht k1 k2) kt kf
theorem z_icmp_ge (hb : zm_c M = cc) {x y : Int32} {off : Int} {tgt : Nat} (d : decode cc pc = .ok (.if_icmp .ge off, 3)) (ht : (pc : Int) + off = (tgt : Int)) (kt : y ≤ x → z_V M h n b f tgt lv rest) (kf : ¬ y ≤ x → z_V M h n b f (pc + 3) lv rest) : z_V M h n b f pc lv (.int y :: .int x :: rest) := z_br (fun A hl k1 k2 => lv_icmp_ge A.1 (A.2.1.trans hb) d ht k1 k2) kt kf
theorem z_if_ge (hb : zm_c M = cc) {x : Int32} {off : Int} {tgt : Nat} (d : decode cc pc = .ok (.ifCond .ge off, 3)) (ht : (pc : Int) + off = (tgt : Int)) (kt : 0 ≤ x → z_V M h n b f tgt lv rest) (kf : ¬ 0 ≤ x → z_V M h n b f (pc + 3) lv rest) : z_V M h n b f pc lv (.int x :: rest) := z_br (fun A hl k1 k2 => lv_if_ge A.1 (A.2.1.trans hb) d ht k1 k2) kt kf
theorem z_icmp_gt (hb : zm_c M = cc) {x y : Int32} {off : Int} {tgt : Nat} (d : decode cc pc = .ok (.if_icmp .gt off, 3)) (ht : (pc : Int) + off = (tgt : Int)) (kt : y < x → z_V M h n b f tgt lv rest) (kf : ¬ y < x → z_V M h n b f (pc + 3) lv rest) : z_V M h n b f pc lv (.int y :: .int x :: rest) := z_br (fun A hl k1 k2 => lv_icmp_gt A.1 (A.2.1.trans hb) d ht k1 k2) kt kf
theorem z_if_gt (hb : zm_c M = cc) {x : Int32} {off : Int} {tgt : Nat} (d : decode cc pc = .ok (.ifCond .gt off, 3)) (ht : (pc : Int) + off = (tgt : Int)) (kt : 0 < x → z_V M h n b f tgt lv rest) (kf : ¬ 0 < x → z_V M h n b f (pc + 3) lv rest) : z_V M h n b f pc lv (.int x :: rest) := z_br (fun A hl k1 k2 => lv_if_gt A.1 (A.2.1.trans hb) d ht k1 k2) kt kf
theorem z_icmp_le (hb : zm_c M = cc) {x y : Int32} {off : Int} {tgt : Nat} (d : decode cc pc = .ok (.if_icmp .le off, 3)) (ht : (pc : Int) + off = (tgt : Int)) (kt : x ≤ y → z_V M h n b f tgt lv rest) (kf : ¬ x ≤ y → z_V M h n b f (pc + 3) lv rest) : z_V M h n b f pc lv (.int y :: .int x :: rest) := z_br (fun A hl k1 k2 => lv_icmp_le A.1 (A.2.1.trans hb) d ht k1 k2) kt kf
theorem z_if_le (hb : zm_c M = cc) {x : Int32} {off : Int} {tgt : Nat} (d : decode cc pc = .ok (.ifCond .le off, 3)) (ht : (pc : Int) + off = (tgt : Int)) (kt : x ≤ 0 → z_V M h n b f tgt lv rest) (kf : ¬ x ≤ 0 → z_V M h n b f (pc + 3) lv rest) : z_V M h n b f pc lv (.int x :: rest) := z_br (fun A hl k1 k2 => lv_if_le A.1 (A.2.1.trans hb) d ht k1 k2) kt kf
theorem z_acmp_eq (hb : zm_c M = cc) {rx ry : Option Nat} {off : Int} {tgt : Nat} (d : decode cc pc = .ok (.if_acmp .eq off, 3)) (ht : (pc : Int) + off = (tgt : Int)) (kt : rx = ry → z_V M h n b f tgt lv rest) (kf : ¬ rx = ry → z_V M h n b f (pc + 3) lv rest) : z_V M h n b f pc lv (va_rf ry :: va_rf rx :: rest) := z_br (fun A hl k1 k2 => lv_acmp_eq A.1 (A.2.1.trans hb) d ht k1 k2) kt kf
theorem z_acmp_ne (hb : zm_c M = cc) {rx ry : Option Nat} {off : Int} {tgt : Nat} (d : decode cc pc = .ok (.if_acmp .ne off, 3)) (ht : (pc : Int) + off = (tgt : Int)) (kt : ¬ rx = ry → z_V M h n b f tgt lv rest) (kf : rx = ry → z_V M h n b f (pc + 3) lv rest) : z_V M h n b f pc lv (va_rf ry :: va_rf rx :: rest) := z_br (fun A hl k1 k2 => lv_acmp_ne A.1 (A.2.1.trans hb) d ht k1 k2) kt kf
theorem z_goto (hb : zm_c M = cc) {off : Int} {tgt : Nat} (d : decode cc pc = .ok (.goto off, 3)) (ht : (pc : Int) + off = (tgt : Int)) (kk : z_V M h n b f tgt lv rest) : z_V M h n b f pc lv rest := z_go (fun A hl k => lv_goto A.1 (A.2.1.trans hb) d ht (k _ hl)) kk
theorem z_ifnull (hb : zm_c M = cc) {x : Nat} {off : Int} (d : decode cc pc = .ok (.ifnull off, 3)) (kk : z_V M h n b f (pc + 3) lv rest) : z_V M h n b f pc lv (.ref x :: rest) := z_go (fun A hl k => lv_ifnull A.1 (A.2.1.trans hb) d (k _ hl)) kk
theorem z_ifnonnull (hb : zm_c M = cc) {x : Nat} {off : Int} {tgt : Nat} (d : decode cc pc = .ok (.ifnonnull off, 3)) (ht : (pc : Int) + off = (tgt : Int)) (kk : z_V M h n b f tgt lv rest) : z_V M h n b f pc lv (.ref x :: rest) := z_go (fun A hl k => lv_ifnonnull A.1 (A.2.1.trans hb) d ht (k _ hl)) kk
theorem z_ifnullN (hb : zm_c M = cc) {off : Int} {tgt : Nat} (d : decode cc pc = .ok (.ifnull off, 3)) (ht : (pc : Int) + off = (tgt : Int)) (kk : z_V M h n b f tgt lv rest) : z_V M h n b f pc lv (.null :: rest) := z_go (fun A hl k => lv_ifnullN A.1 (A.2.1.trans hb) d ht (k _ hl)) kk
theorem z_ifnonnullN (hb : zm_c M = cc) {off : Int} (d : decode cc pc = .ok (.ifnonnull off, 3)) (kk : z_V M h n b f (pc + 3) lv rest) : z_V M h n b f pc lv (.null :: rest) := z_go (fun A hl k => lv_ifnonnullN A.1 (A.2.1.trans hb) d (k _ hl)) kk
theorem z_tableOut (hb : zm_c M = cc) {dflt lo hi : Int} {offs : Array Int} {len : Nat} {x : Int32} {tgt : Nat} (d : decode cc pc = .ok (.tableswitch dflt lo hi offs, len)) (hx : x.toInt < lo ∨ hi < x.toInt) (ht : (pc : Int) + dflt = (tgt : Int)) (kk : z_V M h n b f tgt lv rest) : z_V M h n b f pc lv (.int x :: rest) := z_go (fun A hl k => lv_tableOut A.1 (A.2.1.trans hb) d hx ht (k _ hl)) kk
theorem z_tableIn (hb : zm_c M = cc) {dflt lo hi : Int} {offs : Array Int} {len : Nat} {x : Int32} {off : Int} {tgt : Nat} (d : decode cc pc = .ok (.tableswitch dflt lo hi offs, len)) (h1 : ¬ x.toInt < lo) (h2 : ¬ hi < x.toInt) (ho : offs[(x.toInt - lo).toNat]? = some off) (ht : (pc : Int) + off = (tgt : Int)) (kk : z_V M h n b f tgt lv rest) : z_V M h n b f pc lv (.int x :: rest) := z_go (fun A hl k => lv_tableIn A.1 (A.2.1.trans hb) d h1 h2 ho ht (k _ hl)) kk
theorem z_lookup (hb : zm_c M = cc) {dflt : Int} {ps : Array (Int × Int)} {len : Nat} {x : Int32} {off : Int} {tgt : Nat} (d : decode cc pc = .ok (.lookupswitch dflt ps, len)) (hp : (ps.toList.zip (ps.toList.drop 1)).all (fun (a, next) => a.1 < next.1) = true) (ho : Op.lookupswitch.offset ps.toList dflt x.toInt = off) (ht : (pc : Int) + off = (tgt : Int)) (kk : z_V M h n b f tgt lv rest) : z_V M h n b f pc lv (.int x :: rest) := z_go (fun A hl k => lv_lookup A.1 (A.2.1.trans hb) d hp ho ht (k _ hl)) kk
end ZV
theorem nI_ofs {n : Nat} : (nI n) = Int32.ofNat n := rfl
/-- what a known object gives for a field -/
theorem z_rd {G : zG} {h : zH} {n : Nat} {H : Heap} {s : State} (hR : z_R G h n H) (hW : z_Wd G s) {a ci : Nat} {fs : List Value} {C : String} {T : u_T} {N k : Nat} {v : Value} (hc : zCL[ci]? = some (C, T, N)) (hin : ∀ w ∈ u_ws C T N, w ∈ lw_all) (ha : h a = some (.inr (ci, fs))) (hk : k < N) (hv : fs[k]? = some v) :
    ∃ (cf i : Nat) (kf : Class) (f : Field) (cell : Cell), s.fieldFound? (T k).1 (T k).2.1 (T k).2.2.1 = some (cf, kf, i, f) ∧ f.isStatic = false ∧ H[a]? = some cell ∧ cell.vm ≠ .unknown ∧ cell.slots[f.slot]? = some v := by
  rcases hR.2.2.2.1 a _ ha with hat | hK
  · obtain ⟨r, h1, cell, q1, q2, q3, q4⟩ := hat
    have hr : r = (C, T, N) := Option.some.inj (h1.symm.trans hc)
    subst hr
    obtain ⟨hS, hfc, kC, hkC, hkind⟩ := hW.1.1 ci _ hc
    obtain ⟨cf, kf, fi, f, hi, hsl⟩ := hS k hk
    refine ⟨cf, fi, kf, f, cell, hi, (u_facts hfc hkC (u_lays (hW.g #[]) hin hk) hi).1, q1, (by rw [q3]; exact fun h => nomatch h), ?_⟩
    rw [hsl, q4 k hk]
    simp [vp_V, hv]
  · obtain ⟨hlt, r, h1, -, h3⟩ := hW.2.2.2.1 a _ hK
    have hr : r = (C, T, N) := Option.some.inj (h1.symm.trans hc)
    subst hr
    obtain ⟨cf, k9, i, f, cell, g1, g2, g3, g4, g5, -⟩ := h3 k v hk hv
    exact ⟨cf, i, k9, f, cell, g1, g2, by rw [hR.2.2.1 a hlt]; exact g3, g4, g5⟩
/-- its class -/
theorem z_rc {G : zG} {h : zH} {n : Nat} {H : Heap} {s : State} (hR : z_R G h n H) (hW : z_Wd G s) {a ci : Nat} {fs : List Value} {r : vw_C} (hc : zCL[ci]? = some r) (ha : h a = some (.inr (ci, fs))) :
    ∃ cell : Cell, H[a]? = some cell ∧ cell.vm.isStatics = false ∧ s.vm.findClass r.1 = some cell.cls := by
  rcases hR.2.2.2.1 a _ ha with hat | hK
  · obtain ⟨r', h1, cell, q1, q2, q3, -⟩ := hat
    exact ⟨cell, q1, by rw [q3]; rfl, by rw [q2]; exact (hW.1.1 ci r hc).2.1⟩
  · obtain ⟨hlt, r', h1, ⟨cell, h2, h3, h4, -⟩, -⟩ := hW.2.2.2.1 a _ hK
    have hr : r' = r := Option.some.inj (h1.symm.trans hc)
    subst hr
    exact ⟨cell, by rw [hR.2.2.1 a hlt]; exact h2, h3, h4⟩
theorem z_tyk {G : zG} {kk : Nat} {ty : FieldType} (ht : zTy[kk]? = some ty) : (zTys G)[kk]? = some (G.2.1 kk, ty) := by
  match kk, ht with
  | 0, ht => cases ht; rfl
  | 1, ht => cases ht; rfl
  | 2, ht => cases ht; rfl
  | 3, ht => cases ht; rfl
  | 4, ht => cases ht; rfl
  | 5, ht => cases ht; rfl
  | k + 6, ht => simp [zTy] at ht
/-- what a known array gives -/
theorem z_ra {G : zG} {h : zH} {n : Nat} {H : Heap} {s : State} (hR : z_R G h n H) (hW : z_Wd G s) {a kk N : Nat} {x : zAr} {ty : FieldType} (ht : zTy[kk]? = some ty) (ha : h a = some (.inl (G.2.1 kk, N, x))) :
    ∃ cell : Cell, H[a]? = some cell ∧ s.isArrayOf cell ty ∧ cell.vm ≠ .unknown ∧ N ≤ cell.slots.size ∧ cell.slots.size.toInt32 = Int32.ofNat N ∧ ∀ j : Nat, j < N → cell.slots[j]? = some (z_el x j) := by
  have hA := (hW.1.2 kk _ (z_tyk (G := G) ht)).1
  rcases hR.2.2.2.1 a _ ha with hat | hK
  · have h1 : H[a]? = some (vp_cell (G.2.1 kk) (N, x)) := hat
    rw [z_cell] at h1
    exact ⟨_, h1, hA N _, (fun q => nomatch q), by rw [arrV_size]; exact Nat.le_refl _, by rw [arrV_size], fun j hj => arrV_read _ _ hj⟩
  · obtain ⟨hlt, k2, ty2, g1, g2, cell, g3, g4, g5, g6, g7, g8, -⟩ := hW.2.2.2.1 a _ hK
    have hA2 := (hW.1.2 k2 _ (z_tyk (G := G) g1)).1
    have e9 : ty2 = ty := by
      obtain ⟨-, q1, q2, q3, q4⟩ := hA 0 (fun _ => .null)
      obtain ⟨-, p1, p2, p3, p4⟩ := hA2 0 (fun _ => .null)
      have e8 : G.2.1 kk = G.2.1 k2 := g2
      have e7 : s.vm.classes[G.2.1 kk]? = some q1 := q2
      have e6 : s.vm.classes[G.2.1 k2]? = some p1 := p2
      rw [e8] at e7
      have e5 : q1 = p1 := Option.some.inj (e7.symm.trans e6)
      subst e5
      rw [q4] at p4
      cases p4
      rfl
    subst e9
    exact ⟨cell, by rw [hR.2.2.1 a hlt]; exact g3, g4, g5, g6, g7, g8⟩
/-- a cell of the law's own: just as it is listed -/
theorem z_rs {G : zG} {h : zH} {n : Nat} {H : Heap} {s : State} (hR : z_R G h n H) (hW : z_Wd G s) {a : Nat} {e : va_E} (hn : z_n0 G ≤ a) (ha : h a = some e) : va_at G.1 zCL (a, e) H := by
  rcases hR.2.2.2.1 a _ ha with hat | hK
  · exact hat
  · exact absurd (hW.2.2.2.1 a _ hK).1 (Nat.not_lt.mpr hn)
theorem z_mo9 {G : zG} {H : Heap} {a : Nat} {x : ClassId × vp_A} {cell : Cell} (he : va_at G.1 zCL (a, .inl x) H) (hc : H[a]? = some cell) : cell.monitor = {} := by
  have h1 : H[a]? = some (vp_cell x.1 x.2) := he
  rw [h1] at hc
  cases hc
  rcases x with ⟨cA, N, f | f | f | f | f⟩ <;> rfl
theorem z_R.put {G : zG} {h : zH} {n : Nat} {H H1 : Heap} (hR : z_R G h n H) {a : Nat} {e : va_E} (hn : z_n0 G ≤ a) (hs : H1.size = H.size) (hq : ∀ q, q ≠ a → H1[q]? = H[q]?) (he : va_at G.1 zCL (a, e) H1) (hm : (∃ x, e = .inl x) ∨ ∀ cell, H1[a]? = some cell → cell.monitor = {} := by exact Or.inl ⟨_, rfl⟩) : z_R G (z_up h a e) n H1 := by
  refine ⟨hs.trans hR.1, hR.2.1, fun q hq0 => (hq q (by omega)).trans (hR.2.2.1 q hq0), fun q e0 h0 => ?_, fun q cell hq0 hc => (Nat.decEq q a).byCases (fun hqa => hm.elim (fun ⟨x, hx⟩ => z_mo9 (hx ▸ he) (hqa ▸ hc)) (fun hm => hm cell (hqa ▸ hc))) (fun hqa => hR.2.2.2.2 q cell hq0 ((hq q hqa).symm.trans hc))⟩
  by_cases hqa : q = a
  · subst hqa
    rw [z_up_s] at h0
    cases h0
    exact Or.inl he
  · rw [z_up_n hqa] at h0
    rcases hR.2.2.2.1 q e0 h0 with g | g
    · exact Or.inl (g.kept (hq q hqa))
    · exact Or.inr g
theorem z_R.push {G : zG} {h : zH} {n : Nat} {H H1 : Heap} (hR : z_R G h n H) {e : va_E} (hs : H1.size = n + 1) (hq : ∀ q, q < n → H1[q]? = H[q]?) (he : va_at G.1 zCL (n, e) H1) (hm : (∃ x, e = .inl x) ∨ ∀ cell, H1[n]? = some cell → cell.monitor = {} := by exact Or.inl ⟨_, rfl⟩) : z_R G (z_up h n e) (n + 1) H1 := by
  refine ⟨hs, Nat.le_succ_of_le hR.2.1, fun q hq0 => (hq q (Nat.lt_of_lt_of_le hq0 hR.2.1)).trans (hR.2.2.1 q hq0), fun q e0 h0 => ?_, fun q cell hq0 hc => (Nat.decEq q n).byCases (fun hqa => hm.elim (fun ⟨x, hx⟩ => z_mo9 (hx ▸ he) (hqa ▸ hc)) (fun hm => hm cell (hqa ▸ hc))) (fun hqa => hR.2.2.2.2 q cell hq0 ((hq q (by have := (Array.getElem?_eq_some_iff.mp hc).1; omega)).symm.trans hc))⟩
  by_cases hqa : q = n
  · subst hqa
    rw [z_up_s] at h0
    cases h0
    exact Or.inl he
  · rw [z_up_n hqa] at h0
    rcases hR.2.2.2.1 q e0 h0 with g | g
    · exact Or.inl (g.kept (hq q (by have := g.lt; rw [hR.1] at this; exact this)))
    · exact Or.inr g
/-- more is known than is listed -/
theorem z_R.less {G : zG} {h h' : zH} {n : Nat} {H : Heap} (hR : z_R G h n H) (hh : ∀ a e, h' a = some e → h a = some e) : z_R G h' n H := ⟨hR.1, hR.2.1, hR.2.2.1, fun a e h0 => hR.2.2.2.1 a e (hh a e h0), hR.2.2.2.2⟩
/-- the pool's entry idx of the class own names this field -/
def z_fl (own : String) (idx : Nat) (q : String × String × String × Bool) : Prop := ∃ ref : String, (ref = q.1 ∨ Cond.sameField ref q.1 q.2.1 q.2.2.1 ∈ lw_all) ∧ (Cond.fieldLink own idx ref q.2.1 q.2.2.1 ∈ lw_all ∨ ∃ host : String, Cond.fieldLinkNest own idx ref q.2.1 q.2.2.1 host ∈ lw_tbl)
theorem z_in {n N : Nat} {i : Int32} (hi : i = nI n) (hn : n < N) (hN : N < 2 ^ 31) {S : Nat} (hS : N ≤ S) : ¬ (i < 0 ∨ S ≤ i.toNatClampNeg) := by
  rintro (q | q)
  · exact nI_pos (by omega) (hi ▸ q)
  · rw [hi, nI_clamp (by omega)] at q
    omega
section ZR
variable {M : zM} {G : zG} {h : zH} {n b f pc : Nat} {lv : List (Nat × Value)} {rest : List Value} {cc : ByteArray} {own : String}
theorem z_get {C : String} {T : u_T} {N ci k a idx : Nat} {fs : List Value} {v : Value} (hb : zm_c M = cc) (ho : zm_o M = own) (hc : zCL[ci]? = some (C, T, N)) (hin : ∀ w ∈ u_ws C T N, w ∈ lw_all) (hl : z_fl own idx (T k)) (d : decode cc pc = .ok (.getfield idx, 3)) (ha : h a = some (.inr (ci, fs))) (hk : k < N) (hv : fs[k]? = some v)
    (kk : z_V M h n b f (pc + 3) lv (v :: rest)) : z_V M h n b f pc lv (.ref a :: rest) := by
  intro p e s m args below meth c A H locs ls k9 j hR hsz hlo hlv hk9 hj
  have hW := A.2.2.2.2.1
  have hown : s.vm.findClass own = some m.cls := by rw [← ho]; exact A.2.2.2.1
  obtain ⟨cf, i, kf, f9, cell, g1, g2, g3, g4, g5⟩ := z_rd hR hW hc hin ha hk hv
  obtain ⟨ref, hsame, hlk⟩ := hl
  have hi : s.fieldFound? ref (T k).2.1 (T k).2.2.1 = some (cf, kf, i, f9) := by
    rcases hsame with q | q
    · rw [q]; exact g1
    · exact u_same (hW.g args _ q) _ g1
  have kk' := kk p e s m args below meth c A H locs ls k9 j hR hsz hlo hlv hk9 hj
  rcases hlk with q | ⟨host, q⟩
  · exact W.getf A.1 (A.2.1.trans hb) hown (hW.g args _ q) hi g2 g3 g4 g5 rfl rfl d kk'
  · exact va_Wgetf A.1 (A.2.1.trans hb) hown (hW.w q rfl rfl args) hi g2 g3 g4 g5 rfl rfl d kk'
theorem z_put {C : String} {T : u_T} {N ci k a idx : Nat} {fs : List Value} {v : Value} {ty : FieldType} {ty0 : Nat → FieldType} (hb : zm_c M = cc) (ho : zm_o M = own) (hc : zCL[ci]? = some (C, T, N)) (hin : ∀ w ∈ u_ws C T N, w ∈ lw_all) (hty : ∀ k, k < N → parseFieldDescriptor (T k).2.2.1 = some (ty0 k)) (hnm : ∀ a, a < N → ∀ b, b < N → a ≠ b → (T a).2.1 ≠ (T b).2.1) (hl : z_fl own idx (T k)) (d : decode cc pc = .ok (.putfield idx, 3)) (ha : h a = some (.inr (ci, fs))) (h0 : z_n0 (zm_G M) ≤ a) (hk : k < N) (hfin : (T k).2.2.2 = false ∨ (zm_m M = "<init>" ∧ (T k).1 = own)) (hd : ty0 k = ty) (hn : narrow ty v = v) (hfit : fits ty v = true) (hkl : k < fs.length)
    (kk : z_V M (z_up h a (.inr (ci, fs.set k v))) n b f (pc + 3) lv rest) : z_V M h n b f pc lv (v :: .ref a :: rest) := by
  intro p e s m args below meth c A H locs ls k9 j hR hsz hlo hlv hk9 hj
  have hW := A.2.2.2.2.1
  have hown : s.vm.findClass own = some m.cls := by rw [← ho]; exact A.2.2.2.1
  have hts := hW.g args
  have hap := va_apart (own := own) hts hin ty0 hty hnm hW.1 hc
  obtain ⟨r, h1, cell, q1, q2, q3, q4⟩ := z_rs hR hW h0 ha
  have hr : r = (C, T, N) := Option.some.inj (h1.symm.trans hc)
  subst hr
  obtain ⟨hS, hfc, kC, hkC, hkind⟩ := hW.1.1 ci _ hc
  obtain ⟨cf, kf, fi, f9, g1, hsl⟩ := hS k hk
  have hst := (u_facts hfc hkC (u_lays hts hin hk) g1).1
  have hd' : parseFieldDescriptor (T k).2.2.1 = some ty := by rw [← hd]; exact hty k hk
  have hlay := hts _ (hin _ (u_in_lay hk))
  unfold u_lay at hlay
  have hfit9 : narrow f9.type v = v ∧ s.fitsSlot cell.cls cell.vm f9.slot v = true := by
    rw [q2, q3]
    exact u_fits hfc hkC hkind (u_lays hts hin hk) g1 hd' hn hfit
  have hfin9 : hasFlag f9.accessFlags Acc.final = false ∨ (m.cls = cf ∧ meth.name = "<init>") := by
    by_cases hf : (T k).2.2.2 = true
    · rcases hfin with hf' | ⟨hm, hdecl⟩
      · rw [hf] at hf'; cases hf'
      · rw [if_pos hf] at hlay
        obtain ⟨_, _, c', _, _, _, -, -, hf', -, -, -, hown2, -⟩ := Cond.laysFinal_spec hlay
        have e1 : c' = cf := by have := g1.symm.trans hf'; simp at this; exact this.1.symm
        rw [hdecl] at hown2
        exact Or.inr ⟨by rw [← e1]; exact Option.some.inj (hown.symm.trans hown2), A.2.2.2.2.2.2.2.1.trans hm⟩
    · rw [if_neg hf] at hlay
      exact Or.inl (u_store hfc hkC hkind hlay g1 hd' hn hfit).1
  obtain ⟨ref, hsame, hlk⟩ := hl
  have hi : s.fieldFound? ref (T k).2.1 (T k).2.2.1 = some (cf, kf, fi, f9) := by
    rcases hsame with q | q
    · rw [q]; exact g1
    · exact u_same (hts _ q) _ g1
  have hal : a < H.size := (Array.getElem?_eq_some_iff.mp q1).1
  have hslt : f9.slot < cell.slots.size := by rw [hsl]; exact k2_hasslot (q4 k hk)
  have hknown : cell.vm ≠ .unknown := by rw [q3]; exact fun h => by cases h
  have hR' : z_R (zm_G M) (z_up h a (.inr (ci, fs.set k v))) n (H.setIfInBounds a (cell.setSlot f9.slot v)) := by
    refine hR.put h0 (by simp) (fun q hq => by simp [Array.getElem?_setIfInBounds, Ne.symm hq]) ?_ (Or.inr fun c9 h9 => by
      have h8 : (H.setIfInBounds a (cell.setSlot f9.slot v))[a]? = some (cell.setSlot f9.slot v) := by simp [Array.getElem?_setIfInBounds, hal]
      cases h8.symm.trans h9
      exact hR.2.2.2.2 a cell h0 q1)
    refine ⟨_, hc, t_OB.to (V := updV (vp_V fs) k v) ⟨cell.setSlot f9.slot v, by simp [Array.getElem?_setIfInBounds, hal], q2, q3, ?_⟩ (fun j _ => vp_updV_set hkl v j)⟩
    rw [hsl]
    exact t_set q4 hap hk v
  have kk' := kk p e s m args below meth c A (H.setIfInBounds a (cell.setSlot f9.slot v)) (locs ++ [⟨a, f9.slot⟩]) ls k9 j hR' hsz (fun q hq => by
    rcases List.mem_append.mp hq with g | g
    · exact hlo q g
    · rw [List.mem_singleton] at g; rw [g]; exact h0) hlv hk9 hj
  rcases hlk with q | ⟨host, q⟩
  · exact W.putf A.1 (A.2.1.trans hb) hown (hts _ q) hi hst hfin9 q1 hknown hslt hfit9.1 hfit9.2 rfl rfl d kk'
  · exact va_Wputf A.1 (A.2.1.trans hb) hown (hW.w q rfl rfl args) hi hst hfin9 q1 hknown hslt hfit9.1 hfit9.2 rfl rfl d kk'
theorem z_new {C : String} {T : u_T} {N ci idx N0 b' f' : Nat} {fs : List Value} {ty0 : Nat → FieldType} (hb : zm_c M = cc) (ho : zm_o M = own) (hc : zCL[ci]? = some (C, T, N)) (hin : ∀ w ∈ u_ws C T N, w ∈ lw_all) (hty : ∀ k, k < N → parseFieldDescriptor (T k).2.2.1 = some (ty0 k)) (w1 : Cond.classLink own idx C ∈ lw_all) (w2 : Cond.instantiable C N0 ∈ lw_all) (w3 : Cond.initialized C ∈ lw_all) (d : decode cc pc = .ok (.new idx, 3)) (hfs : ∀ j, j < N → defaultValue (ty0 j) = vp_V fs j) (hbb : b' + 1 ≤ b) (hff : f' + N0 ≤ f)
    (kk : z_V M (z_up h n (.inr (ci, fs))) (n + 1) b' f' (pc + 3) lv (.ref n :: rest)) : z_V M h n b f pc lv rest := by
  intro p e s m args below meth c A H locs ls k9 j hR hsz hlo hlv hk9 hj
  have hW := A.2.2.2.2.1
  have hown : s.vm.findClass own = some m.cls := by rw [← ho]; exact A.2.2.2.1
  have hts := hW.g args
  have hKn := hW.1.1 ci _ hc
  refine W.newcK A.1 (A.2.1.trans hb) hown (hts _ w1) (hts _ w2) (hts _ w3) rfl d (by omega) (by omega) hKn.2.1 hR.1 fun H1 kC hkC e1 z1 o1 => ?_
  have hR' : z_R (zm_G M) (z_up h n (.inr (ci, fs))) (n + 1) H1 := hR.push z1 (fun q hq => o1 q hq) ⟨_, hc, (u_born ty0 hts hin hKn hkC e1 hty).to hfs⟩ (Or.inr fun c9 h9 => by cases e1.symm.trans h9; rfl)
  exact kk p e s m args below meth c A H1 locs ls (k9 + 1) (j + N0) hR' (by omega) hlo hlv (by omega) (by omega)
end ZR
