/-! STRING CONSTANTS over the tables: literal k lies at G.adr 5000 k, its bytes at G.adr 5001 k; the static array GREAT of the model at G.adr 5002 0. -/
/-! java/lang/String -/
def RJ3 : String := "java/lang/String"
abbrev cJ3_length : ByteArray := prog_17_method_54_code
def yJ3_length : MethodName := ⟨RJ3, "length", "()I"⟩
theorem dJ3_length_0 : decode cJ3_length 0 = .ok (.aload_n 0, 1) := sorry
theorem dJ3_length_1 : decode cJ3_length 1 = .ok (.getfield 9, 3) := sorry
theorem dJ3_length_4 : decode cJ3_length 4 = .ok (.arraylength, 1) := sorry
theorem dJ3_length_5 : decode cJ3_length 5 = .ok (.aload_n 0, 1) := sorry
theorem dJ3_length_6 : decode cJ3_length 6 = .ok (.invokevirtual 335, 3) := sorry
theorem dJ3_length_9 : decode cJ3_length 9 = .ok (.ishr, 1) := sorry
theorem dJ3_length_10 : decode cJ3_length 10 = .ok (.ireturn, 1) := sorry
abbrev cJ3_coder : ByteArray := prog_17_method_152_code
def yJ3_coder : MethodName := ⟨RJ3, "coder", "()B"⟩
theorem dJ3_coder_0 : decode cJ3_coder 0 = .ok (.getstatic 38, 3) := sorry
theorem dJ3_coder_3 : decode cJ3_coder 3 = .ok (.ifCond .eq 10, 3) := sorry
theorem dJ3_coder_6 : decode cJ3_coder 6 = .ok (.aload_n 0, 1) := sorry
theorem dJ3_coder_7 : decode cJ3_coder 7 = .ok (.getfield 15, 3) := sorry
theorem dJ3_coder_10 : decode cJ3_coder 10 = .ok (.goto 4, 3) := sorry
theorem dJ3_coder_13 : decode cJ3_coder 13 = .ok (.iconst 1, 1) := sorry
theorem dJ3_coder_14 : decode cJ3_coder 14 = .ok (.ireturn, 1) := sorry
abbrev cJ3_charAt : ByteArray := prog_17_method_56_code
def yJ3_charAt : MethodName := ⟨RJ3, "charAt", "(I)C"⟩
theorem dJ3_charAt_0 : decode cJ3_charAt 0 = .ok (.aload_n 0, 1) := sorry
theorem dJ3_charAt_1 : decode cJ3_charAt 1 = .ok (.invokevirtual 492, 3) := sorry
theorem dJ3_charAt_4 : decode cJ3_charAt 4 = .ok (.ifCond .eq 12, 3) := sorry
theorem dJ3_charAt_7 : decode cJ3_charAt 7 = .ok (.aload_n 0, 1) := sorry
theorem dJ3_charAt_8 : decode cJ3_charAt 8 = .ok (.getfield 9, 3) := sorry
theorem dJ3_charAt_11 : decode cJ3_charAt 11 = .ok (.iload_n 1, 1) := sorry
theorem dJ3_charAt_12 : decode cJ3_charAt 12 = .ok (.invokestatic 495, 3) := sorry
theorem dJ3_charAt_15 : decode cJ3_charAt 15 = .ok (.ireturn, 1) := sorry
theorem dJ3_charAt_16 : decode cJ3_charAt 16 = .ok (.aload_n 0, 1) := sorry
theorem dJ3_charAt_17 : decode cJ3_charAt 17 = .ok (.getfield 9, 3) := sorry
theorem dJ3_charAt_20 : decode cJ3_charAt 20 = .ok (.iload_n 1, 1) := sorry
theorem dJ3_charAt_21 : decode cJ3_charAt 21 = .ok (.invokestatic 498, 3) := sorry
theorem dJ3_charAt_24 : decode cJ3_charAt 24 = .ok (.ireturn, 1) := sorry
abbrev cJ3_isLatin1 : ByteArray := prog_17_method_154_code
def yJ3_isLatin1 : MethodName := ⟨RJ3, "isLatin1", "()Z"⟩
theorem dJ3_isLatin1_0 : decode cJ3_isLatin1 0 = .ok (.getstatic 38, 3) := sorry
theorem dJ3_isLatin1_3 : decode cJ3_isLatin1 3 = .ok (.ifCond .eq 14, 3) := sorry
theorem dJ3_isLatin1_6 : decode cJ3_isLatin1 6 = .ok (.aload_n 0, 1) := sorry
theorem dJ3_isLatin1_7 : decode cJ3_isLatin1 7 = .ok (.getfield 15, 3) := sorry
theorem dJ3_isLatin1_10 : decode cJ3_isLatin1 10 = .ok (.ifCond .ne 7, 3) := sorry
theorem dJ3_isLatin1_13 : decode cJ3_isLatin1 13 = .ok (.iconst 1, 1) := sorry
theorem dJ3_isLatin1_14 : decode cJ3_isLatin1 14 = .ok (.goto 4, 3) := sorry
theorem dJ3_isLatin1_17 : decode cJ3_isLatin1 17 = .ok (.iconst 0, 1) := sorry
theorem dJ3_isLatin1_18 : decode cJ3_isLatin1 18 = .ok (.ireturn, 1) := sorry
abbrev cJ3_checkIndex : ByteArray := prog_17_method_155_code
def yJ3_checkIndex : MethodName := ⟨RJ3, "checkIndex", "(II)V"⟩
theorem dJ3_checkIndex_0 : decode cJ3_checkIndex 0 = .ok (.iload_n 0, 1) := sorry
theorem dJ3_checkIndex_1 : decode cJ3_checkIndex 1 = .ok (.iload_n 1, 1) := sorry
theorem dJ3_checkIndex_2 : decode cJ3_checkIndex 2 = .ok (.getstatic 1053, 3) := sorry
theorem dJ3_checkIndex_5 : decode cJ3_checkIndex 5 = .ok (.invokestatic 1059, 3) := sorry
theorem dJ3_checkIndex_8 : decode cJ3_checkIndex 8 = .ok (.pop, 1) := sorry
theorem dJ3_checkIndex_9 : decode cJ3_checkIndex 9 = .ok (.return_, 1) := sorry
theorem q402 : (Jvm.Cond.initialized "java/lang/String") ∈ lw_all := sorry
theorem q918 : (Jvm.Cond.instanceMethod ({ cls := "java/lang/String", name := "length", desc := "()I" } : Jvm.MethodName)) ∈ lw_all := sorry
theorem q919 : (Jvm.Cond.selects "java/lang/String" ({ cls := "java/lang/String", name := "length", desc := "()I" } : Jvm.MethodName) ({ cls := "java/lang/String", name := "length", desc := "()I" } : Jvm.MethodName)) ∈ lw_all := sorry
theorem q920 : (Jvm.Cond.code ({ cls := "java/lang/String", name := "length", desc := "()I" } : Jvm.MethodName) prog_17_method_54_code (1 : Nat) (Option.some Jvm.ClassFile.FieldType.int)) ∈ lw_all := sorry
theorem q921 : (Jvm.Cond.methodLink "java/lang/String" (335 : Nat) ({ cls := "java/lang/String", name := "coder", desc := "()B" } : Jvm.MethodName)) ∈ lw_all := sorry
theorem q922 : (Jvm.Cond.instanceMethod ({ cls := "java/lang/String", name := "coder", desc := "()B" } : Jvm.MethodName)) ∈ lw_all := sorry
theorem q923 : (Jvm.Cond.selects "java/lang/String" ({ cls := "java/lang/String", name := "coder", desc := "()B" } : Jvm.MethodName) ({ cls := "java/lang/String", name := "coder", desc := "()B" } : Jvm.MethodName)) ∈ lw_all := sorry
theorem q924 : (Jvm.Cond.code ({ cls := "java/lang/String", name := "coder", desc := "()B" } : Jvm.MethodName) prog_17_method_152_code (1 : Nat) (Option.some Jvm.ClassFile.FieldType.byte)) ∈ lw_all := sorry
theorem q925 : (Jvm.Cond.fieldLink "java/lang/String" (38 : Nat) "java/lang/String" "COMPACT_STRINGS" "Z") ∈ lw_all := sorry
theorem q926 : (Jvm.Cond.laysStatic "java/lang/String" "COMPACT_STRINGS" "Z") ∈ lw_tbl := sorry
theorem q928 : (Jvm.Cond.instanceMethod ({ cls := "java/lang/String", name := "charAt", desc := "(I)C" } : Jvm.MethodName)) ∈ lw_all := sorry
theorem q929 : (Jvm.Cond.selects "java/lang/String" ({ cls := "java/lang/String", name := "charAt", desc := "(I)C" } : Jvm.MethodName) ({ cls := "java/lang/String", name := "charAt", desc := "(I)C" } : Jvm.MethodName)) ∈ lw_all := sorry
theorem q930 : (Jvm.Cond.code ({ cls := "java/lang/String", name := "charAt", desc := "(I)C" } : Jvm.MethodName) prog_17_method_56_code (2 : Nat) (Option.some Jvm.ClassFile.FieldType.char)) ∈ lw_all := sorry
theorem q931 : (Jvm.Cond.methodLink "java/lang/String" (492 : Nat) ({ cls := "java/lang/String", name := "isLatin1", desc := "()Z" } : Jvm.MethodName)) ∈ lw_all := sorry
theorem q932 : (Jvm.Cond.instanceMethod ({ cls := "java/lang/String", name := "isLatin1", desc := "()Z" } : Jvm.MethodName)) ∈ lw_all := sorry
theorem q933 : (Jvm.Cond.selects "java/lang/String" ({ cls := "java/lang/String", name := "isLatin1", desc := "()Z" } : Jvm.MethodName) ({ cls := "java/lang/String", name := "isLatin1", desc := "()Z" } : Jvm.MethodName)) ∈ lw_all := sorry
theorem q934 : (Jvm.Cond.code ({ cls := "java/lang/String", name := "isLatin1", desc := "()Z" } : Jvm.MethodName) prog_17_method_154_code (1 : Nat) (Option.some Jvm.ClassFile.FieldType.boolean)) ∈ lw_all := sorry
theorem q935 : (Jvm.Cond.methodLink "java/lang/String" (495 : Nat) ({ cls := "java/lang/StringLatin1", name := "charAt", desc := "([BI)C" } : Jvm.MethodName)) ∈ lw_all := sorry
theorem q939 : (Jvm.Cond.static ({ cls := "java/lang/String", name := "checkIndex", desc := "(II)V" } : Jvm.MethodName)) ∈ lw_all := sorry
theorem q940 : (Jvm.Cond.code ({ cls := "java/lang/String", name := "checkIndex", desc := "(II)V" } : Jvm.MethodName) prog_17_method_155_code (2 : Nat) (Option.none : Option Jvm.ClassFile.FieldType)) ∈ lw_all := sorry
theorem q941 : (Jvm.Cond.fieldLink "java/lang/String" (1053 : Nat) "jdk/internal/util/Preconditions" "SIOOBE_FORMATTER" "Ljava/util/function/BiFunction;") ∈ lw_all := sorry
theorem q943 : (Jvm.Cond.methodLink "java/lang/String" (1059 : Nat) ({ cls := "jdk/internal/util/Preconditions", name := "checkIndex", desc := "(IILjava/util/function/BiFunction;)I" } : Jvm.MethodName)) ∈ lw_all := sorry
theorem q946 : (Jvm.Cond.methodLink "java/lang/String" (498 : Nat) ({ cls := "java/lang/StringUTF16", name := "charAt", desc := "([BI)C" } : Jvm.MethodName)) ∈ lw_all := sorry
theorem q4406 : (Jvm.Cond.fieldLink "java/lang/String" (9 : Nat) "java/lang/String" "value" "[B") ∈ lw_all := sorry
theorem q4407 : (Jvm.Cond.fieldLink "java/lang/String" (15 : Nat) "java/lang/String" "coder" "B") ∈ lw_all := sorry
/-! java/lang/StringLatin1 -/
def RJ4 : String := "java/lang/StringLatin1"
abbrev cJ4_charAt : ByteArray := prog_18_method_2_code
def yJ4_charAt : MethodName := ⟨RJ4, "charAt", "([BI)C"⟩
theorem dJ4_charAt_0 : decode cJ4_charAt 0 = .ok (.iload_n 1, 1) := sorry
theorem dJ4_charAt_1 : decode cJ4_charAt 1 = .ok (.aload_n 0, 1) := sorry
theorem dJ4_charAt_2 : decode cJ4_charAt 2 = .ok (.arraylength, 1) := sorry
theorem dJ4_charAt_3 : decode cJ4_charAt 3 = .ok (.invokestatic 9, 3) := sorry
theorem dJ4_charAt_6 : decode cJ4_charAt 6 = .ok (.aload_n 0, 1) := sorry
theorem dJ4_charAt_7 : decode cJ4_charAt 7 = .ok (.iload_n 1, 1) := sorry
theorem dJ4_charAt_8 : decode cJ4_charAt 8 = .ok (.baload, 1) := sorry
theorem dJ4_charAt_9 : decode cJ4_charAt 9 = .ok (.sipush 255, 3) := sorry
theorem dJ4_charAt_12 : decode cJ4_charAt 12 = .ok (.iand, 1) := sorry
theorem dJ4_charAt_13 : decode cJ4_charAt 13 = .ok (.i2c, 1) := sorry
theorem dJ4_charAt_14 : decode cJ4_charAt 14 = .ok (.ireturn, 1) := sorry
theorem q403 : (Jvm.Cond.initialized "java/lang/StringLatin1") ∈ lw_all := sorry
theorem q936 : (Jvm.Cond.static ({ cls := "java/lang/StringLatin1", name := "charAt", desc := "([BI)C" } : Jvm.MethodName)) ∈ lw_all := sorry
theorem q937 : (Jvm.Cond.code ({ cls := "java/lang/StringLatin1", name := "charAt", desc := "([BI)C" } : Jvm.MethodName) prog_18_method_2_code (2 : Nat) (Option.some Jvm.ClassFile.FieldType.char)) ∈ lw_all := sorry
theorem q938 : (Jvm.Cond.methodLink "java/lang/StringLatin1" (9 : Nat) ({ cls := "java/lang/String", name := "checkIndex", desc := "(II)V" } : Jvm.MethodName)) ∈ lw_all := sorry
/-! jdk/internal/util/Preconditions -/
def RJ5 : String := "jdk/internal/util/Preconditions"
abbrev cJ5_checkIndex : ByteArray := prog_22_method_11_code
def yJ5_checkIndex : MethodName := ⟨RJ5, "checkIndex", "(IILjava/util/function/BiFunction;)I"⟩
theorem dJ5_checkIndex_0 : decode cJ5_checkIndex 0 = .ok (.iload_n 0, 1) := sorry
theorem dJ5_checkIndex_1 : decode cJ5_checkIndex 1 = .ok (.ifCond .lt 8, 3) := sorry
theorem dJ5_checkIndex_4 : decode cJ5_checkIndex 4 = .ok (.iload_n 0, 1) := sorry
theorem dJ5_checkIndex_5 : decode cJ5_checkIndex 5 = .ok (.iload_n 1, 1) := sorry
theorem dJ5_checkIndex_6 : decode cJ5_checkIndex 6 = .ok (.if_icmp .lt 10, 3) := sorry
theorem dJ5_checkIndex_9 : decode cJ5_checkIndex 9 = .ok (.aload_n 2, 1) := sorry
theorem dJ5_checkIndex_10 : decode cJ5_checkIndex 10 = .ok (.iload_n 0, 1) := sorry
theorem dJ5_checkIndex_11 : decode cJ5_checkIndex 11 = .ok (.iload_n 1, 1) := sorry
theorem dJ5_checkIndex_12 : decode cJ5_checkIndex 12 = .ok (.invokestatic 95, 3) := sorry
theorem dJ5_checkIndex_15 : decode cJ5_checkIndex 15 = .ok (.athrow, 1) := sorry
theorem dJ5_checkIndex_16 : decode cJ5_checkIndex 16 = .ok (.iload_n 0, 1) := sorry
theorem dJ5_checkIndex_17 : decode cJ5_checkIndex 17 = .ok (.ireturn, 1) := sorry
theorem q404 : (Jvm.Cond.initialized "jdk/internal/util/Preconditions") ∈ lw_all := sorry
theorem q942 : (Jvm.Cond.laysStatic "jdk/internal/util/Preconditions" "SIOOBE_FORMATTER" "Ljava/util/function/BiFunction;") ∈ lw_tbl := sorry
theorem q944 : (Jvm.Cond.static ({ cls := "jdk/internal/util/Preconditions", name := "checkIndex", desc := "(IILjava/util/function/BiFunction;)I" } : Jvm.MethodName)) ∈ lw_all := sorry
theorem q945 : (Jvm.Cond.code ({ cls := "jdk/internal/util/Preconditions", name := "checkIndex", desc := "(IILjava/util/function/BiFunction;)I" } : Jvm.MethodName) prog_22_method_11_code (3 : Nat) (Option.some Jvm.ClassFile.FieldType.int)) ∈ lw_all := sorry
/-! java/lang/Math -/
def RJ7 : String := "java/lang/Math"
abbrev cJ7_max : ByteArray := prog_15_method_65_code
def yJ7_max : MethodName := ⟨RJ7, "max", "(II)I"⟩
theorem dJ7_max_0 : decode cJ7_max 0 = .ok (.iload_n 0, 1) := sorry
theorem dJ7_max_1 : decode cJ7_max 1 = .ok (.iload_n 1, 1) := sorry
theorem dJ7_max_2 : decode cJ7_max 2 = .ok (.if_icmp .lt 7, 3) := sorry
theorem dJ7_max_5 : decode cJ7_max 5 = .ok (.iload_n 0, 1) := sorry
theorem dJ7_max_6 : decode cJ7_max 6 = .ok (.goto 4, 3) := sorry
theorem dJ7_max_9 : decode cJ7_max 9 = .ok (.iload_n 1, 1) := sorry
theorem dJ7_max_10 : decode cJ7_max 10 = .ok (.ireturn, 1) := sorry
theorem q413 : (Jvm.Cond.initialized "java/lang/Math") ∈ lw_all := sorry
theorem q2163 : (Jvm.Cond.static ({ cls := "java/lang/Math", name := "max", desc := "(II)I" } : Jvm.MethodName)) ∈ lw_all := sorry
theorem q2164 : (Jvm.Cond.code ({ cls := "java/lang/Math", name := "max", desc := "(II)I" } : Jvm.MethodName) prog_15_method_65_code (2 : Nat) (Option.some Jvm.ClassFile.FieldType.int)) ∈ lw_all := sorry
def sRef : List (String × Nat × String) := [("LinkHouse", 259, "."), ("LinkHouse", 265, "void"), ("LinkHouse", 267, "int"), ("LinkHouse", 273, "-"), ("LinkHouse", 275, "("), ("LinkHouse", 280, ","), ("LinkHouse", 290, ")"), ("LinkHouse", 349, "open "), ("LinkHouse", 351, ""), ("LinkHouse", 356, "final "), ("LinkHouse", 361, "bare "), ("LinkHouse", 366, "face "), ("LinkHouse", 368, "class "), ("LinkHouse", 370, " is "), ("LinkHouse", 372, " as "), ("LinkHouse", 387, " in "), ("LinkHouse", 389, " with "), ("LinkHouse", 397, " only "), ("LinkHouse", 408, "bridge "), ("LinkHouse", 410, "kin "), ("LinkHouse", 412, "own "), ("LinkHouse", 417, "static "), ("LinkHouse", 421, "new"), ("LinkHouse", 423, " "), ("LinkHouse", 431, "="), ("LinkHouse", 467, ">"), ("LinkHouse", 472, ".new"), ("LinkHouse", 474, ":"), ("LinkHouse$Tree", 51, "class"), ("LinkHouse$Tree", 57, "face"), ("LinkHouse$Tree", 59, "as"), ("LinkHouse$Tree", 61, "is"), ("LinkHouse$Tree", 63, "in"), ("LinkHouse$Tree", 65, "with"), ("LinkHouse$Tree", 67, "only"), ("LinkHouse$Tree", 69, "open"), ("LinkHouse$Tree", 71, "kin"), ("LinkHouse$Tree", 73, "own"), ("LinkHouse$Tree", 75, "final"), ("LinkHouse$Tree", 77, "bare"), ("LinkHouse$Tree", 79, "static"), ("LinkHouse$Tree", 81, "start"), ("LinkHouse$Tree", 83, "void"), ("LinkHouse$Tree", 85, "new"), ("LinkHouse$Tree", 87, "int"), ("LinkHouse$Tree", 89, "let"), ("LinkHouse$Tree", 91, "if"), ("LinkHouse$Tree", 93, "else"), ("LinkHouse$Tree", 95, "while"), ("LinkHouse$Tree", 97, "return"), ("LinkHouse$Tree", 99, "throw"), ("LinkHouse$Tree", 101, "try"), ("LinkHouse$Tree", 103, "catch"), ("LinkHouse$Tree", 105, "out"), ("LinkHouse$Tree", 107, "null"), ("LinkHouse$Tree", 109, "this"), ("LinkHouse$Tree", 111, "super"), ("LinkHouse$Tree", 113, "ask"), ("LinkHouseModel", 45, "int"), ("LinkHouseModel", 51, "void"), ("LinkHouseModel", 69, " class face is as in with only open kin own final bare static start void new int let if else while return throw try catch out null this super ask "), ("LinkHouseModel", 236, "open"), ("LinkHouseModel", 241, "final"), ("LinkHouseModel", 243, "bare"), ("LinkHouseModel", 245, "face"), ("LinkHouseModel", 247, "class"), ("LinkHouseModel", 278, "is"), ("LinkHouseModel", 286, "as"), ("LinkHouseModel", 298, "in"), ("LinkHouseModel", 306, "with"), ("LinkHouseModel", 317, "only"), ("LinkHouseModel", 331, "kin"), ("LinkHouseModel", 333, "own"), ("LinkHouseModel", 335, "static"), ("LinkHouseModel", 337, "new"), ("LinkHouseModel", 339, "start"), ("LinkHouseModel", 451, "null"), ("LinkHouseModel", 453, "this"), ("LinkHouseModel", 455, "super"), ("LinkHouseModel", 460, "let"), ("LinkHouseModel", 462, "if"), ("LinkHouseModel", 464, "while"), ("LinkHouseModel", 466, "return"), ("LinkHouseModel", 468, "throw"), ("LinkHouseModel", 470, "try"), ("LinkHouseModel", 472, "out"), ("LinkHouseModel", 486, "else"), ("LinkHouseModel", 500, "catch"), ("LinkHouseModel", 514, "ask"), ("LinkHouseModel", 526, "code"), ("LinkHouseModel", 1013, ","), ("LinkHouseModel", 1018, "open "), ("LinkHouseModel", 1020, ""), ("LinkHouseModel", 1022, "final class "), ("LinkHouseModel", 1024, "bare class "), ("LinkHouseModel", 1026, "face "), ("LinkHouseModel", 1028, "class "), ("LinkHouseModel", 1030, " is "), ("LinkHouseModel", 1032, " as "), ("LinkHouseModel", 1038, " in "), ("LinkHouseModel", 1040, " with "), ("LinkHouseModel", 1042, " only "), ("LinkHouseModel", 1044, "bridge "), ("LinkHouseModel", 1046, "kin "), ("LinkHouseModel", 1048, "own "), ("LinkHouseModel", 1050, "static "), ("LinkHouseModel", 1052, "final "), ("LinkHouseModel", 1054, "bare ")]
def sLen : List Nat := [1, 4, 3, 1, 1, 1, 1, 5, 0, 6, 5, 5, 6, 4, 4, 4, 6, 6, 7, 4, 4, 7, 3, 1, 1, 1, 4, 1, 5, 4, 2, 2, 2, 4, 4, 4, 3, 3, 5, 4, 6, 5, 4, 3, 3, 3, 2, 4, 5, 6, 5, 3, 5, 3, 4, 4, 5, 3, 3, 4, 146, 4, 5, 4, 4, 5, 2, 2, 2, 4, 4, 3, 3, 6, 3, 5, 4, 4, 5, 3, 2, 5, 6, 5, 3, 3, 4, 5, 3, 4, 1, 5, 0, 12, 11, 5, 6, 4, 4, 4, 6, 6, 7, 4, 4, 7, 6, 5]
def sByt : List (List Int32) := [[46], [118, 111, 105, 100], [105, 110, 116], [45], [40], [44], [41], [111, 112, 101, 110, 32], [], [102, 105, 110, 97, 108, 32], [98, 97, 114, 101, 32], [102, 97, 99, 101, 32], [99, 108, 97, 115, 115, 32], [32, 105, 115, 32], [32, 97, 115, 32], [32, 105, 110, 32], [32, 119, 105, 116, 104, 32], [32, 111, 110, 108, 121, 32], [98, 114, 105, 100, 103, 101, 32], [107, 105, 110, 32], [111, 119, 110, 32], [115, 116, 97, 116, 105, 99, 32], [110, 101, 119], [32], [61], [62], [46, 110, 101, 119], [58], [99, 108, 97, 115, 115], [102, 97, 99, 101], [97, 115], [105, 115], [105, 110], [119, 105, 116, 104], [111, 110, 108, 121], [111, 112, 101, 110], [107, 105, 110], [111, 119, 110], [102, 105, 110, 97, 108], [98, 97, 114, 101], [115, 116, 97, 116, 105, 99], [115, 116, 97, 114, 116], [118, 111, 105, 100], [110, 101, 119], [105, 110, 116], [108, 101, 116], [105, 102], [101, 108, 115, 101], [119, 104, 105, 108, 101], [114, 101, 116, 117, 114, 110], [116, 104, 114, 111, 119], [116, 114, 121], [99, 97, 116, 99, 104], [111, 117, 116], [110, 117, 108, 108], [116, 104, 105, 115], [115, 117, 112, 101, 114], [97, 115, 107], [105, 110, 116], [118, 111, 105, 100], [32, 99, 108, 97, 115, 115, 32, 102, 97, 99, 101, 32, 105, 115, 32, 97, 115, 32, 105, 110, 32, 119, 105, 116, 104, 32, 111, 110, 108, 121, 32, 111, 112, 101, 110, 32, 107, 105, 110, 32, 111, 119, 110, 32, 102, 105, 110, 97, 108, 32, 98, 97, 114, 101, 32, 115, 116, 97, 116, 105, 99, 32, 115, 116, 97, 114, 116, 32, 118, 111, 105, 100, 32, 110, 101, 119, 32, 105, 110, 116, 32, 108, 101, 116, 32, 105, 102, 32, 101, 108, 115, 101, 32, 119, 104, 105, 108, 101, 32, 114, 101, 116, 117, 114, 110, 32, 116, 104, 114, 111, 119, 32, 116, 114, 121, 32, 99, 97, 116, 99, 104, 32, 111, 117, 116, 32, 110, 117, 108, 108, 32, 116, 104, 105, 115, 32, 115, 117, 112, 101, 114, 32, 97, 115, 107, 32], [111, 112, 101, 110], [102, 105, 110, 97, 108], [98, 97, 114, 101], [102, 97, 99, 101], [99, 108, 97, 115, 115], [105, 115], [97, 115], [105, 110], [119, 105, 116, 104], [111, 110, 108, 121], [107, 105, 110], [111, 119, 110], [115, 116, 97, 116, 105, 99], [110, 101, 119], [115, 116, 97, 114, 116], [110, 117, 108, 108], [116, 104, 105, 115], [115, 117, 112, 101, 114], [108, 101, 116], [105, 102], [119, 104, 105, 108, 101], [114, 101, 116, 117, 114, 110], [116, 104, 114, 111, 119], [116, 114, 121], [111, 117, 116], [101, 108, 115, 101], [99, 97, 116, 99, 104], [97, 115, 107], [99, 111, 100, 101], [44], [111, 112, 101, 110, 32], [], [102, 105, 110, 97, 108, 32, 99, 108, 97, 115, 115, 32], [98, 97, 114, 101, 32, 99, 108, 97, 115, 115, 32], [102, 97, 99, 101, 32], [99, 108, 97, 115, 115, 32], [32, 105, 115, 32], [32, 97, 115, 32], [32, 105, 110, 32], [32, 119, 105, 116, 104, 32], [32, 111, 110, 108, 121, 32], [98, 114, 105, 100, 103, 101, 32], [107, 105, 110, 32], [111, 119, 110, 32], [115, 116, 97, 116, 105, 99, 32], [102, 105, 110, 97, 108, 32], [98, 97, 114, 101, 32]]
def sGre : List Int32 := [1, 2, 3, 5, 7, 9, 10, 13, 20, 21, 22, 23, 25, 30, 31, 32, 33, 35, 37, 41, 50, 51]
/-- the literals, the statics of String, the model's GREAT are as the Statement says -/
def SOK (G : Gl) : Prop := (∀ k own idx tx, sRef[k]? = some (own, idx, tx) → vk_R own idx tx (G.adr 5000 k) G.s0) ∧ (∀ k, k < 108 → va_O "java/lang/String" (G.adr 5000 k) (fr G) G.s0 G.s0.heap ∧ va_OF "java/lang/String" "coder" "B" (.int 0) (G.adr 5000 k) (fr G) G.s0 G.s0.heap ∧ va_OF "java/lang/String" "value" "[B" (.ref (G.adr 5001 k)) (G.adr 5000 k) (fr G) G.s0 G.s0.heap ∧ va_T .byte (G.adr 5001 k) (sLen.getD k 0) (fun j => .int ((sByt.getD k []).getD j 0)) (fr G) G.s0 G.s0.heap) ∧ va_Z "java/lang/String" "COMPACT_STRINGS" "Z" (.int 1) (fr G) G.s0 G.s0.heap ∧ va_Zq "jdk/internal/util/Preconditions" "SIOOBE_FORMATTER" "Ljava/util/function/BiFunction;" (fr G) G.s0 G.s0.heap ∧ va_Z "LinkHouseModel" "GREAT" "[I" (.ref (G.adr 5002 0)) (fr G) G.s0 G.s0.heap ∧ va_T .int (G.adr 5002 0) 22 (fun j => .int (sGre.getD j 0)) (fr G) G.s0 G.s0.heap
abbrev cJ_max : ByteArray := cJ7_max
abbrev yJ_max : MethodName := yJ7_max
theorem hw_J_max : yJ_max.cls ≠ "java/lang/invoke/MethodHandle" ∧ yJ_max.cls ≠ "java/lang/invoke/VarHandle" ∧ (parseMethodDescriptor yJ_max.desc).map (fun d => d.parameters.length) = some 2 := sorry
theorem hv_J3_length : yJ3_length.cls = "java/lang/String" ∧ yJ3_length.cls ≠ "java/lang/invoke/MethodHandle" ∧ yJ3_length.cls ≠ "java/lang/invoke/VarHandle" ∧ (parseMethodDescriptor yJ3_length.desc).map (fun d => d.parameters.length) = some 0 := sorry
theorem hv_J3_charAt : yJ3_charAt.cls = "java/lang/String" ∧ yJ3_charAt.cls ≠ "java/lang/invoke/MethodHandle" ∧ yJ3_charAt.cls ≠ "java/lang/invoke/VarHandle" ∧ (parseMethodDescriptor yJ3_charAt.desc).map (fun d => d.parameters.length) = some 1 := sorry
theorem hv_J3_coder : yJ3_coder.cls = "java/lang/String" ∧ yJ3_coder.cls ≠ "java/lang/invoke/MethodHandle" ∧ yJ3_coder.cls ≠ "java/lang/invoke/VarHandle" ∧ (parseMethodDescriptor yJ3_coder.desc).map (fun d => d.parameters.length) = some 0 := sorry
theorem hv_J3_isLatin1 : yJ3_isLatin1.cls = "java/lang/String" ∧ yJ3_isLatin1.cls ≠ "java/lang/invoke/MethodHandle" ∧ yJ3_isLatin1.cls ≠ "java/lang/invoke/VarHandle" ∧ (parseMethodDescriptor yJ3_isLatin1.desc).map (fun d => d.parameters.length) = some 0 := sorry
theorem hw_J3_checkIndex : yJ3_checkIndex.cls ≠ "java/lang/invoke/MethodHandle" ∧ yJ3_checkIndex.cls ≠ "java/lang/invoke/VarHandle" ∧ (parseMethodDescriptor yJ3_checkIndex.desc).map (fun d => d.parameters.length) = some 2 := sorry
theorem hw_J4_charAt : yJ4_charAt.cls ≠ "java/lang/invoke/MethodHandle" ∧ yJ4_charAt.cls ≠ "java/lang/invoke/VarHandle" ∧ (parseMethodDescriptor yJ4_charAt.desc).map (fun d => d.parameters.length) = some 2 := sorry
theorem hw_J5_checkIndex : yJ5_checkIndex.cls ≠ "java/lang/invoke/MethodHandle" ∧ yJ5_checkIndex.cls ≠ "java/lang/invoke/VarHandle" ∧ (parseMethodDescriptor yJ5_checkIndex.desc).map (fun d => d.parameters.length) = some 3 := sorry
section WSS
variable {p : Program} {l : Launch} {e : Env} {R : Room} {s : State} {m : MethodId} {args : Array Value} {below : List Frame} {meth : Method} {c : Code} {G : Gl} {own : String} {cc : ByteArray} {nL d : Nat} {ret : Option FieldType} {Q : Outcome → Sg → Prop} {pc : Nat} {lv : List (Nat × Value)} {st : List Value} {σ : Sg}
/-- ldc of a literal -/
theorem ws_ldcS (C : Cx p l R s m args meth c G own cc nL ret d) {index k : Nat} {tx : String} (hZ : SOK G) (hk : sRef[k]? = some (own, index, tx)) (hd : decode cc pc = .ok (.ldc index, 2)) (kk : WS p l e R s m args below meth c G nL Q (pc + 2) lv (.ref (G.adr 5000 k) :: st) σ) : WS p l e R s m args below meth c G nL Q pc lv st σ := sorry
theorem ws_ldcwS (C : Cx p l R s m args meth c G own cc nL ret d) {index k : Nat} {tx : String} (hZ : SOK G) (hk : sRef[k]? = some (own, index, tx)) (hd : decode cc pc = .ok (.ldc_w index, 3)) (kk : WS p l e R s m args below meth c G nL Q (pc + 3) lv (.ref (G.adr 5000 k) :: st) σ) : WS p l e R s m args below meth c G nL Q pc lv st σ := sorry
/-- getfield of an old object -/
theorem ws_getO (C : Cx p l R s m args meth c G own cc nL ret d) {o n ds ref : String} {index a : Nat} {v : Value} (hO : va_OF o n ds v a (fr G) G.s0 G.s0.heap) (hl : Cond.fieldLink own index ref n ds ∈ lw_all) (hs : o = ref) (hd : decode cc pc = .ok (.getfield index, 3)) (kk : WS p l e R s m args below meth c G nL Q (pc + 3) lv (v :: st) σ) : WS p l e R s m args below meth c G nL Q pc lv (.ref a :: st) σ := sorry
/-- getstatic -/
theorem ws_getsZ (C : Cx p l R s m args meth c G own cc nL ret d) {o n ds ref : String} {index : Nat} {v : Value} (hO : va_Z o n ds v (fr G) G.s0 G.s0.heap) (hl : Cond.fieldLink own index ref n ds ∈ lw_all) (hs : o = ref) (hd : decode cc pc = .ok (.getstatic index, 3)) (kk : WS p l e R s m args below meth c G nL Q (pc + 3) lv (v :: st) σ) : WS p l e R s m args below meth c G nL Q pc lv st σ := sorry
/-- arrays of old -/
theorem ws_tlen (C : Cx p l R s m args meth c G own cc nL ret d) {ty : FieldType} {t n : Nat} {f : Nat → Value} (hT : va_T ty t n f (fr G) G.s0 G.s0.heap) {v : Int32} (hv : Int32.ofNat n = v) (hd : decode cc pc = .ok (.arraylength, 1)) (kk : WS p l e R s m args below meth c G nL Q (pc + 1) lv (.int v :: st) σ) : WS p l e R s m args below meth c G nL Q pc lv (.ref t :: st) σ := sorry
theorem ws_tb (C : Cx p l R s m args meth c G own cc nL ret d) {t n : Nat} {f : Nat → Value} (hT : va_T .byte t n f (fr G) G.s0 G.s0.heap) {i : Int32} (hin : vp_in i n) {v : Value} (hv : f i.toNatClampNeg = v) (hd : decode cc pc = .ok (.baload, 1)) (kk : WS p l e R s m args below meth c G nL Q (pc + 1) lv (v :: st) σ) : WS p l e R s m args below meth c G nL Q pc lv (.int i :: .ref t :: st) σ := sorry
theorem ws_ti (C : Cx p l R s m args meth c G own cc nL ret d) {t n : Nat} {f : Nat → Value} (hT : va_T .int t n f (fr G) G.s0 G.s0.heap) {i : Int32} (hin : vp_in i n) {v : Value} (hv : f i.toNatClampNeg = v) (hd : decode cc pc = .ok (.iaload, 1)) (kk : WS p l e R s m args below meth c G nL Q (pc + 1) lv (v :: st) σ) : WS p l e R s m args below meth c G nL Q pc lv (.int i :: .ref t :: st) σ := sorry
theorem ws_nret (C : Cx p l R s m args meth c G own cc nL ret d) {x : Int32} {ty : FieldType} (hr : ret = some ty) (hn : narrow ty (.int x) = .int x) (hd : decode cc pc = .ok (.ireturn, 1)) (hq : Q (.returned (some (.int x))) σ) : WS p l e R s m args below meth c G nL Q pc lv [.int x] σ := sorry
theorem ws_i2c (C : Cx p l R s m args meth c G own cc nL ret d) {x : Int32} (hd : decode cc pc = .ok (.i2c, 1)) (kk : WS p l e R s m args below meth c G nL Q (pc + 1) lv (.int ((x.toUInt32 % 65536).toInt32) :: st) σ) : WS p l e R s m args below meth c G nL Q pc lv (.int x :: st) σ := sorry
/-- a call on an old object -/
theorem ws_callO (C : Cx p l R s m args meth c G own cc nL ret d) {y : MethodName} {bytes : ByteArray} {maxL index n dc a : Nat} {ret2 : Option FieldType} {As rest : List Value} {Qc : Outcome → Sg → Prop} {Cn : String} (hO : va_O Cn a (fr G) G.s0 G.s0.heap) (hT : GoodIn lw_all (wsV own index Cn y (ws_ y bytes maxL ret2))) (hy : y.cls = Cn ∧ y.cls ≠ "java/lang/invoke/MethodHandle" ∧ y.cls ≠ "java/lang/invoke/VarHandle" ∧ (parseMethodDescriptor y.desc).map (fun d => d.parameters.length) = some n) (hM : CT l G y (ws_ y bytes maxL ret2) dc (.ref a :: As) σ Qc) (hdp : dc + 1 ≤ d) (hml : maxL ≤ 21) (hn : As.length = n) (hrest : (rest.map fun v => v.category).sum ≤ 8) (hd : decode cc pc = .ok (.invokevirtual index, 3))
    (kr : ∀ (v : Option Value) (σ' : Sg), Qc (.returned v) σ' → WS p l e R s m args below meth c G nL Q (pc + 3) lv (v.toList ++ rest) σ') (kt : ∀ (x : Nat) (σ' : Sg), Qc (.threw x) σ' → Q (.threw x) σ') : WS p l e R s m args below meth c G nL Q pc lv (As.reverse ++ .ref a :: rest) σ := sorry
theorem wc_OI (C : Cx p l R s m args meth c G own cc nL ret d) {y : MethodName} {bytes : ByteArray} {maxL index n dc a : Nat} {ret2 : Option FieldType} {As rest : List Value} {Cn : String} (hO : va_O Cn a (fr G) G.s0 G.s0.heap) (hT : GoodIn lw_all (wsV own index Cn y (ws_ y bytes maxL ret2))) (hy : y.cls = Cn ∧ y.cls ≠ "java/lang/invoke/MethodHandle" ∧ y.cls ≠ "java/lang/invoke/VarHandle" ∧ (parseMethodDescriptor y.desc).map (fun d => d.parameters.length) = some n) {KK : Int32 → Sg → Prop} (hM : CT l G y (ws_ y bytes maxL ret2) dc (.ref a :: As) σ (oI KK (fun x σ => Q (.threw x) σ))) (hdp : dc + 1 ≤ d) (hml : maxL ≤ 21) (hn : As.length = n) (hrest : (rest.map fun v => v.category).sum ≤ 8) (hd : decode cc pc = .ok (.invokevirtual index, 3))
    (kr : ∀ (r : Int32) (σ' : Sg), KK r σ' → WS p l e R s m args below meth c G nL Q (pc + 3) lv (.int r :: rest) σ') : WS p l e R s m args below meth c G nL Q pc lv (As.reverse ++ .ref a :: rest) σ := sorry
end WSS
theorem sLen_ok : ∀ k, k < 108 → sLen.getD k 0 < 1000 ∧ (nI (sLen.getD k 0) >>> ((0 : Int32) &&& 31)) = nI (sLen.getD k 0) := sorry
theorem sByt_ok : ∀ k, k < 108 → ∀ j, j < sLen.getD k 0 → ((((sByt.getD k []).getD j 0) &&& 255).toUInt32 % 65536).toInt32 = (sByt.getD k []).getD j 0 ∧ narrow .char (.int ((sByt.getD k []).getD j 0)) = .int ((sByt.getD k []).getD j 0) := sorry
section SPJ
variable {l : Launch} {G : Gl} {d : Nat} {σ : Sg}
theorem sp_J3_coder (hG : GOK G) (hZ : SOK G) (hd : 1 ≤ d) {k : Nat} (hk : k < 108) : CT l G yJ3_coder (ws_ yJ3_coder cJ3_coder 1 (some .byte)) d [.ref (G.adr 5000 k)] σ (rI 0 (fun s => s = σ)) := sorry
theorem sp_J3_isLatin1 (hG : GOK G) (hZ : SOK G) (hd : 1 ≤ d) {k : Nat} (hk : k < 108) : CT l G yJ3_isLatin1 (ws_ yJ3_isLatin1 cJ3_isLatin1 1 (some .boolean)) d [.ref (G.adr 5000 k)] σ (rI 1 (fun s => s = σ)) := sorry
theorem sp_J3_length (hG : GOK G) (hZ : SOK G) (hd : 2 ≤ d) {k : Nat} (hk : k < 108) : CT l G yJ3_length (ws_ yJ3_length cJ3_length 1 (some .int)) d [.ref (G.adr 5000 k)] σ (rI (nI (sLen.getD k 0)) (fun s => s = σ)) := sorry
theorem sp_J5_checkIndex (hG : GOK G) (hd : 1 ≤ d) {i n : Int32} (h1 : ¬ i < 0) (h2 : i < n) {v : Value} (hv : v = .null ∨ ∃ t, v = .ref t) : CT l G yJ5_checkIndex (ws_ yJ5_checkIndex cJ5_checkIndex 3 (some .int)) d [.int i, .int n, v] σ (rI i (fun s => s = σ)) := sorry
theorem sp_J3_checkIndex (hG : GOK G) (hZ : SOK G) (hd : 2 ≤ d) {i n : Int32} (h1 : ¬ i < 0) (h2 : i < n) : CT l G yJ3_checkIndex (ws_ yJ3_checkIndex cJ3_checkIndex 2 none) d [.int i, .int n] σ (rV (fun s => s = σ)) := sorry
theorem sp_J4_charAt (hG : GOK G) (hZ : SOK G) (hd : 3 ≤ d) {k j : Nat} (hk : k < 108) (hj : j < sLen.getD k 0) : CT l G yJ4_charAt (ws_ yJ4_charAt cJ4_charAt 2 (some .char)) d [.ref (G.adr 5001 k), .int (nI j)] σ (rI ((sByt.getD k []).getD j 0) (fun s => s = σ)) := sorry
theorem sp_J3_charAt (hG : GOK G) (hZ : SOK G) (hd : 4 ≤ d) {k j : Nat} (hk : k < 108) (hj : j < sLen.getD k 0) : CT l G yJ3_charAt (ws_ yJ3_charAt cJ3_charAt 2 (some .char)) d [.ref (G.adr 5000 k), .int (nI j)] σ (rI ((sByt.getD k []).getD j 0) (fun s => s = σ)) := sorry
end SPJ
