set_option maxRecDepth 100000
/-- the words of a class's fields, field by field -/
theorem lm_all {C : String} {T : u_T} {N : Nat} (h : ∀ k, k < N → u_lay C T k ∈ lw_all) : ∀ w ∈ u_ws C T N, w ∈ lw_all := sorry
/-! LinkHouse -/
def RX0 : String := "LinkHouse"
def TX0 : u_T := fun k => match k with
  | 0 => ("LinkHouse", "tape", "[B", true)
  | 1 => ("LinkHouse", "taped", "I", false)
  | 2 => ("LinkHouse", "out", "[B", true)
  | 3 => ("LinkHouse", "outSize", "I", false)
  | 4 => ("LinkHouse", "build", "[LLinkHouse$Build;", true)
  | 5 => ("LinkHouse", "builds", "I", false)
  | 6 => ("LinkHouse", "ofLibrary", "[I", true)
  | 7 => ("LinkHouse", "many", "[I", true)
  | 8 => ("LinkHouse", "picks", "[I", true)
  | 9 => ("LinkHouse", "any", "LLinkHouse$Kind;", true)
  | 10 => ("LinkHouse", "ill", "LLinkHouse$Kind;", true)
  | 11 => ("LinkHouse", "world", "LLinkHouse$World;", true)
  | 12 => ("LinkHouse", "judged", "LLinkHouse$World;", true)
  | 13 => ("LinkHouse", "woven", "LLinkHouse$World;", true)
  | 14 => ("LinkHouse", "refusal", "LLinkHouse$Refusal;", true)
  | 15 => ("LinkHouse", "tree", "LLinkHouse$Tree;", true)
  | 16 => ("LinkHouse", "judge", "LLinkHouse$Judge;", true)
  | 17 => ("LinkHouse", "weaver", "LLinkHouse$Judge;", true)
  | 18 => ("LinkHouse", "meeter", "LLinkHouse$Linker;", true)
  | 19 => ("LinkHouse", "machine", "LLinkHouse$Machine;", true)
  | 20 => ("LinkHouse", "faultAt", "I", false)
  | 21 => ("LinkHouse", "foundLast", "LLinkHouse$Member;", false)
  | 22 => ("LinkHouse", "foundSort", "I", false)
  | 23 => ("LinkHouse", "lookedLast", "[I", true)
  | 24 => ("LinkHouse", "looksLast", "I", false)
  | 25 => ("LinkHouse", "brokenUse", "[I", true)
  | 26 => ("LinkHouse", "brokenCount", "I", false)
  | 27 => ("LinkHouse", "difference", "[I", true)
  | 28 => ("LinkHouse", "differences", "I", false)
  | 29 => ("LinkHouse", "moved", "[B", true)
  | 30 => ("LinkHouse", "picksWere", "[I", true)
  | _ => ("LinkHouse", "kept", "[I", true)
def tyX0 : Nat → FieldType := fun k => match k with
  | 0 => .array .byte
  | 1 => .int
  | 2 => .array .byte
  | 3 => .int
  | 4 => .array (.object "LinkHouse$Build")
  | 5 => .int
  | 6 => .array .int
  | 7 => .array .int
  | 8 => .array .int
  | 9 => .object "LinkHouse$Kind"
  | 10 => .object "LinkHouse$Kind"
  | 11 => .object "LinkHouse$World"
  | 12 => .object "LinkHouse$World"
  | 13 => .object "LinkHouse$World"
  | 14 => .object "LinkHouse$Refusal"
  | 15 => .object "LinkHouse$Tree"
  | 16 => .object "LinkHouse$Judge"
  | 17 => .object "LinkHouse$Judge"
  | 18 => .object "LinkHouse$Linker"
  | 19 => .object "LinkHouse$Machine"
  | 20 => .int
  | 21 => .object "LinkHouse$Member"
  | 22 => .int
  | 23 => .array .int
  | 24 => .int
  | 25 => .array .int
  | 26 => .int
  | 27 => .array .int
  | 28 => .int
  | 29 => .array .byte
  | 30 => .array .int
  | _ => .array .int
abbrev wsX00 : List Cond := u_ws RX0 TX0 32
set_option maxRecDepth 100000 in
theorem nmX0 : ∀ a, a < 32 → ∀ b, b < 32 → a ≠ b → (TX0 a).2.1 ≠ (TX0 b).2.1 := sorry
set_option maxRecDepth 100000 in
theorem tyX0_ok : ∀ k, k < 32 → parseFieldDescriptor (TX0 k).2.2.1 = some (tyX0 k) := sorry
abbrev cX0_init : ByteArray := prog_1_method_5_code
def yX0_init : MethodName := ⟨RX0, "<init>", "()V"⟩
abbrev cX0_lettered : ByteArray := prog_1_method_2_code
def yX0_lettered : MethodName := ⟨RX0, "lettered", "(I)I"⟩
abbrev cX0_within : ByteArray := prog_1_method_1_code
def yX0_within : MethodName := ⟨RX0, "within", "(III)Z"⟩
abbrev cX0_builtIn : ByteArray := prog_1_method_6_code
def yX0_builtIn : MethodName := ⟨RX0, "builtIn", "(LLinkHouse$Kind;JJ)V"⟩
abbrev cX0_makerOf : ByteArray := prog_1_method_7_code
def yX0_makerOf : MethodName := ⟨RX0, "makerOf", "(LLinkHouse$Kind;)V"⟩
abbrev cX0_layWorld : ByteArray := prog_1_method_11_code
def yX0_layWorld : MethodName := ⟨RX0, "layWorld", "()V"⟩
abbrev cX0_addBuiltIns : ByteArray := prog_1_method_8_code
def yX0_addBuiltIns : MethodName := ⟨RX0, "addBuiltIns", "(LLinkHouse$World;LLinkHouse$Kind;LLinkHouse$Kind;)V"⟩
abbrev cX0_stored : ByteArray := prog_1_method_9_code
def yX0_stored : MethodName := ⟨RX0, "stored", "(II)LLinkHouse$Build;"⟩
abbrev cX0_feed : ByteArray := prog_1_method_13_code
def yX0_feed : MethodName := ⟨RX0, "feed", "(IIIII)I"⟩
abbrev cX0_lay : ByteArray := prog_1_method_14_code
def yX0_lay : MethodName := ⟨RX0, "lay", "(I)V"⟩
abbrev cX0_cut : ByteArray := prog_1_method_15_code
def yX0_cut : MethodName := ⟨RX0, "cut", "(I)I"⟩
abbrev cX0_splice : ByteArray := prog_1_method_16_code
def yX0_splice : MethodName := ⟨RX0, "splice", "(III)I"⟩
abbrev cX0_text : ByteArray := prog_1_method_17_code
def yX0_text : MethodName := ⟨RX0, "text", "(II)I"⟩
abbrev cX0_isBuild : ByteArray := prog_1_method_10_code
def yX0_isBuild : MethodName := ⟨RX0, "isBuild", "(II)Z"⟩
abbrev cX0_size : ByteArray := prog_1_method_18_code
def yX0_size : MethodName := ⟨RX0, "size", "()I"⟩
abbrev cX0_octet : ByteArray := prog_1_method_19_code
def yX0_octet : MethodName := ⟨RX0, "octet", "(I)I"⟩
abbrev cX0_make : ByteArray := prog_1_method_25_code
def yX0_make : MethodName := ⟨RX0, "make", "(I)I"⟩
abbrev cX0_packageOf : ByteArray := prog_1_method_4_code
def yX0_packageOf : MethodName := ⟨RX0, "packageOf", "(J)I"⟩
abbrev cX0_layOther : ByteArray := prog_1_method_12_code
def yX0_layOther : MethodName := ⟨RX0, "layOther", "(LLinkHouse$World;ILLinkHouse$Build;)V"⟩
abbrev cX0_stand : ByteArray := prog_1_method_26_code
def yX0_stand : MethodName := ⟨RX0, "stand", "(I)I"⟩
abbrev cX0_place : ByteArray := prog_1_method_27_code
def yX0_place : MethodName := ⟨RX0, "place", "()I"⟩
abbrev cX0_builds : ByteArray := prog_1_method_28_code
def yX0_builds : MethodName := ⟨RX0, "builds", "(I)I"⟩
abbrev cX0_pick : ByteArray := prog_1_method_29_code
def yX0_pick : MethodName := ⟨RX0, "pick", "(II)I"⟩
abbrev cX0_renew : ByteArray := prog_1_method_30_code
def yX0_renew : MethodName := ⟨RX0, "renew", "()V"⟩
abbrev cX0_picked : ByteArray := prog_1_method_31_code
def yX0_picked : MethodName := ⟨RX0, "picked", "(I)I"⟩
abbrev cX0_classes : ByteArray := prog_1_method_32_code
def yX0_classes : MethodName := ⟨RX0, "classes", "(II)I"⟩
abbrev cX0_members : ByteArray := prog_1_method_36_code
def yX0_members : MethodName := ⟨RX0, "members", "(III)I"⟩
abbrev cX0_isKindOf : ByteArray := prog_1_method_35_code
def yX0_isKindOf : MethodName := ⟨RX0, "isKindOf", "(III)Z"⟩
abbrev cX0_shown : ByteArray := prog_1_method_33_code
def yX0_shown : MethodName := ⟨RX0, "shown", "(LLinkHouse$Kind;)I"⟩
abbrev cX0_shape : ByteArray := prog_1_method_37_code
def yX0_shape : MethodName := ⟨RX0, "shape", "(IIII)I"⟩
abbrev cX0_sayHead : ByteArray := prog_1_method_38_code
def yX0_sayHead : MethodName := ⟨RX0, "sayHead", "(LLinkHouse$Kind;)V"⟩
abbrev cX0_say : ByteArray := prog_1_method_20_code
def yX0_say : MethodName := ⟨RX0, "say", "(Ljava/lang/String;)V"⟩
abbrev cX0_sayName : ByteArray := prog_1_method_21_code
def yX0_sayName : MethodName := ⟨RX0, "sayName", "(JZ)V"⟩
abbrev cX0_letter : ByteArray := prog_1_method_3_code
def yX0_letter : MethodName := ⟨RX0, "letter", "(I)I"⟩
abbrev cX0_sayRow : ByteArray := prog_1_method_39_code
def yX0_sayRow : MethodName := ⟨RX0, "sayRow", "(Ljava/lang/String;[JI)V"⟩
abbrev cX0_shownAs : ByteArray := prog_1_method_34_code
def yX0_shownAs : MethodName := ⟨RX0, "shownAs", "(LLinkHouse$Member;)I"⟩
abbrev cX0_sayMember : ByteArray := prog_1_method_40_code
def yX0_sayMember : MethodName := ⟨RX0, "sayMember", "(LLinkHouse$Member;)V"⟩
abbrev cX0_sayType : ByteArray := prog_1_method_22_code
def yX0_sayType : MethodName := ⟨RX0, "sayType", "(J)V"⟩
abbrev cX0_sayParams : ByteArray := prog_1_method_24_code
def yX0_sayParams : MethodName := ⟨RX0, "sayParams", "(LLinkHouse$Member;)V"⟩
abbrev cX0_sayNumber : ByteArray := prog_1_method_23_code
def yX0_sayNumber : MethodName := ⟨RX0, "sayNumber", "(I)V"⟩
abbrev cX0_uses : ByteArray := prog_1_method_41_code
def yX0_uses : MethodName := ⟨RX0, "uses", "(II)I"⟩
abbrev cX0_use : ByteArray := prog_1_method_43_code
def yX0_use : MethodName := ⟨RX0, "use", "(IIII)I"⟩
abbrev cX0_isUse : ByteArray := prog_1_method_42_code
def yX0_isUse : MethodName := ⟨RX0, "isUse", "(III)Z"⟩
abbrev cX0_tell : ByteArray := prog_1_method_44_code
def yX0_tell : MethodName := ⟨RX0, "tell", "(III)I"⟩
abbrev cX0_sayUse : ByteArray := prog_1_method_45_code
def yX0_sayUse : MethodName := ⟨RX0, "sayUse", "(IJLLinkHouse$Member;)V"⟩
abbrev cX0_meet : ByteArray := prog_1_method_47_code
def yX0_meet : MethodName := ⟨RX0, "meet", "(III)I"⟩
abbrev cX0_isMet : ByteArray := prog_1_method_46_code
def yX0_isMet : MethodName := ⟨RX0, "isMet", "(III)I"⟩
abbrev cX0_met : ByteArray := prog_1_method_48_code
def yX0_met : MethodName := ⟨RX0, "met", "()I"⟩
abbrev cX0_looked : ByteArray := prog_1_method_49_code
def yX0_looked : MethodName := ⟨RX0, "looked", "(I)I"⟩
abbrev cX0_broken : ByteArray := prog_1_method_51_code
def yX0_broken : MethodName := ⟨RX0, "broken", "()I"⟩
abbrev cX0_countBroken : ByteArray := prog_1_method_50_code
def yX0_countBroken : MethodName := ⟨RX0, "countBroken", "()I"⟩
abbrev cX0_brokenAt : ByteArray := prog_1_method_52_code
def yX0_brokenAt : MethodName := ⟨RX0, "brokenAt", "(II)I"⟩
abbrev cX0_stale : ByteArray := prog_1_method_53_code
def yX0_stale : MethodName := ⟨RX0, "stale", "()I"⟩
abbrev cX0_choose : ByteArray := prog_1_method_55_code
def yX0_choose : MethodName := ⟨RX0, "choose", "()I"⟩
abbrev cX0_isWhole : ByteArray := prog_1_method_54_code
def yX0_isWhole : MethodName := ⟨RX0, "isWhole", "()Z"⟩
abbrev cX0_differ : ByteArray := prog_1_method_59_code
def yX0_differ : MethodName := ⟨RX0, "differ", "(III)I"⟩
abbrev cX0_hold : ByteArray := prog_1_method_60_code
def yX0_hold : MethodName := ⟨RX0, "hold", "(LLinkHouse$Build;LLinkHouse$Build;)V"⟩
abbrev cX0_kindIn : ByteArray := prog_1_method_58_code
def yX0_kindIn : MethodName := ⟨RX0, "kindIn", "(LLinkHouse$Build;J)LLinkHouse$Kind;"⟩
abbrev cX0_differs : ByteArray := prog_1_method_56_code
def yX0_differs : MethodName := ⟨RX0, "differs", "(ILLinkHouse$Kind;LLinkHouse$Kind;LLinkHouse$Member;LLinkHouse$Member;)V"⟩
abbrev cX0_holdHeads : ByteArray := prog_1_method_61_code
def yX0_holdHeads : MethodName := ⟨RX0, "holdHeads", "(LLinkHouse$Kind;LLinkHouse$Kind;)V"⟩
abbrev cX0_differsIf : ByteArray := prog_1_method_57_code
def yX0_differsIf : MethodName := ⟨RX0, "differsIf", "(ZILLinkHouse$Kind;LLinkHouse$Kind;LLinkHouse$Member;LLinkHouse$Member;)V"⟩
abbrev cX0_holdFields : ByteArray := prog_1_method_62_code
def yX0_holdFields : MethodName := ⟨RX0, "holdFields", "(LLinkHouse$Kind;LLinkHouse$Kind;)V"⟩
abbrev cX0_holdMarks : ByteArray := prog_1_method_63_code
def yX0_holdMarks : MethodName := ⟨RX0, "holdMarks", "(ILLinkHouse$Kind;LLinkHouse$Kind;LLinkHouse$Member;LLinkHouse$Member;)V"⟩
abbrev cX0_holdAccess : ByteArray := prog_1_method_64_code
def yX0_holdAccess : MethodName := ⟨RX0, "holdAccess", "(ILLinkHouse$Kind;LLinkHouse$Kind;LLinkHouse$Member;LLinkHouse$Member;)V"⟩
abbrev cX0_holdMethods : ByteArray := prog_1_method_66_code
def yX0_holdMethods : MethodName := ⟨RX0, "holdMethods", "(LLinkHouse$Kind;LLinkHouse$Kind;)V"⟩
abbrev cX0_alike : ByteArray := prog_1_method_65_code
def yX0_alike : MethodName := ⟨RX0, "alike", "(LLinkHouse$Kind;LLinkHouse$Member;)LLinkHouse$Member;"⟩
abbrev cX0_areAlike : ByteArray := prog_1_method_68_code
def yX0_areAlike : MethodName := ⟨RX0, "areAlike", "(LLinkHouse$Member;LLinkHouse$Member;)Z"⟩
abbrev cX0_holdMakers : ByteArray := prog_1_method_67_code
def yX0_holdMakers : MethodName := ⟨RX0, "holdMakers", "(LLinkHouse$Kind;LLinkHouse$Kind;)V"⟩
abbrev cX0_areStartsAlike : ByteArray := prog_1_method_70_code
def yX0_areStartsAlike : MethodName := ⟨RX0, "areStartsAlike", "(LLinkHouse$Kind;LLinkHouse$Kind;)Z"⟩
abbrev cX0_isStart : ByteArray := prog_1_method_69_code
def yX0_isStart : MethodName := ⟨RX0, "isStart", "(LLinkHouse$Member;)Z"⟩
abbrev cX0_change : ByteArray := prog_1_method_71_code
def yX0_change : MethodName := ⟨RX0, "change", "(II)I"⟩
abbrev cX0_word : ByteArray := prog_1_method_73_code
def yX0_word : MethodName := ⟨RX0, "word", "(III)I"⟩
abbrev cX0_wordOf : ByteArray := prog_1_method_72_code
def yX0_wordOf : MethodName := ⟨RX0, "wordOf", "(I)I"⟩
abbrev cX0_weave : ByteArray := prog_1_method_75_code
def yX0_weave : MethodName := ⟨RX0, "weave", "(III)I"⟩
abbrev cX0_healing : ByteArray := prog_1_method_74_code
def yX0_healing : MethodName := ⟨RX0, "healing", "(LLinkHouse$Kind;LLinkHouse$Member;)LLinkHouse$Member;"⟩
abbrev cX0_weaveInto : ByteArray := prog_1_method_76_code
def yX0_weaveInto : MethodName := ⟨RX0, "weaveInto", "(LLinkHouse$Build;LLinkHouse$Build;LLinkHouse$Build;)V"⟩
abbrev cX0_fresh : ByteArray := prog_1_method_77_code
def yX0_fresh : MethodName := ⟨RX0, "fresh", "()I"⟩
abbrev cX0_touch : ByteArray := prog_1_method_78_code
def yX0_touch : MethodName := ⟨RX0, "touch", "(III)I"⟩
abbrev cX0_run : ByteArray := prog_1_method_79_code
def yX0_run : MethodName := ⟨RX0, "run", "()I"⟩
abbrev cX0_value : ByteArray := prog_1_method_80_code
def yX0_value : MethodName := ⟨RX0, "value", "()I"⟩
abbrev cX0_told : ByteArray := prog_1_method_81_code
def yX0_told : MethodName := ⟨RX0, "told", "(I)I"⟩
abbrev cX0_number : ByteArray := prog_1_method_82_code
def yX0_number : MethodName := ⟨RX0, "number", "(I)I"⟩
abbrev cX0_event : ByteArray := prog_1_method_83_code
def yX0_event : MethodName := ⟨RX0, "event", "(I)I"⟩
abbrev cX0_name : ByteArray := prog_1_method_84_code
def yX0_name : MethodName := ⟨RX0, "name", "(I)I"⟩
abbrev cX0_state : ByteArray := prog_1_method_85_code
def yX0_state : MethodName := ⟨RX0, "state", "(I)I"⟩
abbrev cX0_classOf : ByteArray := prog_1_method_86_code
def yX0_classOf : MethodName := ⟨RX0, "classOf", "(I)I"⟩
abbrev cX0_fieldOf : ByteArray := prog_1_method_87_code
def yX0_fieldOf : MethodName := ⟨RX0, "fieldOf", "(II)I"⟩
theorem q393 : (Jvm.Cond.initialized "LinkHouse") ∈ lw_all := sorry
theorem q415 : (Jvm.Cond.instantiable "LinkHouse" (32 : Nat)) ∈ lw_all := sorry
theorem q417 : (Jvm.Cond.instanceMethod ({ cls := "LinkHouse", name := "<init>", desc := "()V" } : Jvm.MethodName)) ∈ lw_all := sorry
theorem q418 : (Jvm.Cond.code ({ cls := "LinkHouse", name := "<init>", desc := "()V" } : Jvm.MethodName) prog_1_method_5_code (2 : Nat) (Option.none : Option Jvm.ClassFile.FieldType)) ∈ lw_all := sorry
theorem q419 : (Jvm.Cond.methodLink "LinkHouse" (9 : Nat) ({ cls := "java/lang/Object", name := "<init>", desc := "()V" } : Jvm.MethodName)) ∈ lw_all := sorry
theorem q422 : (Jvm.Cond.classLink "LinkHouse" (22 : Nat) "LinkHouse$Build") ∈ lw_all := sorry
theorem q424 : (Jvm.Cond.classLink "LinkHouse" (38 : Nat) "LinkHouse$Kind") ∈ lw_all := sorry
theorem q426 : (Jvm.Cond.methodLink "LinkHouse" (40 : Nat) ({ cls := "LinkHouse$Kind", name := "<init>", desc := "()V" } : Jvm.MethodName)) ∈ lw_all := sorry
theorem q438 : (Jvm.Cond.fieldLinkNest "LinkHouse" (142 : Nat) "LinkHouse$Member" "sort" "I" "LinkHouse") ∈ lw_tbl := sorry
theorem q445 : (Jvm.Cond.fieldLinkNest "LinkHouse" (149 : Nat) "LinkHouse$Member" "title" "J" "LinkHouse") ∈ lw_tbl := sorry
theorem q451 : (Jvm.Cond.fieldLinkNest "LinkHouse" (153 : Nat) "LinkHouse$Member" "access" "I" "LinkHouse") ∈ lw_tbl := sorry
theorem q463 : (Jvm.Cond.fieldLinkNest "LinkHouse" (414 : Nat) "LinkHouse$Member" "isStatic" "Z" "LinkHouse") ∈ lw_tbl := sorry
theorem q469 : (Jvm.Cond.fieldLinkNest "LinkHouse" (419 : Nat) "LinkHouse$Member" "isFinal" "Z" "LinkHouse") ∈ lw_tbl := sorry
theorem q476 : (Jvm.Cond.fieldLinkNest "LinkHouse" (420 : Nat) "LinkHouse$Member" "isBare" "Z" "LinkHouse") ∈ lw_tbl := sorry
theorem q479 : (Jvm.Cond.fieldLinkNest "LinkHouse" (405 : Nat) "LinkHouse$Member" "isBridge" "Z" "LinkHouse") ∈ lw_tbl := sorry
theorem q482 : (Jvm.Cond.fieldLinkNest "LinkHouse" (156 : Nat) "LinkHouse$Member" "type" "J" "LinkHouse") ∈ lw_tbl := sorry
theorem q490 : (Jvm.Cond.fieldLinkNest "LinkHouse" (277 : Nat) "LinkHouse$Member" "params" "I" "LinkHouse") ∈ lw_tbl := sorry
theorem q494 : (Jvm.Cond.fieldLinkNest "LinkHouse" (282 : Nat) "LinkHouse$Member" "param" "[J" "LinkHouse") ∈ lw_tbl := sorry
theorem q506 : (Jvm.Cond.fieldLinkNest "LinkHouse" (428 : Nat) "LinkHouse$Member" "isConstant" "Z" "LinkHouse") ∈ lw_tbl := sorry
theorem q512 : (Jvm.Cond.fieldLinkNest "LinkHouse" (433 : Nat) "LinkHouse$Member" "constant" "I" "LinkHouse") ∈ lw_tbl := sorry
theorem q521 : (Jvm.Cond.fieldLinkNest "LinkHouse" (578 : Nat) "LinkHouse$Member" "from" "I" "LinkHouse") ∈ lw_tbl := sorry
theorem q524 : (Jvm.Cond.fieldLinkNest "LinkHouse" (589 : Nat) "LinkHouse$Member" "to" "I" "LinkHouse") ∈ lw_tbl := sorry
theorem q535 : (Jvm.Cond.fieldLinkNest "LinkHouse" (159 : Nat) "LinkHouse$Member" "slot" "I" "LinkHouse") ∈ lw_tbl := sorry
theorem q543 : (Jvm.Cond.fieldLinkNest "LinkHouse" (328 : Nat) "LinkHouse$Member" "of" "LLinkHouse$Kind;" "LinkHouse") ∈ lw_tbl := sorry
theorem q597 : (Jvm.Cond.fieldLinkNest "LinkHouse" (178 : Nat) "LinkHouse$Kind" "title" "J" "LinkHouse") ∈ lw_tbl := sorry
theorem q602 : (Jvm.Cond.fieldLinkNest "LinkHouse" (179 : Nat) "LinkHouse$Kind" "pack" "I" "LinkHouse") ∈ lw_tbl := sorry
theorem q612 : (Jvm.Cond.fieldLinkNest "LinkHouse" (363 : Nat) "LinkHouse$Kind" "isFace" "Z" "LinkHouse") ∈ lw_tbl := sorry
theorem q614 : (Jvm.Cond.fieldLinkNest "LinkHouse" (182 : Nat) "LinkHouse$Kind" "isOpen" "Z" "LinkHouse") ∈ lw_tbl := sorry
theorem q622 : (Jvm.Cond.fieldLinkNest "LinkHouse" (353 : Nat) "LinkHouse$Kind" "isFinal" "Z" "LinkHouse") ∈ lw_tbl := sorry
theorem q627 : (Jvm.Cond.fieldLinkNest "LinkHouse" (358 : Nat) "LinkHouse$Kind" "isBare" "Z" "LinkHouse") ∈ lw_tbl := sorry
theorem q630 : (Jvm.Cond.fieldLinkNest "LinkHouse" (189 : Nat) "LinkHouse$Kind" "hasParent" "Z" "LinkHouse") ∈ lw_tbl := sorry
theorem q636 : (Jvm.Cond.fieldLinkNest "LinkHouse" (186 : Nat) "LinkHouse$Kind" "parent" "J" "LinkHouse") ∈ lw_tbl := sorry
theorem q644 : (Jvm.Cond.fieldLinkNest "LinkHouse" (374 : Nat) "LinkHouse$Kind" "face" "[J" "LinkHouse") ∈ lw_tbl := sorry
theorem q651 : (Jvm.Cond.fieldLinkNest "LinkHouse" (377 : Nat) "LinkHouse$Kind" "faces" "I" "LinkHouse") ∈ lw_tbl := sorry
theorem q656 : (Jvm.Cond.fieldLinkNest "LinkHouse" (384 : Nat) "LinkHouse$Kind" "host" "J" "LinkHouse") ∈ lw_tbl := sorry
theorem q660 : (Jvm.Cond.fieldLinkNest "LinkHouse" (391 : Nat) "LinkHouse$Kind" "with" "[J" "LinkHouse") ∈ lw_tbl := sorry
theorem q664 : (Jvm.Cond.fieldLinkNest "LinkHouse" (394 : Nat) "LinkHouse$Kind" "withs" "I" "LinkHouse") ∈ lw_tbl := sorry
theorem q668 : (Jvm.Cond.fieldLinkNest "LinkHouse" (399 : Nat) "LinkHouse$Kind" "only" "[J" "LinkHouse") ∈ lw_tbl := sorry
theorem q672 : (Jvm.Cond.fieldLinkNest "LinkHouse" (402 : Nat) "LinkHouse$Kind" "onlys" "I" "LinkHouse") ∈ lw_tbl := sorry
theorem q675 : (Jvm.Cond.fieldLinkNest "LinkHouse" (552 : Nat) "LinkHouse$Kind" "isClosed" "Z" "LinkHouse") ∈ lw_tbl := sorry
theorem q679 : (Jvm.Cond.fieldLinkNest "LinkHouse" (324 : Nat) "LinkHouse$Kind" "member" "[LLinkHouse$Member;" "LinkHouse") ∈ lw_tbl := sorry
theorem q683 : (Jvm.Cond.fieldLinkNest "LinkHouse" (321 : Nat) "LinkHouse$Kind" "members" "I" "LinkHouse") ∈ lw_tbl := sorry
theorem q686 : (Jvm.Cond.fieldLinkNest "LinkHouse" (621 : Nat) "LinkHouse$Kind" "bridges" "I" "LinkHouse") ∈ lw_tbl := sorry
theorem q690 : (Jvm.Cond.fieldLinkNest "LinkHouse" (656 : Nat) "LinkHouse$Kind" "useFrom" "I" "LinkHouse") ∈ lw_tbl := sorry
theorem q694 : (Jvm.Cond.fieldLinkNest "LinkHouse" (659 : Nat) "LinkHouse$Kind" "useTo" "I" "LinkHouse") ∈ lw_tbl := sorry
theorem q698 : (Jvm.Cond.fieldLinkNest "LinkHouse" (162 : Nat) "LinkHouse$Kind" "fields" "I" "LinkHouse") ∈ lw_tbl := sorry
theorem q710 : (Jvm.Cond.fieldLinkNest "LinkHouse" (592 : Nat) "LinkHouse$Kind" "build" "LLinkHouse$Build;" "LinkHouse") ∈ lw_tbl := sorry
theorem q712 : (Jvm.Cond.fieldLinkNest "LinkHouse" (455 : Nat) "LinkHouse$Kind" "number" "I" "LinkHouse") ∈ lw_tbl := sorry
theorem q716 : (Jvm.Cond.fieldLinkNest "LinkHouse" (204 : Nat) "LinkHouse$Kind" "inWorld" "I" "LinkHouse") ∈ lw_tbl := sorry
theorem q776 : (Jvm.Cond.classLink "LinkHouse" (48 : Nat) "LinkHouse$World") ∈ lw_all := sorry
theorem q778 : (Jvm.Cond.methodLink "LinkHouse" (50 : Nat) ({ cls := "LinkHouse$World", name := "<init>", desc := "(LLinkHouse$Kind;LLinkHouse$Kind;)V" } : Jvm.MethodName)) ∈ lw_all := sorry
theorem q788 : (Jvm.Cond.fieldLinkNest "LinkHouse" (192 : Nat) "LinkHouse$World" "kind" "[LLinkHouse$Kind;" "LinkHouse") ∈ lw_tbl := sorry
theorem q790 : (Jvm.Cond.fieldLinkNest "LinkHouse" (196 : Nat) "LinkHouse$World" "kinds" "I" "LinkHouse") ∈ lw_tbl := sorry
theorem q837 : (Jvm.Cond.classLink "LinkHouse" (63 : Nat) "LinkHouse$Refusal") ∈ lw_all := sorry
theorem q876 : (Jvm.Cond.methodLinkNest "LinkHouse" (65 : Nat) ({ cls := "LinkHouse$Refusal", name := "<init>", desc := "()V" } : Jvm.MethodName) "LinkHouse") ∈ lw_tbl := sorry
theorem q887 : (Jvm.Cond.fieldLinkNest "LinkHouse" (306 : Nat) "LinkHouse$Refusal" "fault" "I" "LinkHouse") ∈ lw_tbl := sorry
theorem q889 : (Jvm.Cond.fieldLinkNest "LinkHouse" (303 : Nat) "LinkHouse$Refusal" "at" "I" "LinkHouse") ∈ lw_tbl := sorry
theorem q906 : (Jvm.Cond.classLink "LinkHouse" (70 : Nat) "LinkHouse$Tree") ∈ lw_all := sorry
theorem q908 : (Jvm.Cond.methodLink "LinkHouse" (72 : Nat) ({ cls := "LinkHouse$Tree", name := "<init>", desc := "(LLinkHouse$Refusal;)V" } : Jvm.MethodName)) ∈ lw_all := sorry
theorem q966 : (Jvm.Cond.static ({ cls := "LinkHouse", name := "lettered", desc := "(I)I" } : Jvm.MethodName)) ∈ lw_all := sorry
theorem q967 : (Jvm.Cond.code ({ cls := "LinkHouse", name := "lettered", desc := "(I)I" } : Jvm.MethodName) prog_1_method_2_code (1 : Nat) (Option.some Jvm.ClassFile.FieldType.int)) ∈ lw_all := sorry
theorem q968 : (Jvm.Cond.methodLink "LinkHouse" (3 : Nat) ({ cls := "LinkHouse", name := "within", desc := "(III)Z" } : Jvm.MethodName)) ∈ lw_all := sorry
theorem q969 : (Jvm.Cond.static ({ cls := "LinkHouse", name := "within", desc := "(III)Z" } : Jvm.MethodName)) ∈ lw_all := sorry
theorem q970 : (Jvm.Cond.code ({ cls := "LinkHouse", name := "within", desc := "(III)Z" } : Jvm.MethodName) prog_1_method_1_code (3 : Nat) (Option.some Jvm.ClassFile.FieldType.boolean)) ∈ lw_all := sorry
theorem q1062 : (Jvm.Cond.classLink "LinkHouse" (79 : Nat) "LinkHouse$Judge") ∈ lw_all := sorry
theorem q1064 : (Jvm.Cond.methodLink "LinkHouse" (81 : Nat) ({ cls := "LinkHouse$Judge", name := "<init>", desc := "(LLinkHouse$Tree;LLinkHouse$World;)V" } : Jvm.MethodName)) ∈ lw_all := sorry
theorem q1081 : (Jvm.Cond.fieldLinkNest "LinkHouse" (449 : Nat) "LinkHouse$Use" "sort" "I" "LinkHouse") ∈ lw_tbl := sorry
theorem q1085 : (Jvm.Cond.fieldLinkNest "LinkHouse" (452 : Nat) "LinkHouse$Use" "by" "LLinkHouse$Kind;" "LinkHouse") ∈ lw_tbl := sorry
theorem q1090 : (Jvm.Cond.fieldLinkNest "LinkHouse" (458 : Nat) "LinkHouse$Use" "title" "J" "LinkHouse") ∈ lw_tbl := sorry
theorem q1094 : (Jvm.Cond.fieldLinkNest "LinkHouse" (469 : Nat) "LinkHouse$Use" "other" "J" "LinkHouse") ∈ lw_tbl := sorry
theorem q1098 : (Jvm.Cond.fieldLinkNest "LinkHouse" (459 : Nat) "LinkHouse$Use" "as" "LLinkHouse$Member;" "LinkHouse") ∈ lw_tbl := sorry
theorem q1172 : (Jvm.Cond.classLink "LinkHouse" (91 : Nat) "LinkHouse$Linker") ∈ lw_all := sorry
theorem q1174 : (Jvm.Cond.methodLink "LinkHouse" (93 : Nat) ({ cls := "LinkHouse$Linker", name := "<init>", desc := "(LLinkHouse$World;)V" } : Jvm.MethodName)) ∈ lw_all := sorry
theorem q1182 : (Jvm.Cond.fieldLinkNest "LinkHouse" (676 : Nat) "LinkHouse$Linker" "loads" "[I" "LinkHouse") ∈ lw_tbl := sorry
theorem q1184 : (Jvm.Cond.fieldLinkNest "LinkHouse" (711 : Nat) "LinkHouse$Linker" "events" "[I" "LinkHouse") ∈ lw_tbl := sorry
theorem q1186 : (Jvm.Cond.fieldLinkNest "LinkHouse" (705 : Nat) "LinkHouse$Linker" "eventCount" "I" "LinkHouse") ∈ lw_tbl := sorry
theorem q1189 : (Jvm.Cond.fieldLinkNest "LinkHouse" (491 : Nat) "LinkHouse$Linker" "found" "LLinkHouse$Member;" "LinkHouse") ∈ lw_tbl := sorry
theorem q1192 : (Jvm.Cond.fieldLinkNest "LinkHouse" (488 : Nat) "LinkHouse$Linker" "target" "LLinkHouse$Member;" "LinkHouse") ∈ lw_tbl := sorry
theorem q1194 : (Jvm.Cond.fieldLinkNest "LinkHouse" (503 : Nat) "LinkHouse$Linker" "looked" "[LLinkHouse$Kind;" "LinkHouse") ∈ lw_tbl := sorry
theorem q1196 : (Jvm.Cond.fieldLinkNest "LinkHouse" (497 : Nat) "LinkHouse$Linker" "looks" "I" "LinkHouse") ∈ lw_tbl := sorry
theorem q1214 : (Jvm.Cond.classLink "LinkHouse" (100 : Nat) "LinkHouse$Machine") ∈ lw_all := sorry
theorem q1216 : (Jvm.Cond.methodLink "LinkHouse" (102 : Nat) ({ cls := "LinkHouse$Machine", name := "<init>", desc := "(LLinkHouse$World;)V" } : Jvm.MethodName)) ∈ lw_all := sorry
theorem q1228 : (Jvm.Cond.fieldLinkNest "LinkHouse" (673 : Nat) "LinkHouse$Machine" "l" "LLinkHouse$Linker;" "LinkHouse") ∈ lw_tbl := sorry
theorem q1233 : (Jvm.Cond.fieldLinkNest "LinkHouse" (717 : Nat) "LinkHouse$Machine" "ofObject" "[LLinkHouse$Kind;" "LinkHouse") ∈ lw_tbl := sorry
theorem q1235 : (Jvm.Cond.fieldLinkNest "LinkHouse" (726 : Nat) "LinkHouse$Machine" "objectAt" "[I" "LinkHouse") ∈ lw_tbl := sorry
theorem q1237 : (Jvm.Cond.fieldLinkNest "LinkHouse" (699 : Nat) "LinkHouse$Machine" "objects" "I" "LinkHouse") ∈ lw_tbl := sorry
theorem q1239 : (Jvm.Cond.fieldLinkNest "LinkHouse" (723 : Nat) "LinkHouse$Machine" "cells" "[I" "LinkHouse") ∈ lw_tbl := sorry
theorem q1241 : (Jvm.Cond.fieldLinkNest "LinkHouse" (702 : Nat) "LinkHouse$Machine" "used" "I" "LinkHouse") ∈ lw_tbl := sorry
theorem q1243 : (Jvm.Cond.fieldLinkNest "LinkHouse" (708 : Nat) "LinkHouse$Machine" "outs" "[I" "LinkHouse") ∈ lw_tbl := sorry
theorem q1245 : (Jvm.Cond.fieldLinkNest "LinkHouse" (696 : Nat) "LinkHouse$Machine" "outCount" "I" "LinkHouse") ∈ lw_tbl := sorry
theorem q1247 : (Jvm.Cond.fieldLinkNest "LinkHouse" (693 : Nat) "LinkHouse$Machine" "steps" "I" "LinkHouse") ∈ lw_tbl := sorry
theorem q1250 : (Jvm.Cond.fieldLinkNest "LinkHouse" (690 : Nat) "LinkHouse$Machine" "given" "I" "LinkHouse") ∈ lw_tbl := sorry
theorem q1307 : (Jvm.Cond.methodLink "LinkHouse" (129 : Nat) ({ cls := "LinkHouse$Build", name := "<init>", desc := "()V" } : Jvm.MethodName)) ∈ lw_all := sorry
theorem q1317 : (Jvm.Cond.fieldLinkNest "LinkHouse" (312 : Nat) "LinkHouse$Build" "library" "I" "LinkHouse") ∈ lw_tbl := sorry
theorem q1320 : (Jvm.Cond.fieldLinkNest "LinkHouse" (236 : Nat) "LinkHouse$Build" "text" "[B" "LinkHouse") ∈ lw_tbl := sorry
theorem q1323 : (Jvm.Cond.fieldLinkNest "LinkHouse" (239 : Nat) "LinkHouse$Build" "bytes" "I" "LinkHouse") ∈ lw_tbl := sorry
theorem q1326 : (Jvm.Cond.fieldLinkNest "LinkHouse" (631 : Nat) "LinkHouse$Build" "tokenAt" "[I" "LinkHouse") ∈ lw_tbl := sorry
theorem q1329 : (Jvm.Cond.fieldLinkNest "LinkHouse" (634 : Nat) "LinkHouse$Build" "tokenSize" "[I" "LinkHouse") ∈ lw_tbl := sorry
theorem q1332 : (Jvm.Cond.fieldLinkNest "LinkHouse" (628 : Nat) "LinkHouse$Build" "tokens" "I" "LinkHouse") ∈ lw_tbl := sorry
theorem q1336 : (Jvm.Cond.fieldLinkNest "LinkHouse" (203 : Nat) "LinkHouse$Build" "kind" "[LLinkHouse$Kind;" "LinkHouse") ∈ lw_tbl := sorry
theorem q1340 : (Jvm.Cond.fieldLinkNest "LinkHouse" (202 : Nat) "LinkHouse$Build" "kinds" "I" "LinkHouse") ∈ lw_tbl := sorry
theorem q1344 : (Jvm.Cond.fieldLinkNest "LinkHouse" (445 : Nat) "LinkHouse$Build" "use" "[LLinkHouse$Use;" "LinkHouse") ∈ lw_tbl := sorry
theorem q1348 : (Jvm.Cond.fieldLinkNest "LinkHouse" (439 : Nat) "LinkHouse$Build" "uses" "I" "LinkHouse") ∈ lw_tbl := sorry
theorem q1352 : (Jvm.Cond.fieldLinkNest "LinkHouse" (640 : Nat) "LinkHouse$Build" "code" "[I" "LinkHouse") ∈ lw_tbl := sorry
theorem q1355 : (Jvm.Cond.fieldLinkNest "LinkHouse" (637 : Nat) "LinkHouse$Build" "codes" "I" "LinkHouse") ∈ lw_tbl := sorry
theorem q1359 : (Jvm.Cond.fieldLinkNest "LinkHouse" (646 : Nat) "LinkHouse$Build" "caught" "[I" "LinkHouse") ∈ lw_tbl := sorry
theorem q1363 : (Jvm.Cond.fieldLinkNest "LinkHouse" (643 : Nat) "LinkHouse$Build" "catches" "I" "LinkHouse") ∈ lw_tbl := sorry
theorem q1393 : (Jvm.Cond.constantLong "LinkHouse" (130 : Nat) (6927257 : Int64)) ∈ lw_all := sorry
theorem q1394 : (Jvm.Cond.methodLink "LinkHouse" (132 : Nat) ({ cls := "LinkHouse", name := "builtIn", desc := "(LLinkHouse$Kind;JJ)V" } : Jvm.MethodName)) ∈ lw_all := sorry
theorem q1395 : (Jvm.Cond.static ({ cls := "LinkHouse", name := "builtIn", desc := "(LLinkHouse$Kind;JJ)V" } : Jvm.MethodName)) ∈ lw_all := sorry
theorem q1396 : (Jvm.Cond.code ({ cls := "LinkHouse", name := "builtIn", desc := "(LLinkHouse$Kind;JJ)V" } : Jvm.MethodName) prog_1_method_6_code (5 : Nat) (Option.none : Option Jvm.ClassFile.FieldType)) ∈ lw_all := sorry
theorem q1397 : (Jvm.Cond.methodLink "LinkHouse" (175 : Nat) ({ cls := "LinkHouse$Kind", name := "begin", desc := "(LLinkHouse$Build;I)V" } : Jvm.MethodName)) ∈ lw_all := sorry
theorem q1402 : (Jvm.Cond.constantLong "LinkHouse" (136 : Nat) (6959884 : Int64)) ∈ lw_all := sorry
theorem q1403 : (Jvm.Cond.methodLink "LinkHouse" (138 : Nat) ({ cls := "LinkHouse$Kind", name := "more", desc := "()LLinkHouse$Member;" } : Jvm.MethodName)) ∈ lw_all := sorry
theorem q1411 : (Jvm.Cond.constantLong "LinkHouse" (147 : Nat) (848133 : Int64)) ∈ lw_all := sorry
theorem q1412 : (Jvm.Cond.methodLink "LinkHouse" (165 : Nat) ({ cls := "LinkHouse", name := "makerOf", desc := "(LLinkHouse$Kind;)V" } : Jvm.MethodName)) ∈ lw_all := sorry
theorem q1413 : (Jvm.Cond.static ({ cls := "LinkHouse", name := "makerOf", desc := "(LLinkHouse$Kind;)V" } : Jvm.MethodName)) ∈ lw_all := sorry
theorem q1414 : (Jvm.Cond.code ({ cls := "LinkHouse", name := "makerOf", desc := "(LLinkHouse$Kind;)V" } : Jvm.MethodName) prog_1_method_7_code (2 : Nat) (Option.none : Option Jvm.ClassFile.FieldType)) ∈ lw_all := sorry
theorem q1415 : (Jvm.Cond.methodLink "LinkHouse" (169 : Nat) ({ cls := "LinkHouse", name := "layWorld", desc := "()V" } : Jvm.MethodName)) ∈ lw_all := sorry
theorem q1416 : (Jvm.Cond.privateMethod ({ cls := "LinkHouse", name := "layWorld", desc := "()V" } : Jvm.MethodName)) ∈ lw_tbl := sorry
theorem q1417 : (Jvm.Cond.instanceMethod ({ cls := "LinkHouse", name := "layWorld", desc := "()V" } : Jvm.MethodName)) ∈ lw_all := sorry
theorem q1418 : (Jvm.Cond.code ({ cls := "LinkHouse", name := "layWorld", desc := "()V" } : Jvm.MethodName) prog_1_method_11_code (3 : Nat) (Option.none : Option Jvm.ClassFile.FieldType)) ∈ lw_all := sorry
theorem q1419 : (Jvm.Cond.methodLink "LinkHouse" (207 : Nat) ({ cls := "LinkHouse", name := "addBuiltIns", desc := "(LLinkHouse$World;LLinkHouse$Kind;LLinkHouse$Kind;)V" } : Jvm.MethodName)) ∈ lw_all := sorry
theorem q1420 : (Jvm.Cond.static ({ cls := "LinkHouse", name := "addBuiltIns", desc := "(LLinkHouse$World;LLinkHouse$Kind;LLinkHouse$Kind;)V" } : Jvm.MethodName)) ∈ lw_all := sorry
theorem q1421 : (Jvm.Cond.code ({ cls := "LinkHouse", name := "addBuiltIns", desc := "(LLinkHouse$World;LLinkHouse$Kind;LLinkHouse$Kind;)V" } : Jvm.MethodName) prog_1_method_8_code (3 : Nat) (Option.none : Option Jvm.ClassFile.FieldType)) ∈ lw_all := sorry
theorem q1422 : (Jvm.Cond.methodLink "LinkHouse" (211 : Nat) ({ cls := "LinkHouse", name := "stored", desc := "(II)LLinkHouse$Build;" } : Jvm.MethodName)) ∈ lw_all := sorry
theorem q1423 : (Jvm.Cond.privateMethod ({ cls := "LinkHouse", name := "stored", desc := "(II)LLinkHouse$Build;" } : Jvm.MethodName)) ∈ lw_tbl := sorry
theorem q1424 : (Jvm.Cond.instanceMethod ({ cls := "LinkHouse", name := "stored", desc := "(II)LLinkHouse$Build;" } : Jvm.MethodName)) ∈ lw_all := sorry
theorem q1425 : (Jvm.Cond.code ({ cls := "LinkHouse", name := "stored", desc := "(II)LLinkHouse$Build;" } : Jvm.MethodName) prog_1_method_9_code (3 : Nat) (Option.some (Jvm.ClassFile.FieldType.object "LinkHouse$Build"))) ∈ lw_all := sorry
theorem q1426 : (Jvm.Cond.methodLink "LinkHouse" (215 : Nat) ({ cls := "LinkHouse$World", name := "add", desc := "(LLinkHouse$Build;)V" } : Jvm.MethodName)) ∈ lw_all := sorry
theorem q1434 : (Jvm.Cond.methodLink "LinkHouse" (172 : Nat) ({ cls := "LinkHouse$Machine", name := "begin", desc := "()V" } : Jvm.MethodName)) ∈ lw_all := sorry
theorem q1442 : (Jvm.Cond.fieldLink "LinkHouse" (15 : Nat) "LinkHouse" "tape" "[B") ∈ lw_all := sorry
theorem q1443 : (Jvm.Cond.fieldLink "LinkHouse" (219 : Nat) "LinkHouse" "taped" "I") ∈ lw_all := sorry
theorem q1444 : (Jvm.Cond.fieldLink "LinkHouse" (19 : Nat) "LinkHouse" "out" "[B") ∈ lw_all := sorry
theorem q1445 : (Jvm.Cond.fieldLink "LinkHouse" (242 : Nat) "LinkHouse" "outSize" "I") ∈ lw_all := sorry
theorem q1446 : (Jvm.Cond.fieldLink "LinkHouse" (24 : Nat) "LinkHouse" "build" "[LLinkHouse$Build;") ∈ lw_all := sorry
theorem q1447 : (Jvm.Cond.fieldLink "LinkHouse" (199 : Nat) "LinkHouse" "builds" "I") ∈ lw_all := sorry
theorem q1448 : (Jvm.Cond.fieldLink "LinkHouse" (28 : Nat) "LinkHouse" "ofLibrary" "[I") ∈ lw_all := sorry
theorem q1449 : (Jvm.Cond.fieldLink "LinkHouse" (32 : Nat) "LinkHouse" "many" "[I") ∈ lw_all := sorry
theorem q1450 : (Jvm.Cond.fieldLink "LinkHouse" (35 : Nat) "LinkHouse" "picks" "[I") ∈ lw_all := sorry
theorem q1451 : (Jvm.Cond.fieldLink "LinkHouse" (41 : Nat) "LinkHouse" "any" "LLinkHouse$Kind;") ∈ lw_all := sorry
theorem q1452 : (Jvm.Cond.fieldLink "LinkHouse" (45 : Nat) "LinkHouse" "ill" "LLinkHouse$Kind;") ∈ lw_all := sorry
theorem q1453 : (Jvm.Cond.fieldLink "LinkHouse" (53 : Nat) "LinkHouse" "world" "LLinkHouse$World;") ∈ lw_all := sorry
theorem q1454 : (Jvm.Cond.fieldLink "LinkHouse" (57 : Nat) "LinkHouse" "judged" "LLinkHouse$World;") ∈ lw_all := sorry
theorem q1455 : (Jvm.Cond.fieldLink "LinkHouse" (60 : Nat) "LinkHouse" "woven" "LLinkHouse$World;") ∈ lw_all := sorry
theorem q1456 : (Jvm.Cond.fieldLink "LinkHouse" (66 : Nat) "LinkHouse" "refusal" "LLinkHouse$Refusal;") ∈ lw_all := sorry
theorem q1457 : (Jvm.Cond.fieldLink "LinkHouse" (75 : Nat) "LinkHouse" "tree" "LLinkHouse$Tree;") ∈ lw_all := sorry
theorem q1458 : (Jvm.Cond.fieldLink "LinkHouse" (84 : Nat) "LinkHouse" "judge" "LLinkHouse$Judge;") ∈ lw_all := sorry
theorem q1459 : (Jvm.Cond.fieldLink "LinkHouse" (88 : Nat) "LinkHouse" "weaver" "LLinkHouse$Judge;") ∈ lw_all := sorry
theorem q1460 : (Jvm.Cond.fieldLink "LinkHouse" (96 : Nat) "LinkHouse" "meeter" "LLinkHouse$Linker;") ∈ lw_all := sorry
theorem q1461 : (Jvm.Cond.fieldLink "LinkHouse" (103 : Nat) "LinkHouse" "machine" "LLinkHouse$Machine;") ∈ lw_all := sorry
theorem q1462 : (Jvm.Cond.fieldLink "LinkHouse" (107 : Nat) "LinkHouse" "faultAt" "I") ∈ lw_all := sorry
theorem q1463 : (Jvm.Cond.fieldLink "LinkHouse" (494 : Nat) "LinkHouse" "foundLast" "LLinkHouse$Member;") ∈ lw_all := sorry
theorem q1464 : (Jvm.Cond.fieldLink "LinkHouse" (485 : Nat) "LinkHouse" "foundSort" "I") ∈ lw_all := sorry
theorem q1465 : (Jvm.Cond.fieldLink "LinkHouse" (111 : Nat) "LinkHouse" "lookedLast" "[I") ∈ lw_all := sorry
theorem q1466 : (Jvm.Cond.fieldLink "LinkHouse" (500 : Nat) "LinkHouse" "looksLast" "I") ∈ lw_all := sorry
theorem q1467 : (Jvm.Cond.fieldLink "LinkHouse" (114 : Nat) "LinkHouse" "brokenUse" "[I") ∈ lw_all := sorry
theorem q1468 : (Jvm.Cond.fieldLink "LinkHouse" (318 : Nat) "LinkHouse" "brokenCount" "I") ∈ lw_all := sorry
theorem q1469 : (Jvm.Cond.fieldLink "LinkHouse" (117 : Nat) "LinkHouse" "difference" "[I") ∈ lw_all := sorry
theorem q1470 : (Jvm.Cond.fieldLink "LinkHouse" (513 : Nat) "LinkHouse" "differences" "I") ∈ lw_all := sorry
theorem q1471 : (Jvm.Cond.fieldLink "LinkHouse" (120 : Nat) "LinkHouse" "moved" "[B") ∈ lw_all := sorry
theorem q1472 : (Jvm.Cond.fieldLink "LinkHouse" (123 : Nat) "LinkHouse" "picksWere" "[I") ∈ lw_all := sorry
theorem q1473 : (Jvm.Cond.fieldLink "LinkHouse" (126 : Nat) "LinkHouse" "kept" "[I") ∈ lw_all := sorry
theorem q1474 : (Jvm.Cond.laysFinal "LinkHouse" "LinkHouse" "tape" "[B") ∈ lw_all := sorry
theorem q1475 : (Jvm.Cond.soleField "LinkHouse" "tape") ∈ lw_all := sorry
theorem q1476 : (Jvm.Cond.lays "LinkHouse" "LinkHouse" "taped" "I") ∈ lw_all := sorry
theorem q1477 : (Jvm.Cond.soleField "LinkHouse" "taped") ∈ lw_all := sorry
theorem q1478 : (Jvm.Cond.laysFinal "LinkHouse" "LinkHouse" "out" "[B") ∈ lw_all := sorry
theorem q1479 : (Jvm.Cond.soleField "LinkHouse" "out") ∈ lw_all := sorry
theorem q1480 : (Jvm.Cond.lays "LinkHouse" "LinkHouse" "outSize" "I") ∈ lw_all := sorry
theorem q1481 : (Jvm.Cond.soleField "LinkHouse" "outSize") ∈ lw_all := sorry
theorem q1482 : (Jvm.Cond.laysFinal "LinkHouse" "LinkHouse" "build" "[LLinkHouse$Build;") ∈ lw_all := sorry
theorem q1483 : (Jvm.Cond.soleField "LinkHouse" "build") ∈ lw_all := sorry
theorem q1484 : (Jvm.Cond.lays "LinkHouse" "LinkHouse" "builds" "I") ∈ lw_all := sorry
theorem q1485 : (Jvm.Cond.soleField "LinkHouse" "builds") ∈ lw_all := sorry
theorem q1486 : (Jvm.Cond.laysFinal "LinkHouse" "LinkHouse" "ofLibrary" "[I") ∈ lw_all := sorry
theorem q1487 : (Jvm.Cond.soleField "LinkHouse" "ofLibrary") ∈ lw_all := sorry
theorem q1488 : (Jvm.Cond.laysFinal "LinkHouse" "LinkHouse" "many" "[I") ∈ lw_all := sorry
theorem q1489 : (Jvm.Cond.soleField "LinkHouse" "many") ∈ lw_all := sorry
theorem q1490 : (Jvm.Cond.laysFinal "LinkHouse" "LinkHouse" "picks" "[I") ∈ lw_all := sorry
theorem q1491 : (Jvm.Cond.soleField "LinkHouse" "picks") ∈ lw_all := sorry
theorem q1492 : (Jvm.Cond.laysFinal "LinkHouse" "LinkHouse" "any" "LLinkHouse$Kind;") ∈ lw_all := sorry
theorem q1493 : (Jvm.Cond.soleField "LinkHouse" "any") ∈ lw_all := sorry
theorem q1494 : (Jvm.Cond.laysFinal "LinkHouse" "LinkHouse" "ill" "LLinkHouse$Kind;") ∈ lw_all := sorry
theorem q1495 : (Jvm.Cond.soleField "LinkHouse" "ill") ∈ lw_all := sorry
theorem q1496 : (Jvm.Cond.laysFinal "LinkHouse" "LinkHouse" "world" "LLinkHouse$World;") ∈ lw_all := sorry
theorem q1497 : (Jvm.Cond.soleField "LinkHouse" "world") ∈ lw_all := sorry
theorem q1498 : (Jvm.Cond.laysFinal "LinkHouse" "LinkHouse" "judged" "LLinkHouse$World;") ∈ lw_all := sorry
theorem q1499 : (Jvm.Cond.soleField "LinkHouse" "judged") ∈ lw_all := sorry
theorem q1500 : (Jvm.Cond.laysFinal "LinkHouse" "LinkHouse" "woven" "LLinkHouse$World;") ∈ lw_all := sorry
theorem q1501 : (Jvm.Cond.soleField "LinkHouse" "woven") ∈ lw_all := sorry
theorem q1502 : (Jvm.Cond.laysFinal "LinkHouse" "LinkHouse" "refusal" "LLinkHouse$Refusal;") ∈ lw_all := sorry
theorem q1503 : (Jvm.Cond.soleField "LinkHouse" "refusal") ∈ lw_all := sorry
theorem q1504 : (Jvm.Cond.laysFinal "LinkHouse" "LinkHouse" "tree" "LLinkHouse$Tree;") ∈ lw_all := sorry
theorem q1505 : (Jvm.Cond.soleField "LinkHouse" "tree") ∈ lw_all := sorry
theorem q1506 : (Jvm.Cond.laysFinal "LinkHouse" "LinkHouse" "judge" "LLinkHouse$Judge;") ∈ lw_all := sorry
theorem q1507 : (Jvm.Cond.soleField "LinkHouse" "judge") ∈ lw_all := sorry
theorem q1508 : (Jvm.Cond.laysFinal "LinkHouse" "LinkHouse" "weaver" "LLinkHouse$Judge;") ∈ lw_all := sorry
theorem q1509 : (Jvm.Cond.soleField "LinkHouse" "weaver") ∈ lw_all := sorry
theorem q1510 : (Jvm.Cond.laysFinal "LinkHouse" "LinkHouse" "meeter" "LLinkHouse$Linker;") ∈ lw_all := sorry
theorem q1511 : (Jvm.Cond.soleField "LinkHouse" "meeter") ∈ lw_all := sorry
theorem q1512 : (Jvm.Cond.laysFinal "LinkHouse" "LinkHouse" "machine" "LLinkHouse$Machine;") ∈ lw_all := sorry
theorem q1513 : (Jvm.Cond.soleField "LinkHouse" "machine") ∈ lw_all := sorry
theorem q1514 : (Jvm.Cond.lays "LinkHouse" "LinkHouse" "faultAt" "I") ∈ lw_all := sorry
theorem q1515 : (Jvm.Cond.soleField "LinkHouse" "faultAt") ∈ lw_all := sorry
theorem q1516 : (Jvm.Cond.lays "LinkHouse" "LinkHouse" "foundLast" "LLinkHouse$Member;") ∈ lw_all := sorry
theorem q1517 : (Jvm.Cond.soleField "LinkHouse" "foundLast") ∈ lw_all := sorry
theorem q1518 : (Jvm.Cond.lays "LinkHouse" "LinkHouse" "foundSort" "I") ∈ lw_all := sorry
theorem q1519 : (Jvm.Cond.soleField "LinkHouse" "foundSort") ∈ lw_all := sorry
theorem q1520 : (Jvm.Cond.laysFinal "LinkHouse" "LinkHouse" "lookedLast" "[I") ∈ lw_all := sorry
theorem q1521 : (Jvm.Cond.soleField "LinkHouse" "lookedLast") ∈ lw_all := sorry
theorem q1522 : (Jvm.Cond.lays "LinkHouse" "LinkHouse" "looksLast" "I") ∈ lw_all := sorry
theorem q1523 : (Jvm.Cond.soleField "LinkHouse" "looksLast") ∈ lw_all := sorry
theorem q1524 : (Jvm.Cond.laysFinal "LinkHouse" "LinkHouse" "brokenUse" "[I") ∈ lw_all := sorry
theorem q1525 : (Jvm.Cond.soleField "LinkHouse" "brokenUse") ∈ lw_all := sorry
theorem q1526 : (Jvm.Cond.lays "LinkHouse" "LinkHouse" "brokenCount" "I") ∈ lw_all := sorry
theorem q1527 : (Jvm.Cond.soleField "LinkHouse" "brokenCount") ∈ lw_all := sorry
theorem q1528 : (Jvm.Cond.laysFinal "LinkHouse" "LinkHouse" "difference" "[I") ∈ lw_all := sorry
theorem q1529 : (Jvm.Cond.soleField "LinkHouse" "difference") ∈ lw_all := sorry
theorem q1530 : (Jvm.Cond.lays "LinkHouse" "LinkHouse" "differences" "I") ∈ lw_all := sorry
theorem q1531 : (Jvm.Cond.soleField "LinkHouse" "differences") ∈ lw_all := sorry
theorem q1532 : (Jvm.Cond.laysFinal "LinkHouse" "LinkHouse" "moved" "[B") ∈ lw_all := sorry
theorem q1533 : (Jvm.Cond.soleField "LinkHouse" "moved") ∈ lw_all := sorry
theorem q1534 : (Jvm.Cond.laysFinal "LinkHouse" "LinkHouse" "picksWere" "[I") ∈ lw_all := sorry
theorem q1535 : (Jvm.Cond.soleField "LinkHouse" "picksWere") ∈ lw_all := sorry
theorem q1536 : (Jvm.Cond.laysFinal "LinkHouse" "LinkHouse" "kept" "[I") ∈ lw_all := sorry
theorem q1537 : (Jvm.Cond.soleField "LinkHouse" "kept") ∈ lw_all := sorry
theorem q1538 : (Jvm.Cond.superclass "LinkHouse" "java/lang/Object") ∈ lw_all := sorry
theorem q1540 : (Jvm.Cond.instanceMethod ({ cls := "LinkHouse", name := "feed", desc := "(IIIII)I" } : Jvm.MethodName)) ∈ lw_all := sorry
theorem q1541 : (Jvm.Cond.selects "LinkHouse" ({ cls := "LinkHouse", name := "feed", desc := "(IIIII)I" } : Jvm.MethodName) ({ cls := "LinkHouse", name := "feed", desc := "(IIIII)I" } : Jvm.MethodName)) ∈ lw_all := sorry
theorem q1542 : (Jvm.Cond.code ({ cls := "LinkHouse", name := "feed", desc := "(IIIII)I" } : Jvm.MethodName) prog_1_method_13_code (6 : Nat) (Option.some Jvm.ClassFile.FieldType.int)) ∈ lw_all := sorry
theorem q1543 : (Jvm.Cond.methodLink "LinkHouse" (222 : Nat) ({ cls := "LinkHouse", name := "lay", desc := "(I)V" } : Jvm.MethodName)) ∈ lw_all := sorry
theorem q1544 : (Jvm.Cond.privateMethod ({ cls := "LinkHouse", name := "lay", desc := "(I)V" } : Jvm.MethodName)) ∈ lw_tbl := sorry
theorem q1545 : (Jvm.Cond.instanceMethod ({ cls := "LinkHouse", name := "lay", desc := "(I)V" } : Jvm.MethodName)) ∈ lw_all := sorry
theorem q1546 : (Jvm.Cond.code ({ cls := "LinkHouse", name := "lay", desc := "(I)V" } : Jvm.MethodName) prog_1_method_14_code (3 : Nat) (Option.none : Option Jvm.ClassFile.FieldType)) ∈ lw_all := sorry
theorem q1548 : (Jvm.Cond.instanceMethod ({ cls := "LinkHouse", name := "cut", desc := "(I)I" } : Jvm.MethodName)) ∈ lw_all := sorry
theorem q1549 : (Jvm.Cond.selects "LinkHouse" ({ cls := "LinkHouse", name := "cut", desc := "(I)I" } : Jvm.MethodName) ({ cls := "LinkHouse", name := "cut", desc := "(I)I" } : Jvm.MethodName)) ∈ lw_all := sorry
theorem q1550 : (Jvm.Cond.code ({ cls := "LinkHouse", name := "cut", desc := "(I)I" } : Jvm.MethodName) prog_1_method_15_code (2 : Nat) (Option.some Jvm.ClassFile.FieldType.int)) ∈ lw_all := sorry
theorem q1552 : (Jvm.Cond.instanceMethod ({ cls := "LinkHouse", name := "splice", desc := "(III)I" } : Jvm.MethodName)) ∈ lw_all := sorry
theorem q1553 : (Jvm.Cond.selects "LinkHouse" ({ cls := "LinkHouse", name := "splice", desc := "(III)I" } : Jvm.MethodName) ({ cls := "LinkHouse", name := "splice", desc := "(III)I" } : Jvm.MethodName)) ∈ lw_all := sorry
theorem q1554 : (Jvm.Cond.code ({ cls := "LinkHouse", name := "splice", desc := "(III)I" } : Jvm.MethodName) prog_1_method_16_code (5 : Nat) (Option.some Jvm.ClassFile.FieldType.int)) ∈ lw_all := sorry
theorem q1555 : (Jvm.Cond.methodLink "LinkHouse" (226 : Nat) ({ cls := "java/lang/System", name := "arraycopy", desc := "(Ljava/lang/Object;ILjava/lang/Object;II)V" } : Jvm.MethodName)) ∈ lw_all := sorry
theorem q1559 : (Jvm.Cond.instanceMethod ({ cls := "LinkHouse", name := "text", desc := "(II)I" } : Jvm.MethodName)) ∈ lw_all := sorry
theorem q1560 : (Jvm.Cond.selects "LinkHouse" ({ cls := "LinkHouse", name := "text", desc := "(II)I" } : Jvm.MethodName) ({ cls := "LinkHouse", name := "text", desc := "(II)I" } : Jvm.MethodName)) ∈ lw_all := sorry
theorem q1561 : (Jvm.Cond.code ({ cls := "LinkHouse", name := "text", desc := "(II)I" } : Jvm.MethodName) prog_1_method_17_code (4 : Nat) (Option.some Jvm.ClassFile.FieldType.int)) ∈ lw_all := sorry
theorem q1562 : (Jvm.Cond.methodLink "LinkHouse" (232 : Nat) ({ cls := "LinkHouse", name := "isBuild", desc := "(II)Z" } : Jvm.MethodName)) ∈ lw_all := sorry
theorem q1563 : (Jvm.Cond.privateMethod ({ cls := "LinkHouse", name := "isBuild", desc := "(II)Z" } : Jvm.MethodName)) ∈ lw_tbl := sorry
theorem q1564 : (Jvm.Cond.instanceMethod ({ cls := "LinkHouse", name := "isBuild", desc := "(II)Z" } : Jvm.MethodName)) ∈ lw_all := sorry
theorem q1565 : (Jvm.Cond.code ({ cls := "LinkHouse", name := "isBuild", desc := "(II)Z" } : Jvm.MethodName) prog_1_method_10_code (3 : Nat) (Option.some Jvm.ClassFile.FieldType.boolean)) ∈ lw_all := sorry
theorem q1567 : (Jvm.Cond.instanceMethod ({ cls := "LinkHouse", name := "size", desc := "()I" } : Jvm.MethodName)) ∈ lw_all := sorry
theorem q1568 : (Jvm.Cond.selects "LinkHouse" ({ cls := "LinkHouse", name := "size", desc := "()I" } : Jvm.MethodName) ({ cls := "LinkHouse", name := "size", desc := "()I" } : Jvm.MethodName)) ∈ lw_all := sorry
theorem q1569 : (Jvm.Cond.code ({ cls := "LinkHouse", name := "size", desc := "()I" } : Jvm.MethodName) prog_1_method_18_code (1 : Nat) (Option.some Jvm.ClassFile.FieldType.int)) ∈ lw_all := sorry
theorem q1571 : (Jvm.Cond.instanceMethod ({ cls := "LinkHouse", name := "octet", desc := "(I)I" } : Jvm.MethodName)) ∈ lw_all := sorry
theorem q1572 : (Jvm.Cond.selects "LinkHouse" ({ cls := "LinkHouse", name := "octet", desc := "(I)I" } : Jvm.MethodName) ({ cls := "LinkHouse", name := "octet", desc := "(I)I" } : Jvm.MethodName)) ∈ lw_all := sorry
theorem q1573 : (Jvm.Cond.code ({ cls := "LinkHouse", name := "octet", desc := "(I)I" } : Jvm.MethodName) prog_1_method_19_code (2 : Nat) (Option.some Jvm.ClassFile.FieldType.int)) ∈ lw_all := sorry
theorem q1575 : (Jvm.Cond.instanceMethod ({ cls := "LinkHouse", name := "make", desc := "(I)I" } : Jvm.MethodName)) ∈ lw_all := sorry
theorem q1576 : (Jvm.Cond.selects "LinkHouse" ({ cls := "LinkHouse", name := "make", desc := "(I)I" } : Jvm.MethodName) ({ cls := "LinkHouse", name := "make", desc := "(I)I" } : Jvm.MethodName)) ∈ lw_all := sorry
theorem q1577 : (Jvm.Cond.codeWith ({ cls := "LinkHouse", name := "make", desc := "(I)I" } : Jvm.MethodName) prog_1_method_25_code (4 : Nat) (Option.some Jvm.ClassFile.FieldType.int) [((84 : Nat), (110 : Nat), (113 : Nat), (63 : Nat))]) ∈ lw_all := sorry
theorem q1578 : (Jvm.Cond.methodLink "LinkHouse" (292 : Nat) ({ cls := "LinkHouse$Build", name := "begin", desc := "()V" } : Jvm.MethodName)) ∈ lw_all := sorry
theorem q1582 : (Jvm.Cond.methodLink "LinkHouse" (293 : Nat) ({ cls := "LinkHouse$Tree", name := "readAll", desc := "(LLinkHouse$Build;)V" } : Jvm.MethodName)) ∈ lw_all := sorry
theorem q1649 : (Jvm.Cond.static ({ cls := "LinkHouse", name := "packageOf", desc := "(J)I" } : Jvm.MethodName)) ∈ lw_all := sorry
theorem q1650 : (Jvm.Cond.code ({ cls := "LinkHouse", name := "packageOf", desc := "(J)I" } : Jvm.MethodName) prog_1_method_4_code (4 : Nat) (Option.some Jvm.ClassFile.FieldType.int)) ∈ lw_all := sorry
theorem q1651 : (Jvm.Cond.constantLong "LinkHouse" (7 : Nat) (63 : Int64)) ∈ lw_all := sorry
theorem q1749 : (Jvm.Cond.methodLink "LinkHouse" (296 : Nat) ({ cls := "LinkHouse", name := "layOther", desc := "(LLinkHouse$World;ILLinkHouse$Build;)V" } : Jvm.MethodName)) ∈ lw_all := sorry
theorem q1750 : (Jvm.Cond.privateMethod ({ cls := "LinkHouse", name := "layOther", desc := "(LLinkHouse$World;ILLinkHouse$Build;)V" } : Jvm.MethodName)) ∈ lw_tbl := sorry
theorem q1751 : (Jvm.Cond.instanceMethod ({ cls := "LinkHouse", name := "layOther", desc := "(LLinkHouse$World;ILLinkHouse$Build;)V" } : Jvm.MethodName)) ∈ lw_all := sorry
theorem q1752 : (Jvm.Cond.code ({ cls := "LinkHouse", name := "layOther", desc := "(LLinkHouse$World;ILLinkHouse$Build;)V" } : Jvm.MethodName) prog_1_method_12_code (5 : Nat) (Option.none : Option Jvm.ClassFile.FieldType)) ∈ lw_all := sorry
theorem q1753 : (Jvm.Cond.methodLink "LinkHouse" (300 : Nat) ({ cls := "LinkHouse$Judge", name := "all", desc := "(LLinkHouse$Build;)V" } : Jvm.MethodName)) ∈ lw_all := sorry
theorem q2165 : (Jvm.Cond.methodLink "LinkHouse" (309 : Nat) ({ cls := "LinkHouse", name := "stand", desc := "(I)I" } : Jvm.MethodName)) ∈ lw_all := sorry
theorem q2166 : (Jvm.Cond.privateMethod ({ cls := "LinkHouse", name := "stand", desc := "(I)I" } : Jvm.MethodName)) ∈ lw_tbl := sorry
theorem q2167 : (Jvm.Cond.instanceMethod ({ cls := "LinkHouse", name := "stand", desc := "(I)I" } : Jvm.MethodName)) ∈ lw_all := sorry
theorem q2168 : (Jvm.Cond.code ({ cls := "LinkHouse", name := "stand", desc := "(I)I" } : Jvm.MethodName) prog_1_method_26_code (2 : Nat) (Option.some Jvm.ClassFile.FieldType.int)) ∈ lw_all := sorry
theorem q2170 : (Jvm.Cond.instanceMethod ({ cls := "LinkHouse", name := "place", desc := "()I" } : Jvm.MethodName)) ∈ lw_all := sorry
theorem q2171 : (Jvm.Cond.selects "LinkHouse" ({ cls := "LinkHouse", name := "place", desc := "()I" } : Jvm.MethodName) ({ cls := "LinkHouse", name := "place", desc := "()I" } : Jvm.MethodName)) ∈ lw_all := sorry
theorem q2172 : (Jvm.Cond.code ({ cls := "LinkHouse", name := "place", desc := "()I" } : Jvm.MethodName) prog_1_method_27_code (1 : Nat) (Option.some Jvm.ClassFile.FieldType.int)) ∈ lw_all := sorry
theorem q2174 : (Jvm.Cond.instanceMethod ({ cls := "LinkHouse", name := "builds", desc := "(I)I" } : Jvm.MethodName)) ∈ lw_all := sorry
theorem q2175 : (Jvm.Cond.selects "LinkHouse" ({ cls := "LinkHouse", name := "builds", desc := "(I)I" } : Jvm.MethodName) ({ cls := "LinkHouse", name := "builds", desc := "(I)I" } : Jvm.MethodName)) ∈ lw_all := sorry
theorem q2176 : (Jvm.Cond.code ({ cls := "LinkHouse", name := "builds", desc := "(I)I" } : Jvm.MethodName) prog_1_method_28_code (2 : Nat) (Option.some Jvm.ClassFile.FieldType.int)) ∈ lw_all := sorry
theorem q2178 : (Jvm.Cond.instanceMethod ({ cls := "LinkHouse", name := "pick", desc := "(II)I" } : Jvm.MethodName)) ∈ lw_all := sorry
theorem q2179 : (Jvm.Cond.selects "LinkHouse" ({ cls := "LinkHouse", name := "pick", desc := "(II)I" } : Jvm.MethodName) ({ cls := "LinkHouse", name := "pick", desc := "(II)I" } : Jvm.MethodName)) ∈ lw_all := sorry
theorem q2180 : (Jvm.Cond.code ({ cls := "LinkHouse", name := "pick", desc := "(II)I" } : Jvm.MethodName) prog_1_method_29_code (4 : Nat) (Option.some Jvm.ClassFile.FieldType.int)) ∈ lw_all := sorry
theorem q2181 : (Jvm.Cond.methodLink "LinkHouse" (315 : Nat) ({ cls := "LinkHouse", name := "renew", desc := "()V" } : Jvm.MethodName)) ∈ lw_all := sorry
theorem q2182 : (Jvm.Cond.privateMethod ({ cls := "LinkHouse", name := "renew", desc := "()V" } : Jvm.MethodName)) ∈ lw_tbl := sorry
theorem q2183 : (Jvm.Cond.instanceMethod ({ cls := "LinkHouse", name := "renew", desc := "()V" } : Jvm.MethodName)) ∈ lw_all := sorry
theorem q2184 : (Jvm.Cond.code ({ cls := "LinkHouse", name := "renew", desc := "()V" } : Jvm.MethodName) prog_1_method_30_code (1 : Nat) (Option.none : Option Jvm.ClassFile.FieldType)) ∈ lw_all := sorry
theorem q2186 : (Jvm.Cond.instanceMethod ({ cls := "LinkHouse", name := "picked", desc := "(I)I" } : Jvm.MethodName)) ∈ lw_all := sorry
theorem q2187 : (Jvm.Cond.selects "LinkHouse" ({ cls := "LinkHouse", name := "picked", desc := "(I)I" } : Jvm.MethodName) ({ cls := "LinkHouse", name := "picked", desc := "(I)I" } : Jvm.MethodName)) ∈ lw_all := sorry
theorem q2188 : (Jvm.Cond.code ({ cls := "LinkHouse", name := "picked", desc := "(I)I" } : Jvm.MethodName) prog_1_method_31_code (2 : Nat) (Option.some Jvm.ClassFile.FieldType.int)) ∈ lw_all := sorry
theorem q2190 : (Jvm.Cond.instanceMethod ({ cls := "LinkHouse", name := "classes", desc := "(II)I" } : Jvm.MethodName)) ∈ lw_all := sorry
theorem q2191 : (Jvm.Cond.selects "LinkHouse" ({ cls := "LinkHouse", name := "classes", desc := "(II)I" } : Jvm.MethodName) ({ cls := "LinkHouse", name := "classes", desc := "(II)I" } : Jvm.MethodName)) ∈ lw_all := sorry
theorem q2192 : (Jvm.Cond.code ({ cls := "LinkHouse", name := "classes", desc := "(II)I" } : Jvm.MethodName) prog_1_method_32_code (3 : Nat) (Option.some Jvm.ClassFile.FieldType.int)) ∈ lw_all := sorry
theorem q2194 : (Jvm.Cond.instanceMethod ({ cls := "LinkHouse", name := "members", desc := "(III)I" } : Jvm.MethodName)) ∈ lw_all := sorry
theorem q2195 : (Jvm.Cond.selects "LinkHouse" ({ cls := "LinkHouse", name := "members", desc := "(III)I" } : Jvm.MethodName) ({ cls := "LinkHouse", name := "members", desc := "(III)I" } : Jvm.MethodName)) ∈ lw_all := sorry
theorem q2196 : (Jvm.Cond.code ({ cls := "LinkHouse", name := "members", desc := "(III)I" } : Jvm.MethodName) prog_1_method_36_code (4 : Nat) (Option.some Jvm.ClassFile.FieldType.int)) ∈ lw_all := sorry
theorem q2197 : (Jvm.Cond.methodLink "LinkHouse" (331 : Nat) ({ cls := "LinkHouse", name := "isKindOf", desc := "(III)Z" } : Jvm.MethodName)) ∈ lw_all := sorry
theorem q2198 : (Jvm.Cond.privateMethod ({ cls := "LinkHouse", name := "isKindOf", desc := "(III)Z" } : Jvm.MethodName)) ∈ lw_tbl := sorry
theorem q2199 : (Jvm.Cond.instanceMethod ({ cls := "LinkHouse", name := "isKindOf", desc := "(III)Z" } : Jvm.MethodName)) ∈ lw_all := sorry
theorem q2200 : (Jvm.Cond.code ({ cls := "LinkHouse", name := "isKindOf", desc := "(III)Z" } : Jvm.MethodName) prog_1_method_35_code (4 : Nat) (Option.some Jvm.ClassFile.FieldType.boolean)) ∈ lw_all := sorry
theorem q2201 : (Jvm.Cond.methodLink "LinkHouse" (334 : Nat) ({ cls := "LinkHouse", name := "shown", desc := "(LLinkHouse$Kind;)I" } : Jvm.MethodName)) ∈ lw_all := sorry
theorem q2202 : (Jvm.Cond.static ({ cls := "LinkHouse", name := "shown", desc := "(LLinkHouse$Kind;)I" } : Jvm.MethodName)) ∈ lw_all := sorry
theorem q2203 : (Jvm.Cond.code ({ cls := "LinkHouse", name := "shown", desc := "(LLinkHouse$Kind;)I" } : Jvm.MethodName) prog_1_method_33_code (3 : Nat) (Option.some Jvm.ClassFile.FieldType.int)) ∈ lw_all := sorry
theorem q2205 : (Jvm.Cond.instanceMethod ({ cls := "LinkHouse", name := "shape", desc := "(IIII)I" } : Jvm.MethodName)) ∈ lw_all := sorry
theorem q2206 : (Jvm.Cond.selects "LinkHouse" ({ cls := "LinkHouse", name := "shape", desc := "(IIII)I" } : Jvm.MethodName) ({ cls := "LinkHouse", name := "shape", desc := "(IIII)I" } : Jvm.MethodName)) ∈ lw_all := sorry
theorem q2207 : (Jvm.Cond.code ({ cls := "LinkHouse", name := "shape", desc := "(IIII)I" } : Jvm.MethodName) prog_1_method_37_code (7 : Nat) (Option.some Jvm.ClassFile.FieldType.int)) ∈ lw_all := sorry
theorem q2208 : (Jvm.Cond.methodLink "LinkHouse" (338 : Nat) ({ cls := "LinkHouse", name := "sayHead", desc := "(LLinkHouse$Kind;)V" } : Jvm.MethodName)) ∈ lw_all := sorry
theorem q2209 : (Jvm.Cond.privateMethod ({ cls := "LinkHouse", name := "sayHead", desc := "(LLinkHouse$Kind;)V" } : Jvm.MethodName)) ∈ lw_tbl := sorry
theorem q2210 : (Jvm.Cond.instanceMethod ({ cls := "LinkHouse", name := "sayHead", desc := "(LLinkHouse$Kind;)V" } : Jvm.MethodName)) ∈ lw_all := sorry
theorem q2211 : (Jvm.Cond.code ({ cls := "LinkHouse", name := "sayHead", desc := "(LLinkHouse$Kind;)V" } : Jvm.MethodName) prog_1_method_38_code (2 : Nat) (Option.none : Option Jvm.ClassFile.FieldType)) ∈ lw_all := sorry
theorem q2212 : (Jvm.Cond.stringRef "LinkHouse" (349 : Nat) "open ") ∈ lw_tbl := sorry
theorem q2213 : (Jvm.Cond.stringRef "LinkHouse" (351 : Nat) "") ∈ lw_tbl := sorry
theorem q2214 : (Jvm.Cond.methodLink "LinkHouse" (261 : Nat) ({ cls := "LinkHouse", name := "say", desc := "(Ljava/lang/String;)V" } : Jvm.MethodName)) ∈ lw_all := sorry
theorem q2215 : (Jvm.Cond.privateMethod ({ cls := "LinkHouse", name := "say", desc := "(Ljava/lang/String;)V" } : Jvm.MethodName)) ∈ lw_tbl := sorry
theorem q2216 : (Jvm.Cond.instanceMethod ({ cls := "LinkHouse", name := "say", desc := "(Ljava/lang/String;)V" } : Jvm.MethodName)) ∈ lw_all := sorry
theorem q2217 : (Jvm.Cond.code ({ cls := "LinkHouse", name := "say", desc := "(Ljava/lang/String;)V" } : Jvm.MethodName) prog_1_method_20_code (3 : Nat) (Option.none : Option Jvm.ClassFile.FieldType)) ∈ lw_all := sorry
theorem q2218 : (Jvm.Cond.methodLink "LinkHouse" (245 : Nat) ({ cls := "java/lang/String", name := "length", desc := "()I" } : Jvm.MethodName)) ∈ lw_all := sorry
theorem q2219 : (Jvm.Cond.methodLink "LinkHouse" (251 : Nat) ({ cls := "java/lang/String", name := "charAt", desc := "(I)C" } : Jvm.MethodName)) ∈ lw_all := sorry
theorem q2220 : (Jvm.Cond.stringRef "LinkHouse" (356 : Nat) "final ") ∈ lw_tbl := sorry
theorem q2221 : (Jvm.Cond.stringRef "LinkHouse" (361 : Nat) "bare ") ∈ lw_tbl := sorry
theorem q2222 : (Jvm.Cond.stringRef "LinkHouse" (366 : Nat) "face ") ∈ lw_tbl := sorry
theorem q2223 : (Jvm.Cond.stringRef "LinkHouse" (368 : Nat) "class ") ∈ lw_tbl := sorry
theorem q2224 : (Jvm.Cond.methodLink "LinkHouse" (269 : Nat) ({ cls := "LinkHouse", name := "sayName", desc := "(JZ)V" } : Jvm.MethodName)) ∈ lw_all := sorry
theorem q2225 : (Jvm.Cond.privateMethod ({ cls := "LinkHouse", name := "sayName", desc := "(JZ)V" } : Jvm.MethodName)) ∈ lw_tbl := sorry
theorem q2226 : (Jvm.Cond.instanceMethod ({ cls := "LinkHouse", name := "sayName", desc := "(JZ)V" } : Jvm.MethodName)) ∈ lw_all := sorry
theorem q2227 : (Jvm.Cond.code ({ cls := "LinkHouse", name := "sayName", desc := "(JZ)V" } : Jvm.MethodName) prog_1_method_21_code (7 : Nat) (Option.none : Option Jvm.ClassFile.FieldType)) ∈ lw_all := sorry
theorem q2228 : (Jvm.Cond.methodLink "LinkHouse" (255 : Nat) ({ cls := "LinkHouse", name := "letter", desc := "(I)I" } : Jvm.MethodName)) ∈ lw_all := sorry
theorem q2229 : (Jvm.Cond.static ({ cls := "LinkHouse", name := "letter", desc := "(I)I" } : Jvm.MethodName)) ∈ lw_all := sorry
theorem q2230 : (Jvm.Cond.code ({ cls := "LinkHouse", name := "letter", desc := "(I)I" } : Jvm.MethodName) prog_1_method_3_code (1 : Nat) (Option.some Jvm.ClassFile.FieldType.int)) ∈ lw_all := sorry
theorem q2231 : (Jvm.Cond.stringRef "LinkHouse" (259 : Nat) ".") ∈ lw_tbl := sorry
theorem q2232 : (Jvm.Cond.stringRef "LinkHouse" (370 : Nat) " is ") ∈ lw_tbl := sorry
theorem q2233 : (Jvm.Cond.stringRef "LinkHouse" (372 : Nat) " as ") ∈ lw_tbl := sorry
theorem q2234 : (Jvm.Cond.methodLink "LinkHouse" (380 : Nat) ({ cls := "LinkHouse", name := "sayRow", desc := "(Ljava/lang/String;[JI)V" } : Jvm.MethodName)) ∈ lw_all := sorry
theorem q2235 : (Jvm.Cond.privateMethod ({ cls := "LinkHouse", name := "sayRow", desc := "(Ljava/lang/String;[JI)V" } : Jvm.MethodName)) ∈ lw_tbl := sorry
theorem q2236 : (Jvm.Cond.instanceMethod ({ cls := "LinkHouse", name := "sayRow", desc := "(Ljava/lang/String;[JI)V" } : Jvm.MethodName)) ∈ lw_all := sorry
theorem q2237 : (Jvm.Cond.code ({ cls := "LinkHouse", name := "sayRow", desc := "(Ljava/lang/String;[JI)V" } : Jvm.MethodName) prog_1_method_39_code (5 : Nat) (Option.none : Option Jvm.ClassFile.FieldType)) ∈ lw_all := sorry
theorem q2238 : (Jvm.Cond.stringRef "LinkHouse" (280 : Nat) ",") ∈ lw_tbl := sorry
theorem q2239 : (Jvm.Cond.stringRef "LinkHouse" (387 : Nat) " in ") ∈ lw_tbl := sorry
theorem q2240 : (Jvm.Cond.stringRef "LinkHouse" (389 : Nat) " with ") ∈ lw_tbl := sorry
theorem q2241 : (Jvm.Cond.stringRef "LinkHouse" (397 : Nat) " only ") ∈ lw_tbl := sorry
theorem q2242 : (Jvm.Cond.methodLink "LinkHouse" (341 : Nat) ({ cls := "LinkHouse", name := "shownAs", desc := "(LLinkHouse$Member;)I" } : Jvm.MethodName)) ∈ lw_all := sorry
theorem q2243 : (Jvm.Cond.static ({ cls := "LinkHouse", name := "shownAs", desc := "(LLinkHouse$Member;)I" } : Jvm.MethodName)) ∈ lw_all := sorry
theorem q2244 : (Jvm.Cond.code ({ cls := "LinkHouse", name := "shownAs", desc := "(LLinkHouse$Member;)I" } : Jvm.MethodName) prog_1_method_34_code (3 : Nat) (Option.some Jvm.ClassFile.FieldType.int)) ∈ lw_all := sorry
theorem q2245 : (Jvm.Cond.methodLink "LinkHouse" (345 : Nat) ({ cls := "LinkHouse", name := "sayMember", desc := "(LLinkHouse$Member;)V" } : Jvm.MethodName)) ∈ lw_all := sorry
theorem q2246 : (Jvm.Cond.privateMethod ({ cls := "LinkHouse", name := "sayMember", desc := "(LLinkHouse$Member;)V" } : Jvm.MethodName)) ∈ lw_tbl := sorry
theorem q2247 : (Jvm.Cond.instanceMethod ({ cls := "LinkHouse", name := "sayMember", desc := "(LLinkHouse$Member;)V" } : Jvm.MethodName)) ∈ lw_all := sorry
theorem q2248 : (Jvm.Cond.code ({ cls := "LinkHouse", name := "sayMember", desc := "(LLinkHouse$Member;)V" } : Jvm.MethodName) prog_1_method_40_code (2 : Nat) (Option.none : Option Jvm.ClassFile.FieldType)) ∈ lw_all := sorry
theorem q2249 : (Jvm.Cond.stringRef "LinkHouse" (408 : Nat) "bridge ") ∈ lw_tbl := sorry
theorem q2250 : (Jvm.Cond.stringRef "LinkHouse" (410 : Nat) "kin ") ∈ lw_tbl := sorry
theorem q2251 : (Jvm.Cond.stringRef "LinkHouse" (412 : Nat) "own ") ∈ lw_tbl := sorry
theorem q2252 : (Jvm.Cond.stringRef "LinkHouse" (417 : Nat) "static ") ∈ lw_tbl := sorry
theorem q2253 : (Jvm.Cond.stringRef "LinkHouse" (421 : Nat) "new") ∈ lw_tbl := sorry
theorem q2254 : (Jvm.Cond.methodLink "LinkHouse" (286 : Nat) ({ cls := "LinkHouse", name := "sayType", desc := "(J)V" } : Jvm.MethodName)) ∈ lw_all := sorry
theorem q2255 : (Jvm.Cond.privateMethod ({ cls := "LinkHouse", name := "sayType", desc := "(J)V" } : Jvm.MethodName)) ∈ lw_tbl := sorry
theorem q2256 : (Jvm.Cond.instanceMethod ({ cls := "LinkHouse", name := "sayType", desc := "(J)V" } : Jvm.MethodName)) ∈ lw_all := sorry
theorem q2257 : (Jvm.Cond.code ({ cls := "LinkHouse", name := "sayType", desc := "(J)V" } : Jvm.MethodName) prog_1_method_22_code (3 : Nat) (Option.none : Option Jvm.ClassFile.FieldType)) ∈ lw_all := sorry
theorem q2258 : (Jvm.Cond.stringRef "LinkHouse" (265 : Nat) "void") ∈ lw_tbl := sorry
theorem q2259 : (Jvm.Cond.stringRef "LinkHouse" (267 : Nat) "int") ∈ lw_tbl := sorry
theorem q2260 : (Jvm.Cond.stringRef "LinkHouse" (423 : Nat) " ") ∈ lw_tbl := sorry
theorem q2261 : (Jvm.Cond.methodLink "LinkHouse" (425 : Nat) ({ cls := "LinkHouse", name := "sayParams", desc := "(LLinkHouse$Member;)V" } : Jvm.MethodName)) ∈ lw_all := sorry
theorem q2262 : (Jvm.Cond.privateMethod ({ cls := "LinkHouse", name := "sayParams", desc := "(LLinkHouse$Member;)V" } : Jvm.MethodName)) ∈ lw_tbl := sorry
theorem q2263 : (Jvm.Cond.instanceMethod ({ cls := "LinkHouse", name := "sayParams", desc := "(LLinkHouse$Member;)V" } : Jvm.MethodName)) ∈ lw_all := sorry
theorem q2264 : (Jvm.Cond.code ({ cls := "LinkHouse", name := "sayParams", desc := "(LLinkHouse$Member;)V" } : Jvm.MethodName) prog_1_method_24_code (3 : Nat) (Option.none : Option Jvm.ClassFile.FieldType)) ∈ lw_all := sorry
theorem q2265 : (Jvm.Cond.stringRef "LinkHouse" (275 : Nat) "(") ∈ lw_tbl := sorry
theorem q2266 : (Jvm.Cond.stringRef "LinkHouse" (290 : Nat) ")") ∈ lw_tbl := sorry
theorem q2267 : (Jvm.Cond.stringRef "LinkHouse" (431 : Nat) "=") ∈ lw_tbl := sorry
theorem q2268 : (Jvm.Cond.methodLink "LinkHouse" (436 : Nat) ({ cls := "LinkHouse", name := "sayNumber", desc := "(I)V" } : Jvm.MethodName)) ∈ lw_all := sorry
theorem q2269 : (Jvm.Cond.privateMethod ({ cls := "LinkHouse", name := "sayNumber", desc := "(I)V" } : Jvm.MethodName)) ∈ lw_tbl := sorry
theorem q2270 : (Jvm.Cond.instanceMethod ({ cls := "LinkHouse", name := "sayNumber", desc := "(I)V" } : Jvm.MethodName)) ∈ lw_all := sorry
theorem q2271 : (Jvm.Cond.code ({ cls := "LinkHouse", name := "sayNumber", desc := "(I)V" } : Jvm.MethodName) prog_1_method_23_code (4 : Nat) (Option.none : Option Jvm.ClassFile.FieldType)) ∈ lw_all := sorry
theorem q2272 : (Jvm.Cond.stringRef "LinkHouse" (273 : Nat) "-") ∈ lw_tbl := sorry
theorem q2274 : (Jvm.Cond.instanceMethod ({ cls := "LinkHouse", name := "uses", desc := "(II)I" } : Jvm.MethodName)) ∈ lw_all := sorry
theorem q2275 : (Jvm.Cond.selects "LinkHouse" ({ cls := "LinkHouse", name := "uses", desc := "(II)I" } : Jvm.MethodName) ({ cls := "LinkHouse", name := "uses", desc := "(II)I" } : Jvm.MethodName)) ∈ lw_all := sorry
theorem q2276 : (Jvm.Cond.code ({ cls := "LinkHouse", name := "uses", desc := "(II)I" } : Jvm.MethodName) prog_1_method_41_code (3 : Nat) (Option.some Jvm.ClassFile.FieldType.int)) ∈ lw_all := sorry
theorem q2278 : (Jvm.Cond.instanceMethod ({ cls := "LinkHouse", name := "use", desc := "(IIII)I" } : Jvm.MethodName)) ∈ lw_all := sorry
theorem q2279 : (Jvm.Cond.selects "LinkHouse" ({ cls := "LinkHouse", name := "use", desc := "(IIII)I" } : Jvm.MethodName) ({ cls := "LinkHouse", name := "use", desc := "(IIII)I" } : Jvm.MethodName)) ∈ lw_all := sorry
theorem q2280 : (Jvm.Cond.code ({ cls := "LinkHouse", name := "use", desc := "(IIII)I" } : Jvm.MethodName) prog_1_method_43_code (6 : Nat) (Option.some Jvm.ClassFile.FieldType.int)) ∈ lw_all := sorry
theorem q2281 : (Jvm.Cond.methodLink "LinkHouse" (442 : Nat) ({ cls := "LinkHouse", name := "isUse", desc := "(III)Z" } : Jvm.MethodName)) ∈ lw_all := sorry
theorem q2282 : (Jvm.Cond.privateMethod ({ cls := "LinkHouse", name := "isUse", desc := "(III)Z" } : Jvm.MethodName)) ∈ lw_tbl := sorry
theorem q2283 : (Jvm.Cond.instanceMethod ({ cls := "LinkHouse", name := "isUse", desc := "(III)Z" } : Jvm.MethodName)) ∈ lw_all := sorry
theorem q2284 : (Jvm.Cond.code ({ cls := "LinkHouse", name := "isUse", desc := "(III)Z" } : Jvm.MethodName) prog_1_method_42_code (4 : Nat) (Option.some Jvm.ClassFile.FieldType.boolean)) ∈ lw_all := sorry
theorem q2286 : (Jvm.Cond.instanceMethod ({ cls := "LinkHouse", name := "tell", desc := "(III)I" } : Jvm.MethodName)) ∈ lw_all := sorry
theorem q2287 : (Jvm.Cond.selects "LinkHouse" ({ cls := "LinkHouse", name := "tell", desc := "(III)I" } : Jvm.MethodName) ({ cls := "LinkHouse", name := "tell", desc := "(III)I" } : Jvm.MethodName)) ∈ lw_all := sorry
theorem q2288 : (Jvm.Cond.code ({ cls := "LinkHouse", name := "tell", desc := "(III)I" } : Jvm.MethodName) prog_1_method_44_code (5 : Nat) (Option.some Jvm.ClassFile.FieldType.int)) ∈ lw_all := sorry
theorem q2289 : (Jvm.Cond.methodLink "LinkHouse" (463 : Nat) ({ cls := "LinkHouse", name := "sayUse", desc := "(IJLLinkHouse$Member;)V" } : Jvm.MethodName)) ∈ lw_all := sorry
theorem q2290 : (Jvm.Cond.privateMethod ({ cls := "LinkHouse", name := "sayUse", desc := "(IJLLinkHouse$Member;)V" } : Jvm.MethodName)) ∈ lw_tbl := sorry
theorem q2291 : (Jvm.Cond.instanceMethod ({ cls := "LinkHouse", name := "sayUse", desc := "(IJLLinkHouse$Member;)V" } : Jvm.MethodName)) ∈ lw_all := sorry
theorem q2292 : (Jvm.Cond.code ({ cls := "LinkHouse", name := "sayUse", desc := "(IJLLinkHouse$Member;)V" } : Jvm.MethodName) prog_1_method_45_code (5 : Nat) (Option.none : Option Jvm.ClassFile.FieldType)) ∈ lw_all := sorry
theorem q2293 : (Jvm.Cond.stringRef "LinkHouse" (472 : Nat) ".new") ∈ lw_tbl := sorry
theorem q2294 : (Jvm.Cond.stringRef "LinkHouse" (474 : Nat) ":") ∈ lw_tbl := sorry
theorem q2295 : (Jvm.Cond.stringRef "LinkHouse" (467 : Nat) ">") ∈ lw_tbl := sorry
theorem q2297 : (Jvm.Cond.instanceMethod ({ cls := "LinkHouse", name := "meet", desc := "(III)I" } : Jvm.MethodName)) ∈ lw_all := sorry
theorem q2298 : (Jvm.Cond.selects "LinkHouse" ({ cls := "LinkHouse", name := "meet", desc := "(III)I" } : Jvm.MethodName) ({ cls := "LinkHouse", name := "meet", desc := "(III)I" } : Jvm.MethodName)) ∈ lw_all := sorry
theorem q2299 : (Jvm.Cond.code ({ cls := "LinkHouse", name := "meet", desc := "(III)I" } : Jvm.MethodName) prog_1_method_47_code (8 : Nat) (Option.some Jvm.ClassFile.FieldType.int)) ∈ lw_all := sorry
theorem q2300 : (Jvm.Cond.methodLink "LinkHouse" (476 : Nat) ({ cls := "LinkHouse", name := "isMet", desc := "(III)I" } : Jvm.MethodName)) ∈ lw_all := sorry
theorem q2301 : (Jvm.Cond.privateMethod ({ cls := "LinkHouse", name := "isMet", desc := "(III)I" } : Jvm.MethodName)) ∈ lw_tbl := sorry
theorem q2302 : (Jvm.Cond.instanceMethod ({ cls := "LinkHouse", name := "isMet", desc := "(III)I" } : Jvm.MethodName)) ∈ lw_all := sorry
theorem q2303 : (Jvm.Cond.code ({ cls := "LinkHouse", name := "isMet", desc := "(III)I" } : Jvm.MethodName) prog_1_method_46_code (4 : Nat) (Option.some Jvm.ClassFile.FieldType.int)) ∈ lw_all := sorry
theorem q2304 : (Jvm.Cond.methodLink "LinkHouse" (480 : Nat) ({ cls := "LinkHouse$Linker", name := "begin", desc := "()V" } : Jvm.MethodName)) ∈ lw_all := sorry
theorem q2305 : (Jvm.Cond.methodLink "LinkHouse" (481 : Nat) ({ cls := "LinkHouse$Linker", name := "resolve", desc := "(LLinkHouse$Use;)I" } : Jvm.MethodName)) ∈ lw_all := sorry
theorem q2356 : (Jvm.Cond.instanceMethod ({ cls := "LinkHouse", name := "met", desc := "()I" } : Jvm.MethodName)) ∈ lw_all := sorry
theorem q2357 : (Jvm.Cond.selects "LinkHouse" ({ cls := "LinkHouse", name := "met", desc := "()I" } : Jvm.MethodName) ({ cls := "LinkHouse", name := "met", desc := "()I" } : Jvm.MethodName)) ∈ lw_all := sorry
theorem q2358 : (Jvm.Cond.code ({ cls := "LinkHouse", name := "met", desc := "()I" } : Jvm.MethodName) prog_1_method_48_code (1 : Nat) (Option.some Jvm.ClassFile.FieldType.int)) ∈ lw_all := sorry
theorem q2360 : (Jvm.Cond.instanceMethod ({ cls := "LinkHouse", name := "looked", desc := "(I)I" } : Jvm.MethodName)) ∈ lw_all := sorry
theorem q2361 : (Jvm.Cond.selects "LinkHouse" ({ cls := "LinkHouse", name := "looked", desc := "(I)I" } : Jvm.MethodName) ({ cls := "LinkHouse", name := "looked", desc := "(I)I" } : Jvm.MethodName)) ∈ lw_all := sorry
theorem q2362 : (Jvm.Cond.code ({ cls := "LinkHouse", name := "looked", desc := "(I)I" } : Jvm.MethodName) prog_1_method_49_code (2 : Nat) (Option.some Jvm.ClassFile.FieldType.int)) ∈ lw_all := sorry
theorem q2364 : (Jvm.Cond.instanceMethod ({ cls := "LinkHouse", name := "broken", desc := "()I" } : Jvm.MethodName)) ∈ lw_all := sorry
theorem q2365 : (Jvm.Cond.selects "LinkHouse" ({ cls := "LinkHouse", name := "broken", desc := "()I" } : Jvm.MethodName) ({ cls := "LinkHouse", name := "broken", desc := "()I" } : Jvm.MethodName)) ∈ lw_all := sorry
theorem q2366 : (Jvm.Cond.code ({ cls := "LinkHouse", name := "broken", desc := "()I" } : Jvm.MethodName) prog_1_method_51_code (1 : Nat) (Option.some Jvm.ClassFile.FieldType.int)) ∈ lw_all := sorry
theorem q2367 : (Jvm.Cond.methodLink "LinkHouse" (506 : Nat) ({ cls := "LinkHouse", name := "countBroken", desc := "()I" } : Jvm.MethodName)) ∈ lw_all := sorry
theorem q2368 : (Jvm.Cond.privateMethod ({ cls := "LinkHouse", name := "countBroken", desc := "()I" } : Jvm.MethodName)) ∈ lw_tbl := sorry
theorem q2369 : (Jvm.Cond.instanceMethod ({ cls := "LinkHouse", name := "countBroken", desc := "()I" } : Jvm.MethodName)) ∈ lw_all := sorry
theorem q2370 : (Jvm.Cond.code ({ cls := "LinkHouse", name := "countBroken", desc := "()I" } : Jvm.MethodName) prog_1_method_50_code (6 : Nat) (Option.some Jvm.ClassFile.FieldType.int)) ∈ lw_all := sorry
theorem q2372 : (Jvm.Cond.instanceMethod ({ cls := "LinkHouse", name := "brokenAt", desc := "(II)I" } : Jvm.MethodName)) ∈ lw_all := sorry
theorem q2373 : (Jvm.Cond.selects "LinkHouse" ({ cls := "LinkHouse", name := "brokenAt", desc := "(II)I" } : Jvm.MethodName) ({ cls := "LinkHouse", name := "brokenAt", desc := "(II)I" } : Jvm.MethodName)) ∈ lw_all := sorry
theorem q2374 : (Jvm.Cond.code ({ cls := "LinkHouse", name := "brokenAt", desc := "(II)I" } : Jvm.MethodName) prog_1_method_52_code (3 : Nat) (Option.some Jvm.ClassFile.FieldType.int)) ∈ lw_all := sorry
theorem q2376 : (Jvm.Cond.instanceMethod ({ cls := "LinkHouse", name := "stale", desc := "()I" } : Jvm.MethodName)) ∈ lw_all := sorry
theorem q2377 : (Jvm.Cond.selects "LinkHouse" ({ cls := "LinkHouse", name := "stale", desc := "()I" } : Jvm.MethodName) ({ cls := "LinkHouse", name := "stale", desc := "()I" } : Jvm.MethodName)) ∈ lw_all := sorry
theorem q2378 : (Jvm.Cond.code ({ cls := "LinkHouse", name := "stale", desc := "()I" } : Jvm.MethodName) prog_1_method_53_code (5 : Nat) (Option.some Jvm.ClassFile.FieldType.int)) ∈ lw_all := sorry
theorem q2380 : (Jvm.Cond.instanceMethod ({ cls := "LinkHouse", name := "choose", desc := "()I" } : Jvm.MethodName)) ∈ lw_all := sorry
theorem q2381 : (Jvm.Cond.selects "LinkHouse" ({ cls := "LinkHouse", name := "choose", desc := "()I" } : Jvm.MethodName) ({ cls := "LinkHouse", name := "choose", desc := "()I" } : Jvm.MethodName)) ∈ lw_all := sorry
theorem q2382 : (Jvm.Cond.code ({ cls := "LinkHouse", name := "choose", desc := "()I" } : Jvm.MethodName) prog_1_method_55_code (4 : Nat) (Option.some Jvm.ClassFile.FieldType.int)) ∈ lw_all := sorry
theorem q2383 : (Jvm.Cond.methodLink "LinkHouse" (509 : Nat) ({ cls := "LinkHouse", name := "isWhole", desc := "()Z" } : Jvm.MethodName)) ∈ lw_all := sorry
theorem q2384 : (Jvm.Cond.privateMethod ({ cls := "LinkHouse", name := "isWhole", desc := "()Z" } : Jvm.MethodName)) ∈ lw_tbl := sorry
theorem q2385 : (Jvm.Cond.instanceMethod ({ cls := "LinkHouse", name := "isWhole", desc := "()Z" } : Jvm.MethodName)) ∈ lw_all := sorry
theorem q2386 : (Jvm.Cond.code ({ cls := "LinkHouse", name := "isWhole", desc := "()Z" } : Jvm.MethodName) prog_1_method_54_code (4 : Nat) (Option.some Jvm.ClassFile.FieldType.boolean)) ∈ lw_all := sorry
theorem q2388 : (Jvm.Cond.instanceMethod ({ cls := "LinkHouse", name := "differ", desc := "(III)I" } : Jvm.MethodName)) ∈ lw_all := sorry
theorem q2389 : (Jvm.Cond.selects "LinkHouse" ({ cls := "LinkHouse", name := "differ", desc := "(III)I" } : Jvm.MethodName) ({ cls := "LinkHouse", name := "differ", desc := "(III)I" } : Jvm.MethodName)) ∈ lw_all := sorry
theorem q2390 : (Jvm.Cond.code ({ cls := "LinkHouse", name := "differ", desc := "(III)I" } : Jvm.MethodName) prog_1_method_59_code (4 : Nat) (Option.some Jvm.ClassFile.FieldType.int)) ∈ lw_all := sorry
theorem q2391 : (Jvm.Cond.methodLink "LinkHouse" (520 : Nat) ({ cls := "LinkHouse", name := "hold", desc := "(LLinkHouse$Build;LLinkHouse$Build;)V" } : Jvm.MethodName)) ∈ lw_all := sorry
theorem q2392 : (Jvm.Cond.privateMethod ({ cls := "LinkHouse", name := "hold", desc := "(LLinkHouse$Build;LLinkHouse$Build;)V" } : Jvm.MethodName)) ∈ lw_tbl := sorry
theorem q2393 : (Jvm.Cond.instanceMethod ({ cls := "LinkHouse", name := "hold", desc := "(LLinkHouse$Build;LLinkHouse$Build;)V" } : Jvm.MethodName)) ∈ lw_all := sorry
theorem q2394 : (Jvm.Cond.code ({ cls := "LinkHouse", name := "hold", desc := "(LLinkHouse$Build;LLinkHouse$Build;)V" } : Jvm.MethodName) prog_1_method_60_code (6 : Nat) (Option.none : Option Jvm.ClassFile.FieldType)) ∈ lw_all := sorry
theorem q2395 : (Jvm.Cond.methodLink "LinkHouse" (524 : Nat) ({ cls := "LinkHouse", name := "kindIn", desc := "(LLinkHouse$Build;J)LLinkHouse$Kind;" } : Jvm.MethodName)) ∈ lw_all := sorry
theorem q2396 : (Jvm.Cond.static ({ cls := "LinkHouse", name := "kindIn", desc := "(LLinkHouse$Build;J)LLinkHouse$Kind;" } : Jvm.MethodName)) ∈ lw_all := sorry
theorem q2397 : (Jvm.Cond.code ({ cls := "LinkHouse", name := "kindIn", desc := "(LLinkHouse$Build;J)LLinkHouse$Kind;" } : Jvm.MethodName) prog_1_method_58_code (4 : Nat) (Option.some (Jvm.ClassFile.FieldType.object "LinkHouse$Kind"))) ∈ lw_all := sorry
theorem q2398 : (Jvm.Cond.methodLink "LinkHouse" (516 : Nat) ({ cls := "LinkHouse", name := "differs", desc := "(ILLinkHouse$Kind;LLinkHouse$Kind;LLinkHouse$Member;LLinkHouse$Member;)V" } : Jvm.MethodName)) ∈ lw_all := sorry
theorem q2399 : (Jvm.Cond.privateMethod ({ cls := "LinkHouse", name := "differs", desc := "(ILLinkHouse$Kind;LLinkHouse$Kind;LLinkHouse$Member;LLinkHouse$Member;)V" } : Jvm.MethodName)) ∈ lw_tbl := sorry
theorem q2400 : (Jvm.Cond.instanceMethod ({ cls := "LinkHouse", name := "differs", desc := "(ILLinkHouse$Kind;LLinkHouse$Kind;LLinkHouse$Member;LLinkHouse$Member;)V" } : Jvm.MethodName)) ∈ lw_all := sorry
theorem q2401 : (Jvm.Cond.code ({ cls := "LinkHouse", name := "differs", desc := "(ILLinkHouse$Kind;LLinkHouse$Kind;LLinkHouse$Member;LLinkHouse$Member;)V" } : Jvm.MethodName) prog_1_method_56_code (7 : Nat) (Option.none : Option Jvm.ClassFile.FieldType)) ∈ lw_all := sorry
theorem q2402 : (Jvm.Cond.methodLink "LinkHouse" (528 : Nat) ({ cls := "LinkHouse", name := "holdHeads", desc := "(LLinkHouse$Kind;LLinkHouse$Kind;)V" } : Jvm.MethodName)) ∈ lw_all := sorry
theorem q2403 : (Jvm.Cond.privateMethod ({ cls := "LinkHouse", name := "holdHeads", desc := "(LLinkHouse$Kind;LLinkHouse$Kind;)V" } : Jvm.MethodName)) ∈ lw_tbl := sorry
theorem q2404 : (Jvm.Cond.instanceMethod ({ cls := "LinkHouse", name := "holdHeads", desc := "(LLinkHouse$Kind;LLinkHouse$Kind;)V" } : Jvm.MethodName)) ∈ lw_all := sorry
theorem q2405 : (Jvm.Cond.code ({ cls := "LinkHouse", name := "holdHeads", desc := "(LLinkHouse$Kind;LLinkHouse$Kind;)V" } : Jvm.MethodName) prog_1_method_61_code (6 : Nat) (Option.none : Option Jvm.ClassFile.FieldType)) ∈ lw_all := sorry
theorem q2406 : (Jvm.Cond.methodLink "LinkHouse" (544 : Nat) ({ cls := "LinkHouse", name := "differsIf", desc := "(ZILLinkHouse$Kind;LLinkHouse$Kind;LLinkHouse$Member;LLinkHouse$Member;)V" } : Jvm.MethodName)) ∈ lw_all := sorry
theorem q2407 : (Jvm.Cond.privateMethod ({ cls := "LinkHouse", name := "differsIf", desc := "(ZILLinkHouse$Kind;LLinkHouse$Kind;LLinkHouse$Member;LLinkHouse$Member;)V" } : Jvm.MethodName)) ∈ lw_tbl := sorry
theorem q2408 : (Jvm.Cond.instanceMethod ({ cls := "LinkHouse", name := "differsIf", desc := "(ZILLinkHouse$Kind;LLinkHouse$Kind;LLinkHouse$Member;LLinkHouse$Member;)V" } : Jvm.MethodName)) ∈ lw_all := sorry
theorem q2409 : (Jvm.Cond.code ({ cls := "LinkHouse", name := "differsIf", desc := "(ZILLinkHouse$Kind;LLinkHouse$Kind;LLinkHouse$Member;LLinkHouse$Member;)V" } : Jvm.MethodName) prog_1_method_57_code (7 : Nat) (Option.none : Option Jvm.ClassFile.FieldType)) ∈ lw_all := sorry
theorem q2410 : (Jvm.Cond.methodLink "LinkHouse" (548 : Nat) ({ cls := "LinkHouse$Kind", name := "hasFace", desc := "(J)Z" } : Jvm.MethodName)) ∈ lw_all := sorry
theorem q2411 : (Jvm.Cond.methodLink "LinkHouse" (555 : Nat) ({ cls := "LinkHouse$Kind", name := "lets", desc := "(J)Z" } : Jvm.MethodName)) ∈ lw_all := sorry
theorem q2412 : (Jvm.Cond.methodLink "LinkHouse" (531 : Nat) ({ cls := "LinkHouse", name := "holdFields", desc := "(LLinkHouse$Kind;LLinkHouse$Kind;)V" } : Jvm.MethodName)) ∈ lw_all := sorry
theorem q2413 : (Jvm.Cond.privateMethod ({ cls := "LinkHouse", name := "holdFields", desc := "(LLinkHouse$Kind;LLinkHouse$Kind;)V" } : Jvm.MethodName)) ∈ lw_tbl := sorry
theorem q2414 : (Jvm.Cond.instanceMethod ({ cls := "LinkHouse", name := "holdFields", desc := "(LLinkHouse$Kind;LLinkHouse$Kind;)V" } : Jvm.MethodName)) ∈ lw_all := sorry
theorem q2415 : (Jvm.Cond.code ({ cls := "LinkHouse", name := "holdFields", desc := "(LLinkHouse$Kind;LLinkHouse$Kind;)V" } : Jvm.MethodName) prog_1_method_62_code (6 : Nat) (Option.none : Option Jvm.ClassFile.FieldType)) ∈ lw_all := sorry
theorem q2416 : (Jvm.Cond.constantLong "LinkHouse" (558 : Nat) (2 : Int64)) ∈ lw_all := sorry
theorem q2417 : (Jvm.Cond.methodLink "LinkHouse" (560 : Nat) ({ cls := "LinkHouse$Kind", name := "field", desc := "(JJ)LLinkHouse$Member;" } : Jvm.MethodName)) ∈ lw_all := sorry
theorem q2418 : (Jvm.Cond.methodLink "LinkHouse" (564 : Nat) ({ cls := "LinkHouse", name := "holdMarks", desc := "(ILLinkHouse$Kind;LLinkHouse$Kind;LLinkHouse$Member;LLinkHouse$Member;)V" } : Jvm.MethodName)) ∈ lw_all := sorry
theorem q2419 : (Jvm.Cond.privateMethod ({ cls := "LinkHouse", name := "holdMarks", desc := "(ILLinkHouse$Kind;LLinkHouse$Kind;LLinkHouse$Member;LLinkHouse$Member;)V" } : Jvm.MethodName)) ∈ lw_tbl := sorry
theorem q2420 : (Jvm.Cond.instanceMethod ({ cls := "LinkHouse", name := "holdMarks", desc := "(ILLinkHouse$Kind;LLinkHouse$Kind;LLinkHouse$Member;LLinkHouse$Member;)V" } : Jvm.MethodName)) ∈ lw_all := sorry
theorem q2421 : (Jvm.Cond.code ({ cls := "LinkHouse", name := "holdMarks", desc := "(ILLinkHouse$Kind;LLinkHouse$Kind;LLinkHouse$Member;LLinkHouse$Member;)V" } : Jvm.MethodName) prog_1_method_63_code (6 : Nat) (Option.none : Option Jvm.ClassFile.FieldType)) ∈ lw_all := sorry
theorem q2422 : (Jvm.Cond.methodLink "LinkHouse" (567 : Nat) ({ cls := "LinkHouse", name := "holdAccess", desc := "(ILLinkHouse$Kind;LLinkHouse$Kind;LLinkHouse$Member;LLinkHouse$Member;)V" } : Jvm.MethodName)) ∈ lw_all := sorry
theorem q2423 : (Jvm.Cond.privateMethod ({ cls := "LinkHouse", name := "holdAccess", desc := "(ILLinkHouse$Kind;LLinkHouse$Kind;LLinkHouse$Member;LLinkHouse$Member;)V" } : Jvm.MethodName)) ∈ lw_tbl := sorry
theorem q2424 : (Jvm.Cond.instanceMethod ({ cls := "LinkHouse", name := "holdAccess", desc := "(ILLinkHouse$Kind;LLinkHouse$Kind;LLinkHouse$Member;LLinkHouse$Member;)V" } : Jvm.MethodName)) ∈ lw_all := sorry
theorem q2425 : (Jvm.Cond.code ({ cls := "LinkHouse", name := "holdAccess", desc := "(ILLinkHouse$Kind;LLinkHouse$Kind;LLinkHouse$Member;LLinkHouse$Member;)V" } : Jvm.MethodName) prog_1_method_64_code (6 : Nat) (Option.none : Option Jvm.ClassFile.FieldType)) ∈ lw_all := sorry
theorem q2426 : (Jvm.Cond.methodLink "LinkHouse" (534 : Nat) ({ cls := "LinkHouse", name := "holdMethods", desc := "(LLinkHouse$Kind;LLinkHouse$Kind;)V" } : Jvm.MethodName)) ∈ lw_all := sorry
theorem q2427 : (Jvm.Cond.privateMethod ({ cls := "LinkHouse", name := "holdMethods", desc := "(LLinkHouse$Kind;LLinkHouse$Kind;)V" } : Jvm.MethodName)) ∈ lw_tbl := sorry
theorem q2428 : (Jvm.Cond.instanceMethod ({ cls := "LinkHouse", name := "holdMethods", desc := "(LLinkHouse$Kind;LLinkHouse$Kind;)V" } : Jvm.MethodName)) ∈ lw_all := sorry
theorem q2429 : (Jvm.Cond.code ({ cls := "LinkHouse", name := "holdMethods", desc := "(LLinkHouse$Kind;LLinkHouse$Kind;)V" } : Jvm.MethodName) prog_1_method_66_code (6 : Nat) (Option.none : Option Jvm.ClassFile.FieldType)) ∈ lw_all := sorry
theorem q2430 : (Jvm.Cond.methodLink "LinkHouse" (574 : Nat) ({ cls := "LinkHouse", name := "alike", desc := "(LLinkHouse$Kind;LLinkHouse$Member;)LLinkHouse$Member;" } : Jvm.MethodName)) ∈ lw_all := sorry
theorem q2431 : (Jvm.Cond.static ({ cls := "LinkHouse", name := "alike", desc := "(LLinkHouse$Kind;LLinkHouse$Member;)LLinkHouse$Member;" } : Jvm.MethodName)) ∈ lw_all := sorry
theorem q2432 : (Jvm.Cond.code ({ cls := "LinkHouse", name := "alike", desc := "(LLinkHouse$Kind;LLinkHouse$Member;)LLinkHouse$Member;" } : Jvm.MethodName) prog_1_method_65_code (3 : Nat) (Option.some (Jvm.ClassFile.FieldType.object "LinkHouse$Member"))) ∈ lw_all := sorry
theorem q2433 : (Jvm.Cond.methodLink "LinkHouse" (570 : Nat) ({ cls := "LinkHouse$Member", name := "isAlike", desc := "(LLinkHouse$Member;)Z" } : Jvm.MethodName)) ∈ lw_all := sorry
theorem q2434 : (Jvm.Cond.methodLink "LinkHouse" (581 : Nat) ({ cls := "LinkHouse", name := "areAlike", desc := "(LLinkHouse$Member;LLinkHouse$Member;)Z" } : Jvm.MethodName)) ∈ lw_all := sorry
theorem q2435 : (Jvm.Cond.static ({ cls := "LinkHouse", name := "areAlike", desc := "(LLinkHouse$Member;LLinkHouse$Member;)Z" } : Jvm.MethodName)) ∈ lw_all := sorry
theorem q2436 : (Jvm.Cond.code ({ cls := "LinkHouse", name := "areAlike", desc := "(LLinkHouse$Member;LLinkHouse$Member;)Z" } : Jvm.MethodName) prog_1_method_68_code (6 : Nat) (Option.some Jvm.ClassFile.FieldType.boolean)) ∈ lw_all := sorry
theorem q2437 : (Jvm.Cond.methodLink "LinkHouse" (595 : Nat) ({ cls := "LinkHouse$Build", name := "isTokenAs", desc := "(ILLinkHouse$Build;I)Z" } : Jvm.MethodName)) ∈ lw_all := sorry
theorem q2441 : (Jvm.Cond.methodLink "LinkHouse" (537 : Nat) ({ cls := "LinkHouse", name := "holdMakers", desc := "(LLinkHouse$Kind;LLinkHouse$Kind;)V" } : Jvm.MethodName)) ∈ lw_all := sorry
theorem q2442 : (Jvm.Cond.privateMethod ({ cls := "LinkHouse", name := "holdMakers", desc := "(LLinkHouse$Kind;LLinkHouse$Kind;)V" } : Jvm.MethodName)) ∈ lw_tbl := sorry
theorem q2443 : (Jvm.Cond.instanceMethod ({ cls := "LinkHouse", name := "holdMakers", desc := "(LLinkHouse$Kind;LLinkHouse$Kind;)V" } : Jvm.MethodName)) ∈ lw_all := sorry
theorem q2444 : (Jvm.Cond.code ({ cls := "LinkHouse", name := "holdMakers", desc := "(LLinkHouse$Kind;LLinkHouse$Kind;)V" } : Jvm.MethodName) prog_1_method_67_code (6 : Nat) (Option.none : Option Jvm.ClassFile.FieldType)) ∈ lw_all := sorry
theorem q2445 : (Jvm.Cond.methodLink "LinkHouse" (585 : Nat) ({ cls := "LinkHouse$Kind", name := "maker", desc := "(LLinkHouse$Member;)LLinkHouse$Member;" } : Jvm.MethodName)) ∈ lw_all := sorry
theorem q2446 : (Jvm.Cond.methodLink "LinkHouse" (540 : Nat) ({ cls := "LinkHouse", name := "areStartsAlike", desc := "(LLinkHouse$Kind;LLinkHouse$Kind;)Z" } : Jvm.MethodName)) ∈ lw_all := sorry
theorem q2447 : (Jvm.Cond.static ({ cls := "LinkHouse", name := "areStartsAlike", desc := "(LLinkHouse$Kind;LLinkHouse$Kind;)Z" } : Jvm.MethodName)) ∈ lw_all := sorry
theorem q2448 : (Jvm.Cond.code ({ cls := "LinkHouse", name := "areStartsAlike", desc := "(LLinkHouse$Kind;LLinkHouse$Kind;)Z" } : Jvm.MethodName) prog_1_method_70_code (6 : Nat) (Option.some Jvm.ClassFile.FieldType.boolean)) ∈ lw_all := sorry
theorem q2449 : (Jvm.Cond.methodLink "LinkHouse" (599 : Nat) ({ cls := "LinkHouse", name := "isStart", desc := "(LLinkHouse$Member;)Z" } : Jvm.MethodName)) ∈ lw_all := sorry
theorem q2450 : (Jvm.Cond.static ({ cls := "LinkHouse", name := "isStart", desc := "(LLinkHouse$Member;)Z" } : Jvm.MethodName)) ∈ lw_all := sorry
theorem q2451 : (Jvm.Cond.code ({ cls := "LinkHouse", name := "isStart", desc := "(LLinkHouse$Member;)Z" } : Jvm.MethodName) prog_1_method_69_code (1 : Nat) (Option.some Jvm.ClassFile.FieldType.boolean)) ∈ lw_all := sorry
theorem q2453 : (Jvm.Cond.instanceMethod ({ cls := "LinkHouse", name := "change", desc := "(II)I" } : Jvm.MethodName)) ∈ lw_all := sorry
theorem q2454 : (Jvm.Cond.selects "LinkHouse" ({ cls := "LinkHouse", name := "change", desc := "(II)I" } : Jvm.MethodName) ({ cls := "LinkHouse", name := "change", desc := "(II)I" } : Jvm.MethodName)) ∈ lw_all := sorry
theorem q2455 : (Jvm.Cond.code ({ cls := "LinkHouse", name := "change", desc := "(II)I" } : Jvm.MethodName) prog_1_method_71_code (3 : Nat) (Option.some Jvm.ClassFile.FieldType.int)) ∈ lw_all := sorry
theorem q2457 : (Jvm.Cond.instanceMethod ({ cls := "LinkHouse", name := "word", desc := "(III)I" } : Jvm.MethodName)) ∈ lw_all := sorry
theorem q2458 : (Jvm.Cond.selects "LinkHouse" ({ cls := "LinkHouse", name := "word", desc := "(III)I" } : Jvm.MethodName) ({ cls := "LinkHouse", name := "word", desc := "(III)I" } : Jvm.MethodName)) ∈ lw_all := sorry
theorem q2459 : (Jvm.Cond.code ({ cls := "LinkHouse", name := "word", desc := "(III)I" } : Jvm.MethodName) prog_1_method_73_code (7 : Nat) (Option.some Jvm.ClassFile.FieldType.int)) ∈ lw_all := sorry
theorem q2460 : (Jvm.Cond.methodLink "LinkHouse" (602 : Nat) ({ cls := "LinkHouse", name := "wordOf", desc := "(I)I" } : Jvm.MethodName)) ∈ lw_all := sorry
theorem q2461 : (Jvm.Cond.static ({ cls := "LinkHouse", name := "wordOf", desc := "(I)I" } : Jvm.MethodName)) ∈ lw_all := sorry
theorem q2462 : (Jvm.Cond.code ({ cls := "LinkHouse", name := "wordOf", desc := "(I)I" } : Jvm.MethodName) prog_1_method_72_code (1 : Nat) (Option.some Jvm.ClassFile.FieldType.int)) ∈ lw_all := sorry
theorem q2463 : (Jvm.Cond.methodLink "LinkHouse" (605 : Nat) ({ cls := "java/lang/Math", name := "max", desc := "(II)I" } : Jvm.MethodName)) ∈ lw_all := sorry
theorem q2465 : (Jvm.Cond.instanceMethod ({ cls := "LinkHouse", name := "weave", desc := "(III)I" } : Jvm.MethodName)) ∈ lw_all := sorry
theorem q2466 : (Jvm.Cond.selects "LinkHouse" ({ cls := "LinkHouse", name := "weave", desc := "(III)I" } : Jvm.MethodName) ({ cls := "LinkHouse", name := "weave", desc := "(III)I" } : Jvm.MethodName)) ∈ lw_all := sorry
theorem q2467 : (Jvm.Cond.code ({ cls := "LinkHouse", name := "weave", desc := "(III)I" } : Jvm.MethodName) prog_1_method_75_code (12 : Nat) (Option.some Jvm.ClassFile.FieldType.int)) ∈ lw_all := sorry
theorem q2468 : (Jvm.Cond.methodLink "LinkHouse" (618 : Nat) ({ cls := "LinkHouse", name := "healing", desc := "(LLinkHouse$Kind;LLinkHouse$Member;)LLinkHouse$Member;" } : Jvm.MethodName)) ∈ lw_all := sorry
theorem q2469 : (Jvm.Cond.privateMethod ({ cls := "LinkHouse", name := "healing", desc := "(LLinkHouse$Kind;LLinkHouse$Member;)LLinkHouse$Member;" } : Jvm.MethodName)) ∈ lw_tbl := sorry
theorem q2470 : (Jvm.Cond.instanceMethod ({ cls := "LinkHouse", name := "healing", desc := "(LLinkHouse$Kind;LLinkHouse$Member;)LLinkHouse$Member;" } : Jvm.MethodName)) ∈ lw_all := sorry
theorem q2471 : (Jvm.Cond.code ({ cls := "LinkHouse", name := "healing", desc := "(LLinkHouse$Kind;LLinkHouse$Member;)LLinkHouse$Member;" } : Jvm.MethodName) prog_1_method_74_code (4 : Nat) (Option.some (Jvm.ClassFile.FieldType.object "LinkHouse$Member"))) ∈ lw_all := sorry
theorem q2472 : (Jvm.Cond.methodLink "LinkHouse" (611 : Nat) ({ cls := "LinkHouse$Kind", name := "method", desc := "(LLinkHouse$Member;)LLinkHouse$Member;" } : Jvm.MethodName)) ∈ lw_all := sorry
theorem q2473 : (Jvm.Cond.methodLink "LinkHouse" (614 : Nat) ({ cls := "LinkHouse$World", name := "fits", desc := "(JJ)Z" } : Jvm.MethodName)) ∈ lw_all := sorry
theorem q2474 : (Jvm.Cond.methodLink "LinkHouse" (624 : Nat) ({ cls := "LinkHouse", name := "weaveInto", desc := "(LLinkHouse$Build;LLinkHouse$Build;LLinkHouse$Build;)V" } : Jvm.MethodName)) ∈ lw_all := sorry
theorem q2475 : (Jvm.Cond.privateMethod ({ cls := "LinkHouse", name := "weaveInto", desc := "(LLinkHouse$Build;LLinkHouse$Build;LLinkHouse$Build;)V" } : Jvm.MethodName)) ∈ lw_tbl := sorry
theorem q2476 : (Jvm.Cond.instanceMethod ({ cls := "LinkHouse", name := "weaveInto", desc := "(LLinkHouse$Build;LLinkHouse$Build;LLinkHouse$Build;)V" } : Jvm.MethodName)) ∈ lw_all := sorry
theorem q2477 : (Jvm.Cond.code ({ cls := "LinkHouse", name := "weaveInto", desc := "(LLinkHouse$Build;LLinkHouse$Build;LLinkHouse$Build;)V" } : Jvm.MethodName) prog_1_method_76_code (10 : Nat) (Option.none : Option Jvm.ClassFile.FieldType)) ∈ lw_all := sorry
theorem q2478 : (Jvm.Cond.methodLink "LinkHouse" (649 : Nat) ({ cls := "LinkHouse$Build", name := "more", desc := "()LLinkHouse$Kind;" } : Jvm.MethodName)) ∈ lw_all := sorry
theorem q2479 : (Jvm.Cond.methodLink "LinkHouse" (652 : Nat) ({ cls := "LinkHouse$Kind", name := "become", desc := "(LLinkHouse$Kind;LLinkHouse$Build;)V" } : Jvm.MethodName)) ∈ lw_all := sorry
theorem q2486 : (Jvm.Cond.methodLink "LinkHouse" (662 : Nat) ({ cls := "LinkHouse$Use", name := "become", desc := "(LLinkHouse$Use;LLinkHouse$Kind;)V" } : Jvm.MethodName)) ∈ lw_all := sorry
theorem q2487 : (Jvm.Cond.methodLink "LinkHouse" (665 : Nat) ({ cls := "LinkHouse$Judge", name := "bridge", desc := "(LLinkHouse$Kind;LLinkHouse$Member;J)LLinkHouse$Member;" } : Jvm.MethodName)) ∈ lw_all := sorry
theorem q2488 : (Jvm.Cond.methodLink "LinkHouse" (669 : Nat) ({ cls := "LinkHouse$Judge", name := "writeBridge", desc := "(LLinkHouse$Build;LLinkHouse$Kind;LLinkHouse$Member;)V" } : Jvm.MethodName)) ∈ lw_all := sorry
theorem q2490 : (Jvm.Cond.instanceMethod ({ cls := "LinkHouse", name := "fresh", desc := "()I" } : Jvm.MethodName)) ∈ lw_all := sorry
theorem q2491 : (Jvm.Cond.selects "LinkHouse" ({ cls := "LinkHouse", name := "fresh", desc := "()I" } : Jvm.MethodName) ({ cls := "LinkHouse", name := "fresh", desc := "()I" } : Jvm.MethodName)) ∈ lw_all := sorry
theorem q2492 : (Jvm.Cond.code ({ cls := "LinkHouse", name := "fresh", desc := "()I" } : Jvm.MethodName) prog_1_method_77_code (3 : Nat) (Option.some Jvm.ClassFile.FieldType.int)) ∈ lw_all := sorry
theorem q2494 : (Jvm.Cond.instanceMethod ({ cls := "LinkHouse", name := "touch", desc := "(III)I" } : Jvm.MethodName)) ∈ lw_all := sorry
theorem q2495 : (Jvm.Cond.selects "LinkHouse" ({ cls := "LinkHouse", name := "touch", desc := "(III)I" } : Jvm.MethodName) ({ cls := "LinkHouse", name := "touch", desc := "(III)I" } : Jvm.MethodName)) ∈ lw_all := sorry
theorem q2496 : (Jvm.Cond.code ({ cls := "LinkHouse", name := "touch", desc := "(III)I" } : Jvm.MethodName) prog_1_method_78_code (5 : Nat) (Option.some Jvm.ClassFile.FieldType.int)) ∈ lw_all := sorry
theorem q2498 : (Jvm.Cond.instanceMethod ({ cls := "LinkHouse", name := "run", desc := "()I" } : Jvm.MethodName)) ∈ lw_all := sorry
theorem q2499 : (Jvm.Cond.selects "LinkHouse" ({ cls := "LinkHouse", name := "run", desc := "()I" } : Jvm.MethodName) ({ cls := "LinkHouse", name := "run", desc := "()I" } : Jvm.MethodName)) ∈ lw_all := sorry
theorem q2500 : (Jvm.Cond.code ({ cls := "LinkHouse", name := "run", desc := "()I" } : Jvm.MethodName) prog_1_method_79_code (13 : Nat) (Option.some Jvm.ClassFile.FieldType.int)) ∈ lw_all := sorry
theorem q2501 : (Jvm.Cond.methodLink "LinkHouse" (679 : Nat) ({ cls := "LinkHouse", name := "lettered", desc := "(I)I" } : Jvm.MethodName)) ∈ lw_all := sorry
theorem q2502 : (Jvm.Cond.methodLink "LinkHouse" (682 : Nat) ({ cls := "LinkHouse$World", name := "find", desc := "(J)LLinkHouse$Kind;" } : Jvm.MethodName)) ∈ lw_all := sorry
theorem q2503 : (Jvm.Cond.methodLink "LinkHouse" (686 : Nat) ({ cls := "LinkHouse$Machine", name := "call", desc := "(LLinkHouse$Kind;LLinkHouse$Member;)I" } : Jvm.MethodName)) ∈ lw_all := sorry
theorem q2609 : (Jvm.Cond.instanceMethod ({ cls := "LinkHouse", name := "value", desc := "()I" } : Jvm.MethodName)) ∈ lw_all := sorry
theorem q2610 : (Jvm.Cond.selects "LinkHouse" ({ cls := "LinkHouse", name := "value", desc := "()I" } : Jvm.MethodName) ({ cls := "LinkHouse", name := "value", desc := "()I" } : Jvm.MethodName)) ∈ lw_all := sorry
theorem q2611 : (Jvm.Cond.code ({ cls := "LinkHouse", name := "value", desc := "()I" } : Jvm.MethodName) prog_1_method_80_code (1 : Nat) (Option.some Jvm.ClassFile.FieldType.int)) ∈ lw_all := sorry
theorem q2613 : (Jvm.Cond.instanceMethod ({ cls := "LinkHouse", name := "told", desc := "(I)I" } : Jvm.MethodName)) ∈ lw_all := sorry
theorem q2614 : (Jvm.Cond.selects "LinkHouse" ({ cls := "LinkHouse", name := "told", desc := "(I)I" } : Jvm.MethodName) ({ cls := "LinkHouse", name := "told", desc := "(I)I" } : Jvm.MethodName)) ∈ lw_all := sorry
theorem q2615 : (Jvm.Cond.code ({ cls := "LinkHouse", name := "told", desc := "(I)I" } : Jvm.MethodName) prog_1_method_81_code (2 : Nat) (Option.some Jvm.ClassFile.FieldType.int)) ∈ lw_all := sorry
theorem q2617 : (Jvm.Cond.instanceMethod ({ cls := "LinkHouse", name := "number", desc := "(I)I" } : Jvm.MethodName)) ∈ lw_all := sorry
theorem q2618 : (Jvm.Cond.selects "LinkHouse" ({ cls := "LinkHouse", name := "number", desc := "(I)I" } : Jvm.MethodName) ({ cls := "LinkHouse", name := "number", desc := "(I)I" } : Jvm.MethodName)) ∈ lw_all := sorry
theorem q2619 : (Jvm.Cond.code ({ cls := "LinkHouse", name := "number", desc := "(I)I" } : Jvm.MethodName) prog_1_method_82_code (2 : Nat) (Option.some Jvm.ClassFile.FieldType.int)) ∈ lw_all := sorry
theorem q2621 : (Jvm.Cond.instanceMethod ({ cls := "LinkHouse", name := "event", desc := "(I)I" } : Jvm.MethodName)) ∈ lw_all := sorry
theorem q2622 : (Jvm.Cond.selects "LinkHouse" ({ cls := "LinkHouse", name := "event", desc := "(I)I" } : Jvm.MethodName) ({ cls := "LinkHouse", name := "event", desc := "(I)I" } : Jvm.MethodName)) ∈ lw_all := sorry
theorem q2623 : (Jvm.Cond.code ({ cls := "LinkHouse", name := "event", desc := "(I)I" } : Jvm.MethodName) prog_1_method_83_code (2 : Nat) (Option.some Jvm.ClassFile.FieldType.int)) ∈ lw_all := sorry
theorem q2625 : (Jvm.Cond.instanceMethod ({ cls := "LinkHouse", name := "name", desc := "(I)I" } : Jvm.MethodName)) ∈ lw_all := sorry
theorem q2626 : (Jvm.Cond.selects "LinkHouse" ({ cls := "LinkHouse", name := "name", desc := "(I)I" } : Jvm.MethodName) ({ cls := "LinkHouse", name := "name", desc := "(I)I" } : Jvm.MethodName)) ∈ lw_all := sorry
theorem q2627 : (Jvm.Cond.code ({ cls := "LinkHouse", name := "name", desc := "(I)I" } : Jvm.MethodName) prog_1_method_84_code (2 : Nat) (Option.some Jvm.ClassFile.FieldType.int)) ∈ lw_all := sorry
theorem q2629 : (Jvm.Cond.instanceMethod ({ cls := "LinkHouse", name := "state", desc := "(I)I" } : Jvm.MethodName)) ∈ lw_all := sorry
theorem q2630 : (Jvm.Cond.selects "LinkHouse" ({ cls := "LinkHouse", name := "state", desc := "(I)I" } : Jvm.MethodName) ({ cls := "LinkHouse", name := "state", desc := "(I)I" } : Jvm.MethodName)) ∈ lw_all := sorry
theorem q2631 : (Jvm.Cond.code ({ cls := "LinkHouse", name := "state", desc := "(I)I" } : Jvm.MethodName) prog_1_method_85_code (2 : Nat) (Option.some Jvm.ClassFile.FieldType.int)) ∈ lw_all := sorry
theorem q2632 : (Jvm.Cond.methodLink "LinkHouse" (714 : Nat) ({ cls := "LinkHouse$Machine", name := "isAt", desc := "(LLinkHouse$Kind;)I" } : Jvm.MethodName)) ∈ lw_all := sorry
theorem q2637 : (Jvm.Cond.instanceMethod ({ cls := "LinkHouse", name := "classOf", desc := "(I)I" } : Jvm.MethodName)) ∈ lw_all := sorry
theorem q2638 : (Jvm.Cond.selects "LinkHouse" ({ cls := "LinkHouse", name := "classOf", desc := "(I)I" } : Jvm.MethodName) ({ cls := "LinkHouse", name := "classOf", desc := "(I)I" } : Jvm.MethodName)) ∈ lw_all := sorry
theorem q2639 : (Jvm.Cond.code ({ cls := "LinkHouse", name := "classOf", desc := "(I)I" } : Jvm.MethodName) prog_1_method_86_code (2 : Nat) (Option.some Jvm.ClassFile.FieldType.int)) ∈ lw_all := sorry
theorem q2641 : (Jvm.Cond.instanceMethod ({ cls := "LinkHouse", name := "fieldOf", desc := "(II)I" } : Jvm.MethodName)) ∈ lw_all := sorry
theorem q2642 : (Jvm.Cond.selects "LinkHouse" ({ cls := "LinkHouse", name := "fieldOf", desc := "(II)I" } : Jvm.MethodName) ({ cls := "LinkHouse", name := "fieldOf", desc := "(II)I" } : Jvm.MethodName)) ∈ lw_all := sorry
theorem q2643 : (Jvm.Cond.code ({ cls := "LinkHouse", name := "fieldOf", desc := "(II)I" } : Jvm.MethodName) prog_1_method_87_code (3 : Nat) (Option.some Jvm.ClassFile.FieldType.int)) ∈ lw_all := sorry
theorem q2644 : (Jvm.Cond.methodLink "LinkHouse" (720 : Nat) ({ cls := "LinkHouse$Machine", name := "fieldsOf", desc := "(LLinkHouse$Kind;)I" } : Jvm.MethodName)) ∈ lw_all := sorry
theorem in_X0 : ∀ w ∈ wsX00, w ∈ lw_all := sorry
/-! LinkHouse$Kind -/
def RX1 : String := "LinkHouse$Kind"
def TX1 : u_T := fun k => match k with
  | 0 => ("LinkHouse$Kind", "title", "J", false)
  | 1 => ("LinkHouse$Kind", "pack", "I", false)
  | 2 => ("LinkHouse$Kind", "isFace", "Z", false)
  | 3 => ("LinkHouse$Kind", "isOpen", "Z", false)
  | 4 => ("LinkHouse$Kind", "isFinal", "Z", false)
  | 5 => ("LinkHouse$Kind", "isBare", "Z", false)
  | 6 => ("LinkHouse$Kind", "hasParent", "Z", false)
  | 7 => ("LinkHouse$Kind", "parent", "J", false)
  | 8 => ("LinkHouse$Kind", "face", "[J", true)
  | 9 => ("LinkHouse$Kind", "faces", "I", false)
  | 10 => ("LinkHouse$Kind", "host", "J", false)
  | 11 => ("LinkHouse$Kind", "with", "[J", true)
  | 12 => ("LinkHouse$Kind", "withs", "I", false)
  | 13 => ("LinkHouse$Kind", "only", "[J", true)
  | 14 => ("LinkHouse$Kind", "onlys", "I", false)
  | 15 => ("LinkHouse$Kind", "isClosed", "Z", false)
  | 16 => ("LinkHouse$Kind", "member", "[LLinkHouse$Member;", true)
  | 17 => ("LinkHouse$Kind", "members", "I", false)
  | 18 => ("LinkHouse$Kind", "bridges", "I", false)
  | 19 => ("LinkHouse$Kind", "useFrom", "I", false)
  | 20 => ("LinkHouse$Kind", "useTo", "I", false)
  | 21 => ("LinkHouse$Kind", "startCode", "I", false)
  | 22 => ("LinkHouse$Kind", "firstCode", "I", false)
  | 23 => ("LinkHouse$Kind", "fields", "I", false)
  | 24 => ("LinkHouse$Kind", "at", "I", false)
  | 25 => ("LinkHouse$Kind", "headAt", "[I", true)
  | 26 => ("LinkHouse$Kind", "build", "LLinkHouse$Build;", false)
  | 27 => ("LinkHouse$Kind", "number", "I", false)
  | _ => ("LinkHouse$Kind", "inWorld", "I", false)
def tyX1 : Nat → FieldType := fun k => match k with
  | 0 => .long
  | 1 => .int
  | 2 => .boolean
  | 3 => .boolean
  | 4 => .boolean
  | 5 => .boolean
  | 6 => .boolean
  | 7 => .long
  | 8 => .array .long
  | 9 => .int
  | 10 => .long
  | 11 => .array .long
  | 12 => .int
  | 13 => .array .long
  | 14 => .int
  | 15 => .boolean
  | 16 => .array (.object "LinkHouse$Member")
  | 17 => .int
  | 18 => .int
  | 19 => .int
  | 20 => .int
  | 21 => .int
  | 22 => .int
  | 23 => .int
  | 24 => .int
  | 25 => .array .int
  | 26 => .object "LinkHouse$Build"
  | 27 => .int
  | _ => .int
abbrev wsX10 : List Cond := u_ws RX1 TX1 29
set_option maxRecDepth 100000 in
theorem nmX1 : ∀ a, a < 29 → ∀ b, b < 29 → a ≠ b → (TX1 a).2.1 ≠ (TX1 b).2.1 := sorry
set_option maxRecDepth 100000 in
theorem tyX1_ok : ∀ k, k < 29 → parseFieldDescriptor (TX1 k).2.2.1 = some (tyX1 k) := sorry
abbrev cX1_init : ByteArray := prog_4_method_1_code
def yX1_init : MethodName := ⟨RX1, "<init>", "()V"⟩
abbrev cX1_begin : ByteArray := prog_4_method_2_code
def yX1_begin : MethodName := ⟨RX1, "begin", "(LLinkHouse$Build;I)V"⟩
abbrev cX1_more : ByteArray := prog_4_method_3_code
def yX1_more : MethodName := ⟨RX1, "more", "()LLinkHouse$Member;"⟩
abbrev cX1_lets : ByteArray := prog_4_method_5_code
def yX1_lets : MethodName := ⟨RX1, "lets", "(J)Z"⟩
abbrev cX1_hasWith : ByteArray := prog_4_method_4_code
def yX1_hasWith : MethodName := ⟨RX1, "hasWith", "(J)Z"⟩
abbrev cX1_hasMaker : ByteArray := prog_4_method_10_code
def yX1_hasMaker : MethodName := ⟨RX1, "hasMaker", "()Z"⟩
abbrev cX1_method : ByteArray := prog_4_method_7_code
def yX1_method : MethodName := ⟨RX1, "method", "(LLinkHouse$Member;)LLinkHouse$Member;"⟩
abbrev cX1_field : ByteArray := prog_4_method_9_code
def yX1_field : MethodName := ⟨RX1, "field", "(JJ)LLinkHouse$Member;"⟩
abbrev cX1_hasFace : ByteArray := prog_4_method_6_code
def yX1_hasFace : MethodName := ⟨RX1, "hasFace", "(J)Z"⟩
abbrev cX1_maker : ByteArray := prog_4_method_8_code
def yX1_maker : MethodName := ⟨RX1, "maker", "(LLinkHouse$Member;)LLinkHouse$Member;"⟩
abbrev cX1_become : ByteArray := prog_4_method_12_code
def yX1_become : MethodName := ⟨RX1, "become", "(LLinkHouse$Kind;LLinkHouse$Build;)V"⟩
abbrev cX1_hasWhole : ByteArray := prog_4_method_11_code
def yX1_hasWhole : MethodName := ⟨RX1, "hasWhole", "()Z"⟩
theorem q394 : (Jvm.Cond.initialized "LinkHouse$Kind") ∈ lw_all := sorry
theorem q425 : (Jvm.Cond.instantiable "LinkHouse$Kind" (29 : Nat)) ∈ lw_all := sorry
theorem q427 : (Jvm.Cond.instanceMethod ({ cls := "LinkHouse$Kind", name := "<init>", desc := "()V" } : Jvm.MethodName)) ∈ lw_all := sorry
theorem q428 : (Jvm.Cond.code ({ cls := "LinkHouse$Kind", name := "<init>", desc := "()V" } : Jvm.MethodName) prog_4_method_1_code (2 : Nat) (Option.none : Option Jvm.ClassFile.FieldType)) ∈ lw_all := sorry
theorem q429 : (Jvm.Cond.methodLink "LinkHouse$Kind" (3 : Nat) ({ cls := "java/lang/Object", name := "<init>", desc := "()V" } : Jvm.MethodName)) ∈ lw_all := sorry
theorem q430 : (Jvm.Cond.classLink "LinkHouse$Kind" (21 : Nat) "LinkHouse$Member") ∈ lw_all := sorry
theorem q433 : (Jvm.Cond.methodLinkNest "LinkHouse$Kind" (31 : Nat) ({ cls := "LinkHouse$Member", name := "<init>", desc := "()V" } : Jvm.MethodName) "LinkHouse") ∈ lw_tbl := sorry
theorem q440 : (Jvm.Cond.fieldLinkNest "LinkHouse$Kind" (115 : Nat) "LinkHouse$Member" "sort" "I" "LinkHouse") ∈ lw_tbl := sorry
theorem q447 : (Jvm.Cond.fieldLinkNest "LinkHouse$Kind" (121 : Nat) "LinkHouse$Member" "title" "J" "LinkHouse") ∈ lw_tbl := sorry
theorem q459 : (Jvm.Cond.fieldLinkNest "LinkHouse$Kind" (128 : Nat) "LinkHouse$Member" "isStatic" "Z" "LinkHouse") ∈ lw_tbl := sorry
theorem q472 : (Jvm.Cond.fieldLinkNest "LinkHouse$Kind" (127 : Nat) "LinkHouse$Member" "isBare" "Z" "LinkHouse") ∈ lw_tbl := sorry
theorem q483 : (Jvm.Cond.fieldLinkNest "LinkHouse$Kind" (124 : Nat) "LinkHouse$Member" "type" "J" "LinkHouse") ∈ lw_tbl := sorry
theorem q594 : (Jvm.Cond.fieldLink "LinkHouse$Kind" (40 : Nat) "LinkHouse$Kind" "title" "J") ∈ lw_all := sorry
theorem q604 : (Jvm.Cond.fieldLink "LinkHouse$Kind" (134 : Nat) "LinkHouse$Kind" "pack" "I") ∈ lw_all := sorry
theorem q606 : (Jvm.Cond.fieldLink "LinkHouse$Kind" (44 : Nat) "LinkHouse$Kind" "isFace" "Z") ∈ lw_all := sorry
theorem q613 : (Jvm.Cond.fieldLink "LinkHouse$Kind" (48 : Nat) "LinkHouse$Kind" "isOpen" "Z") ∈ lw_all := sorry
theorem q618 : (Jvm.Cond.fieldLink "LinkHouse$Kind" (51 : Nat) "LinkHouse$Kind" "isFinal" "Z") ∈ lw_all := sorry
theorem q623 : (Jvm.Cond.fieldLink "LinkHouse$Kind" (54 : Nat) "LinkHouse$Kind" "isBare" "Z") ∈ lw_all := sorry
theorem q628 : (Jvm.Cond.fieldLink "LinkHouse$Kind" (57 : Nat) "LinkHouse$Kind" "hasParent" "Z") ∈ lw_all := sorry
theorem q632 : (Jvm.Cond.fieldLink "LinkHouse$Kind" (62 : Nat) "LinkHouse$Kind" "parent" "J") ∈ lw_all := sorry
theorem q638 : (Jvm.Cond.fieldLink "LinkHouse$Kind" (9 : Nat) "LinkHouse$Kind" "face" "[J") ∈ lw_all := sorry
theorem q645 : (Jvm.Cond.fieldLink "LinkHouse$Kind" (65 : Nat) "LinkHouse$Kind" "faces" "I") ∈ lw_all := sorry
theorem q652 : (Jvm.Cond.fieldLink "LinkHouse$Kind" (68 : Nat) "LinkHouse$Kind" "host" "J") ∈ lw_all := sorry
theorem q657 : (Jvm.Cond.fieldLink "LinkHouse$Kind" (15 : Nat) "LinkHouse$Kind" "with" "[J") ∈ lw_all := sorry
theorem q661 : (Jvm.Cond.fieldLink "LinkHouse$Kind" (71 : Nat) "LinkHouse$Kind" "withs" "I") ∈ lw_all := sorry
theorem q665 : (Jvm.Cond.fieldLink "LinkHouse$Kind" (18 : Nat) "LinkHouse$Kind" "only" "[J") ∈ lw_all := sorry
theorem q669 : (Jvm.Cond.fieldLink "LinkHouse$Kind" (74 : Nat) "LinkHouse$Kind" "onlys" "I") ∈ lw_all := sorry
theorem q673 : (Jvm.Cond.fieldLink "LinkHouse$Kind" (77 : Nat) "LinkHouse$Kind" "isClosed" "Z") ∈ lw_all := sorry
theorem q676 : (Jvm.Cond.fieldLink "LinkHouse$Kind" (23 : Nat) "LinkHouse$Kind" "member" "[LLinkHouse$Member;") ∈ lw_all := sorry
theorem q680 : (Jvm.Cond.fieldLink "LinkHouse$Kind" (80 : Nat) "LinkHouse$Kind" "members" "I") ∈ lw_all := sorry
theorem q684 : (Jvm.Cond.fieldLink "LinkHouse$Kind" (83 : Nat) "LinkHouse$Kind" "bridges" "I") ∈ lw_all := sorry
theorem q687 : (Jvm.Cond.fieldLink "LinkHouse$Kind" (86 : Nat) "LinkHouse$Kind" "useFrom" "I") ∈ lw_all := sorry
theorem q691 : (Jvm.Cond.fieldLink "LinkHouse$Kind" (89 : Nat) "LinkHouse$Kind" "useTo" "I") ∈ lw_all := sorry
theorem q695 : (Jvm.Cond.fieldLink "LinkHouse$Kind" (92 : Nat) "LinkHouse$Kind" "startCode" "I") ∈ lw_all := sorry
theorem q696 : (Jvm.Cond.fieldLink "LinkHouse$Kind" (95 : Nat) "LinkHouse$Kind" "firstCode" "I") ∈ lw_all := sorry
theorem q697 : (Jvm.Cond.fieldLink "LinkHouse$Kind" (98 : Nat) "LinkHouse$Kind" "fields" "I") ∈ lw_all := sorry
theorem q701 : (Jvm.Cond.fieldLink "LinkHouse$Kind" (101 : Nat) "LinkHouse$Kind" "at" "I") ∈ lw_all := sorry
theorem q704 : (Jvm.Cond.fieldLink "LinkHouse$Kind" (27 : Nat) "LinkHouse$Kind" "headAt" "[I") ∈ lw_all := sorry
theorem q707 : (Jvm.Cond.fieldLink "LinkHouse$Kind" (32 : Nat) "LinkHouse$Kind" "build" "LLinkHouse$Build;") ∈ lw_all := sorry
theorem q711 : (Jvm.Cond.fieldLink "LinkHouse$Kind" (36 : Nat) "LinkHouse$Kind" "number" "I") ∈ lw_all := sorry
theorem q713 : (Jvm.Cond.fieldLink "LinkHouse$Kind" (104 : Nat) "LinkHouse$Kind" "inWorld" "I") ∈ lw_all := sorry
theorem q717 : (Jvm.Cond.lays "LinkHouse$Kind" "LinkHouse$Kind" "title" "J") ∈ lw_all := sorry
theorem q718 : (Jvm.Cond.soleField "LinkHouse$Kind" "title") ∈ lw_all := sorry
theorem q719 : (Jvm.Cond.lays "LinkHouse$Kind" "LinkHouse$Kind" "pack" "I") ∈ lw_all := sorry
theorem q720 : (Jvm.Cond.soleField "LinkHouse$Kind" "pack") ∈ lw_all := sorry
theorem q721 : (Jvm.Cond.lays "LinkHouse$Kind" "LinkHouse$Kind" "isFace" "Z") ∈ lw_all := sorry
theorem q722 : (Jvm.Cond.soleField "LinkHouse$Kind" "isFace") ∈ lw_all := sorry
theorem q723 : (Jvm.Cond.lays "LinkHouse$Kind" "LinkHouse$Kind" "isOpen" "Z") ∈ lw_all := sorry
theorem q724 : (Jvm.Cond.soleField "LinkHouse$Kind" "isOpen") ∈ lw_all := sorry
theorem q725 : (Jvm.Cond.lays "LinkHouse$Kind" "LinkHouse$Kind" "isFinal" "Z") ∈ lw_all := sorry
theorem q726 : (Jvm.Cond.soleField "LinkHouse$Kind" "isFinal") ∈ lw_all := sorry
theorem q727 : (Jvm.Cond.lays "LinkHouse$Kind" "LinkHouse$Kind" "isBare" "Z") ∈ lw_all := sorry
theorem q728 : (Jvm.Cond.soleField "LinkHouse$Kind" "isBare") ∈ lw_all := sorry
theorem q729 : (Jvm.Cond.lays "LinkHouse$Kind" "LinkHouse$Kind" "hasParent" "Z") ∈ lw_all := sorry
theorem q730 : (Jvm.Cond.soleField "LinkHouse$Kind" "hasParent") ∈ lw_all := sorry
theorem q731 : (Jvm.Cond.lays "LinkHouse$Kind" "LinkHouse$Kind" "parent" "J") ∈ lw_all := sorry
theorem q732 : (Jvm.Cond.soleField "LinkHouse$Kind" "parent") ∈ lw_all := sorry
theorem q733 : (Jvm.Cond.laysFinal "LinkHouse$Kind" "LinkHouse$Kind" "face" "[J") ∈ lw_all := sorry
theorem q734 : (Jvm.Cond.soleField "LinkHouse$Kind" "face") ∈ lw_all := sorry
theorem q735 : (Jvm.Cond.lays "LinkHouse$Kind" "LinkHouse$Kind" "faces" "I") ∈ lw_all := sorry
theorem q736 : (Jvm.Cond.soleField "LinkHouse$Kind" "faces") ∈ lw_all := sorry
theorem q737 : (Jvm.Cond.lays "LinkHouse$Kind" "LinkHouse$Kind" "host" "J") ∈ lw_all := sorry
theorem q738 : (Jvm.Cond.soleField "LinkHouse$Kind" "host") ∈ lw_all := sorry
theorem q739 : (Jvm.Cond.laysFinal "LinkHouse$Kind" "LinkHouse$Kind" "with" "[J") ∈ lw_all := sorry
theorem q740 : (Jvm.Cond.soleField "LinkHouse$Kind" "with") ∈ lw_all := sorry
theorem q741 : (Jvm.Cond.lays "LinkHouse$Kind" "LinkHouse$Kind" "withs" "I") ∈ lw_all := sorry
theorem q742 : (Jvm.Cond.soleField "LinkHouse$Kind" "withs") ∈ lw_all := sorry
theorem q743 : (Jvm.Cond.laysFinal "LinkHouse$Kind" "LinkHouse$Kind" "only" "[J") ∈ lw_all := sorry
theorem q744 : (Jvm.Cond.soleField "LinkHouse$Kind" "only") ∈ lw_all := sorry
theorem q745 : (Jvm.Cond.lays "LinkHouse$Kind" "LinkHouse$Kind" "onlys" "I") ∈ lw_all := sorry
theorem q746 : (Jvm.Cond.soleField "LinkHouse$Kind" "onlys") ∈ lw_all := sorry
theorem q747 : (Jvm.Cond.lays "LinkHouse$Kind" "LinkHouse$Kind" "isClosed" "Z") ∈ lw_all := sorry
theorem q748 : (Jvm.Cond.soleField "LinkHouse$Kind" "isClosed") ∈ lw_all := sorry
theorem q749 : (Jvm.Cond.laysFinal "LinkHouse$Kind" "LinkHouse$Kind" "member" "[LLinkHouse$Member;") ∈ lw_all := sorry
theorem q750 : (Jvm.Cond.soleField "LinkHouse$Kind" "member") ∈ lw_all := sorry
theorem q751 : (Jvm.Cond.lays "LinkHouse$Kind" "LinkHouse$Kind" "members" "I") ∈ lw_all := sorry
theorem q752 : (Jvm.Cond.soleField "LinkHouse$Kind" "members") ∈ lw_all := sorry
theorem q753 : (Jvm.Cond.lays "LinkHouse$Kind" "LinkHouse$Kind" "bridges" "I") ∈ lw_all := sorry
theorem q754 : (Jvm.Cond.soleField "LinkHouse$Kind" "bridges") ∈ lw_all := sorry
theorem q755 : (Jvm.Cond.lays "LinkHouse$Kind" "LinkHouse$Kind" "useFrom" "I") ∈ lw_all := sorry
theorem q756 : (Jvm.Cond.soleField "LinkHouse$Kind" "useFrom") ∈ lw_all := sorry
theorem q757 : (Jvm.Cond.lays "LinkHouse$Kind" "LinkHouse$Kind" "useTo" "I") ∈ lw_all := sorry
theorem q758 : (Jvm.Cond.soleField "LinkHouse$Kind" "useTo") ∈ lw_all := sorry
theorem q759 : (Jvm.Cond.lays "LinkHouse$Kind" "LinkHouse$Kind" "startCode" "I") ∈ lw_all := sorry
theorem q760 : (Jvm.Cond.soleField "LinkHouse$Kind" "startCode") ∈ lw_all := sorry
theorem q761 : (Jvm.Cond.lays "LinkHouse$Kind" "LinkHouse$Kind" "firstCode" "I") ∈ lw_all := sorry
theorem q762 : (Jvm.Cond.soleField "LinkHouse$Kind" "firstCode") ∈ lw_all := sorry
theorem q763 : (Jvm.Cond.lays "LinkHouse$Kind" "LinkHouse$Kind" "fields" "I") ∈ lw_all := sorry
theorem q764 : (Jvm.Cond.soleField "LinkHouse$Kind" "fields") ∈ lw_all := sorry
theorem q765 : (Jvm.Cond.lays "LinkHouse$Kind" "LinkHouse$Kind" "at" "I") ∈ lw_all := sorry
theorem q766 : (Jvm.Cond.soleField "LinkHouse$Kind" "at") ∈ lw_all := sorry
theorem q767 : (Jvm.Cond.laysFinal "LinkHouse$Kind" "LinkHouse$Kind" "headAt" "[I") ∈ lw_all := sorry
theorem q768 : (Jvm.Cond.soleField "LinkHouse$Kind" "headAt") ∈ lw_all := sorry
theorem q769 : (Jvm.Cond.lays "LinkHouse$Kind" "LinkHouse$Kind" "build" "LLinkHouse$Build;") ∈ lw_all := sorry
theorem q770 : (Jvm.Cond.soleField "LinkHouse$Kind" "build") ∈ lw_all := sorry
theorem q771 : (Jvm.Cond.lays "LinkHouse$Kind" "LinkHouse$Kind" "number" "I") ∈ lw_all := sorry
theorem q772 : (Jvm.Cond.soleField "LinkHouse$Kind" "number") ∈ lw_all := sorry
theorem q773 : (Jvm.Cond.lays "LinkHouse$Kind" "LinkHouse$Kind" "inWorld" "I") ∈ lw_all := sorry
theorem q774 : (Jvm.Cond.soleField "LinkHouse$Kind" "inWorld") ∈ lw_all := sorry
theorem q775 : (Jvm.Cond.superclass "LinkHouse$Kind" "java/lang/Object") ∈ lw_all := sorry
theorem q1398 : (Jvm.Cond.instanceMethod ({ cls := "LinkHouse$Kind", name := "begin", desc := "(LLinkHouse$Build;I)V" } : Jvm.MethodName)) ∈ lw_all := sorry
theorem q1399 : (Jvm.Cond.selects "LinkHouse$Kind" ({ cls := "LinkHouse$Kind", name := "begin", desc := "(LLinkHouse$Build;I)V" } : Jvm.MethodName) ({ cls := "LinkHouse$Kind", name := "begin", desc := "(LLinkHouse$Build;I)V" } : Jvm.MethodName)) ∈ lw_all := sorry
theorem q1400 : (Jvm.Cond.code ({ cls := "LinkHouse$Kind", name := "begin", desc := "(LLinkHouse$Build;I)V" } : Jvm.MethodName) prog_4_method_2_code (3 : Nat) (Option.none : Option Jvm.ClassFile.FieldType)) ∈ lw_all := sorry
theorem q1401 : (Jvm.Cond.constantLong "LinkHouse$Kind" (60 : Nat) (6927257 : Int64)) ∈ lw_all := sorry
theorem q1404 : (Jvm.Cond.instanceMethod ({ cls := "LinkHouse$Kind", name := "more", desc := "()LLinkHouse$Member;" } : Jvm.MethodName)) ∈ lw_all := sorry
theorem q1405 : (Jvm.Cond.selects "LinkHouse$Kind" ({ cls := "LinkHouse$Kind", name := "more", desc := "()LLinkHouse$Member;" } : Jvm.MethodName) ({ cls := "LinkHouse$Kind", name := "more", desc := "()LLinkHouse$Member;" } : Jvm.MethodName)) ∈ lw_all := sorry
theorem q1406 : (Jvm.Cond.code ({ cls := "LinkHouse$Kind", name := "more", desc := "()LLinkHouse$Member;" } : Jvm.MethodName) prog_4_method_3_code (2 : Nat) (Option.some (Jvm.ClassFile.FieldType.object "LinkHouse$Member"))) ∈ lw_all := sorry
theorem q1407 : (Jvm.Cond.methodLink "LinkHouse$Kind" (107 : Nat) ({ cls := "LinkHouse$Member", name := "begin", desc := "(LLinkHouse$Kind;)V" } : Jvm.MethodName)) ∈ lw_all := sorry
theorem q1771 : (Jvm.Cond.instanceMethod ({ cls := "LinkHouse$Kind", name := "lets", desc := "(J)Z" } : Jvm.MethodName)) ∈ lw_all := sorry
theorem q1772 : (Jvm.Cond.selects "LinkHouse$Kind" ({ cls := "LinkHouse$Kind", name := "lets", desc := "(J)Z" } : Jvm.MethodName) ({ cls := "LinkHouse$Kind", name := "lets", desc := "(J)Z" } : Jvm.MethodName)) ∈ lw_all := sorry
theorem q1773 : (Jvm.Cond.code ({ cls := "LinkHouse$Kind", name := "lets", desc := "(J)Z" } : Jvm.MethodName) prog_4_method_5_code (5 : Nat) (Option.some Jvm.ClassFile.FieldType.boolean)) ∈ lw_all := sorry
theorem q1779 : (Jvm.Cond.instanceMethod ({ cls := "LinkHouse$Kind", name := "hasWith", desc := "(J)Z" } : Jvm.MethodName)) ∈ lw_all := sorry
theorem q1780 : (Jvm.Cond.selects "LinkHouse$Kind" ({ cls := "LinkHouse$Kind", name := "hasWith", desc := "(J)Z" } : Jvm.MethodName) ({ cls := "LinkHouse$Kind", name := "hasWith", desc := "(J)Z" } : Jvm.MethodName)) ∈ lw_all := sorry
theorem q1781 : (Jvm.Cond.code ({ cls := "LinkHouse$Kind", name := "hasWith", desc := "(J)Z" } : Jvm.MethodName) prog_4_method_4_code (5 : Nat) (Option.some Jvm.ClassFile.FieldType.boolean)) ∈ lw_all := sorry
theorem q1859 : (Jvm.Cond.instanceMethod ({ cls := "LinkHouse$Kind", name := "hasMaker", desc := "()Z" } : Jvm.MethodName)) ∈ lw_all := sorry
theorem q1860 : (Jvm.Cond.selects "LinkHouse$Kind" ({ cls := "LinkHouse$Kind", name := "hasMaker", desc := "()Z" } : Jvm.MethodName) ({ cls := "LinkHouse$Kind", name := "hasMaker", desc := "()Z" } : Jvm.MethodName)) ∈ lw_all := sorry
theorem q1861 : (Jvm.Cond.code ({ cls := "LinkHouse$Kind", name := "hasMaker", desc := "()Z" } : Jvm.MethodName) prog_4_method_10_code (3 : Nat) (Option.some Jvm.ClassFile.FieldType.boolean)) ∈ lw_all := sorry
theorem q1872 : (Jvm.Cond.instanceMethod ({ cls := "LinkHouse$Kind", name := "method", desc := "(LLinkHouse$Member;)LLinkHouse$Member;" } : Jvm.MethodName)) ∈ lw_all := sorry
theorem q1873 : (Jvm.Cond.selects "LinkHouse$Kind" ({ cls := "LinkHouse$Kind", name := "method", desc := "(LLinkHouse$Member;)LLinkHouse$Member;" } : Jvm.MethodName) ({ cls := "LinkHouse$Kind", name := "method", desc := "(LLinkHouse$Member;)LLinkHouse$Member;" } : Jvm.MethodName)) ∈ lw_all := sorry
theorem q1874 : (Jvm.Cond.code ({ cls := "LinkHouse$Kind", name := "method", desc := "(LLinkHouse$Member;)LLinkHouse$Member;" } : Jvm.MethodName) prog_4_method_7_code (3 : Nat) (Option.some (Jvm.ClassFile.FieldType.object "LinkHouse$Member"))) ∈ lw_all := sorry
theorem q1875 : (Jvm.Cond.methodLink "LinkHouse$Kind" (111 : Nat) ({ cls := "LinkHouse$Member", name := "isOne", desc := "(LLinkHouse$Member;)Z" } : Jvm.MethodName)) ∈ lw_all := sorry
theorem q1937 : (Jvm.Cond.instanceMethod ({ cls := "LinkHouse$Kind", name := "field", desc := "(JJ)LLinkHouse$Member;" } : Jvm.MethodName)) ∈ lw_all := sorry
theorem q1938 : (Jvm.Cond.selects "LinkHouse$Kind" ({ cls := "LinkHouse$Kind", name := "field", desc := "(JJ)LLinkHouse$Member;" } : Jvm.MethodName) ({ cls := "LinkHouse$Kind", name := "field", desc := "(JJ)LLinkHouse$Member;" } : Jvm.MethodName)) ∈ lw_all := sorry
theorem q1939 : (Jvm.Cond.code ({ cls := "LinkHouse$Kind", name := "field", desc := "(JJ)LLinkHouse$Member;" } : Jvm.MethodName) prog_4_method_9_code (7 : Nat) (Option.some (Jvm.ClassFile.FieldType.object "LinkHouse$Member"))) ∈ lw_all := sorry
theorem q1940 : (Jvm.Cond.constantLong "LinkHouse$Kind" (122 : Nat) (2 : Int64)) ∈ lw_all := sorry
theorem q2074 : (Jvm.Cond.instanceMethod ({ cls := "LinkHouse$Kind", name := "hasFace", desc := "(J)Z" } : Jvm.MethodName)) ∈ lw_all := sorry
theorem q2075 : (Jvm.Cond.selects "LinkHouse$Kind" ({ cls := "LinkHouse$Kind", name := "hasFace", desc := "(J)Z" } : Jvm.MethodName) ({ cls := "LinkHouse$Kind", name := "hasFace", desc := "(J)Z" } : Jvm.MethodName)) ∈ lw_all := sorry
theorem q2076 : (Jvm.Cond.code ({ cls := "LinkHouse$Kind", name := "hasFace", desc := "(J)Z" } : Jvm.MethodName) prog_4_method_6_code (5 : Nat) (Option.some Jvm.ClassFile.FieldType.boolean)) ∈ lw_all := sorry
theorem q2332 : (Jvm.Cond.instanceMethod ({ cls := "LinkHouse$Kind", name := "maker", desc := "(LLinkHouse$Member;)LLinkHouse$Member;" } : Jvm.MethodName)) ∈ lw_all := sorry
theorem q2333 : (Jvm.Cond.selects "LinkHouse$Kind" ({ cls := "LinkHouse$Kind", name := "maker", desc := "(LLinkHouse$Member;)LLinkHouse$Member;" } : Jvm.MethodName) ({ cls := "LinkHouse$Kind", name := "maker", desc := "(LLinkHouse$Member;)LLinkHouse$Member;" } : Jvm.MethodName)) ∈ lw_all := sorry
theorem q2334 : (Jvm.Cond.code ({ cls := "LinkHouse$Kind", name := "maker", desc := "(LLinkHouse$Member;)LLinkHouse$Member;" } : Jvm.MethodName) prog_4_method_8_code (3 : Nat) (Option.some (Jvm.ClassFile.FieldType.object "LinkHouse$Member"))) ∈ lw_all := sorry
theorem q2335 : (Jvm.Cond.methodLink "LinkHouse$Kind" (118 : Nat) ({ cls := "LinkHouse$Member", name := "hasParams", desc := "(LLinkHouse$Member;)Z" } : Jvm.MethodName)) ∈ lw_all := sorry
theorem q2480 : (Jvm.Cond.instanceMethod ({ cls := "LinkHouse$Kind", name := "become", desc := "(LLinkHouse$Kind;LLinkHouse$Build;)V" } : Jvm.MethodName)) ∈ lw_all := sorry
theorem q2481 : (Jvm.Cond.selects "LinkHouse$Kind" ({ cls := "LinkHouse$Kind", name := "become", desc := "(LLinkHouse$Kind;LLinkHouse$Build;)V" } : Jvm.MethodName) ({ cls := "LinkHouse$Kind", name := "become", desc := "(LLinkHouse$Kind;LLinkHouse$Build;)V" } : Jvm.MethodName)) ∈ lw_all := sorry
theorem q2482 : (Jvm.Cond.code ({ cls := "LinkHouse$Kind", name := "become", desc := "(LLinkHouse$Kind;LLinkHouse$Build;)V" } : Jvm.MethodName) prog_4_method_12_code (4 : Nat) (Option.none : Option Jvm.ClassFile.FieldType)) ∈ lw_all := sorry
theorem q2483 : (Jvm.Cond.methodLink "LinkHouse$Kind" (131 : Nat) ({ cls := "LinkHouse$Kind", name := "begin", desc := "(LLinkHouse$Build;I)V" } : Jvm.MethodName)) ∈ lw_all := sorry
theorem q2484 : (Jvm.Cond.methodLink "LinkHouse$Kind" (137 : Nat) ({ cls := "java/lang/System", name := "arraycopy", desc := "(Ljava/lang/Object;ILjava/lang/Object;II)V" } : Jvm.MethodName)) ∈ lw_all := sorry
theorem q2485 : (Jvm.Cond.methodLink "LinkHouse$Kind" (143 : Nat) ({ cls := "LinkHouse$Member", name := "become", desc := "(LLinkHouse$Member;LLinkHouse$Kind;)V" } : Jvm.MethodName)) ∈ lw_all := sorry
theorem q2546 : (Jvm.Cond.instanceMethod ({ cls := "LinkHouse$Kind", name := "hasWhole", desc := "()Z" } : Jvm.MethodName)) ∈ lw_all := sorry
theorem q2547 : (Jvm.Cond.selects "LinkHouse$Kind" ({ cls := "LinkHouse$Kind", name := "hasWhole", desc := "()Z" } : Jvm.MethodName) ({ cls := "LinkHouse$Kind", name := "hasWhole", desc := "()Z" } : Jvm.MethodName)) ∈ lw_all := sorry
theorem q2548 : (Jvm.Cond.code ({ cls := "LinkHouse$Kind", name := "hasWhole", desc := "()Z" } : Jvm.MethodName) prog_4_method_11_code (3 : Nat) (Option.some Jvm.ClassFile.FieldType.boolean)) ∈ lw_all := sorry
theorem in_X1 : ∀ w ∈ wsX10, w ∈ lw_all := sorry
/-! LinkHouse$Member -/
def RX2 : String := "LinkHouse$Member"
def TX2 : u_T := fun k => match k with
  | 0 => ("LinkHouse$Member", "sort", "I", false)
  | 1 => ("LinkHouse$Member", "title", "J", false)
  | 2 => ("LinkHouse$Member", "access", "I", false)
  | 3 => ("LinkHouse$Member", "isStatic", "Z", false)
  | 4 => ("LinkHouse$Member", "isFinal", "Z", false)
  | 5 => ("LinkHouse$Member", "isBare", "Z", false)
  | 6 => ("LinkHouse$Member", "isBridge", "Z", false)
  | 7 => ("LinkHouse$Member", "type", "J", false)
  | 8 => ("LinkHouse$Member", "params", "I", false)
  | 9 => ("LinkHouse$Member", "param", "[J", true)
  | 10 => ("LinkHouse$Member", "called", "[J", true)
  | 11 => ("LinkHouse$Member", "paramAt", "[I", true)
  | 12 => ("LinkHouse$Member", "isConstant", "Z", false)
  | 13 => ("LinkHouse$Member", "constant", "I", false)
  | 14 => ("LinkHouse$Member", "at", "I", false)
  | 15 => ("LinkHouse$Member", "typeAt", "I", false)
  | 16 => ("LinkHouse$Member", "from", "I", false)
  | 17 => ("LinkHouse$Member", "to", "I", false)
  | 18 => ("LinkHouse$Member", "node", "I", false)
  | 19 => ("LinkHouse$Member", "code", "I", false)
  | 20 => ("LinkHouse$Member", "locals", "I", false)
  | 21 => ("LinkHouse$Member", "slot", "I", false)
  | _ => ("LinkHouse$Member", "of", "LLinkHouse$Kind;", false)
def tyX2 : Nat → FieldType := fun k => match k with
  | 0 => .int
  | 1 => .long
  | 2 => .int
  | 3 => .boolean
  | 4 => .boolean
  | 5 => .boolean
  | 6 => .boolean
  | 7 => .long
  | 8 => .int
  | 9 => .array .long
  | 10 => .array .long
  | 11 => .array .int
  | 12 => .boolean
  | 13 => .int
  | 14 => .int
  | 15 => .int
  | 16 => .int
  | 17 => .int
  | 18 => .int
  | 19 => .int
  | 20 => .int
  | 21 => .int
  | _ => .object "LinkHouse$Kind"
abbrev wsX20 : List Cond := u_ws RX2 TX2 23
set_option maxRecDepth 100000 in
theorem nmX2 : ∀ a, a < 23 → ∀ b, b < 23 → a ≠ b → (TX2 a).2.1 ≠ (TX2 b).2.1 := sorry
set_option maxRecDepth 100000 in
theorem tyX2_ok : ∀ k, k < 23 → parseFieldDescriptor (TX2 k).2.2.1 = some (tyX2 k) := sorry
abbrev cX2_init : ByteArray := prog_7_method_1_code
def yX2_init : MethodName := ⟨RX2, "<init>", "()V"⟩
abbrev cX2_begin : ByteArray := prog_7_method_2_code
def yX2_begin : MethodName := ⟨RX2, "begin", "(LLinkHouse$Kind;)V"⟩
abbrev cX2_isAlike : ByteArray := prog_7_method_4_code
def yX2_isAlike : MethodName := ⟨RX2, "isAlike", "(LLinkHouse$Member;)Z"⟩
abbrev cX2_hasParams : ByteArray := prog_7_method_3_code
def yX2_hasParams : MethodName := ⟨RX2, "hasParams", "(LLinkHouse$Member;)Z"⟩
abbrev cX2_isOne : ByteArray := prog_7_method_5_code
def yX2_isOne : MethodName := ⟨RX2, "isOne", "(LLinkHouse$Member;)Z"⟩
abbrev cX2_isOfObjects : ByteArray := prog_7_method_6_code
def yX2_isOfObjects : MethodName := ⟨RX2, "isOfObjects", "()Z"⟩
abbrev cX2_become : ByteArray := prog_7_method_7_code
def yX2_become : MethodName := ⟨RX2, "become", "(LLinkHouse$Member;LLinkHouse$Kind;)V"⟩
theorem q395 : (Jvm.Cond.initialized "LinkHouse$Member") ∈ lw_all := sorry
theorem q432 : (Jvm.Cond.instantiable "LinkHouse$Member" (23 : Nat)) ∈ lw_all := sorry
theorem q434 : (Jvm.Cond.instanceMethod ({ cls := "LinkHouse$Member", name := "<init>", desc := "()V" } : Jvm.MethodName)) ∈ lw_all := sorry
theorem q435 : (Jvm.Cond.code ({ cls := "LinkHouse$Member", name := "<init>", desc := "()V" } : Jvm.MethodName) prog_7_method_1_code (1 : Nat) (Option.none : Option Jvm.ClassFile.FieldType)) ∈ lw_all := sorry
theorem q436 : (Jvm.Cond.methodLink "LinkHouse$Member" (3 : Nat) ({ cls := "java/lang/Object", name := "<init>", desc := "()V" } : Jvm.MethodName)) ∈ lw_all := sorry
theorem q437 : (Jvm.Cond.fieldLink "LinkHouse$Member" (83 : Nat) "LinkHouse$Member" "sort" "I") ∈ lw_all := sorry
theorem q443 : (Jvm.Cond.fieldLink "LinkHouse$Member" (26 : Nat) "LinkHouse$Member" "title" "J") ∈ lw_all := sorry
theorem q450 : (Jvm.Cond.fieldLink "LinkHouse$Member" (30 : Nat) "LinkHouse$Member" "access" "I") ∈ lw_all := sorry
theorem q456 : (Jvm.Cond.fieldLink "LinkHouse$Member" (34 : Nat) "LinkHouse$Member" "isStatic" "Z") ∈ lw_all := sorry
theorem q464 : (Jvm.Cond.fieldLink "LinkHouse$Member" (38 : Nat) "LinkHouse$Member" "isFinal" "Z") ∈ lw_all := sorry
theorem q470 : (Jvm.Cond.fieldLink "LinkHouse$Member" (41 : Nat) "LinkHouse$Member" "isBare" "Z") ∈ lw_all := sorry
theorem q477 : (Jvm.Cond.fieldLink "LinkHouse$Member" (44 : Nat) "LinkHouse$Member" "isBridge" "Z") ∈ lw_all := sorry
theorem q480 : (Jvm.Cond.fieldLink "LinkHouse$Member" (47 : Nat) "LinkHouse$Member" "type" "J") ∈ lw_all := sorry
theorem q487 : (Jvm.Cond.fieldLink "LinkHouse$Member" (50 : Nat) "LinkHouse$Member" "params" "I") ∈ lw_all := sorry
theorem q492 : (Jvm.Cond.fieldLink "LinkHouse$Member" (9 : Nat) "LinkHouse$Member" "param" "[J") ∈ lw_all := sorry
theorem q496 : (Jvm.Cond.fieldLink "LinkHouse$Member" (15 : Nat) "LinkHouse$Member" "called" "[J") ∈ lw_all := sorry
theorem q499 : (Jvm.Cond.fieldLink "LinkHouse$Member" (18 : Nat) "LinkHouse$Member" "paramAt" "[I") ∈ lw_all := sorry
theorem q502 : (Jvm.Cond.fieldLink "LinkHouse$Member" (53 : Nat) "LinkHouse$Member" "isConstant" "Z") ∈ lw_all := sorry
theorem q507 : (Jvm.Cond.fieldLink "LinkHouse$Member" (56 : Nat) "LinkHouse$Member" "constant" "I") ∈ lw_all := sorry
theorem q513 : (Jvm.Cond.fieldLink "LinkHouse$Member" (59 : Nat) "LinkHouse$Member" "at" "I") ∈ lw_all := sorry
theorem q516 : (Jvm.Cond.fieldLink "LinkHouse$Member" (62 : Nat) "LinkHouse$Member" "typeAt" "I") ∈ lw_all := sorry
theorem q519 : (Jvm.Cond.fieldLink "LinkHouse$Member" (65 : Nat) "LinkHouse$Member" "from" "I") ∈ lw_all := sorry
theorem q522 : (Jvm.Cond.fieldLink "LinkHouse$Member" (68 : Nat) "LinkHouse$Member" "to" "I") ∈ lw_all := sorry
theorem q525 : (Jvm.Cond.fieldLink "LinkHouse$Member" (71 : Nat) "LinkHouse$Member" "node" "I") ∈ lw_all := sorry
theorem q528 : (Jvm.Cond.fieldLink "LinkHouse$Member" (74 : Nat) "LinkHouse$Member" "code" "I") ∈ lw_all := sorry
theorem q531 : (Jvm.Cond.fieldLink "LinkHouse$Member" (77 : Nat) "LinkHouse$Member" "locals" "I") ∈ lw_all := sorry
theorem q534 : (Jvm.Cond.fieldLink "LinkHouse$Member" (80 : Nat) "LinkHouse$Member" "slot" "I") ∈ lw_all := sorry
theorem q538 : (Jvm.Cond.fieldLink "LinkHouse$Member" (22 : Nat) "LinkHouse$Member" "of" "LLinkHouse$Kind;") ∈ lw_all := sorry
theorem q544 : (Jvm.Cond.lays "LinkHouse$Member" "LinkHouse$Member" "sort" "I") ∈ lw_all := sorry
theorem q545 : (Jvm.Cond.soleField "LinkHouse$Member" "sort") ∈ lw_all := sorry
theorem q546 : (Jvm.Cond.lays "LinkHouse$Member" "LinkHouse$Member" "title" "J") ∈ lw_all := sorry
theorem q547 : (Jvm.Cond.soleField "LinkHouse$Member" "title") ∈ lw_all := sorry
theorem q548 : (Jvm.Cond.lays "LinkHouse$Member" "LinkHouse$Member" "access" "I") ∈ lw_all := sorry
theorem q549 : (Jvm.Cond.soleField "LinkHouse$Member" "access") ∈ lw_all := sorry
theorem q550 : (Jvm.Cond.lays "LinkHouse$Member" "LinkHouse$Member" "isStatic" "Z") ∈ lw_all := sorry
theorem q551 : (Jvm.Cond.soleField "LinkHouse$Member" "isStatic") ∈ lw_all := sorry
theorem q552 : (Jvm.Cond.lays "LinkHouse$Member" "LinkHouse$Member" "isFinal" "Z") ∈ lw_all := sorry
theorem q553 : (Jvm.Cond.soleField "LinkHouse$Member" "isFinal") ∈ lw_all := sorry
theorem q554 : (Jvm.Cond.lays "LinkHouse$Member" "LinkHouse$Member" "isBare" "Z") ∈ lw_all := sorry
theorem q555 : (Jvm.Cond.soleField "LinkHouse$Member" "isBare") ∈ lw_all := sorry
theorem q556 : (Jvm.Cond.lays "LinkHouse$Member" "LinkHouse$Member" "isBridge" "Z") ∈ lw_all := sorry
theorem q557 : (Jvm.Cond.soleField "LinkHouse$Member" "isBridge") ∈ lw_all := sorry
theorem q558 : (Jvm.Cond.lays "LinkHouse$Member" "LinkHouse$Member" "type" "J") ∈ lw_all := sorry
theorem q559 : (Jvm.Cond.soleField "LinkHouse$Member" "type") ∈ lw_all := sorry
theorem q560 : (Jvm.Cond.lays "LinkHouse$Member" "LinkHouse$Member" "params" "I") ∈ lw_all := sorry
theorem q561 : (Jvm.Cond.soleField "LinkHouse$Member" "params") ∈ lw_all := sorry
theorem q562 : (Jvm.Cond.laysFinal "LinkHouse$Member" "LinkHouse$Member" "param" "[J") ∈ lw_all := sorry
theorem q563 : (Jvm.Cond.soleField "LinkHouse$Member" "param") ∈ lw_all := sorry
theorem q564 : (Jvm.Cond.laysFinal "LinkHouse$Member" "LinkHouse$Member" "called" "[J") ∈ lw_all := sorry
theorem q565 : (Jvm.Cond.soleField "LinkHouse$Member" "called") ∈ lw_all := sorry
theorem q566 : (Jvm.Cond.laysFinal "LinkHouse$Member" "LinkHouse$Member" "paramAt" "[I") ∈ lw_all := sorry
theorem q567 : (Jvm.Cond.soleField "LinkHouse$Member" "paramAt") ∈ lw_all := sorry
theorem q568 : (Jvm.Cond.lays "LinkHouse$Member" "LinkHouse$Member" "isConstant" "Z") ∈ lw_all := sorry
theorem q569 : (Jvm.Cond.soleField "LinkHouse$Member" "isConstant") ∈ lw_all := sorry
theorem q570 : (Jvm.Cond.lays "LinkHouse$Member" "LinkHouse$Member" "constant" "I") ∈ lw_all := sorry
theorem q571 : (Jvm.Cond.soleField "LinkHouse$Member" "constant") ∈ lw_all := sorry
theorem q572 : (Jvm.Cond.lays "LinkHouse$Member" "LinkHouse$Member" "at" "I") ∈ lw_all := sorry
theorem q573 : (Jvm.Cond.soleField "LinkHouse$Member" "at") ∈ lw_all := sorry
theorem q574 : (Jvm.Cond.lays "LinkHouse$Member" "LinkHouse$Member" "typeAt" "I") ∈ lw_all := sorry
theorem q575 : (Jvm.Cond.soleField "LinkHouse$Member" "typeAt") ∈ lw_all := sorry
theorem q576 : (Jvm.Cond.lays "LinkHouse$Member" "LinkHouse$Member" "from" "I") ∈ lw_all := sorry
theorem q577 : (Jvm.Cond.soleField "LinkHouse$Member" "from") ∈ lw_all := sorry
theorem q578 : (Jvm.Cond.lays "LinkHouse$Member" "LinkHouse$Member" "to" "I") ∈ lw_all := sorry
theorem q579 : (Jvm.Cond.soleField "LinkHouse$Member" "to") ∈ lw_all := sorry
theorem q580 : (Jvm.Cond.lays "LinkHouse$Member" "LinkHouse$Member" "node" "I") ∈ lw_all := sorry
theorem q581 : (Jvm.Cond.soleField "LinkHouse$Member" "node") ∈ lw_all := sorry
theorem q582 : (Jvm.Cond.lays "LinkHouse$Member" "LinkHouse$Member" "code" "I") ∈ lw_all := sorry
theorem q583 : (Jvm.Cond.soleField "LinkHouse$Member" "code") ∈ lw_all := sorry
theorem q584 : (Jvm.Cond.lays "LinkHouse$Member" "LinkHouse$Member" "locals" "I") ∈ lw_all := sorry
theorem q585 : (Jvm.Cond.soleField "LinkHouse$Member" "locals") ∈ lw_all := sorry
theorem q586 : (Jvm.Cond.lays "LinkHouse$Member" "LinkHouse$Member" "slot" "I") ∈ lw_all := sorry
theorem q587 : (Jvm.Cond.soleField "LinkHouse$Member" "slot") ∈ lw_all := sorry
theorem q588 : (Jvm.Cond.lays "LinkHouse$Member" "LinkHouse$Member" "of" "LLinkHouse$Kind;") ∈ lw_all := sorry
theorem q589 : (Jvm.Cond.soleField "LinkHouse$Member" "of") ∈ lw_all := sorry
theorem q590 : (Jvm.Cond.superclass "LinkHouse$Member" "java/lang/Object") ∈ lw_all := sorry
theorem q1408 : (Jvm.Cond.instanceMethod ({ cls := "LinkHouse$Member", name := "begin", desc := "(LLinkHouse$Kind;)V" } : Jvm.MethodName)) ∈ lw_all := sorry
theorem q1409 : (Jvm.Cond.selects "LinkHouse$Member" ({ cls := "LinkHouse$Member", name := "begin", desc := "(LLinkHouse$Kind;)V" } : Jvm.MethodName) ({ cls := "LinkHouse$Member", name := "begin", desc := "(LLinkHouse$Kind;)V" } : Jvm.MethodName)) ∈ lw_all := sorry
theorem q1410 : (Jvm.Cond.code ({ cls := "LinkHouse$Member", name := "begin", desc := "(LLinkHouse$Kind;)V" } : Jvm.MethodName) prog_7_method_2_code (2 : Nat) (Option.none : Option Jvm.ClassFile.FieldType)) ∈ lw_all := sorry
theorem q1812 : (Jvm.Cond.instanceMethod ({ cls := "LinkHouse$Member", name := "isAlike", desc := "(LLinkHouse$Member;)Z" } : Jvm.MethodName)) ∈ lw_all := sorry
theorem q1813 : (Jvm.Cond.selects "LinkHouse$Member" ({ cls := "LinkHouse$Member", name := "isAlike", desc := "(LLinkHouse$Member;)Z" } : Jvm.MethodName) ({ cls := "LinkHouse$Member", name := "isAlike", desc := "(LLinkHouse$Member;)Z" } : Jvm.MethodName)) ∈ lw_all := sorry
theorem q1814 : (Jvm.Cond.code ({ cls := "LinkHouse$Member", name := "isAlike", desc := "(LLinkHouse$Member;)Z" } : Jvm.MethodName) prog_7_method_4_code (2 : Nat) (Option.some Jvm.ClassFile.FieldType.boolean)) ∈ lw_all := sorry
theorem q1815 : (Jvm.Cond.methodLink "LinkHouse$Member" (86 : Nat) ({ cls := "LinkHouse$Member", name := "hasParams", desc := "(LLinkHouse$Member;)Z" } : Jvm.MethodName)) ∈ lw_all := sorry
theorem q1816 : (Jvm.Cond.instanceMethod ({ cls := "LinkHouse$Member", name := "hasParams", desc := "(LLinkHouse$Member;)Z" } : Jvm.MethodName)) ∈ lw_all := sorry
theorem q1817 : (Jvm.Cond.selects "LinkHouse$Member" ({ cls := "LinkHouse$Member", name := "hasParams", desc := "(LLinkHouse$Member;)Z" } : Jvm.MethodName) ({ cls := "LinkHouse$Member", name := "hasParams", desc := "(LLinkHouse$Member;)Z" } : Jvm.MethodName)) ∈ lw_all := sorry
theorem q1818 : (Jvm.Cond.code ({ cls := "LinkHouse$Member", name := "hasParams", desc := "(LLinkHouse$Member;)Z" } : Jvm.MethodName) prog_7_method_3_code (4 : Nat) (Option.some Jvm.ClassFile.FieldType.boolean)) ∈ lw_all := sorry
theorem q1876 : (Jvm.Cond.instanceMethod ({ cls := "LinkHouse$Member", name := "isOne", desc := "(LLinkHouse$Member;)Z" } : Jvm.MethodName)) ∈ lw_all := sorry
theorem q1877 : (Jvm.Cond.selects "LinkHouse$Member" ({ cls := "LinkHouse$Member", name := "isOne", desc := "(LLinkHouse$Member;)Z" } : Jvm.MethodName) ({ cls := "LinkHouse$Member", name := "isOne", desc := "(LLinkHouse$Member;)Z" } : Jvm.MethodName)) ∈ lw_all := sorry
theorem q1878 : (Jvm.Cond.code ({ cls := "LinkHouse$Member", name := "isOne", desc := "(LLinkHouse$Member;)Z" } : Jvm.MethodName) prog_7_method_5_code (2 : Nat) (Option.some Jvm.ClassFile.FieldType.boolean)) ∈ lw_all := sorry
theorem q1879 : (Jvm.Cond.methodLink "LinkHouse$Member" (90 : Nat) ({ cls := "LinkHouse$Member", name := "isAlike", desc := "(LLinkHouse$Member;)Z" } : Jvm.MethodName)) ∈ lw_all := sorry
theorem q1892 : (Jvm.Cond.instanceMethod ({ cls := "LinkHouse$Member", name := "isOfObjects", desc := "()Z" } : Jvm.MethodName)) ∈ lw_all := sorry
theorem q1893 : (Jvm.Cond.selects "LinkHouse$Member" ({ cls := "LinkHouse$Member", name := "isOfObjects", desc := "()Z" } : Jvm.MethodName) ({ cls := "LinkHouse$Member", name := "isOfObjects", desc := "()Z" } : Jvm.MethodName)) ∈ lw_all := sorry
theorem q1894 : (Jvm.Cond.code ({ cls := "LinkHouse$Member", name := "isOfObjects", desc := "()Z" } : Jvm.MethodName) prog_7_method_6_code (1 : Nat) (Option.some Jvm.ClassFile.FieldType.boolean)) ∈ lw_all := sorry
theorem q1986 : (Jvm.Cond.instanceMethod ({ cls := "LinkHouse$Member", name := "become", desc := "(LLinkHouse$Member;LLinkHouse$Kind;)V" } : Jvm.MethodName)) ∈ lw_all := sorry
theorem q1987 : (Jvm.Cond.selects "LinkHouse$Member" ({ cls := "LinkHouse$Member", name := "become", desc := "(LLinkHouse$Member;LLinkHouse$Kind;)V" } : Jvm.MethodName) ({ cls := "LinkHouse$Member", name := "become", desc := "(LLinkHouse$Member;LLinkHouse$Kind;)V" } : Jvm.MethodName)) ∈ lw_all := sorry
theorem q1988 : (Jvm.Cond.code ({ cls := "LinkHouse$Member", name := "become", desc := "(LLinkHouse$Member;LLinkHouse$Kind;)V" } : Jvm.MethodName) prog_7_method_7_code (4 : Nat) (Option.none : Option Jvm.ClassFile.FieldType)) ∈ lw_all := sorry
theorem q1989 : (Jvm.Cond.methodLink "LinkHouse$Member" (93 : Nat) ({ cls := "LinkHouse$Member", name := "begin", desc := "(LLinkHouse$Kind;)V" } : Jvm.MethodName)) ∈ lw_all := sorry
theorem in_X2 : ∀ w ∈ wsX20, w ∈ lw_all := sorry
/-! LinkHouse$World -/
def RX3 : String := "LinkHouse$World"
def TX3 : u_T := fun k => match k with
  | 0 => ("LinkHouse$World", "any", "LLinkHouse$Kind;", true)
  | 1 => ("LinkHouse$World", "ill", "LLinkHouse$Kind;", true)
  | 2 => ("LinkHouse$World", "kind", "[LLinkHouse$Kind;", true)
  | 3 => ("LinkHouse$World", "kinds", "I", false)
  | 4 => ("LinkHouse$World", "list", "[LLinkHouse$Kind;", true)
  | 5 => ("LinkHouse$World", "listed", "I", false)
  | 6 => ("LinkHouse$World", "seen", "[LLinkHouse$Kind;", true)
  | 7 => ("LinkHouse$World", "sights", "I", false)
  | 8 => ("LinkHouse$World", "chain", "[LLinkHouse$Kind;", true)
  | 9 => ("LinkHouse$World", "comesTo", "[Z", true)
  | 10 => ("LinkHouse$World", "clash", "I", false)
  | 11 => ("LinkHouse$World", "met", "[LLinkHouse$Kind;", true)
  | 12 => ("LinkHouse$World", "looked", "[LLinkHouse$Kind;", true)
  | _ => ("LinkHouse$World", "looks", "I", false)
def tyX3 : Nat → FieldType := fun k => match k with
  | 0 => .object "LinkHouse$Kind"
  | 1 => .object "LinkHouse$Kind"
  | 2 => .array (.object "LinkHouse$Kind")
  | 3 => .int
  | 4 => .array (.object "LinkHouse$Kind")
  | 5 => .int
  | 6 => .array (.object "LinkHouse$Kind")
  | 7 => .int
  | 8 => .array (.object "LinkHouse$Kind")
  | 9 => .array .boolean
  | 10 => .int
  | 11 => .array (.object "LinkHouse$Kind")
  | 12 => .array (.object "LinkHouse$Kind")
  | _ => .int
abbrev wsX30 : List Cond := u_ws RX3 TX3 14
set_option maxRecDepth 100000 in
theorem nmX3 : ∀ a, a < 14 → ∀ b, b < 14 → a ≠ b → (TX3 a).2.1 ≠ (TX3 b).2.1 := sorry
set_option maxRecDepth 100000 in
theorem tyX3_ok : ∀ k, k < 14 → parseFieldDescriptor (TX3 k).2.2.1 = some (tyX3 k) := sorry
abbrev cX3_init : ByteArray := prog_11_method_1_code
def yX3_init : MethodName := ⟨RX3, "<init>", "(LLinkHouse$Kind;LLinkHouse$Kind;)V"⟩
abbrev cX3_add : ByteArray := prog_11_method_2_code
def yX3_add : MethodName := ⟨RX3, "add", "(LLinkHouse$Build;)V"⟩
abbrev cX3_find : ByteArray := prog_11_method_3_code
def yX3_find : MethodName := ⟨RX3, "find", "(J)LLinkHouse$Kind;"⟩
abbrev cX3_isLet : ByteArray := prog_11_method_10_code
def yX3_isLet : MethodName := ⟨RX3, "isLet", "(LLinkHouse$Kind;LLinkHouse$Kind;)Z"⟩
abbrev cX3_isHeir : ByteArray := prog_11_method_8_code
def yX3_isHeir : MethodName := ⟨RX3, "isHeir", "(LLinkHouse$Kind;LLinkHouse$Kind;)Z"⟩
abbrev cX3_parent : ByteArray := prog_11_method_4_code
def yX3_parent : MethodName := ⟨RX3, "parent", "(LLinkHouse$Kind;)LLinkHouse$Kind;"⟩
abbrev cX3_isIn : ByteArray := prog_11_method_5_code
def yX3_isIn : MethodName := ⟨RX3, "isIn", "([LLinkHouse$Kind;ILLinkHouse$Kind;)Z"⟩
abbrev cX3_isMeantBy : ByteArray := prog_11_method_17_code
def yX3_isMeantBy : MethodName := ⟨RX3, "isMeantBy", "(LLinkHouse$Member;LLinkHouse$Kind;)Z"⟩
abbrev cX3_fits : ByteArray := prog_11_method_9_code
def yX3_fits : MethodName := ⟨RX3, "fits", "(JJ)Z"⟩
abbrev cX3_layFaces : ByteArray := prog_11_method_6_code
def yX3_layFaces : MethodName := ⟨RX3, "layFaces", "(LLinkHouse$Kind;)I"⟩
abbrev cX3_facesOf : ByteArray := prog_11_method_7_code
def yX3_facesOf : MethodName := ⟨RX3, "facesOf", "(LLinkHouse$Kind;)V"⟩
abbrev cX3_selected : ByteArray := prog_11_method_19_code
def yX3_selected : MethodName := ⟨RX3, "selected", "(LLinkHouse$Member;LLinkHouse$Kind;)LLinkHouse$Member;"⟩
abbrev cX3_overrides : ByteArray := prog_11_method_18_code
def yX3_overrides : MethodName := ⟨RX3, "overrides", "(LLinkHouse$Member;LLinkHouse$Member;)Z"⟩
abbrev cX3_mostSpecial : ByteArray := prog_11_method_15_code
def yX3_mostSpecial : MethodName := ⟨RX3, "mostSpecial", "(LLinkHouse$Kind;LLinkHouse$Member;)LLinkHouse$Member;"⟩
abbrev cX3_hasHeir : ByteArray := prog_11_method_16_code
def yX3_hasHeir : MethodName := ⟨RX3, "hasHeir", "(ILLinkHouse$Member;)Z"⟩
abbrev cX3_field : ByteArray := prog_11_method_13_code
def yX3_field : MethodName := ⟨RX3, "field", "(LLinkHouse$Kind;JJ)LLinkHouse$Member;"⟩
abbrev cX3_fieldFrom : ByteArray := prog_11_method_14_code
def yX3_fieldFrom : MethodName := ⟨RX3, "fieldFrom", "(LLinkHouse$Kind;JJ)LLinkHouse$Member;"⟩
abbrev cX3_lets : ByteArray := prog_11_method_12_code
def yX3_lets : MethodName := ⟨RX3, "lets", "(LLinkHouse$Kind;LLinkHouse$Kind;LLinkHouse$Member;LLinkHouse$Kind;LLinkHouse$Linker;)Z"⟩
abbrev cX3_nestOf : ByteArray := prog_11_method_11_code
def yX3_nestOf : MethodName := ⟨RX3, "nestOf", "(LLinkHouse$Kind;LLinkHouse$Linker;)LLinkHouse$Kind;"⟩
theorem q396 : (Jvm.Cond.initialized "LinkHouse$World") ∈ lw_all := sorry
theorem q453 : (Jvm.Cond.fieldLinkNest "LinkHouse$World" (117 : Nat) "LinkHouse$Member" "access" "I" "LinkHouse") ∈ lw_tbl := sorry
theorem q460 : (Jvm.Cond.fieldLinkNest "LinkHouse$World" (122 : Nat) "LinkHouse$Member" "isStatic" "Z" "LinkHouse") ∈ lw_tbl := sorry
theorem q473 : (Jvm.Cond.fieldLinkNest "LinkHouse$World" (151 : Nat) "LinkHouse$Member" "isBare" "Z" "LinkHouse") ∈ lw_tbl := sorry
theorem q542 : (Jvm.Cond.fieldLinkNest "LinkHouse$World" (161 : Nat) "LinkHouse$Member" "of" "LLinkHouse$Kind;" "LinkHouse") ∈ lw_tbl := sorry
theorem q595 : (Jvm.Cond.fieldLinkNest "LinkHouse$World" (50 : Nat) "LinkHouse$Kind" "title" "J" "LinkHouse") ∈ lw_tbl := sorry
theorem q603 : (Jvm.Cond.fieldLinkNest "LinkHouse$World" (101 : Nat) "LinkHouse$Kind" "pack" "I" "LinkHouse") ∈ lw_tbl := sorry
theorem q607 : (Jvm.Cond.fieldLinkNest "LinkHouse$World" (59 : Nat) "LinkHouse$Kind" "isFace" "Z" "LinkHouse") ∈ lw_tbl := sorry
theorem q615 : (Jvm.Cond.fieldLinkNest "LinkHouse$World" (98 : Nat) "LinkHouse$Kind" "isOpen" "Z" "LinkHouse") ∈ lw_tbl := sorry
theorem q633 : (Jvm.Cond.fieldLinkNest "LinkHouse$World" (65 : Nat) "LinkHouse$Kind" "parent" "J" "LinkHouse") ∈ lw_tbl := sorry
theorem q642 : (Jvm.Cond.fieldLinkNest "LinkHouse$World" (85 : Nat) "LinkHouse$Kind" "face" "[J" "LinkHouse") ∈ lw_tbl := sorry
theorem q649 : (Jvm.Cond.fieldLinkNest "LinkHouse$World" (82 : Nat) "LinkHouse$Kind" "faces" "I" "LinkHouse") ∈ lw_tbl := sorry
theorem q654 : (Jvm.Cond.fieldLinkNest "LinkHouse$World" (104 : Nat) "LinkHouse$Kind" "host" "J" "LinkHouse") ∈ lw_tbl := sorry
theorem q777 : (Jvm.Cond.instantiable "LinkHouse$World" (14 : Nat)) ∈ lw_all := sorry
theorem q779 : (Jvm.Cond.instanceMethod ({ cls := "LinkHouse$World", name := "<init>", desc := "(LLinkHouse$Kind;LLinkHouse$Kind;)V" } : Jvm.MethodName)) ∈ lw_all := sorry
theorem q780 : (Jvm.Cond.code ({ cls := "LinkHouse$World", name := "<init>", desc := "(LLinkHouse$Kind;LLinkHouse$Kind;)V" } : Jvm.MethodName) prog_11_method_1_code (3 : Nat) (Option.none : Option Jvm.ClassFile.FieldType)) ∈ lw_all := sorry
theorem q781 : (Jvm.Cond.methodLink "LinkHouse$World" (3 : Nat) ({ cls := "java/lang/Object", name := "<init>", desc := "()V" } : Jvm.MethodName)) ∈ lw_all := sorry
theorem q782 : (Jvm.Cond.classLink "LinkHouse$World" (9 : Nat) "LinkHouse$Kind") ∈ lw_all := sorry
theorem q784 : (Jvm.Cond.fieldLink "LinkHouse$World" (36 : Nat) "LinkHouse$World" "any" "LLinkHouse$Kind;") ∈ lw_all := sorry
theorem q785 : (Jvm.Cond.fieldLink "LinkHouse$World" (40 : Nat) "LinkHouse$World" "ill" "LLinkHouse$Kind;") ∈ lw_all := sorry
theorem q787 : (Jvm.Cond.fieldLink "LinkHouse$World" (11 : Nat) "LinkHouse$World" "kind" "[LLinkHouse$Kind;") ∈ lw_all := sorry
theorem q789 : (Jvm.Cond.fieldLink "LinkHouse$World" (58 : Nat) "LinkHouse$World" "kinds" "I") ∈ lw_all := sorry
theorem q791 : (Jvm.Cond.fieldLink "LinkHouse$World" (17 : Nat) "LinkHouse$World" "list" "[LLinkHouse$Kind;") ∈ lw_all := sorry
theorem q794 : (Jvm.Cond.fieldLink "LinkHouse$World" (68 : Nat) "LinkHouse$World" "listed" "I") ∈ lw_all := sorry
theorem q795 : (Jvm.Cond.fieldLink "LinkHouse$World" (20 : Nat) "LinkHouse$World" "seen" "[LLinkHouse$Kind;") ∈ lw_all := sorry
theorem q796 : (Jvm.Cond.fieldLink "LinkHouse$World" (71 : Nat) "LinkHouse$World" "sights" "I") ∈ lw_all := sorry
theorem q797 : (Jvm.Cond.fieldLink "LinkHouse$World" (23 : Nat) "LinkHouse$World" "chain" "[LLinkHouse$Kind;") ∈ lw_all := sorry
theorem q798 : (Jvm.Cond.fieldLink "LinkHouse$World" (26 : Nat) "LinkHouse$World" "comesTo" "[Z") ∈ lw_all := sorry
theorem q799 : (Jvm.Cond.fieldLink "LinkHouse$World" (158 : Nat) "LinkHouse$World" "clash" "I") ∈ lw_all := sorry
theorem q802 : (Jvm.Cond.fieldLink "LinkHouse$World" (30 : Nat) "LinkHouse$World" "met" "[LLinkHouse$Kind;") ∈ lw_all := sorry
theorem q803 : (Jvm.Cond.fieldLink "LinkHouse$World" (33 : Nat) "LinkHouse$World" "looked" "[LLinkHouse$Kind;") ∈ lw_all := sorry
theorem q805 : (Jvm.Cond.fieldLink "LinkHouse$World" (129 : Nat) "LinkHouse$World" "looks" "I") ∈ lw_all := sorry
theorem q807 : (Jvm.Cond.laysFinal "LinkHouse$World" "LinkHouse$World" "any" "LLinkHouse$Kind;") ∈ lw_all := sorry
theorem q808 : (Jvm.Cond.soleField "LinkHouse$World" "any") ∈ lw_all := sorry
theorem q809 : (Jvm.Cond.laysFinal "LinkHouse$World" "LinkHouse$World" "ill" "LLinkHouse$Kind;") ∈ lw_all := sorry
theorem q810 : (Jvm.Cond.soleField "LinkHouse$World" "ill") ∈ lw_all := sorry
theorem q811 : (Jvm.Cond.laysFinal "LinkHouse$World" "LinkHouse$World" "kind" "[LLinkHouse$Kind;") ∈ lw_all := sorry
theorem q812 : (Jvm.Cond.soleField "LinkHouse$World" "kind") ∈ lw_all := sorry
theorem q813 : (Jvm.Cond.lays "LinkHouse$World" "LinkHouse$World" "kinds" "I") ∈ lw_all := sorry
theorem q814 : (Jvm.Cond.soleField "LinkHouse$World" "kinds") ∈ lw_all := sorry
theorem q815 : (Jvm.Cond.laysFinal "LinkHouse$World" "LinkHouse$World" "list" "[LLinkHouse$Kind;") ∈ lw_all := sorry
theorem q816 : (Jvm.Cond.soleField "LinkHouse$World" "list") ∈ lw_all := sorry
theorem q817 : (Jvm.Cond.lays "LinkHouse$World" "LinkHouse$World" "listed" "I") ∈ lw_all := sorry
theorem q818 : (Jvm.Cond.soleField "LinkHouse$World" "listed") ∈ lw_all := sorry
theorem q819 : (Jvm.Cond.laysFinal "LinkHouse$World" "LinkHouse$World" "seen" "[LLinkHouse$Kind;") ∈ lw_all := sorry
theorem q820 : (Jvm.Cond.soleField "LinkHouse$World" "seen") ∈ lw_all := sorry
theorem q821 : (Jvm.Cond.lays "LinkHouse$World" "LinkHouse$World" "sights" "I") ∈ lw_all := sorry
theorem q822 : (Jvm.Cond.soleField "LinkHouse$World" "sights") ∈ lw_all := sorry
theorem q823 : (Jvm.Cond.laysFinal "LinkHouse$World" "LinkHouse$World" "chain" "[LLinkHouse$Kind;") ∈ lw_all := sorry
theorem q824 : (Jvm.Cond.soleField "LinkHouse$World" "chain") ∈ lw_all := sorry
theorem q825 : (Jvm.Cond.laysFinal "LinkHouse$World" "LinkHouse$World" "comesTo" "[Z") ∈ lw_all := sorry
theorem q826 : (Jvm.Cond.soleField "LinkHouse$World" "comesTo") ∈ lw_all := sorry
theorem q827 : (Jvm.Cond.lays "LinkHouse$World" "LinkHouse$World" "clash" "I") ∈ lw_all := sorry
theorem q828 : (Jvm.Cond.soleField "LinkHouse$World" "clash") ∈ lw_all := sorry
theorem q829 : (Jvm.Cond.laysFinal "LinkHouse$World" "LinkHouse$World" "met" "[LLinkHouse$Kind;") ∈ lw_all := sorry
theorem q830 : (Jvm.Cond.soleField "LinkHouse$World" "met") ∈ lw_all := sorry
theorem q831 : (Jvm.Cond.laysFinal "LinkHouse$World" "LinkHouse$World" "looked" "[LLinkHouse$Kind;") ∈ lw_all := sorry
theorem q832 : (Jvm.Cond.soleField "LinkHouse$World" "looked") ∈ lw_all := sorry
theorem q833 : (Jvm.Cond.lays "LinkHouse$World" "LinkHouse$World" "looks" "I") ∈ lw_all := sorry
theorem q834 : (Jvm.Cond.soleField "LinkHouse$World" "looks") ∈ lw_all := sorry
theorem q835 : (Jvm.Cond.superclass "LinkHouse$World" "java/lang/Object") ∈ lw_all := sorry
theorem q1334 : (Jvm.Cond.fieldLinkNest "LinkHouse$World" (49 : Nat) "LinkHouse$Build" "kind" "[LLinkHouse$Kind;" "LinkHouse") ∈ lw_tbl := sorry
theorem q1337 : (Jvm.Cond.fieldLinkNest "LinkHouse$World" (43 : Nat) "LinkHouse$Build" "kinds" "I" "LinkHouse") ∈ lw_tbl := sorry
theorem q1427 : (Jvm.Cond.instanceMethod ({ cls := "LinkHouse$World", name := "add", desc := "(LLinkHouse$Build;)V" } : Jvm.MethodName)) ∈ lw_all := sorry
theorem q1428 : (Jvm.Cond.selects "LinkHouse$World" ({ cls := "LinkHouse$World", name := "add", desc := "(LLinkHouse$Build;)V" } : Jvm.MethodName) ({ cls := "LinkHouse$World", name := "add", desc := "(LLinkHouse$Build;)V" } : Jvm.MethodName)) ∈ lw_all := sorry
theorem q1429 : (Jvm.Cond.code ({ cls := "LinkHouse$World", name := "add", desc := "(LLinkHouse$Build;)V" } : Jvm.MethodName) prog_11_method_2_code (3 : Nat) (Option.none : Option Jvm.ClassFile.FieldType)) ∈ lw_all := sorry
theorem q1430 : (Jvm.Cond.methodLink "LinkHouse$World" (54 : Nat) ({ cls := "LinkHouse$World", name := "find", desc := "(J)LLinkHouse$Kind;" } : Jvm.MethodName)) ∈ lw_all := sorry
theorem q1431 : (Jvm.Cond.instanceMethod ({ cls := "LinkHouse$World", name := "find", desc := "(J)LLinkHouse$Kind;" } : Jvm.MethodName)) ∈ lw_all := sorry
theorem q1432 : (Jvm.Cond.selects "LinkHouse$World" ({ cls := "LinkHouse$World", name := "find", desc := "(J)LLinkHouse$Kind;" } : Jvm.MethodName) ({ cls := "LinkHouse$World", name := "find", desc := "(J)LLinkHouse$Kind;" } : Jvm.MethodName)) ∈ lw_all := sorry
theorem q1433 : (Jvm.Cond.code ({ cls := "LinkHouse$World", name := "find", desc := "(J)LLinkHouse$Kind;" } : Jvm.MethodName) prog_11_method_3_code (4 : Nat) (Option.some (Jvm.ClassFile.FieldType.object "LinkHouse$Kind"))) ∈ lw_all := sorry
theorem q1768 : (Jvm.Cond.static ({ cls := "LinkHouse$World", name := "isLet", desc := "(LLinkHouse$Kind;LLinkHouse$Kind;)Z" } : Jvm.MethodName)) ∈ lw_all := sorry
theorem q1769 : (Jvm.Cond.code ({ cls := "LinkHouse$World", name := "isLet", desc := "(LLinkHouse$Kind;LLinkHouse$Kind;)Z" } : Jvm.MethodName) prog_11_method_10_code (2 : Nat) (Option.some Jvm.ClassFile.FieldType.boolean)) ∈ lw_all := sorry
theorem q1783 : (Jvm.Cond.instanceMethod ({ cls := "LinkHouse$World", name := "isHeir", desc := "(LLinkHouse$Kind;LLinkHouse$Kind;)Z" } : Jvm.MethodName)) ∈ lw_all := sorry
theorem q1784 : (Jvm.Cond.selects "LinkHouse$World" ({ cls := "LinkHouse$World", name := "isHeir", desc := "(LLinkHouse$Kind;LLinkHouse$Kind;)Z" } : Jvm.MethodName) ({ cls := "LinkHouse$World", name := "isHeir", desc := "(LLinkHouse$Kind;LLinkHouse$Kind;)Z" } : Jvm.MethodName)) ∈ lw_all := sorry
theorem q1785 : (Jvm.Cond.code ({ cls := "LinkHouse$World", name := "isHeir", desc := "(LLinkHouse$Kind;LLinkHouse$Kind;)Z" } : Jvm.MethodName) prog_11_method_8_code (9 : Nat) (Option.some Jvm.ClassFile.FieldType.boolean)) ∈ lw_all := sorry
theorem q1786 : (Jvm.Cond.methodLink "LinkHouse$World" (89 : Nat) ({ cls := "LinkHouse$World", name := "parent", desc := "(LLinkHouse$Kind;)LLinkHouse$Kind;" } : Jvm.MethodName)) ∈ lw_all := sorry
theorem q1787 : (Jvm.Cond.instanceMethod ({ cls := "LinkHouse$World", name := "parent", desc := "(LLinkHouse$Kind;)LLinkHouse$Kind;" } : Jvm.MethodName)) ∈ lw_all := sorry
theorem q1788 : (Jvm.Cond.selects "LinkHouse$World" ({ cls := "LinkHouse$World", name := "parent", desc := "(LLinkHouse$Kind;)LLinkHouse$Kind;" } : Jvm.MethodName) ({ cls := "LinkHouse$World", name := "parent", desc := "(LLinkHouse$Kind;)LLinkHouse$Kind;" } : Jvm.MethodName)) ∈ lw_all := sorry
theorem q1789 : (Jvm.Cond.code ({ cls := "LinkHouse$World", name := "parent", desc := "(LLinkHouse$Kind;)LLinkHouse$Kind;" } : Jvm.MethodName) prog_11_method_4_code (2 : Nat) (Option.some (Jvm.ClassFile.FieldType.object "LinkHouse$Kind"))) ∈ lw_all := sorry
theorem q1790 : (Jvm.Cond.constantLong "LinkHouse$World" (63 : Nat) (6927257 : Int64)) ∈ lw_all := sorry
theorem q1791 : (Jvm.Cond.methodLink "LinkHouse$World" (78 : Nat) ({ cls := "LinkHouse$World", name := "isIn", desc := "([LLinkHouse$Kind;ILLinkHouse$Kind;)Z" } : Jvm.MethodName)) ∈ lw_all := sorry
theorem q1792 : (Jvm.Cond.static ({ cls := "LinkHouse$World", name := "isIn", desc := "([LLinkHouse$Kind;ILLinkHouse$Kind;)Z" } : Jvm.MethodName)) ∈ lw_all := sorry
theorem q1793 : (Jvm.Cond.code ({ cls := "LinkHouse$World", name := "isIn", desc := "([LLinkHouse$Kind;ILLinkHouse$Kind;)Z" } : Jvm.MethodName) prog_11_method_5_code (5 : Nat) (Option.some Jvm.ClassFile.FieldType.boolean)) ∈ lw_all := sorry
theorem q1838 : (Jvm.Cond.static ({ cls := "LinkHouse$World", name := "isMeantBy", desc := "(LLinkHouse$Member;LLinkHouse$Kind;)Z" } : Jvm.MethodName)) ∈ lw_all := sorry
theorem q1839 : (Jvm.Cond.code ({ cls := "LinkHouse$World", name := "isMeantBy", desc := "(LLinkHouse$Member;LLinkHouse$Kind;)Z" } : Jvm.MethodName) prog_11_method_17_code (2 : Nat) (Option.some Jvm.ClassFile.FieldType.boolean)) ∈ lw_all := sorry
theorem q1841 : (Jvm.Cond.instanceMethod ({ cls := "LinkHouse$World", name := "fits", desc := "(JJ)Z" } : Jvm.MethodName)) ∈ lw_all := sorry
theorem q1842 : (Jvm.Cond.selects "LinkHouse$World" ({ cls := "LinkHouse$World", name := "fits", desc := "(JJ)Z" } : Jvm.MethodName) ({ cls := "LinkHouse$World", name := "fits", desc := "(JJ)Z" } : Jvm.MethodName)) ∈ lw_all := sorry
theorem q1843 : (Jvm.Cond.code ({ cls := "LinkHouse$World", name := "fits", desc := "(JJ)Z" } : Jvm.MethodName) prog_11_method_9_code (7 : Nat) (Option.some Jvm.ClassFile.FieldType.boolean)) ∈ lw_all := sorry
theorem q1844 : (Jvm.Cond.constantLong "LinkHouse$World" (92 : Nat) (2 : Int64)) ∈ lw_all := sorry
theorem q1845 : (Jvm.Cond.methodLink "LinkHouse$World" (94 : Nat) ({ cls := "LinkHouse$World", name := "isHeir", desc := "(LLinkHouse$Kind;LLinkHouse$Kind;)Z" } : Jvm.MethodName)) ∈ lw_all := sorry
theorem q1847 : (Jvm.Cond.instanceMethod ({ cls := "LinkHouse$World", name := "layFaces", desc := "(LLinkHouse$Kind;)I" } : Jvm.MethodName)) ∈ lw_all := sorry
theorem q1848 : (Jvm.Cond.selects "LinkHouse$World" ({ cls := "LinkHouse$World", name := "layFaces", desc := "(LLinkHouse$Kind;)I" } : Jvm.MethodName) ({ cls := "LinkHouse$World", name := "layFaces", desc := "(LLinkHouse$Kind;)I" } : Jvm.MethodName)) ∈ lw_all := sorry
theorem q1849 : (Jvm.Cond.code ({ cls := "LinkHouse$World", name := "layFaces", desc := "(LLinkHouse$Kind;)I" } : Jvm.MethodName) prog_11_method_6_code (2 : Nat) (Option.some Jvm.ClassFile.FieldType.int)) ∈ lw_all := sorry
theorem q1850 : (Jvm.Cond.methodLink "LinkHouse$World" (74 : Nat) ({ cls := "LinkHouse$World", name := "facesOf", desc := "(LLinkHouse$Kind;)V" } : Jvm.MethodName)) ∈ lw_all := sorry
theorem q1851 : (Jvm.Cond.privateMethod ({ cls := "LinkHouse$World", name := "facesOf", desc := "(LLinkHouse$Kind;)V" } : Jvm.MethodName)) ∈ lw_tbl := sorry
theorem q1852 : (Jvm.Cond.instanceMethod ({ cls := "LinkHouse$World", name := "facesOf", desc := "(LLinkHouse$Kind;)V" } : Jvm.MethodName)) ∈ lw_all := sorry
theorem q1853 : (Jvm.Cond.code ({ cls := "LinkHouse$World", name := "facesOf", desc := "(LLinkHouse$Kind;)V" } : Jvm.MethodName) prog_11_method_7_code (4 : Nat) (Option.none : Option Jvm.ClassFile.FieldType)) ∈ lw_all := sorry
theorem q1896 : (Jvm.Cond.instanceMethod ({ cls := "LinkHouse$World", name := "selected", desc := "(LLinkHouse$Member;LLinkHouse$Kind;)LLinkHouse$Member;" } : Jvm.MethodName)) ∈ lw_all := sorry
theorem q1897 : (Jvm.Cond.selects "LinkHouse$World" ({ cls := "LinkHouse$World", name := "selected", desc := "(LLinkHouse$Member;LLinkHouse$Kind;)LLinkHouse$Member;" } : Jvm.MethodName) ({ cls := "LinkHouse$World", name := "selected", desc := "(LLinkHouse$Member;LLinkHouse$Kind;)LLinkHouse$Member;" } : Jvm.MethodName)) ∈ lw_all := sorry
theorem q1898 : (Jvm.Cond.code ({ cls := "LinkHouse$World", name := "selected", desc := "(LLinkHouse$Member;LLinkHouse$Kind;)LLinkHouse$Member;" } : Jvm.MethodName) prog_11_method_19_code (6 : Nat) (Option.some (Jvm.ClassFile.FieldType.object "LinkHouse$Member"))) ∈ lw_all := sorry
theorem q1899 : (Jvm.Cond.methodLink "LinkHouse$World" (143 : Nat) ({ cls := "LinkHouse$Kind", name := "method", desc := "(LLinkHouse$Member;)LLinkHouse$Member;" } : Jvm.MethodName)) ∈ lw_all := sorry
theorem q1900 : (Jvm.Cond.methodLink "LinkHouse$World" (147 : Nat) ({ cls := "LinkHouse$Member", name := "isOfObjects", desc := "()Z" } : Jvm.MethodName)) ∈ lw_all := sorry
theorem q1901 : (Jvm.Cond.methodLink "LinkHouse$World" (168 : Nat) ({ cls := "LinkHouse$World", name := "overrides", desc := "(LLinkHouse$Member;LLinkHouse$Member;)Z" } : Jvm.MethodName)) ∈ lw_all := sorry
theorem q1902 : (Jvm.Cond.instanceMethod ({ cls := "LinkHouse$World", name := "overrides", desc := "(LLinkHouse$Member;LLinkHouse$Member;)Z" } : Jvm.MethodName)) ∈ lw_all := sorry
theorem q1903 : (Jvm.Cond.selects "LinkHouse$World" ({ cls := "LinkHouse$World", name := "overrides", desc := "(LLinkHouse$Member;LLinkHouse$Member;)Z" } : Jvm.MethodName) ({ cls := "LinkHouse$World", name := "overrides", desc := "(LLinkHouse$Member;LLinkHouse$Member;)Z" } : Jvm.MethodName)) ∈ lw_all := sorry
theorem q1904 : (Jvm.Cond.code ({ cls := "LinkHouse$World", name := "overrides", desc := "(LLinkHouse$Member;LLinkHouse$Member;)Z" } : Jvm.MethodName) prog_11_method_18_code (8 : Nat) (Option.some Jvm.ClassFile.FieldType.boolean)) ∈ lw_all := sorry
theorem q1905 : (Jvm.Cond.methodLink "LinkHouse$World" (164 : Nat) ({ cls := "LinkHouse$World", name := "isMeantBy", desc := "(LLinkHouse$Member;LLinkHouse$Kind;)Z" } : Jvm.MethodName)) ∈ lw_all := sorry
theorem q1906 : (Jvm.Cond.methodLink "LinkHouse$World" (172 : Nat) ({ cls := "LinkHouse$World", name := "mostSpecial", desc := "(LLinkHouse$Kind;LLinkHouse$Member;)LLinkHouse$Member;" } : Jvm.MethodName)) ∈ lw_all := sorry
theorem q1907 : (Jvm.Cond.instanceMethod ({ cls := "LinkHouse$World", name := "mostSpecial", desc := "(LLinkHouse$Kind;LLinkHouse$Member;)LLinkHouse$Member;" } : Jvm.MethodName)) ∈ lw_all := sorry
theorem q1908 : (Jvm.Cond.selects "LinkHouse$World" ({ cls := "LinkHouse$World", name := "mostSpecial", desc := "(LLinkHouse$Kind;LLinkHouse$Member;)LLinkHouse$Member;" } : Jvm.MethodName) ({ cls := "LinkHouse$World", name := "mostSpecial", desc := "(LLinkHouse$Kind;LLinkHouse$Member;)LLinkHouse$Member;" } : Jvm.MethodName)) ∈ lw_all := sorry
theorem q1909 : (Jvm.Cond.code ({ cls := "LinkHouse$World", name := "mostSpecial", desc := "(LLinkHouse$Kind;LLinkHouse$Member;)LLinkHouse$Member;" } : Jvm.MethodName) prog_11_method_15_code (7 : Nat) (Option.some (Jvm.ClassFile.FieldType.object "LinkHouse$Member"))) ∈ lw_all := sorry
theorem q1910 : (Jvm.Cond.methodLink "LinkHouse$World" (140 : Nat) ({ cls := "LinkHouse$World", name := "layFaces", desc := "(LLinkHouse$Kind;)I" } : Jvm.MethodName)) ∈ lw_all := sorry
theorem q1911 : (Jvm.Cond.methodLink "LinkHouse$World" (154 : Nat) ({ cls := "LinkHouse$World", name := "hasHeir", desc := "(ILLinkHouse$Member;)Z" } : Jvm.MethodName)) ∈ lw_all := sorry
theorem q1912 : (Jvm.Cond.privateMethod ({ cls := "LinkHouse$World", name := "hasHeir", desc := "(ILLinkHouse$Member;)Z" } : Jvm.MethodName)) ∈ lw_tbl := sorry
theorem q1913 : (Jvm.Cond.instanceMethod ({ cls := "LinkHouse$World", name := "hasHeir", desc := "(ILLinkHouse$Member;)Z" } : Jvm.MethodName)) ∈ lw_all := sorry
theorem q1914 : (Jvm.Cond.code ({ cls := "LinkHouse$World", name := "hasHeir", desc := "(ILLinkHouse$Member;)Z" } : Jvm.MethodName) prog_11_method_16_code (5 : Nat) (Option.some Jvm.ClassFile.FieldType.boolean)) ∈ lw_all := sorry
theorem q1929 : (Jvm.Cond.instanceMethod ({ cls := "LinkHouse$World", name := "field", desc := "(LLinkHouse$Kind;JJ)LLinkHouse$Member;" } : Jvm.MethodName)) ∈ lw_all := sorry
theorem q1930 : (Jvm.Cond.selects "LinkHouse$World" ({ cls := "LinkHouse$World", name := "field", desc := "(LLinkHouse$Kind;JJ)LLinkHouse$Member;" } : Jvm.MethodName) ({ cls := "LinkHouse$World", name := "field", desc := "(LLinkHouse$Kind;JJ)LLinkHouse$Member;" } : Jvm.MethodName)) ∈ lw_all := sorry
theorem q1931 : (Jvm.Cond.code ({ cls := "LinkHouse$World", name := "field", desc := "(LLinkHouse$Kind;JJ)LLinkHouse$Member;" } : Jvm.MethodName) prog_11_method_13_code (6 : Nat) (Option.some (Jvm.ClassFile.FieldType.object "LinkHouse$Member"))) ∈ lw_all := sorry
theorem q1932 : (Jvm.Cond.methodLink "LinkHouse$World" (132 : Nat) ({ cls := "LinkHouse$World", name := "fieldFrom", desc := "(LLinkHouse$Kind;JJ)LLinkHouse$Member;" } : Jvm.MethodName)) ∈ lw_all := sorry
theorem q1933 : (Jvm.Cond.privateMethod ({ cls := "LinkHouse$World", name := "fieldFrom", desc := "(LLinkHouse$Kind;JJ)LLinkHouse$Member;" } : Jvm.MethodName)) ∈ lw_tbl := sorry
theorem q1934 : (Jvm.Cond.instanceMethod ({ cls := "LinkHouse$World", name := "fieldFrom", desc := "(LLinkHouse$Kind;JJ)LLinkHouse$Member;" } : Jvm.MethodName)) ∈ lw_all := sorry
theorem q1935 : (Jvm.Cond.code ({ cls := "LinkHouse$World", name := "fieldFrom", desc := "(LLinkHouse$Kind;JJ)LLinkHouse$Member;" } : Jvm.MethodName) prog_11_method_14_code (9 : Nat) (Option.some (Jvm.ClassFile.FieldType.object "LinkHouse$Member"))) ∈ lw_all := sorry
theorem q1936 : (Jvm.Cond.methodLink "LinkHouse$World" (136 : Nat) ({ cls := "LinkHouse$Kind", name := "field", desc := "(JJ)LLinkHouse$Member;" } : Jvm.MethodName)) ∈ lw_all := sorry
theorem q1942 : (Jvm.Cond.instanceMethod ({ cls := "LinkHouse$World", name := "lets", desc := "(LLinkHouse$Kind;LLinkHouse$Kind;LLinkHouse$Member;LLinkHouse$Kind;LLinkHouse$Linker;)Z" } : Jvm.MethodName)) ∈ lw_all := sorry
theorem q1943 : (Jvm.Cond.selects "LinkHouse$World" ({ cls := "LinkHouse$World", name := "lets", desc := "(LLinkHouse$Kind;LLinkHouse$Kind;LLinkHouse$Member;LLinkHouse$Kind;LLinkHouse$Linker;)Z" } : Jvm.MethodName) ({ cls := "LinkHouse$World", name := "lets", desc := "(LLinkHouse$Kind;LLinkHouse$Kind;LLinkHouse$Member;LLinkHouse$Kind;LLinkHouse$Linker;)Z" } : Jvm.MethodName)) ∈ lw_all := sorry
theorem q1944 : (Jvm.Cond.code ({ cls := "LinkHouse$World", name := "lets", desc := "(LLinkHouse$Kind;LLinkHouse$Kind;LLinkHouse$Member;LLinkHouse$Kind;LLinkHouse$Linker;)Z" } : Jvm.MethodName) prog_11_method_12_code (6 : Nat) (Option.some Jvm.ClassFile.FieldType.boolean)) ∈ lw_all := sorry
theorem q1945 : (Jvm.Cond.methodLink "LinkHouse$World" (125 : Nat) ({ cls := "LinkHouse$World", name := "nestOf", desc := "(LLinkHouse$Kind;LLinkHouse$Linker;)LLinkHouse$Kind;" } : Jvm.MethodName)) ∈ lw_all := sorry
theorem q1946 : (Jvm.Cond.instanceMethod ({ cls := "LinkHouse$World", name := "nestOf", desc := "(LLinkHouse$Kind;LLinkHouse$Linker;)LLinkHouse$Kind;" } : Jvm.MethodName)) ∈ lw_all := sorry
theorem q1947 : (Jvm.Cond.selects "LinkHouse$World" ({ cls := "LinkHouse$World", name := "nestOf", desc := "(LLinkHouse$Kind;LLinkHouse$Linker;)LLinkHouse$Kind;" } : Jvm.MethodName) ({ cls := "LinkHouse$World", name := "nestOf", desc := "(LLinkHouse$Kind;LLinkHouse$Linker;)LLinkHouse$Kind;" } : Jvm.MethodName)) ∈ lw_all := sorry
theorem q1948 : (Jvm.Cond.code ({ cls := "LinkHouse$World", name := "nestOf", desc := "(LLinkHouse$Kind;LLinkHouse$Linker;)LLinkHouse$Kind;" } : Jvm.MethodName) prog_11_method_11_code (4 : Nat) (Option.some (Jvm.ClassFile.FieldType.object "LinkHouse$Kind"))) ∈ lw_all := sorry
theorem q1949 : (Jvm.Cond.methodLink "LinkHouse$World" (107 : Nat) ({ cls := "LinkHouse$Linker", name := "load", desc := "(LLinkHouse$Kind;)I" } : Jvm.MethodName)) ∈ lw_all := sorry
theorem q1968 : (Jvm.Cond.methodLink "LinkHouse$World" (113 : Nat) ({ cls := "LinkHouse$Kind", name := "hasWith", desc := "(J)Z" } : Jvm.MethodName)) ∈ lw_all := sorry
theorem in_X3 : ∀ w ∈ wsX30, w ∈ lw_all := sorry
/-! LinkHouse$Refusal -/
def RX4 : String := "LinkHouse$Refusal"
def TX4 : u_T := fun k => match k with
  | 0 => ("java/lang/Throwable", "cause", "Ljava/lang/Throwable;", false)
  | 1 => ("java/lang/Throwable", "stackTrace", "[Ljava/lang/StackTraceElement;", false)
  | 2 => ("java/lang/Throwable", "suppressedExceptions", "Ljava/util/List;", false)
  | 3 => ("java/lang/Throwable", "detailMessage", "Ljava/lang/String;", false)
  | 4 => ("java/lang/Throwable", "backtrace", "Ljava/lang/Object;", false)
  | 5 => ("java/lang/Throwable", "depth", "I", false)
  | 6 => ("LinkHouse$Refusal", "fault", "I", false)
  | _ => ("LinkHouse$Refusal", "at", "I", false)
def tyX4 : Nat → FieldType := fun k => match k with
  | 0 => .object "java/lang/Throwable"
  | 1 => .array (.object "java/lang/StackTraceElement")
  | 2 => .object "java/util/List"
  | 3 => .object "java/lang/String"
  | 4 => .object "java/lang/Object"
  | 5 => .int
  | 6 => .int
  | _ => .int
abbrev wsX40 : List Cond := u_ws RX4 TX4 8
theorem nmX4 : ∀ a, a < 8 → ∀ b, b < 8 → a ≠ b → (TX4 a).2.1 ≠ (TX4 b).2.1 := sorry
theorem tyX4_ok : ∀ k, k < 8 → parseFieldDescriptor (TX4 k).2.2.1 = some (tyX4 k) := sorry
abbrev cX4_init : ByteArray := prog_8_method_1_code
def yX4_init : MethodName := ⟨RX4, "<init>", "()V"⟩
abbrev cX4_of : ByteArray := prog_8_method_2_code
def yX4_of : MethodName := ⟨RX4, "of", "(II)LLinkHouse$Refusal;"⟩
theorem q400 : (Jvm.Cond.initialized "LinkHouse$Refusal") ∈ lw_all := sorry
theorem q838 : (Jvm.Cond.instantiable "LinkHouse$Refusal" (8 : Nat)) ∈ lw_all := sorry
theorem q839 : (Jvm.Cond.castable "LinkHouse$Refusal" "LinkHouse$Refusal") ∈ lw_tbl := sorry
theorem q846 : (Jvm.Cond.selects "LinkHouse$Refusal" ({ cls := "java/lang/Throwable", name := "fillInStackTrace", desc := "(I)Ljava/lang/Throwable;" } : Jvm.MethodName) ({ cls := "java/lang/Throwable", name := "fillInStackTrace", desc := "(I)Ljava/lang/Throwable;" } : Jvm.MethodName)) ∈ lw_all := sorry
theorem q847 : (Jvm.Cond.selects "LinkHouse$Refusal" ({ cls := "java/lang/Throwable", name := "fillInStackTrace", desc := "()Ljava/lang/Throwable;" } : Jvm.MethodName) ({ cls := "java/lang/Throwable", name := "fillInStackTrace", desc := "()Ljava/lang/Throwable;" } : Jvm.MethodName)) ∈ lw_all := sorry
theorem q848 : (Jvm.Cond.lays "LinkHouse$Refusal" "java/lang/Throwable" "cause" "Ljava/lang/Throwable;") ∈ lw_all := sorry
theorem q850 : (Jvm.Cond.lays "LinkHouse$Refusal" "java/lang/Throwable" "stackTrace" "[Ljava/lang/StackTraceElement;") ∈ lw_all := sorry
theorem q852 : (Jvm.Cond.lays "LinkHouse$Refusal" "java/lang/Throwable" "suppressedExceptions" "Ljava/util/List;") ∈ lw_all := sorry
theorem q854 : (Jvm.Cond.lays "LinkHouse$Refusal" "java/lang/Throwable" "detailMessage" "Ljava/lang/String;") ∈ lw_all := sorry
theorem q856 : (Jvm.Cond.lays "LinkHouse$Refusal" "java/lang/Throwable" "backtrace" "Ljava/lang/Object;") ∈ lw_all := sorry
theorem q877 : (Jvm.Cond.instanceMethod ({ cls := "LinkHouse$Refusal", name := "<init>", desc := "()V" } : Jvm.MethodName)) ∈ lw_all := sorry
theorem q878 : (Jvm.Cond.code ({ cls := "LinkHouse$Refusal", name := "<init>", desc := "()V" } : Jvm.MethodName) prog_8_method_1_code (1 : Nat) (Option.none : Option Jvm.ClassFile.FieldType)) ∈ lw_all := sorry
theorem q879 : (Jvm.Cond.methodLink "LinkHouse$Refusal" (1 : Nat) ({ cls := "java/lang/RuntimeException", name := "<init>", desc := "()V" } : Jvm.MethodName)) ∈ lw_all := sorry
theorem q886 : (Jvm.Cond.fieldLink "LinkHouse$Refusal" (7 : Nat) "LinkHouse$Refusal" "fault" "I") ∈ lw_all := sorry
theorem q888 : (Jvm.Cond.fieldLink "LinkHouse$Refusal" (13 : Nat) "LinkHouse$Refusal" "at" "I") ∈ lw_all := sorry
theorem q894 : (Jvm.Cond.lays "LinkHouse$Refusal" "LinkHouse$Refusal" "fault" "I") ∈ lw_all := sorry
theorem q895 : (Jvm.Cond.soleField "LinkHouse$Refusal" "fault") ∈ lw_all := sorry
theorem q896 : (Jvm.Cond.lays "LinkHouse$Refusal" "LinkHouse$Refusal" "at" "I") ∈ lw_all := sorry
theorem q897 : (Jvm.Cond.soleField "LinkHouse$Refusal" "at") ∈ lw_all := sorry
theorem q902 : (Jvm.Cond.lays "LinkHouse$Refusal" "java/lang/Throwable" "depth" "I") ∈ lw_all := sorry
theorem q905 : (Jvm.Cond.superclass "LinkHouse$Refusal" "java/lang/RuntimeException") ∈ lw_all := sorry
theorem q1610 : (Jvm.Cond.instanceMethod ({ cls := "LinkHouse$Refusal", name := "of", desc := "(II)LLinkHouse$Refusal;" } : Jvm.MethodName)) ∈ lw_all := sorry
theorem q1611 : (Jvm.Cond.selects "LinkHouse$Refusal" ({ cls := "LinkHouse$Refusal", name := "of", desc := "(II)LLinkHouse$Refusal;" } : Jvm.MethodName) ({ cls := "LinkHouse$Refusal", name := "of", desc := "(II)LLinkHouse$Refusal;" } : Jvm.MethodName)) ∈ lw_all := sorry
theorem q1612 : (Jvm.Cond.code ({ cls := "LinkHouse$Refusal", name := "of", desc := "(II)LLinkHouse$Refusal;" } : Jvm.MethodName) prog_8_method_2_code (3 : Nat) (Option.some (Jvm.ClassFile.FieldType.object "LinkHouse$Refusal"))) ∈ lw_all := sorry
theorem in_X4 : ∀ w ∈ wsX40, w ∈ lw_all := sorry
/-! LinkHouse$Tree -/
def RX5 : String := "LinkHouse$Tree"
def TX5 : u_T := fun k => match k with
  | 0 => ("LinkHouse$Tree", "refusal", "LLinkHouse$Refusal;", true)
  | 1 => ("LinkHouse$Tree", "words", "[J", true)
  | 2 => ("LinkHouse$Tree", "b", "LLinkHouse$Build;", false)
  | 3 => ("LinkHouse$Tree", "sort", "[I", true)
  | 4 => ("LinkHouse$Tree", "what", "[J", true)
  | 5 => ("LinkHouse$Tree", "read", "I", false)
  | 6 => ("LinkHouse$Tree", "place", "I", false)
  | 7 => ("LinkHouse$Tree", "t", "I", false)
  | 8 => ("LinkHouse$Tree", "within", "I", false)
  | 9 => ("LinkHouse$Tree", "node", "[I", true)
  | 10 => ("LinkHouse$Tree", "token", "[I", true)
  | 11 => ("LinkHouse$Tree", "one", "[I", true)
  | 12 => ("LinkHouse$Tree", "two", "[I", true)
  | 13 => ("LinkHouse$Tree", "three", "[I", true)
  | 14 => ("LinkHouse$Tree", "next", "[I", true)
  | 15 => ("LinkHouse$Tree", "nodes", "I", false)
  | 16 => ("LinkHouse$Tree", "pendingSuper", "I", false)
  | _ => ("LinkHouse$Tree", "pendingKind", "I", false)
def tyX5 : Nat → FieldType := fun k => match k with
  | 0 => .object "LinkHouse$Refusal"
  | 1 => .array .long
  | 2 => .object "LinkHouse$Build"
  | 3 => .array .int
  | 4 => .array .long
  | 5 => .int
  | 6 => .int
  | 7 => .int
  | 8 => .int
  | 9 => .array .int
  | 10 => .array .int
  | 11 => .array .int
  | 12 => .array .int
  | 13 => .array .int
  | 14 => .array .int
  | 15 => .int
  | 16 => .int
  | _ => .int
abbrev wsX50 : List Cond := u_ws RX5 TX5 18
set_option maxRecDepth 100000 in
theorem nmX5 : ∀ a, a < 18 → ∀ b, b < 18 → a ≠ b → (TX5 a).2.1 ≠ (TX5 b).2.1 := sorry
set_option maxRecDepth 100000 in
theorem tyX5_ok : ∀ k, k < 18 → parseFieldDescriptor (TX5 k).2.2.1 = some (tyX5 k) := sorry
abbrev cX5_init : ByteArray := prog_9_method_1_code
def yX5_init : MethodName := ⟨RX5, "<init>", "(LLinkHouse$Refusal;)V"⟩
abbrev cX5_word : ByteArray := prog_9_method_2_code
def yX5_word : MethodName := ⟨RX5, "word", "(ILjava/lang/String;)V"⟩
abbrev cX5_readAll : ByteArray := prog_9_method_18_code
def yX5_readAll : MethodName := ⟨RX5, "readAll", "(LLinkHouse$Build;)V"⟩
abbrev cX5_peek : ByteArray := prog_9_method_7_code
def yX5_peek : MethodName := ⟨RX5, "peek", "()I"⟩
abbrev cX5_readToken : ByteArray := prog_9_method_8_code
def yX5_readToken : MethodName := ⟨RX5, "readToken", "()V"⟩
abbrev cX5_byteAt : ByteArray := prog_9_method_4_code
def yX5_byteAt : MethodName := ⟨RX5, "byteAt", "(I)I"⟩
abbrev cX5_within : ByteArray := prog_9_method_6_code
def yX5_within : MethodName := ⟨RX5, "within", "(III)Z"⟩
abbrev cX5_isGreat : ByteArray := prog_9_method_5_code
def yX5_isGreat : MethodName := ⟨RX5, "isGreat", "(I)Z"⟩
abbrev cX5_letters : ByteArray := prog_9_method_9_code
def yX5_letters : MethodName := ⟨RX5, "letters", "(Z)V"⟩
abbrev cX5_digits : ByteArray := prog_9_method_10_code
def yX5_digits : MethodName := ⟨RX5, "digits", "()V"⟩
abbrev cX5_sign : ByteArray := prog_9_method_11_code
def yX5_sign : MethodName := ⟨RX5, "sign", "(I)V"⟩
abbrev cX5_kind : ByteArray := prog_9_method_19_code
def yX5_kind : MethodName := ⟨RX5, "kind", "()V"⟩
abbrev cX5_has : ByteArray := prog_9_method_15_code
def yX5_has : MethodName := ⟨RX5, "has", "(I)Z"⟩
abbrev cX5_take : ByteArray := prog_9_method_12_code
def yX5_take : MethodName := ⟨RX5, "take", "()I"⟩
abbrev cX5_refuse : ByteArray := prog_9_method_3_code
def yX5_refuse : MethodName := ⟨RX5, "refuse", "(II)Ljava/lang/RuntimeException;"⟩
abbrev cX5_want : ByteArray := prog_9_method_14_code
def yX5_want : MethodName := ⟨RX5, "want", "(I)I"⟩
abbrev cX5_row : ByteArray := prog_9_method_20_code
def yX5_row : MethodName := ⟨RX5, "row", "(LLinkHouse$Kind;[JII)I"⟩
abbrev cX5_member : ByteArray := prog_9_method_21_code
def yX5_member : MethodName := ⟨RX5, "member", "(LLinkHouse$Kind;)V"⟩
abbrev cX5_block : ByteArray := prog_9_method_25_code
def yX5_block : MethodName := ⟨RX5, "block", "(LLinkHouse$Member;)V"⟩
abbrev cX5_blockNode : ByteArray := prog_9_method_26_code
def yX5_blockNode : MethodName := ⟨RX5, "blockNode", "()I"⟩
abbrev cX5_enter : ByteArray := prog_9_method_16_code
def yX5_enter : MethodName := ⟨RX5, "enter", "(Z)V"⟩
abbrev cX5_more : ByteArray := prog_9_method_17_code
def yX5_more : MethodName := ⟨RX5, "more", "(II)I"⟩
abbrev cX5_statement : ByteArray := prog_9_method_28_code
def yX5_statement : MethodName := ⟨RX5, "statement", "()I"⟩
abbrev cX5_canBeginExp : ByteArray := prog_9_method_27_code
def yX5_canBeginExp : MethodName := ⟨RX5, "canBeginExp", "(I)Z"⟩
abbrev cX5_type : ByteArray := prog_9_method_22_code
def yX5_type : MethodName := ⟨RX5, "type", "()I"⟩
abbrev cX5_exp : ByteArray := prog_9_method_31_code
def yX5_exp : MethodName := ⟨RX5, "exp", "()I"⟩
abbrev cX5_expBehind : ByteArray := prog_9_method_32_code
def yX5_expBehind : MethodName := ⟨RX5, "expBehind", "()I"⟩
abbrev cX5_sum : ByteArray := prog_9_method_34_code
def yX5_sum : MethodName := ⟨RX5, "sum", "()I"⟩
abbrev cX5_product : ByteArray := prog_9_method_35_code
def yX5_product : MethodName := ⟨RX5, "product", "()I"⟩
abbrev cX5_unit : ByteArray := prog_9_method_36_code
def yX5_unit : MethodName := ⟨RX5, "unit", "()I"⟩
abbrev cX5_first : ByteArray := prog_9_method_37_code
def yX5_first : MethodName := ⟨RX5, "first", "()I"⟩
abbrev cX5_superCall : ByteArray := prog_9_method_38_code
def yX5_superCall : MethodName := ⟨RX5, "superCall", "(I)I"⟩
abbrev cX5_args : ByteArray := prog_9_method_30_code
def yX5_args : MethodName := ⟨RX5, "args", "()I"⟩
abbrev cX5_ofKind : ByteArray := prog_9_method_39_code
def yX5_ofKind : MethodName := ⟨RX5, "ofKind", "(I)I"⟩
abbrev cX5_around : ByteArray := prog_9_method_40_code
def yX5_around : MethodName := ⟨RX5, "around", "(I)I"⟩
abbrev cX5_isNext : ByteArray := prog_9_method_13_code
def yX5_isNext : MethodName := ⟨RX5, "isNext", "(I)Z"⟩
abbrev cX5_pair : ByteArray := prog_9_method_33_code
def yX5_pair : MethodName := ⟨RX5, "pair", "(III)I"⟩
abbrev cX5_alone : ByteArray := prog_9_method_29_code
def yX5_alone : MethodName := ⟨RX5, "alone", "(I)I"⟩
abbrev cX5_params : ByteArray := prog_9_method_24_code
def yX5_params : MethodName := ⟨RX5, "params", "(LLinkHouse$Member;)V"⟩
abbrev cX5_typeOf : ByteArray := prog_9_method_23_code
def yX5_typeOf : MethodName := ⟨RX5, "typeOf", "(I)J"⟩
theorem q401 : (Jvm.Cond.initialized "LinkHouse$Tree") ∈ lw_all := sorry
theorem q442 : (Jvm.Cond.fieldLinkNest "LinkHouse$Tree" (296 : Nat) "LinkHouse$Member" "sort" "I" "LinkHouse") ∈ lw_tbl := sorry
theorem q449 : (Jvm.Cond.fieldLinkNest "LinkHouse$Tree" (319 : Nat) "LinkHouse$Member" "title" "J" "LinkHouse") ∈ lw_tbl := sorry
theorem q454 : (Jvm.Cond.fieldLinkNest "LinkHouse$Tree" (305 : Nat) "LinkHouse$Member" "access" "I" "LinkHouse") ∈ lw_tbl := sorry
theorem q462 : (Jvm.Cond.fieldLinkNest "LinkHouse$Tree" (314 : Nat) "LinkHouse$Member" "isStatic" "Z" "LinkHouse") ∈ lw_tbl := sorry
theorem q468 : (Jvm.Cond.fieldLinkNest "LinkHouse$Tree" (317 : Nat) "LinkHouse$Member" "isFinal" "Z" "LinkHouse") ∈ lw_tbl := sorry
theorem q475 : (Jvm.Cond.fieldLinkNest "LinkHouse$Tree" (318 : Nat) "LinkHouse$Member" "isBare" "Z" "LinkHouse") ∈ lw_tbl := sorry
theorem q486 : (Jvm.Cond.fieldLinkNest "LinkHouse$Tree" (327 : Nat) "LinkHouse$Member" "type" "J" "LinkHouse") ∈ lw_tbl := sorry
theorem q491 : (Jvm.Cond.fieldLinkNest "LinkHouse$Tree" (340 : Nat) "LinkHouse$Member" "params" "I" "LinkHouse") ∈ lw_tbl := sorry
theorem q495 : (Jvm.Cond.fieldLinkNest "LinkHouse$Tree" (342 : Nat) "LinkHouse$Member" "param" "[J" "LinkHouse") ∈ lw_tbl := sorry
theorem q497 : (Jvm.Cond.fieldLinkNest "LinkHouse$Tree" (348 : Nat) "LinkHouse$Member" "called" "[J" "LinkHouse") ∈ lw_tbl := sorry
theorem q501 : (Jvm.Cond.fieldLinkNest "LinkHouse$Tree" (345 : Nat) "LinkHouse$Member" "paramAt" "[I" "LinkHouse") ∈ lw_tbl := sorry
theorem q515 : (Jvm.Cond.fieldLinkNest "LinkHouse$Tree" (300 : Nat) "LinkHouse$Member" "at" "I" "LinkHouse") ∈ lw_tbl := sorry
theorem q518 : (Jvm.Cond.fieldLinkNest "LinkHouse$Tree" (320 : Nat) "LinkHouse$Member" "typeAt" "I" "LinkHouse") ∈ lw_tbl := sorry
theorem q520 : (Jvm.Cond.fieldLinkNest "LinkHouse$Tree" (329 : Nat) "LinkHouse$Member" "from" "I" "LinkHouse") ∈ lw_tbl := sorry
theorem q523 : (Jvm.Cond.fieldLinkNest "LinkHouse$Tree" (337 : Nat) "LinkHouse$Member" "to" "I" "LinkHouse") ∈ lw_tbl := sorry
theorem q527 : (Jvm.Cond.fieldLinkNest "LinkHouse$Tree" (335 : Nat) "LinkHouse$Member" "node" "I" "LinkHouse") ∈ lw_tbl := sorry
theorem q599 : (Jvm.Cond.fieldLinkNest "LinkHouse$Tree" (231 : Nat) "LinkHouse$Kind" "title" "J" "LinkHouse") ∈ lw_tbl := sorry
theorem q605 : (Jvm.Cond.fieldLinkNest "LinkHouse$Tree" (239 : Nat) "LinkHouse$Kind" "pack" "I" "LinkHouse") ∈ lw_tbl := sorry
theorem q611 : (Jvm.Cond.fieldLinkNest "LinkHouse$Tree" (252 : Nat) "LinkHouse$Kind" "isFace" "Z" "LinkHouse") ∈ lw_tbl := sorry
theorem q617 : (Jvm.Cond.fieldLinkNest "LinkHouse$Tree" (242 : Nat) "LinkHouse$Kind" "isOpen" "Z" "LinkHouse") ∈ lw_tbl := sorry
theorem q621 : (Jvm.Cond.fieldLinkNest "LinkHouse$Tree" (246 : Nat) "LinkHouse$Kind" "isFinal" "Z" "LinkHouse") ∈ lw_tbl := sorry
theorem q626 : (Jvm.Cond.fieldLinkNest "LinkHouse$Tree" (249 : Nat) "LinkHouse$Kind" "isBare" "Z" "LinkHouse") ∈ lw_tbl := sorry
theorem q631 : (Jvm.Cond.fieldLinkNest "LinkHouse$Tree" (258 : Nat) "LinkHouse$Kind" "hasParent" "Z" "LinkHouse") ∈ lw_tbl := sorry
theorem q637 : (Jvm.Cond.fieldLinkNest "LinkHouse$Tree" (261 : Nat) "LinkHouse$Kind" "parent" "J" "LinkHouse") ∈ lw_tbl := sorry
theorem q643 : (Jvm.Cond.fieldLinkNest "LinkHouse$Tree" (264 : Nat) "LinkHouse$Kind" "face" "[J" "LinkHouse") ∈ lw_tbl := sorry
theorem q650 : (Jvm.Cond.fieldLinkNest "LinkHouse$Tree" (270 : Nat) "LinkHouse$Kind" "faces" "I" "LinkHouse") ∈ lw_tbl := sorry
theorem q655 : (Jvm.Cond.fieldLinkNest "LinkHouse$Tree" (273 : Nat) "LinkHouse$Kind" "host" "J" "LinkHouse") ∈ lw_tbl := sorry
theorem q659 : (Jvm.Cond.fieldLinkNest "LinkHouse$Tree" (276 : Nat) "LinkHouse$Kind" "with" "[J" "LinkHouse") ∈ lw_tbl := sorry
theorem q663 : (Jvm.Cond.fieldLinkNest "LinkHouse$Tree" (278 : Nat) "LinkHouse$Kind" "withs" "I" "LinkHouse") ∈ lw_tbl := sorry
theorem q667 : (Jvm.Cond.fieldLinkNest "LinkHouse$Tree" (284 : Nat) "LinkHouse$Kind" "only" "[J" "LinkHouse") ∈ lw_tbl := sorry
theorem q671 : (Jvm.Cond.fieldLinkNest "LinkHouse$Tree" (286 : Nat) "LinkHouse$Kind" "onlys" "I" "LinkHouse") ∈ lw_tbl := sorry
theorem q674 : (Jvm.Cond.fieldLinkNest "LinkHouse$Tree" (281 : Nat) "LinkHouse$Kind" "isClosed" "Z" "LinkHouse") ∈ lw_tbl := sorry
theorem q703 : (Jvm.Cond.fieldLinkNest "LinkHouse$Tree" (226 : Nat) "LinkHouse$Kind" "at" "I" "LinkHouse") ∈ lw_tbl := sorry
theorem q706 : (Jvm.Cond.fieldLinkNest "LinkHouse$Tree" (255 : Nat) "LinkHouse$Kind" "headAt" "[I" "LinkHouse") ∈ lw_tbl := sorry
theorem q907 : (Jvm.Cond.instantiable "LinkHouse$Tree" (18 : Nat)) ∈ lw_all := sorry
theorem q909 : (Jvm.Cond.instanceMethod ({ cls := "LinkHouse$Tree", name := "<init>", desc := "(LLinkHouse$Refusal;)V" } : Jvm.MethodName)) ∈ lw_all := sorry
theorem q910 : (Jvm.Cond.code ({ cls := "LinkHouse$Tree", name := "<init>", desc := "(LLinkHouse$Refusal;)V" } : Jvm.MethodName) prog_9_method_1_code (2 : Nat) (Option.none : Option Jvm.ClassFile.FieldType)) ∈ lw_all := sorry
theorem q911 : (Jvm.Cond.methodLink "LinkHouse$Tree" (3 : Nat) ({ cls := "java/lang/Object", name := "<init>", desc := "()V" } : Jvm.MethodName)) ∈ lw_all := sorry
theorem q912 : (Jvm.Cond.stringRef "LinkHouse$Tree" (51 : Nat) "class") ∈ lw_tbl := sorry
theorem q913 : (Jvm.Cond.methodLink "LinkHouse$Tree" (53 : Nat) ({ cls := "LinkHouse$Tree", name := "word", desc := "(ILjava/lang/String;)V" } : Jvm.MethodName)) ∈ lw_all := sorry
theorem q914 : (Jvm.Cond.privateMethod ({ cls := "LinkHouse$Tree", name := "word", desc := "(ILjava/lang/String;)V" } : Jvm.MethodName)) ∈ lw_tbl := sorry
theorem q915 : (Jvm.Cond.instanceMethod ({ cls := "LinkHouse$Tree", name := "word", desc := "(ILjava/lang/String;)V" } : Jvm.MethodName)) ∈ lw_all := sorry
theorem q916 : (Jvm.Cond.code ({ cls := "LinkHouse$Tree", name := "word", desc := "(ILjava/lang/String;)V" } : Jvm.MethodName) prog_9_method_2_code (6 : Nat) (Option.none : Option Jvm.ClassFile.FieldType)) ∈ lw_all := sorry
theorem q917 : (Jvm.Cond.methodLink "LinkHouse$Tree" (115 : Nat) ({ cls := "java/lang/String", name := "length", desc := "()I" } : Jvm.MethodName)) ∈ lw_all := sorry
theorem q927 : (Jvm.Cond.methodLink "LinkHouse$Tree" (121 : Nat) ({ cls := "java/lang/String", name := "charAt", desc := "(I)C" } : Jvm.MethodName)) ∈ lw_all := sorry
theorem q965 : (Jvm.Cond.methodLinkNest "LinkHouse$Tree" (125 : Nat) ({ cls := "LinkHouse", name := "lettered", desc := "(I)I" } : Jvm.MethodName) "LinkHouse") ∈ lw_tbl := sorry
theorem q971 : (Jvm.Cond.stringRef "LinkHouse$Tree" (57 : Nat) "face") ∈ lw_tbl := sorry
theorem q972 : (Jvm.Cond.stringRef "LinkHouse$Tree" (59 : Nat) "as") ∈ lw_tbl := sorry
theorem q973 : (Jvm.Cond.stringRef "LinkHouse$Tree" (61 : Nat) "is") ∈ lw_tbl := sorry
theorem q974 : (Jvm.Cond.stringRef "LinkHouse$Tree" (63 : Nat) "in") ∈ lw_tbl := sorry
theorem q975 : (Jvm.Cond.stringRef "LinkHouse$Tree" (65 : Nat) "with") ∈ lw_tbl := sorry
theorem q976 : (Jvm.Cond.stringRef "LinkHouse$Tree" (67 : Nat) "only") ∈ lw_tbl := sorry
theorem q977 : (Jvm.Cond.stringRef "LinkHouse$Tree" (69 : Nat) "open") ∈ lw_tbl := sorry
theorem q978 : (Jvm.Cond.stringRef "LinkHouse$Tree" (71 : Nat) "kin") ∈ lw_tbl := sorry
theorem q979 : (Jvm.Cond.stringRef "LinkHouse$Tree" (73 : Nat) "own") ∈ lw_tbl := sorry
theorem q980 : (Jvm.Cond.stringRef "LinkHouse$Tree" (75 : Nat) "final") ∈ lw_tbl := sorry
theorem q981 : (Jvm.Cond.stringRef "LinkHouse$Tree" (77 : Nat) "bare") ∈ lw_tbl := sorry
theorem q982 : (Jvm.Cond.stringRef "LinkHouse$Tree" (79 : Nat) "static") ∈ lw_tbl := sorry
theorem q983 : (Jvm.Cond.stringRef "LinkHouse$Tree" (81 : Nat) "start") ∈ lw_tbl := sorry
theorem q984 : (Jvm.Cond.stringRef "LinkHouse$Tree" (83 : Nat) "void") ∈ lw_tbl := sorry
theorem q985 : (Jvm.Cond.stringRef "LinkHouse$Tree" (85 : Nat) "new") ∈ lw_tbl := sorry
theorem q986 : (Jvm.Cond.stringRef "LinkHouse$Tree" (87 : Nat) "int") ∈ lw_tbl := sorry
theorem q987 : (Jvm.Cond.stringRef "LinkHouse$Tree" (89 : Nat) "let") ∈ lw_tbl := sorry
theorem q988 : (Jvm.Cond.stringRef "LinkHouse$Tree" (91 : Nat) "if") ∈ lw_tbl := sorry
theorem q989 : (Jvm.Cond.stringRef "LinkHouse$Tree" (93 : Nat) "else") ∈ lw_tbl := sorry
theorem q990 : (Jvm.Cond.stringRef "LinkHouse$Tree" (95 : Nat) "while") ∈ lw_tbl := sorry
theorem q991 : (Jvm.Cond.stringRef "LinkHouse$Tree" (97 : Nat) "return") ∈ lw_tbl := sorry
theorem q992 : (Jvm.Cond.stringRef "LinkHouse$Tree" (99 : Nat) "throw") ∈ lw_tbl := sorry
theorem q993 : (Jvm.Cond.stringRef "LinkHouse$Tree" (101 : Nat) "try") ∈ lw_tbl := sorry
theorem q994 : (Jvm.Cond.stringRef "LinkHouse$Tree" (103 : Nat) "catch") ∈ lw_tbl := sorry
theorem q995 : (Jvm.Cond.stringRef "LinkHouse$Tree" (105 : Nat) "out") ∈ lw_tbl := sorry
theorem q996 : (Jvm.Cond.stringRef "LinkHouse$Tree" (107 : Nat) "null") ∈ lw_tbl := sorry
theorem q997 : (Jvm.Cond.stringRef "LinkHouse$Tree" (109 : Nat) "this") ∈ lw_tbl := sorry
theorem q998 : (Jvm.Cond.stringRef "LinkHouse$Tree" (111 : Nat) "super") ∈ lw_tbl := sorry
theorem q999 : (Jvm.Cond.stringRef "LinkHouse$Tree" (113 : Nat) "ask") ∈ lw_tbl := sorry
theorem q1000 : (Jvm.Cond.fieldLink "LinkHouse$Tree" (47 : Nat) "LinkHouse$Tree" "refusal" "LLinkHouse$Refusal;") ∈ lw_all := sorry
theorem q1001 : (Jvm.Cond.fieldLink "LinkHouse$Tree" (9 : Nat) "LinkHouse$Tree" "words" "[J") ∈ lw_all := sorry
theorem q1002 : (Jvm.Cond.fieldLink "LinkHouse$Tree" (129 : Nat) "LinkHouse$Tree" "b" "LLinkHouse$Build;") ∈ lw_all := sorry
theorem q1003 : (Jvm.Cond.fieldLink "LinkHouse$Tree" (15 : Nat) "LinkHouse$Tree" "sort" "[I") ∈ lw_all := sorry
theorem q1004 : (Jvm.Cond.fieldLink "LinkHouse$Tree" (19 : Nat) "LinkHouse$Tree" "what" "[J") ∈ lw_all := sorry
theorem q1006 : (Jvm.Cond.fieldLink "LinkHouse$Tree" (161 : Nat) "LinkHouse$Tree" "read" "I") ∈ lw_all := sorry
theorem q1007 : (Jvm.Cond.fieldLink "LinkHouse$Tree" (167 : Nat) "LinkHouse$Tree" "place" "I") ∈ lw_all := sorry
theorem q1008 : (Jvm.Cond.fieldLink "LinkHouse$Tree" (158 : Nat) "LinkHouse$Tree" "t" "I") ∈ lw_all := sorry
theorem q1009 : (Jvm.Cond.fieldLink "LinkHouse$Tree" (205 : Nat) "LinkHouse$Tree" "within" "I") ∈ lw_all := sorry
theorem q1010 : (Jvm.Cond.fieldLink "LinkHouse$Tree" (22 : Nat) "LinkHouse$Tree" "node" "[I") ∈ lw_all := sorry
theorem q1012 : (Jvm.Cond.fieldLink "LinkHouse$Tree" (25 : Nat) "LinkHouse$Tree" "token" "[I") ∈ lw_all := sorry
theorem q1014 : (Jvm.Cond.fieldLink "LinkHouse$Tree" (28 : Nat) "LinkHouse$Tree" "one" "[I") ∈ lw_all := sorry
theorem q1016 : (Jvm.Cond.fieldLink "LinkHouse$Tree" (31 : Nat) "LinkHouse$Tree" "two" "[I") ∈ lw_all := sorry
theorem q1018 : (Jvm.Cond.fieldLink "LinkHouse$Tree" (34 : Nat) "LinkHouse$Tree" "three" "[I") ∈ lw_all := sorry
theorem q1020 : (Jvm.Cond.fieldLink "LinkHouse$Tree" (37 : Nat) "LinkHouse$Tree" "next" "[I") ∈ lw_all := sorry
theorem q1022 : (Jvm.Cond.fieldLink "LinkHouse$Tree" (207 : Nat) "LinkHouse$Tree" "nodes" "I") ∈ lw_all := sorry
theorem q1023 : (Jvm.Cond.fieldLink "LinkHouse$Tree" (40 : Nat) "LinkHouse$Tree" "pendingSuper" "I") ∈ lw_all := sorry
theorem q1024 : (Jvm.Cond.fieldLink "LinkHouse$Tree" (44 : Nat) "LinkHouse$Tree" "pendingKind" "I") ∈ lw_all := sorry
theorem q1025 : (Jvm.Cond.laysFinal "LinkHouse$Tree" "LinkHouse$Tree" "refusal" "LLinkHouse$Refusal;") ∈ lw_all := sorry
theorem q1026 : (Jvm.Cond.soleField "LinkHouse$Tree" "refusal") ∈ lw_all := sorry
theorem q1027 : (Jvm.Cond.laysFinal "LinkHouse$Tree" "LinkHouse$Tree" "words" "[J") ∈ lw_all := sorry
theorem q1028 : (Jvm.Cond.soleField "LinkHouse$Tree" "words") ∈ lw_all := sorry
theorem q1029 : (Jvm.Cond.lays "LinkHouse$Tree" "LinkHouse$Tree" "b" "LLinkHouse$Build;") ∈ lw_all := sorry
theorem q1030 : (Jvm.Cond.soleField "LinkHouse$Tree" "b") ∈ lw_all := sorry
theorem q1031 : (Jvm.Cond.laysFinal "LinkHouse$Tree" "LinkHouse$Tree" "sort" "[I") ∈ lw_all := sorry
theorem q1032 : (Jvm.Cond.soleField "LinkHouse$Tree" "sort") ∈ lw_all := sorry
theorem q1033 : (Jvm.Cond.laysFinal "LinkHouse$Tree" "LinkHouse$Tree" "what" "[J") ∈ lw_all := sorry
theorem q1034 : (Jvm.Cond.soleField "LinkHouse$Tree" "what") ∈ lw_all := sorry
theorem q1035 : (Jvm.Cond.lays "LinkHouse$Tree" "LinkHouse$Tree" "read" "I") ∈ lw_all := sorry
theorem q1036 : (Jvm.Cond.soleField "LinkHouse$Tree" "read") ∈ lw_all := sorry
theorem q1037 : (Jvm.Cond.lays "LinkHouse$Tree" "LinkHouse$Tree" "place" "I") ∈ lw_all := sorry
theorem q1038 : (Jvm.Cond.soleField "LinkHouse$Tree" "place") ∈ lw_all := sorry
theorem q1039 : (Jvm.Cond.lays "LinkHouse$Tree" "LinkHouse$Tree" "t" "I") ∈ lw_all := sorry
theorem q1040 : (Jvm.Cond.soleField "LinkHouse$Tree" "t") ∈ lw_all := sorry
theorem q1041 : (Jvm.Cond.lays "LinkHouse$Tree" "LinkHouse$Tree" "within" "I") ∈ lw_all := sorry
theorem q1042 : (Jvm.Cond.soleField "LinkHouse$Tree" "within") ∈ lw_all := sorry
theorem q1043 : (Jvm.Cond.laysFinal "LinkHouse$Tree" "LinkHouse$Tree" "node" "[I") ∈ lw_all := sorry
theorem q1044 : (Jvm.Cond.soleField "LinkHouse$Tree" "node") ∈ lw_all := sorry
theorem q1045 : (Jvm.Cond.laysFinal "LinkHouse$Tree" "LinkHouse$Tree" "token" "[I") ∈ lw_all := sorry
theorem q1046 : (Jvm.Cond.soleField "LinkHouse$Tree" "token") ∈ lw_all := sorry
theorem q1047 : (Jvm.Cond.laysFinal "LinkHouse$Tree" "LinkHouse$Tree" "one" "[I") ∈ lw_all := sorry
theorem q1048 : (Jvm.Cond.soleField "LinkHouse$Tree" "one") ∈ lw_all := sorry
theorem q1049 : (Jvm.Cond.laysFinal "LinkHouse$Tree" "LinkHouse$Tree" "two" "[I") ∈ lw_all := sorry
theorem q1050 : (Jvm.Cond.soleField "LinkHouse$Tree" "two") ∈ lw_all := sorry
theorem q1051 : (Jvm.Cond.laysFinal "LinkHouse$Tree" "LinkHouse$Tree" "three" "[I") ∈ lw_all := sorry
theorem q1052 : (Jvm.Cond.soleField "LinkHouse$Tree" "three") ∈ lw_all := sorry
theorem q1053 : (Jvm.Cond.laysFinal "LinkHouse$Tree" "LinkHouse$Tree" "next" "[I") ∈ lw_all := sorry
theorem q1054 : (Jvm.Cond.soleField "LinkHouse$Tree" "next") ∈ lw_all := sorry
theorem q1055 : (Jvm.Cond.lays "LinkHouse$Tree" "LinkHouse$Tree" "nodes" "I") ∈ lw_all := sorry
theorem q1056 : (Jvm.Cond.soleField "LinkHouse$Tree" "nodes") ∈ lw_all := sorry
theorem q1057 : (Jvm.Cond.lays "LinkHouse$Tree" "LinkHouse$Tree" "pendingSuper" "I") ∈ lw_all := sorry
theorem q1058 : (Jvm.Cond.soleField "LinkHouse$Tree" "pendingSuper") ∈ lw_all := sorry
theorem q1059 : (Jvm.Cond.lays "LinkHouse$Tree" "LinkHouse$Tree" "pendingKind" "I") ∈ lw_all := sorry
theorem q1060 : (Jvm.Cond.soleField "LinkHouse$Tree" "pendingKind") ∈ lw_all := sorry
theorem q1061 : (Jvm.Cond.superclass "LinkHouse$Tree" "java/lang/Object") ∈ lw_all := sorry
theorem q1319 : (Jvm.Cond.fieldLinkNest "LinkHouse$Tree" (147 : Nat) "LinkHouse$Build" "text" "[B" "LinkHouse") ∈ lw_tbl := sorry
theorem q1322 : (Jvm.Cond.fieldLinkNest "LinkHouse$Tree" (144 : Nat) "LinkHouse$Build" "bytes" "I" "LinkHouse") ∈ lw_tbl := sorry
theorem q1325 : (Jvm.Cond.fieldLinkNest "LinkHouse$Tree" (133 : Nat) "LinkHouse$Build" "tokenAt" "[I" "LinkHouse") ∈ lw_tbl := sorry
theorem q1328 : (Jvm.Cond.fieldLinkNest "LinkHouse$Tree" (170 : Nat) "LinkHouse$Build" "tokenSize" "[I" "LinkHouse") ∈ lw_tbl := sorry
theorem q1331 : (Jvm.Cond.fieldLinkNest "LinkHouse$Tree" (188 : Nat) "LinkHouse$Build" "tokens" "I" "LinkHouse") ∈ lw_tbl := sorry
theorem q1341 : (Jvm.Cond.fieldLinkNest "LinkHouse$Tree" (219 : Nat) "LinkHouse$Build" "kinds" "I" "LinkHouse") ∈ lw_tbl := sorry
theorem q1583 : (Jvm.Cond.instanceMethod ({ cls := "LinkHouse$Tree", name := "readAll", desc := "(LLinkHouse$Build;)V" } : Jvm.MethodName)) ∈ lw_all := sorry
theorem q1584 : (Jvm.Cond.selects "LinkHouse$Tree" ({ cls := "LinkHouse$Tree", name := "readAll", desc := "(LLinkHouse$Build;)V" } : Jvm.MethodName) ({ cls := "LinkHouse$Tree", name := "readAll", desc := "(LLinkHouse$Build;)V" } : Jvm.MethodName)) ∈ lw_all := sorry
theorem q1585 : (Jvm.Cond.code ({ cls := "LinkHouse$Tree", name := "readAll", desc := "(LLinkHouse$Build;)V" } : Jvm.MethodName) prog_9_method_18_code (2 : Nat) (Option.none : Option Jvm.ClassFile.FieldType)) ∈ lw_all := sorry
theorem q1586 : (Jvm.Cond.methodLink "LinkHouse$Tree" (199 : Nat) ({ cls := "LinkHouse$Tree", name := "peek", desc := "()I" } : Jvm.MethodName)) ∈ lw_all := sorry
theorem q1587 : (Jvm.Cond.instanceMethod ({ cls := "LinkHouse$Tree", name := "peek", desc := "()I" } : Jvm.MethodName)) ∈ lw_all := sorry
theorem q1588 : (Jvm.Cond.selects "LinkHouse$Tree" ({ cls := "LinkHouse$Tree", name := "peek", desc := "()I" } : Jvm.MethodName) ({ cls := "LinkHouse$Tree", name := "peek", desc := "()I" } : Jvm.MethodName)) ∈ lw_all := sorry
theorem q1589 : (Jvm.Cond.code ({ cls := "LinkHouse$Tree", name := "peek", desc := "()I" } : Jvm.MethodName) prog_9_method_7_code (1 : Nat) (Option.some Jvm.ClassFile.FieldType.int)) ∈ lw_all := sorry
theorem q1590 : (Jvm.Cond.methodLink "LinkHouse$Tree" (164 : Nat) ({ cls := "LinkHouse$Tree", name := "readToken", desc := "()V" } : Jvm.MethodName)) ∈ lw_all := sorry
theorem q1591 : (Jvm.Cond.privateMethod ({ cls := "LinkHouse$Tree", name := "readToken", desc := "()V" } : Jvm.MethodName)) ∈ lw_tbl := sorry
theorem q1592 : (Jvm.Cond.instanceMethod ({ cls := "LinkHouse$Tree", name := "readToken", desc := "()V" } : Jvm.MethodName)) ∈ lw_all := sorry
theorem q1593 : (Jvm.Cond.code ({ cls := "LinkHouse$Tree", name := "readToken", desc := "()V" } : Jvm.MethodName) prog_9_method_8_code (3 : Nat) (Option.none : Option Jvm.ClassFile.FieldType)) ∈ lw_all := sorry
theorem q1594 : (Jvm.Cond.methodLink "LinkHouse$Tree" (151 : Nat) ({ cls := "LinkHouse$Tree", name := "byteAt", desc := "(I)I" } : Jvm.MethodName)) ∈ lw_all := sorry
theorem q1595 : (Jvm.Cond.privateMethod ({ cls := "LinkHouse$Tree", name := "byteAt", desc := "(I)I" } : Jvm.MethodName)) ∈ lw_tbl := sorry
theorem q1596 : (Jvm.Cond.instanceMethod ({ cls := "LinkHouse$Tree", name := "byteAt", desc := "(I)I" } : Jvm.MethodName)) ∈ lw_all := sorry
theorem q1597 : (Jvm.Cond.code ({ cls := "LinkHouse$Tree", name := "byteAt", desc := "(I)I" } : Jvm.MethodName) prog_9_method_4_code (2 : Nat) (Option.some Jvm.ClassFile.FieldType.int)) ∈ lw_all := sorry
theorem q1598 : (Jvm.Cond.methodLink "LinkHouse$Tree" (154 : Nat) ({ cls := "LinkHouse$Tree", name := "within", desc := "(III)Z" } : Jvm.MethodName)) ∈ lw_all := sorry
theorem q1599 : (Jvm.Cond.static ({ cls := "LinkHouse$Tree", name := "within", desc := "(III)Z" } : Jvm.MethodName)) ∈ lw_all := sorry
theorem q1600 : (Jvm.Cond.code ({ cls := "LinkHouse$Tree", name := "within", desc := "(III)Z" } : Jvm.MethodName) prog_9_method_6_code (3 : Nat) (Option.some Jvm.ClassFile.FieldType.boolean)) ∈ lw_all := sorry
theorem q1601 : (Jvm.Cond.methodLink "LinkHouse$Tree" (173 : Nat) ({ cls := "LinkHouse$Tree", name := "isGreat", desc := "(I)Z" } : Jvm.MethodName)) ∈ lw_all := sorry
theorem q1602 : (Jvm.Cond.privateMethod ({ cls := "LinkHouse$Tree", name := "isGreat", desc := "(I)Z" } : Jvm.MethodName)) ∈ lw_tbl := sorry
theorem q1603 : (Jvm.Cond.instanceMethod ({ cls := "LinkHouse$Tree", name := "isGreat", desc := "(I)Z" } : Jvm.MethodName)) ∈ lw_all := sorry
theorem q1604 : (Jvm.Cond.code ({ cls := "LinkHouse$Tree", name := "isGreat", desc := "(I)Z" } : Jvm.MethodName) prog_9_method_5_code (2 : Nat) (Option.some Jvm.ClassFile.FieldType.boolean)) ∈ lw_all := sorry
theorem q1605 : (Jvm.Cond.methodLink "LinkHouse$Tree" (177 : Nat) ({ cls := "LinkHouse$Tree", name := "letters", desc := "(Z)V" } : Jvm.MethodName)) ∈ lw_all := sorry
theorem q1606 : (Jvm.Cond.privateMethod ({ cls := "LinkHouse$Tree", name := "letters", desc := "(Z)V" } : Jvm.MethodName)) ∈ lw_tbl := sorry
theorem q1607 : (Jvm.Cond.instanceMethod ({ cls := "LinkHouse$Tree", name := "letters", desc := "(Z)V" } : Jvm.MethodName)) ∈ lw_all := sorry
theorem q1608 : (Jvm.Cond.code ({ cls := "LinkHouse$Tree", name := "letters", desc := "(Z)V" } : Jvm.MethodName) prog_9_method_9_code (6 : Nat) (Option.none : Option Jvm.ClassFile.FieldType)) ∈ lw_all := sorry
theorem q1609 : (Jvm.Cond.methodLink "LinkHouse$Tree" (138 : Nat) ({ cls := "LinkHouse$Refusal", name := "of", desc := "(II)LLinkHouse$Refusal;" } : Jvm.MethodName)) ∈ lw_all := sorry
theorem q1613 : (Jvm.Cond.methodLink "LinkHouse$Tree" (181 : Nat) ({ cls := "LinkHouse$Tree", name := "digits", desc := "()V" } : Jvm.MethodName)) ∈ lw_all := sorry
theorem q1614 : (Jvm.Cond.privateMethod ({ cls := "LinkHouse$Tree", name := "digits", desc := "()V" } : Jvm.MethodName)) ∈ lw_tbl := sorry
theorem q1615 : (Jvm.Cond.instanceMethod ({ cls := "LinkHouse$Tree", name := "digits", desc := "()V" } : Jvm.MethodName)) ∈ lw_all := sorry
theorem q1616 : (Jvm.Cond.code ({ cls := "LinkHouse$Tree", name := "digits", desc := "()V" } : Jvm.MethodName) prog_9_method_10_code (4 : Nat) (Option.none : Option Jvm.ClassFile.FieldType)) ∈ lw_all := sorry
theorem q1617 : (Jvm.Cond.constantLong "LinkHouse$Tree" (191 : Nat) (10 : Int64)) ∈ lw_all := sorry
theorem q1618 : (Jvm.Cond.constantLong "LinkHouse$Tree" (193 : Nat) (48 : Int64)) ∈ lw_all := sorry
theorem q1619 : (Jvm.Cond.methodLink "LinkHouse$Tree" (184 : Nat) ({ cls := "LinkHouse$Tree", name := "sign", desc := "(I)V" } : Jvm.MethodName)) ∈ lw_all := sorry
theorem q1620 : (Jvm.Cond.privateMethod ({ cls := "LinkHouse$Tree", name := "sign", desc := "(I)V" } : Jvm.MethodName)) ∈ lw_tbl := sorry
theorem q1621 : (Jvm.Cond.instanceMethod ({ cls := "LinkHouse$Tree", name := "sign", desc := "(I)V" } : Jvm.MethodName)) ∈ lw_all := sorry
theorem q1622 : (Jvm.Cond.code ({ cls := "LinkHouse$Tree", name := "sign", desc := "(I)V" } : Jvm.MethodName) prog_9_method_11_code (3 : Nat) (Option.none : Option Jvm.ClassFile.FieldType)) ∈ lw_all := sorry
theorem q1623 : (Jvm.Cond.methodLink "LinkHouse$Tree" (210 : Nat) ({ cls := "LinkHouse$Tree", name := "kind", desc := "()V" } : Jvm.MethodName)) ∈ lw_all := sorry
theorem q1624 : (Jvm.Cond.privateMethod ({ cls := "LinkHouse$Tree", name := "kind", desc := "()V" } : Jvm.MethodName)) ∈ lw_tbl := sorry
theorem q1625 : (Jvm.Cond.instanceMethod ({ cls := "LinkHouse$Tree", name := "kind", desc := "()V" } : Jvm.MethodName)) ∈ lw_all := sorry
theorem q1626 : (Jvm.Cond.code ({ cls := "LinkHouse$Tree", name := "kind", desc := "()V" } : Jvm.MethodName) prog_9_method_19_code (9 : Nat) (Option.none : Option Jvm.ClassFile.FieldType)) ∈ lw_all := sorry
theorem q1627 : (Jvm.Cond.methodLink "LinkHouse$Tree" (213 : Nat) ({ cls := "LinkHouse$Tree", name := "has", desc := "(I)Z" } : Jvm.MethodName)) ∈ lw_all := sorry
theorem q1628 : (Jvm.Cond.privateMethod ({ cls := "LinkHouse$Tree", name := "has", desc := "(I)Z" } : Jvm.MethodName)) ∈ lw_tbl := sorry
theorem q1629 : (Jvm.Cond.instanceMethod ({ cls := "LinkHouse$Tree", name := "has", desc := "(I)Z" } : Jvm.MethodName)) ∈ lw_all := sorry
theorem q1630 : (Jvm.Cond.code ({ cls := "LinkHouse$Tree", name := "has", desc := "(I)Z" } : Jvm.MethodName) prog_9_method_15_code (2 : Nat) (Option.some Jvm.ClassFile.FieldType.boolean)) ∈ lw_all := sorry
theorem q1631 : (Jvm.Cond.methodLink "LinkHouse$Tree" (202 : Nat) ({ cls := "LinkHouse$Tree", name := "take", desc := "()I" } : Jvm.MethodName)) ∈ lw_all := sorry
theorem q1632 : (Jvm.Cond.privateMethod ({ cls := "LinkHouse$Tree", name := "take", desc := "()I" } : Jvm.MethodName)) ∈ lw_tbl := sorry
theorem q1633 : (Jvm.Cond.instanceMethod ({ cls := "LinkHouse$Tree", name := "take", desc := "()I" } : Jvm.MethodName)) ∈ lw_all := sorry
theorem q1634 : (Jvm.Cond.code ({ cls := "LinkHouse$Tree", name := "take", desc := "()I" } : Jvm.MethodName) prog_9_method_12_code (1 : Nat) (Option.some Jvm.ClassFile.FieldType.int)) ∈ lw_all := sorry
theorem q1635 : (Jvm.Cond.methodLink "LinkHouse$Tree" (195 : Nat) ({ cls := "LinkHouse$Tree", name := "refuse", desc := "(II)Ljava/lang/RuntimeException;" } : Jvm.MethodName)) ∈ lw_all := sorry
theorem q1636 : (Jvm.Cond.instanceMethod ({ cls := "LinkHouse$Tree", name := "refuse", desc := "(II)Ljava/lang/RuntimeException;" } : Jvm.MethodName)) ∈ lw_all := sorry
theorem q1637 : (Jvm.Cond.selects "LinkHouse$Tree" ({ cls := "LinkHouse$Tree", name := "refuse", desc := "(II)Ljava/lang/RuntimeException;" } : Jvm.MethodName) ({ cls := "LinkHouse$Tree", name := "refuse", desc := "(II)Ljava/lang/RuntimeException;" } : Jvm.MethodName)) ∈ lw_all := sorry
theorem q1638 : (Jvm.Cond.code ({ cls := "LinkHouse$Tree", name := "refuse", desc := "(II)Ljava/lang/RuntimeException;" } : Jvm.MethodName) prog_9_method_3_code (3 : Nat) (Option.some (Jvm.ClassFile.FieldType.object "java/lang/RuntimeException"))) ∈ lw_all := sorry
theorem q1639 : (Jvm.Cond.methodLink "LinkHouse$Tree" (216 : Nat) ({ cls := "LinkHouse$Tree", name := "want", desc := "(I)I" } : Jvm.MethodName)) ∈ lw_all := sorry
theorem q1640 : (Jvm.Cond.privateMethod ({ cls := "LinkHouse$Tree", name := "want", desc := "(I)I" } : Jvm.MethodName)) ∈ lw_tbl := sorry
theorem q1641 : (Jvm.Cond.instanceMethod ({ cls := "LinkHouse$Tree", name := "want", desc := "(I)I" } : Jvm.MethodName)) ∈ lw_all := sorry
theorem q1642 : (Jvm.Cond.code ({ cls := "LinkHouse$Tree", name := "want", desc := "(I)I" } : Jvm.MethodName) prog_9_method_14_code (2 : Nat) (Option.some Jvm.ClassFile.FieldType.int)) ∈ lw_all := sorry
theorem q1643 : (Jvm.Cond.methodLink "LinkHouse$Tree" (222 : Nat) ({ cls := "LinkHouse$Build", name := "more", desc := "()LLinkHouse$Kind;" } : Jvm.MethodName)) ∈ lw_all := sorry
theorem q1648 : (Jvm.Cond.methodLinkNest "LinkHouse$Tree" (235 : Nat) ({ cls := "LinkHouse", name := "packageOf", desc := "(J)I" } : Jvm.MethodName) "LinkHouse") ∈ lw_tbl := sorry
theorem q1652 : (Jvm.Cond.methodLink "LinkHouse$Tree" (266 : Nat) ({ cls := "LinkHouse$Tree", name := "row", desc := "(LLinkHouse$Kind;[JII)I" } : Jvm.MethodName)) ∈ lw_all := sorry
theorem q1653 : (Jvm.Cond.privateMethod ({ cls := "LinkHouse$Tree", name := "row", desc := "(LLinkHouse$Kind;[JII)I" } : Jvm.MethodName)) ∈ lw_tbl := sorry
theorem q1654 : (Jvm.Cond.instanceMethod ({ cls := "LinkHouse$Tree", name := "row", desc := "(LLinkHouse$Kind;[JII)I" } : Jvm.MethodName)) ∈ lw_all := sorry
theorem q1655 : (Jvm.Cond.code ({ cls := "LinkHouse$Tree", name := "row", desc := "(LLinkHouse$Kind;[JII)I" } : Jvm.MethodName) prog_9_method_20_code (6 : Nat) (Option.some Jvm.ClassFile.FieldType.int)) ∈ lw_all := sorry
theorem q1656 : (Jvm.Cond.methodLink "LinkHouse$Tree" (289 : Nat) ({ cls := "LinkHouse$Tree", name := "member", desc := "(LLinkHouse$Kind;)V" } : Jvm.MethodName)) ∈ lw_all := sorry
theorem q1657 : (Jvm.Cond.privateMethod ({ cls := "LinkHouse$Tree", name := "member", desc := "(LLinkHouse$Kind;)V" } : Jvm.MethodName)) ∈ lw_tbl := sorry
theorem q1658 : (Jvm.Cond.instanceMethod ({ cls := "LinkHouse$Tree", name := "member", desc := "(LLinkHouse$Kind;)V" } : Jvm.MethodName)) ∈ lw_all := sorry
theorem q1659 : (Jvm.Cond.code ({ cls := "LinkHouse$Tree", name := "member", desc := "(LLinkHouse$Kind;)V" } : Jvm.MethodName) prog_9_method_21_code (10 : Nat) (Option.none : Option Jvm.ClassFile.FieldType)) ∈ lw_all := sorry
theorem q1660 : (Jvm.Cond.methodLink "LinkHouse$Tree" (293 : Nat) ({ cls := "LinkHouse$Kind", name := "more", desc := "()LLinkHouse$Member;" } : Jvm.MethodName)) ∈ lw_all := sorry
theorem q1661 : (Jvm.Cond.methodLink "LinkHouse$Tree" (301 : Nat) ({ cls := "LinkHouse$Tree", name := "block", desc := "(LLinkHouse$Member;)V" } : Jvm.MethodName)) ∈ lw_all := sorry
theorem q1662 : (Jvm.Cond.privateMethod ({ cls := "LinkHouse$Tree", name := "block", desc := "(LLinkHouse$Member;)V" } : Jvm.MethodName)) ∈ lw_tbl := sorry
theorem q1663 : (Jvm.Cond.instanceMethod ({ cls := "LinkHouse$Tree", name := "block", desc := "(LLinkHouse$Member;)V" } : Jvm.MethodName)) ∈ lw_all := sorry
theorem q1664 : (Jvm.Cond.code ({ cls := "LinkHouse$Tree", name := "block", desc := "(LLinkHouse$Member;)V" } : Jvm.MethodName) prog_9_method_25_code (2 : Nat) (Option.none : Option Jvm.ClassFile.FieldType)) ∈ lw_all := sorry
theorem q1665 : (Jvm.Cond.methodLink "LinkHouse$Tree" (351 : Nat) ({ cls := "LinkHouse$Tree", name := "blockNode", desc := "()I" } : Jvm.MethodName)) ∈ lw_all := sorry
theorem q1666 : (Jvm.Cond.privateMethod ({ cls := "LinkHouse$Tree", name := "blockNode", desc := "()I" } : Jvm.MethodName)) ∈ lw_tbl := sorry
theorem q1667 : (Jvm.Cond.instanceMethod ({ cls := "LinkHouse$Tree", name := "blockNode", desc := "()I" } : Jvm.MethodName)) ∈ lw_all := sorry
theorem q1668 : (Jvm.Cond.code ({ cls := "LinkHouse$Tree", name := "blockNode", desc := "()I" } : Jvm.MethodName) prog_9_method_26_code (4 : Nat) (Option.some Jvm.ClassFile.FieldType.int)) ∈ lw_all := sorry
theorem q1669 : (Jvm.Cond.methodLink "LinkHouse$Tree" (354 : Nat) ({ cls := "LinkHouse$Tree", name := "enter", desc := "(Z)V" } : Jvm.MethodName)) ∈ lw_all := sorry
theorem q1670 : (Jvm.Cond.privateMethod ({ cls := "LinkHouse$Tree", name := "enter", desc := "(Z)V" } : Jvm.MethodName)) ∈ lw_tbl := sorry
theorem q1671 : (Jvm.Cond.instanceMethod ({ cls := "LinkHouse$Tree", name := "enter", desc := "(Z)V" } : Jvm.MethodName)) ∈ lw_all := sorry
theorem q1672 : (Jvm.Cond.code ({ cls := "LinkHouse$Tree", name := "enter", desc := "(Z)V" } : Jvm.MethodName) prog_9_method_16_code (2 : Nat) (Option.none : Option Jvm.ClassFile.FieldType)) ∈ lw_all := sorry
theorem q1673 : (Jvm.Cond.methodLink "LinkHouse$Tree" (357 : Nat) ({ cls := "LinkHouse$Tree", name := "more", desc := "(II)I" } : Jvm.MethodName)) ∈ lw_all := sorry
theorem q1674 : (Jvm.Cond.privateMethod ({ cls := "LinkHouse$Tree", name := "more", desc := "(II)I" } : Jvm.MethodName)) ∈ lw_tbl := sorry
theorem q1675 : (Jvm.Cond.instanceMethod ({ cls := "LinkHouse$Tree", name := "more", desc := "(II)I" } : Jvm.MethodName)) ∈ lw_all := sorry
theorem q1676 : (Jvm.Cond.code ({ cls := "LinkHouse$Tree", name := "more", desc := "(II)I" } : Jvm.MethodName) prog_9_method_17_code (3 : Nat) (Option.some Jvm.ClassFile.FieldType.int)) ∈ lw_all := sorry
theorem q1677 : (Jvm.Cond.methodLink "LinkHouse$Tree" (360 : Nat) ({ cls := "LinkHouse$Tree", name := "statement", desc := "()I" } : Jvm.MethodName)) ∈ lw_all := sorry
theorem q1678 : (Jvm.Cond.privateMethod ({ cls := "LinkHouse$Tree", name := "statement", desc := "()I" } : Jvm.MethodName)) ∈ lw_tbl := sorry
theorem q1679 : (Jvm.Cond.instanceMethod ({ cls := "LinkHouse$Tree", name := "statement", desc := "()I" } : Jvm.MethodName)) ∈ lw_all := sorry
theorem q1680 : (Jvm.Cond.code ({ cls := "LinkHouse$Tree", name := "statement", desc := "()I" } : Jvm.MethodName) prog_9_method_28_code (4 : Nat) (Option.some Jvm.ClassFile.FieldType.int)) ∈ lw_all := sorry
theorem q1681 : (Jvm.Cond.methodLink "LinkHouse$Tree" (363 : Nat) ({ cls := "LinkHouse$Tree", name := "canBeginExp", desc := "(I)Z" } : Jvm.MethodName)) ∈ lw_all := sorry
theorem q1682 : (Jvm.Cond.privateMethod ({ cls := "LinkHouse$Tree", name := "canBeginExp", desc := "(I)Z" } : Jvm.MethodName)) ∈ lw_tbl := sorry
theorem q1683 : (Jvm.Cond.instanceMethod ({ cls := "LinkHouse$Tree", name := "canBeginExp", desc := "(I)Z" } : Jvm.MethodName)) ∈ lw_all := sorry
theorem q1684 : (Jvm.Cond.code ({ cls := "LinkHouse$Tree", name := "canBeginExp", desc := "(I)Z" } : Jvm.MethodName) prog_9_method_27_code (2 : Nat) (Option.some Jvm.ClassFile.FieldType.boolean)) ∈ lw_all := sorry
theorem q1685 : (Jvm.Cond.methodLink "LinkHouse$Tree" (311 : Nat) ({ cls := "LinkHouse$Tree", name := "type", desc := "()I" } : Jvm.MethodName)) ∈ lw_all := sorry
theorem q1686 : (Jvm.Cond.privateMethod ({ cls := "LinkHouse$Tree", name := "type", desc := "()I" } : Jvm.MethodName)) ∈ lw_tbl := sorry
theorem q1687 : (Jvm.Cond.instanceMethod ({ cls := "LinkHouse$Tree", name := "type", desc := "()I" } : Jvm.MethodName)) ∈ lw_all := sorry
theorem q1688 : (Jvm.Cond.code ({ cls := "LinkHouse$Tree", name := "type", desc := "()I" } : Jvm.MethodName) prog_9_method_22_code (1 : Nat) (Option.some Jvm.ClassFile.FieldType.int)) ∈ lw_all := sorry
theorem q1689 : (Jvm.Cond.methodLink "LinkHouse$Tree" (332 : Nat) ({ cls := "LinkHouse$Tree", name := "exp", desc := "()I" } : Jvm.MethodName)) ∈ lw_all := sorry
theorem q1690 : (Jvm.Cond.privateMethod ({ cls := "LinkHouse$Tree", name := "exp", desc := "()I" } : Jvm.MethodName)) ∈ lw_tbl := sorry
theorem q1691 : (Jvm.Cond.instanceMethod ({ cls := "LinkHouse$Tree", name := "exp", desc := "()I" } : Jvm.MethodName)) ∈ lw_all := sorry
theorem q1692 : (Jvm.Cond.code ({ cls := "LinkHouse$Tree", name := "exp", desc := "()I" } : Jvm.MethodName) prog_9_method_31_code (2 : Nat) (Option.some Jvm.ClassFile.FieldType.int)) ∈ lw_all := sorry
theorem q1693 : (Jvm.Cond.methodLink "LinkHouse$Tree" (375 : Nat) ({ cls := "LinkHouse$Tree", name := "expBehind", desc := "()I" } : Jvm.MethodName)) ∈ lw_all := sorry
theorem q1694 : (Jvm.Cond.privateMethod ({ cls := "LinkHouse$Tree", name := "expBehind", desc := "()I" } : Jvm.MethodName)) ∈ lw_tbl := sorry
theorem q1695 : (Jvm.Cond.instanceMethod ({ cls := "LinkHouse$Tree", name := "expBehind", desc := "()I" } : Jvm.MethodName)) ∈ lw_all := sorry
theorem q1696 : (Jvm.Cond.code ({ cls := "LinkHouse$Tree", name := "expBehind", desc := "()I" } : Jvm.MethodName) prog_9_method_32_code (2 : Nat) (Option.some Jvm.ClassFile.FieldType.int)) ∈ lw_all := sorry
theorem q1697 : (Jvm.Cond.methodLink "LinkHouse$Tree" (378 : Nat) ({ cls := "LinkHouse$Tree", name := "sum", desc := "()I" } : Jvm.MethodName)) ∈ lw_all := sorry
theorem q1698 : (Jvm.Cond.privateMethod ({ cls := "LinkHouse$Tree", name := "sum", desc := "()I" } : Jvm.MethodName)) ∈ lw_tbl := sorry
theorem q1699 : (Jvm.Cond.instanceMethod ({ cls := "LinkHouse$Tree", name := "sum", desc := "()I" } : Jvm.MethodName)) ∈ lw_all := sorry
theorem q1700 : (Jvm.Cond.code ({ cls := "LinkHouse$Tree", name := "sum", desc := "()I" } : Jvm.MethodName) prog_9_method_34_code (3 : Nat) (Option.some Jvm.ClassFile.FieldType.int)) ∈ lw_all := sorry
theorem q1701 : (Jvm.Cond.methodLink "LinkHouse$Tree" (385 : Nat) ({ cls := "LinkHouse$Tree", name := "product", desc := "()I" } : Jvm.MethodName)) ∈ lw_all := sorry
theorem q1702 : (Jvm.Cond.privateMethod ({ cls := "LinkHouse$Tree", name := "product", desc := "()I" } : Jvm.MethodName)) ∈ lw_tbl := sorry
theorem q1703 : (Jvm.Cond.instanceMethod ({ cls := "LinkHouse$Tree", name := "product", desc := "()I" } : Jvm.MethodName)) ∈ lw_all := sorry
theorem q1704 : (Jvm.Cond.code ({ cls := "LinkHouse$Tree", name := "product", desc := "()I" } : Jvm.MethodName) prog_9_method_35_code (2 : Nat) (Option.some Jvm.ClassFile.FieldType.int)) ∈ lw_all := sorry
theorem q1705 : (Jvm.Cond.methodLink "LinkHouse$Tree" (388 : Nat) ({ cls := "LinkHouse$Tree", name := "unit", desc := "()I" } : Jvm.MethodName)) ∈ lw_all := sorry
theorem q1706 : (Jvm.Cond.privateMethod ({ cls := "LinkHouse$Tree", name := "unit", desc := "()I" } : Jvm.MethodName)) ∈ lw_tbl := sorry
theorem q1707 : (Jvm.Cond.instanceMethod ({ cls := "LinkHouse$Tree", name := "unit", desc := "()I" } : Jvm.MethodName)) ∈ lw_all := sorry
theorem q1708 : (Jvm.Cond.code ({ cls := "LinkHouse$Tree", name := "unit", desc := "()I" } : Jvm.MethodName) prog_9_method_36_code (4 : Nat) (Option.some Jvm.ClassFile.FieldType.int)) ∈ lw_all := sorry
theorem q1709 : (Jvm.Cond.methodLink "LinkHouse$Tree" (391 : Nat) ({ cls := "LinkHouse$Tree", name := "first", desc := "()I" } : Jvm.MethodName)) ∈ lw_all := sorry
theorem q1710 : (Jvm.Cond.privateMethod ({ cls := "LinkHouse$Tree", name := "first", desc := "()I" } : Jvm.MethodName)) ∈ lw_tbl := sorry
theorem q1711 : (Jvm.Cond.instanceMethod ({ cls := "LinkHouse$Tree", name := "first", desc := "()I" } : Jvm.MethodName)) ∈ lw_all := sorry
theorem q1712 : (Jvm.Cond.code ({ cls := "LinkHouse$Tree", name := "first", desc := "()I" } : Jvm.MethodName) prog_9_method_37_code (4 : Nat) (Option.some Jvm.ClassFile.FieldType.int)) ∈ lw_all := sorry
theorem q1713 : (Jvm.Cond.methodLink "LinkHouse$Tree" (394 : Nat) ({ cls := "LinkHouse$Tree", name := "superCall", desc := "(I)I" } : Jvm.MethodName)) ∈ lw_all := sorry
theorem q1714 : (Jvm.Cond.privateMethod ({ cls := "LinkHouse$Tree", name := "superCall", desc := "(I)I" } : Jvm.MethodName)) ∈ lw_tbl := sorry
theorem q1715 : (Jvm.Cond.instanceMethod ({ cls := "LinkHouse$Tree", name := "superCall", desc := "(I)I" } : Jvm.MethodName)) ∈ lw_all := sorry
theorem q1716 : (Jvm.Cond.code ({ cls := "LinkHouse$Tree", name := "superCall", desc := "(I)I" } : Jvm.MethodName) prog_9_method_38_code (2 : Nat) (Option.some Jvm.ClassFile.FieldType.int)) ∈ lw_all := sorry
theorem q1717 : (Jvm.Cond.methodLink "LinkHouse$Tree" (372 : Nat) ({ cls := "LinkHouse$Tree", name := "args", desc := "()I" } : Jvm.MethodName)) ∈ lw_all := sorry
theorem q1718 : (Jvm.Cond.privateMethod ({ cls := "LinkHouse$Tree", name := "args", desc := "()I" } : Jvm.MethodName)) ∈ lw_tbl := sorry
theorem q1719 : (Jvm.Cond.instanceMethod ({ cls := "LinkHouse$Tree", name := "args", desc := "()I" } : Jvm.MethodName)) ∈ lw_all := sorry
theorem q1720 : (Jvm.Cond.code ({ cls := "LinkHouse$Tree", name := "args", desc := "()I" } : Jvm.MethodName) prog_9_method_30_code (3 : Nat) (Option.some Jvm.ClassFile.FieldType.int)) ∈ lw_all := sorry
theorem q1721 : (Jvm.Cond.methodLink "LinkHouse$Tree" (397 : Nat) ({ cls := "LinkHouse$Tree", name := "ofKind", desc := "(I)I" } : Jvm.MethodName)) ∈ lw_all := sorry
theorem q1722 : (Jvm.Cond.privateMethod ({ cls := "LinkHouse$Tree", name := "ofKind", desc := "(I)I" } : Jvm.MethodName)) ∈ lw_tbl := sorry
theorem q1723 : (Jvm.Cond.instanceMethod ({ cls := "LinkHouse$Tree", name := "ofKind", desc := "(I)I" } : Jvm.MethodName)) ∈ lw_all := sorry
theorem q1724 : (Jvm.Cond.code ({ cls := "LinkHouse$Tree", name := "ofKind", desc := "(I)I" } : Jvm.MethodName) prog_9_method_39_code (4 : Nat) (Option.some Jvm.ClassFile.FieldType.int)) ∈ lw_all := sorry
theorem q1725 : (Jvm.Cond.methodLink "LinkHouse$Tree" (400 : Nat) ({ cls := "LinkHouse$Tree", name := "around", desc := "(I)I" } : Jvm.MethodName)) ∈ lw_all := sorry
theorem q1726 : (Jvm.Cond.privateMethod ({ cls := "LinkHouse$Tree", name := "around", desc := "(I)I" } : Jvm.MethodName)) ∈ lw_tbl := sorry
theorem q1727 : (Jvm.Cond.instanceMethod ({ cls := "LinkHouse$Tree", name := "around", desc := "(I)I" } : Jvm.MethodName)) ∈ lw_all := sorry
theorem q1728 : (Jvm.Cond.code ({ cls := "LinkHouse$Tree", name := "around", desc := "(I)I" } : Jvm.MethodName) prog_9_method_40_code (4 : Nat) (Option.some Jvm.ClassFile.FieldType.int)) ∈ lw_all := sorry
theorem q1729 : (Jvm.Cond.methodLink "LinkHouse$Tree" (369 : Nat) ({ cls := "LinkHouse$Tree", name := "isNext", desc := "(I)Z" } : Jvm.MethodName)) ∈ lw_all := sorry
theorem q1730 : (Jvm.Cond.privateMethod ({ cls := "LinkHouse$Tree", name := "isNext", desc := "(I)Z" } : Jvm.MethodName)) ∈ lw_tbl := sorry
theorem q1731 : (Jvm.Cond.instanceMethod ({ cls := "LinkHouse$Tree", name := "isNext", desc := "(I)Z" } : Jvm.MethodName)) ∈ lw_all := sorry
theorem q1732 : (Jvm.Cond.code ({ cls := "LinkHouse$Tree", name := "isNext", desc := "(I)Z" } : Jvm.MethodName) prog_9_method_13_code (3 : Nat) (Option.some Jvm.ClassFile.FieldType.boolean)) ∈ lw_all := sorry
theorem q1733 : (Jvm.Cond.methodLink "LinkHouse$Tree" (381 : Nat) ({ cls := "LinkHouse$Tree", name := "pair", desc := "(III)I" } : Jvm.MethodName)) ∈ lw_all := sorry
theorem q1734 : (Jvm.Cond.privateMethod ({ cls := "LinkHouse$Tree", name := "pair", desc := "(III)I" } : Jvm.MethodName)) ∈ lw_tbl := sorry
theorem q1735 : (Jvm.Cond.instanceMethod ({ cls := "LinkHouse$Tree", name := "pair", desc := "(III)I" } : Jvm.MethodName)) ∈ lw_all := sorry
theorem q1736 : (Jvm.Cond.code ({ cls := "LinkHouse$Tree", name := "pair", desc := "(III)I" } : Jvm.MethodName) prog_9_method_33_code (5 : Nat) (Option.some Jvm.ClassFile.FieldType.int)) ∈ lw_all := sorry
theorem q1737 : (Jvm.Cond.methodLink "LinkHouse$Tree" (366 : Nat) ({ cls := "LinkHouse$Tree", name := "alone", desc := "(I)I" } : Jvm.MethodName)) ∈ lw_all := sorry
theorem q1738 : (Jvm.Cond.privateMethod ({ cls := "LinkHouse$Tree", name := "alone", desc := "(I)I" } : Jvm.MethodName)) ∈ lw_tbl := sorry
theorem q1739 : (Jvm.Cond.instanceMethod ({ cls := "LinkHouse$Tree", name := "alone", desc := "(I)I" } : Jvm.MethodName)) ∈ lw_all := sorry
theorem q1740 : (Jvm.Cond.code ({ cls := "LinkHouse$Tree", name := "alone", desc := "(I)I" } : Jvm.MethodName) prog_9_method_29_code (5 : Nat) (Option.some Jvm.ClassFile.FieldType.int)) ∈ lw_all := sorry
theorem q1741 : (Jvm.Cond.methodLink "LinkHouse$Tree" (308 : Nat) ({ cls := "LinkHouse$Tree", name := "params", desc := "(LLinkHouse$Member;)V" } : Jvm.MethodName)) ∈ lw_all := sorry
theorem q1742 : (Jvm.Cond.privateMethod ({ cls := "LinkHouse$Tree", name := "params", desc := "(LLinkHouse$Member;)V" } : Jvm.MethodName)) ∈ lw_tbl := sorry
theorem q1743 : (Jvm.Cond.instanceMethod ({ cls := "LinkHouse$Tree", name := "params", desc := "(LLinkHouse$Member;)V" } : Jvm.MethodName)) ∈ lw_all := sorry
theorem q1744 : (Jvm.Cond.code ({ cls := "LinkHouse$Tree", name := "params", desc := "(LLinkHouse$Member;)V" } : Jvm.MethodName) prog_9_method_24_code (4 : Nat) (Option.none : Option Jvm.ClassFile.FieldType)) ∈ lw_all := sorry
theorem q1745 : (Jvm.Cond.methodLink "LinkHouse$Tree" (323 : Nat) ({ cls := "LinkHouse$Tree", name := "typeOf", desc := "(I)J" } : Jvm.MethodName)) ∈ lw_all := sorry
theorem q1746 : (Jvm.Cond.instanceMethod ({ cls := "LinkHouse$Tree", name := "typeOf", desc := "(I)J" } : Jvm.MethodName)) ∈ lw_all := sorry
theorem q1747 : (Jvm.Cond.selects "LinkHouse$Tree" ({ cls := "LinkHouse$Tree", name := "typeOf", desc := "(I)J" } : Jvm.MethodName) ({ cls := "LinkHouse$Tree", name := "typeOf", desc := "(I)J" } : Jvm.MethodName)) ∈ lw_all := sorry
theorem q1748 : (Jvm.Cond.code ({ cls := "LinkHouse$Tree", name := "typeOf", desc := "(I)J" } : Jvm.MethodName) prog_9_method_23_code (2 : Nat) (Option.some Jvm.ClassFile.FieldType.long)) ∈ lw_all := sorry
theorem in_X5 : ∀ w ∈ wsX50, w ∈ lw_all := sorry
/-! LinkHouse$Judge -/
def RX6 : String := "LinkHouse$Judge"
def TX6 : u_T := fun k => match k with
  | 0 => ("LinkHouse$Judge", "tree", "LLinkHouse$Tree;", true)
  | 1 => ("LinkHouse$Judge", "w", "LLinkHouse$World;", true)
  | 2 => ("LinkHouse$Judge", "b", "LLinkHouse$Build;", false)
  | 3 => ("LinkHouse$Judge", "d", "LLinkHouse$Kind;", false)
  | 4 => ("LinkHouse$Judge", "at", "LLinkHouse$Member;", false)
  | 5 => ("LinkHouse$Judge", "isStatic", "Z", false)
  | 6 => ("LinkHouse$Judge", "type", "[J", true)
  | 7 => ("LinkHouse$Judge", "means", "[LLinkHouse$Member;", true)
  | 8 => ("LinkHouse$Judge", "named", "[LLinkHouse$Kind;", true)
  | 9 => ("LinkHouse$Judge", "slot", "[I", true)
  | 10 => ("LinkHouse$Judge", "local", "[J", true)
  | 11 => ("LinkHouse$Judge", "localType", "[J", true)
  | 12 => ("LinkHouse$Judge", "localSlot", "[I", true)
  | 13 => ("LinkHouse$Judge", "locals", "I", false)
  | 14 => ("LinkHouse$Judge", "slots", "I", false)
  | 15 => ("LinkHouse$Judge", "candidate", "[LLinkHouse$Member;", true)
  | 16 => ("LinkHouse$Judge", "candidates", "I", false)
  | 17 => ("LinkHouse$Judge", "faceKept", "[LLinkHouse$Kind;", true)
  | 18 => ("LinkHouse$Judge", "amount", "I", false)
  | _ => ("LinkHouse$Judge", "fresh", "LLinkHouse$Use;", true)
def tyX6 : Nat → FieldType := fun k => match k with
  | 0 => .object "LinkHouse$Tree"
  | 1 => .object "LinkHouse$World"
  | 2 => .object "LinkHouse$Build"
  | 3 => .object "LinkHouse$Kind"
  | 4 => .object "LinkHouse$Member"
  | 5 => .boolean
  | 6 => .array .long
  | 7 => .array (.object "LinkHouse$Member")
  | 8 => .array (.object "LinkHouse$Kind")
  | 9 => .array .int
  | 10 => .array .long
  | 11 => .array .long
  | 12 => .array .int
  | 13 => .int
  | 14 => .int
  | 15 => .array (.object "LinkHouse$Member")
  | 16 => .int
  | 17 => .array (.object "LinkHouse$Kind")
  | 18 => .int
  | _ => .object "LinkHouse$Use"
abbrev wsX60 : List Cond := u_ws RX6 TX6 20
set_option maxRecDepth 100000 in
theorem nmX6 : ∀ a, a < 20 → ∀ b, b < 20 → a ≠ b → (TX6 a).2.1 ≠ (TX6 b).2.1 := sorry
set_option maxRecDepth 100000 in
theorem tyX6_ok : ∀ k, k < 20 → parseFieldDescriptor (TX6 k).2.2.1 = some (tyX6 k) := sorry
abbrev cX6_init : ByteArray := prog_3_method_1_code
def yX6_init : MethodName := ⟨RX6, "<init>", "(LLinkHouse$Tree;LLinkHouse$World;)V"⟩
abbrev cX6_all : ByteArray := prog_3_method_3_code
def yX6_all : MethodName := ⟨RX6, "all", "(LLinkHouse$Build;)V"⟩
abbrev cX6_head : ByteArray := prog_3_method_4_code
def yX6_head : MethodName := ⟨RX6, "head", "(LLinkHouse$Kind;)V"⟩
abbrev cX6_refuse : ByteArray := prog_3_method_2_code
def yX6_refuse : MethodName := ⟨RX6, "refuse", "(II)Ljava/lang/RuntimeException;"⟩
abbrev cX6_ofText : ByteArray := prog_3_method_5_code
def yX6_ofText : MethodName := ⟨RX6, "ofText", "(J)LLinkHouse$Kind;"⟩
abbrev cX6_member : ByteArray := prog_3_method_6_code
def yX6_member : MethodName := ⟨RX6, "member", "(LLinkHouse$Member;I)V"⟩
abbrev cX6_mayBe : ByteArray := prog_3_method_8_code
def yX6_mayBe : MethodName := ⟨RX6, "mayBe", "(LLinkHouse$Member;)Z"⟩
abbrev cX6_typeAt : ByteArray := prog_3_method_9_code
def yX6_typeAt : MethodName := ⟨RX6, "typeAt", "(I)V"⟩
abbrev cX6_kindAt : ByteArray := prog_3_method_10_code
def yX6_kindAt : MethodName := ⟨RX6, "kindAt", "(I)LLinkHouse$Kind;"⟩
abbrev cX6_slotOf : ByteArray := prog_3_method_7_code
def yX6_slotOf : MethodName := ⟨RX6, "slotOf", "(LLinkHouse$Member;I)I"⟩
abbrev cX6_above : ByteArray := prog_3_method_12_code
def yX6_above : MethodName := ⟨RX6, "above", "(LLinkHouse$Member;)V"⟩
abbrev cX6_against : ByteArray := prog_3_method_13_code
def yX6_against : MethodName := ⟨RX6, "against", "(LLinkHouse$Member;LLinkHouse$Kind;)V"⟩
abbrev cX6_isAbove : ByteArray := prog_3_method_11_code
def yX6_isAbove : MethodName := ⟨RX6, "isAbove", "(LLinkHouse$Member;LLinkHouse$Member;)Z"⟩
abbrev cX6_defaultMaker : ByteArray := prog_3_method_14_code
def yX6_defaultMaker : MethodName := ⟨RX6, "defaultMaker", "()V"⟩
abbrev cX6_bridges : ByteArray := prog_3_method_15_code
def yX6_bridges : MethodName := ⟨RX6, "bridges", "()V"⟩
abbrev cX6_bridgesTo : ByteArray := prog_3_method_16_code
def yX6_bridgesTo : MethodName := ⟨RX6, "bridgesTo", "(LLinkHouse$Member;LLinkHouse$Kind;)V"⟩
abbrev cX6_bridge : ByteArray := prog_3_method_17_code
def yX6_bridge : MethodName := ⟨RX6, "bridge", "(LLinkHouse$Kind;LLinkHouse$Member;J)LLinkHouse$Member;"⟩
abbrev cX6_left : ByteArray := prog_3_method_18_code
def yX6_left : MethodName := ⟨RX6, "left", "()V"⟩
abbrev cX6_isDone : ByteArray := prog_3_method_19_code
def yX6_isDone : MethodName := ⟨RX6, "isDone", "(LLinkHouse$Kind;)V"⟩
abbrev cX6_constants : ByteArray := prog_3_method_20_code
def yX6_constants : MethodName := ⟨RX6, "constants", "()V"⟩
abbrev cX6_isConstant : ByteArray := prog_3_method_21_code
def yX6_isConstant : MethodName := ⟨RX6, "isConstant", "(I)Z"⟩
abbrev cX6_isKnown : ByteArray := prog_3_method_23_code
def yX6_isKnown : MethodName := ⟨RX6, "isKnown", "(LLinkHouse$Kind;J)Z"⟩
abbrev cX6_reckoned : ByteArray := prog_3_method_22_code
def yX6_reckoned : MethodName := ⟨RX6, "reckoned", "(III)I"⟩
abbrev cX6_bodies : ByteArray := prog_3_method_24_code
def yX6_bodies : MethodName := ⟨RX6, "bodies", "()V"⟩
abbrev cX6_needs : ByteArray := prog_3_method_50_code
def yX6_needs : MethodName := ⟨RX6, "needs", "(IJ)I"⟩
abbrev cX6_needs_2 : ByteArray := prog_3_method_51_code
def yX6_needs_2 : MethodName := ⟨RX6, "needs", "(IJJLLinkHouse$Member;)I"⟩
abbrev cX6_useOf : ByteArray := prog_3_method_52_code
def yX6_useOf : MethodName := ⟨RX6, "useOf", "(LLinkHouse$Build;LLinkHouse$Kind;LLinkHouse$Use;)I"⟩
abbrev cX6_body : ByteArray := prog_3_method_25_code
def yX6_body : MethodName := ⟨RX6, "body", "()V"⟩
abbrev cX6_writeBridge : ByteArray := prog_3_method_65_code
def yX6_writeBridge : MethodName := ⟨RX6, "writeBridge", "(LLinkHouse$Build;LLinkHouse$Kind;LLinkHouse$Member;)V"⟩
abbrev cX6_callOf : ByteArray := prog_3_method_56_code
def yX6_callOf : MethodName := ⟨RX6, "callOf", "(LLinkHouse$Kind;)I"⟩
abbrev cX6_emit : ByteArray := prog_3_method_49_code
def yX6_emit : MethodName := ⟨RX6, "emit", "(II)V"⟩
abbrev cX6_fit : ByteArray := prog_3_method_53_code
def yX6_fit : MethodName := ⟨RX6, "fit", "(JJ)V"⟩
abbrev cX6_check : ByteArray := prog_3_method_38_code
def yX6_check : MethodName := ⟨RX6, "check", "(I)V"⟩
abbrev cX6_checkName : ByteArray := prog_3_method_40_code
def yX6_checkName : MethodName := ⟨RX6, "checkName", "(I)V"⟩
abbrev cX6_asField : ByteArray := prog_3_method_42_code
def yX6_asField : MethodName := ⟨RX6, "asField", "(ILLinkHouse$Kind;)V"⟩
abbrev cX6_objectAt : ByteArray := prog_3_method_41_code
def yX6_objectAt : MethodName := ⟨RX6, "objectAt", "(I)LLinkHouse$Kind;"⟩
abbrev cX6_isObject : ByteArray := prog_3_method_36_code
def yX6_isObject : MethodName := ⟨RX6, "isObject", "(J)Z"⟩
abbrev cX6_checkArgs : ByteArray := prog_3_method_35_code
def yX6_checkArgs : MethodName := ⟨RX6, "checkArgs", "(I)V"⟩
abbrev cX6_asCall : ByteArray := prog_3_method_43_code
def yX6_asCall : MethodName := ⟨RX6, "asCall", "(ILLinkHouse$Kind;)V"⟩
abbrev cX6_method : ByteArray := prog_3_method_33_code
def yX6_method : MethodName := ⟨RX6, "method", "(LLinkHouse$Kind;JI)LLinkHouse$Member;"⟩
abbrev cX6_candidatesOf : ByteArray := prog_3_method_34_code
def yX6_candidatesOf : MethodName := ⟨RX6, "candidatesOf", "(LLinkHouse$Kind;LLinkHouse$Kind;JI)V"⟩
abbrev cX6_takes : ByteArray := prog_3_method_31_code
def yX6_takes : MethodName := ⟨RX6, "takes", "(LLinkHouse$Member;I)Z"⟩
abbrev cX6_best : ByteArray := prog_3_method_32_code
def yX6_best : MethodName := ⟨RX6, "best", "()LLinkHouse$Member;"⟩
abbrev cX6_checkSuper : ByteArray := prog_3_method_44_code
def yX6_checkSuper : MethodName := ⟨RX6, "checkSuper", "(ILLinkHouse$Kind;I)V"⟩
abbrev cX6_checkNew : ByteArray := prog_3_method_45_code
def yX6_checkNew : MethodName := ⟨RX6, "checkNew", "(I)V"⟩
abbrev cX6_maker : ByteArray := prog_3_method_30_code
def yX6_maker : MethodName := ⟨RX6, "maker", "(LLinkHouse$Kind;I)LLinkHouse$Member;"⟩
abbrev cX6_checkChain : ByteArray := prog_3_method_39_code
def yX6_checkChain : MethodName := ⟨RX6, "checkChain", "(I)V"⟩
abbrev cX6_expect : ByteArray := prog_3_method_37_code
def yX6_expect : MethodName := ⟨RX6, "expect", "(IJ)V"⟩
abbrev cX6_write : ByteArray := prog_3_method_57_code
def yX6_write : MethodName := ⟨RX6, "write", "(I)V"⟩
abbrev cX6_writeGet : ByteArray := prog_3_method_59_code
def yX6_writeGet : MethodName := ⟨RX6, "writeGet", "(I)V"⟩
abbrev cX6_writeArgs : ByteArray := prog_3_method_54_code
def yX6_writeArgs : MethodName := ⟨RX6, "writeArgs", "(ILLinkHouse$Member;)V"⟩
abbrev cX6_writeCall : ByteArray := prog_3_method_55_code
def yX6_writeCall : MethodName := ⟨RX6, "writeCall", "(II)V"⟩
abbrev cX6_writeChain : ByteArray := prog_3_method_58_code
def yX6_writeChain : MethodName := ⟨RX6, "writeChain", "(I)V"⟩
abbrev cX6_paramsOf : ByteArray := prog_3_method_26_code
def yX6_paramsOf : MethodName := ⟨RX6, "paramsOf", "(LLinkHouse$Member;)V"⟩
abbrev cX6_know : ByteArray := prog_3_method_27_code
def yX6_know : MethodName := ⟨RX6, "know", "(JJI)V"⟩
abbrev cX6_statement : ByteArray := prog_3_method_46_code
def yX6_statement : MethodName := ⟨RX6, "statement", "(I)V"⟩
abbrev cX6_firstOf : ByteArray := prog_3_method_28_code
def yX6_firstOf : MethodName := ⟨RX6, "firstOf", "(LLinkHouse$Member;)I"⟩
abbrev cX6_checkPut : ByteArray := prog_3_method_47_code
def yX6_checkPut : MethodName := ⟨RX6, "checkPut", "(I)V"⟩
abbrev cX6_isCompleted : ByteArray := prog_3_method_48_code
def yX6_isCompleted : MethodName := ⟨RX6, "isCompleted", "(I)Z"⟩
abbrev cX6_writeStatement : ByteArray := prog_3_method_60_code
def yX6_writeStatement : MethodName := ⟨RX6, "writeStatement", "(I)V"⟩
abbrev cX6_writeTry : ByteArray := prog_3_method_61_code
def yX6_writeTry : MethodName := ⟨RX6, "writeTry", "(I)V"⟩
abbrev cX6_writeSuper : ByteArray := prog_3_method_63_code
def yX6_writeSuper : MethodName := ⟨RX6, "writeSuper", "(LLinkHouse$Kind;LLinkHouse$Member;I)V"⟩
abbrev cX6_writeFirst : ByteArray := prog_3_method_64_code
def yX6_writeFirst : MethodName := ⟨RX6, "writeFirst", "()V"⟩
abbrev cX6_writePut : ByteArray := prog_3_method_62_code
def yX6_writePut : MethodName := ⟨RX6, "writePut", "(I)V"⟩
abbrev cX6_makerBody : ByteArray := prog_3_method_29_code
def yX6_makerBody : MethodName := ⟨RX6, "makerBody", "(LLinkHouse$Member;)V"⟩
theorem q406 : (Jvm.Cond.initialized "LinkHouse$Judge") ∈ lw_all := sorry
theorem q439 : (Jvm.Cond.fieldLinkNest "LinkHouse$Judge" (195 : Nat) "LinkHouse$Member" "sort" "I" "LinkHouse") ∈ lw_tbl := sorry
theorem q446 : (Jvm.Cond.fieldLinkNest "LinkHouse$Judge" (220 : Nat) "LinkHouse$Member" "title" "J" "LinkHouse") ∈ lw_tbl := sorry
theorem q452 : (Jvm.Cond.fieldLinkNest "LinkHouse$Judge" (236 : Nat) "LinkHouse$Member" "access" "I" "LinkHouse") ∈ lw_tbl := sorry
theorem q457 : (Jvm.Cond.fieldLinkNest "LinkHouse$Judge" (198 : Nat) "LinkHouse$Member" "isStatic" "Z" "LinkHouse") ∈ lw_tbl := sorry
theorem q466 : (Jvm.Cond.fieldLinkNest "LinkHouse$Judge" (201 : Nat) "LinkHouse$Member" "isFinal" "Z" "LinkHouse") ∈ lw_tbl := sorry
theorem q471 : (Jvm.Cond.fieldLinkNest "LinkHouse$Judge" (205 : Nat) "LinkHouse$Member" "isBare" "Z" "LinkHouse") ∈ lw_tbl := sorry
theorem q478 : (Jvm.Cond.fieldLinkNest "LinkHouse$Judge" (255 : Nat) "LinkHouse$Member" "isBridge" "Z" "LinkHouse") ∈ lw_tbl := sorry
theorem q484 : (Jvm.Cond.fieldLinkNest "LinkHouse$Judge" (279 : Nat) "LinkHouse$Member" "type" "J" "LinkHouse") ∈ lw_tbl := sorry
theorem q488 : (Jvm.Cond.fieldLinkNest "LinkHouse$Judge" (214 : Nat) "LinkHouse$Member" "params" "I" "LinkHouse") ∈ lw_tbl := sorry
theorem q493 : (Jvm.Cond.fieldLinkNest "LinkHouse$Judge" (309 : Nat) "LinkHouse$Member" "param" "[J" "LinkHouse") ∈ lw_tbl := sorry
theorem q498 : (Jvm.Cond.fieldLinkNest "LinkHouse$Judge" (438 : Nat) "LinkHouse$Member" "called" "[J" "LinkHouse") ∈ lw_tbl := sorry
theorem q500 : (Jvm.Cond.fieldLinkNest "LinkHouse$Judge" (217 : Nat) "LinkHouse$Member" "paramAt" "[I" "LinkHouse") ∈ lw_tbl := sorry
theorem q505 : (Jvm.Cond.fieldLinkNest "LinkHouse$Judge" (332 : Nat) "LinkHouse$Member" "isConstant" "Z" "LinkHouse") ∈ lw_tbl := sorry
theorem q511 : (Jvm.Cond.fieldLinkNest "LinkHouse$Judge" (329 : Nat) "LinkHouse$Member" "constant" "I" "LinkHouse") ∈ lw_tbl := sorry
theorem q514 : (Jvm.Cond.fieldLinkNest "LinkHouse$Judge" (194 : Nat) "LinkHouse$Member" "at" "I" "LinkHouse") ∈ lw_tbl := sorry
theorem q517 : (Jvm.Cond.fieldLinkNest "LinkHouse$Judge" (208 : Nat) "LinkHouse$Member" "typeAt" "I" "LinkHouse") ∈ lw_tbl := sorry
theorem q526 : (Jvm.Cond.fieldLinkNest "LinkHouse$Judge" (202 : Nat) "LinkHouse$Member" "node" "I" "LinkHouse") ∈ lw_tbl := sorry
theorem q530 : (Jvm.Cond.fieldLinkNest "LinkHouse$Judge" (398 : Nat) "LinkHouse$Member" "code" "I" "LinkHouse") ∈ lw_tbl := sorry
theorem q533 : (Jvm.Cond.fieldLinkNest "LinkHouse$Judge" (385 : Nat) "LinkHouse$Member" "locals" "I" "LinkHouse") ∈ lw_tbl := sorry
theorem q536 : (Jvm.Cond.fieldLinkNest "LinkHouse$Judge" (231 : Nat) "LinkHouse$Member" "slot" "I" "LinkHouse") ∈ lw_tbl := sorry
theorem q539 : (Jvm.Cond.fieldLinkNest "LinkHouse$Judge" (258 : Nat) "LinkHouse$Member" "of" "LLinkHouse$Kind;" "LinkHouse") ∈ lw_tbl := sorry
theorem q596 : (Jvm.Cond.fieldLinkNest "LinkHouse$Judge" (126 : Nat) "LinkHouse$Kind" "title" "J" "LinkHouse") ∈ lw_tbl := sorry
theorem q601 : (Jvm.Cond.fieldLinkNest "LinkHouse$Judge" (134 : Nat) "LinkHouse$Kind" "pack" "I" "LinkHouse") ∈ lw_tbl := sorry
theorem q608 : (Jvm.Cond.fieldLinkNest "LinkHouse$Judge" (144 : Nat) "LinkHouse$Kind" "isFace" "Z" "LinkHouse") ∈ lw_tbl := sorry
theorem q616 : (Jvm.Cond.fieldLinkNest "LinkHouse$Judge" (293 : Nat) "LinkHouse$Kind" "isOpen" "Z" "LinkHouse") ∈ lw_tbl := sorry
theorem q619 : (Jvm.Cond.fieldLinkNest "LinkHouse$Judge" (150 : Nat) "LinkHouse$Kind" "isFinal" "Z" "LinkHouse") ∈ lw_tbl := sorry
theorem q624 : (Jvm.Cond.fieldLinkNest "LinkHouse$Judge" (239 : Nat) "LinkHouse$Kind" "isBare" "Z" "LinkHouse") ∈ lw_tbl := sorry
theorem q629 : (Jvm.Cond.fieldLinkNest "LinkHouse$Judge" (137 : Nat) "LinkHouse$Kind" "hasParent" "Z" "LinkHouse") ∈ lw_tbl := sorry
theorem q634 : (Jvm.Cond.fieldLinkNest "LinkHouse$Judge" (141 : Nat) "LinkHouse$Kind" "parent" "J" "LinkHouse") ∈ lw_tbl := sorry
theorem q639 : (Jvm.Cond.fieldLinkNest "LinkHouse$Judge" (163 : Nat) "LinkHouse$Kind" "face" "[J" "LinkHouse") ∈ lw_tbl := sorry
theorem q646 : (Jvm.Cond.fieldLinkNest "LinkHouse$Judge" (160 : Nat) "LinkHouse$Kind" "faces" "I" "LinkHouse") ∈ lw_tbl := sorry
theorem q653 : (Jvm.Cond.fieldLinkNest "LinkHouse$Judge" (166 : Nat) "LinkHouse$Kind" "host" "J" "LinkHouse") ∈ lw_tbl := sorry
theorem q658 : (Jvm.Cond.fieldLinkNest "LinkHouse$Judge" (178 : Nat) "LinkHouse$Kind" "with" "[J" "LinkHouse") ∈ lw_tbl := sorry
theorem q662 : (Jvm.Cond.fieldLinkNest "LinkHouse$Judge" (175 : Nat) "LinkHouse$Kind" "withs" "I" "LinkHouse") ∈ lw_tbl := sorry
theorem q666 : (Jvm.Cond.fieldLinkNest "LinkHouse$Judge" (184 : Nat) "LinkHouse$Kind" "only" "[J" "LinkHouse") ∈ lw_tbl := sorry
theorem q670 : (Jvm.Cond.fieldLinkNest "LinkHouse$Judge" (181 : Nat) "LinkHouse$Kind" "onlys" "I" "LinkHouse") ∈ lw_tbl := sorry
theorem q677 : (Jvm.Cond.fieldLinkNest "LinkHouse$Judge" (101 : Nat) "LinkHouse$Kind" "member" "[LLinkHouse$Member;" "LinkHouse") ∈ lw_tbl := sorry
theorem q681 : (Jvm.Cond.fieldLinkNest "LinkHouse$Judge" (98 : Nat) "LinkHouse$Kind" "members" "I" "LinkHouse") ∈ lw_tbl := sorry
theorem q685 : (Jvm.Cond.fieldLinkNest "LinkHouse$Judge" (303 : Nat) "LinkHouse$Kind" "bridges" "I" "LinkHouse") ∈ lw_tbl := sorry
theorem q689 : (Jvm.Cond.fieldLinkNest "LinkHouse$Judge" (365 : Nat) "LinkHouse$Kind" "useFrom" "I" "LinkHouse") ∈ lw_tbl := sorry
theorem q693 : (Jvm.Cond.fieldLinkNest "LinkHouse$Judge" (392 : Nat) "LinkHouse$Kind" "useTo" "I" "LinkHouse") ∈ lw_tbl := sorry
theorem q699 : (Jvm.Cond.fieldLinkNest "LinkHouse$Judge" (233 : Nat) "LinkHouse$Kind" "fields" "I" "LinkHouse") ∈ lw_tbl := sorry
theorem q702 : (Jvm.Cond.fieldLinkNest "LinkHouse$Judge" (90 : Nat) "LinkHouse$Kind" "at" "I" "LinkHouse") ∈ lw_tbl := sorry
theorem q705 : (Jvm.Cond.fieldLinkNest "LinkHouse$Judge" (157 : Nat) "LinkHouse$Kind" "headAt" "[I" "LinkHouse") ∈ lw_tbl := sorry
theorem q708 : (Jvm.Cond.fieldLinkNest "LinkHouse$Judge" (187 : Nat) "LinkHouse$Kind" "build" "LLinkHouse$Build;" "LinkHouse") ∈ lw_tbl := sorry
theorem q792 : (Jvm.Cond.fieldLinkNest "LinkHouse$Judge" (272 : Nat) "LinkHouse$World" "list" "[LLinkHouse$Kind;" "LinkHouse") ∈ lw_tbl := sorry
theorem q1005 : (Jvm.Cond.fieldLinkNest "LinkHouse$Judge" (248 : Nat) "LinkHouse$Tree" "what" "[J" "LinkHouse") ∈ lw_tbl := sorry
theorem q1011 : (Jvm.Cond.fieldLinkNest "LinkHouse$Judge" (334 : Nat) "LinkHouse$Tree" "node" "[I" "LinkHouse") ∈ lw_tbl := sorry
theorem q1013 : (Jvm.Cond.fieldLinkNest "LinkHouse$Judge" (336 : Nat) "LinkHouse$Tree" "token" "[I" "LinkHouse") ∈ lw_tbl := sorry
theorem q1015 : (Jvm.Cond.fieldLinkNest "LinkHouse$Judge" (339 : Nat) "LinkHouse$Tree" "one" "[I" "LinkHouse") ∈ lw_tbl := sorry
theorem q1017 : (Jvm.Cond.fieldLinkNest "LinkHouse$Judge" (342 : Nat) "LinkHouse$Tree" "two" "[I" "LinkHouse") ∈ lw_tbl := sorry
theorem q1019 : (Jvm.Cond.fieldLinkNest "LinkHouse$Judge" (477 : Nat) "LinkHouse$Tree" "three" "[I" "LinkHouse") ∈ lw_tbl := sorry
theorem q1021 : (Jvm.Cond.fieldLinkNest "LinkHouse$Judge" (470 : Nat) "LinkHouse$Tree" "next" "[I" "LinkHouse") ∈ lw_tbl := sorry
theorem q1063 : (Jvm.Cond.instantiable "LinkHouse$Judge" (20 : Nat)) ∈ lw_all := sorry
theorem q1065 : (Jvm.Cond.instanceMethod ({ cls := "LinkHouse$Judge", name := "<init>", desc := "(LLinkHouse$Tree;LLinkHouse$World;)V" } : Jvm.MethodName)) ∈ lw_all := sorry
theorem q1066 : (Jvm.Cond.code ({ cls := "LinkHouse$Judge", name := "<init>", desc := "(LLinkHouse$Tree;LLinkHouse$World;)V" } : Jvm.MethodName) prog_3_method_1_code (3 : Nat) (Option.none : Option Jvm.ClassFile.FieldType)) ∈ lw_all := sorry
theorem q1067 : (Jvm.Cond.methodLink "LinkHouse$Judge" (3 : Nat) ({ cls := "java/lang/Object", name := "<init>", desc := "()V" } : Jvm.MethodName)) ∈ lw_all := sorry
theorem q1068 : (Jvm.Cond.classLink "LinkHouse$Judge" (17 : Nat) "LinkHouse$Member") ∈ lw_all := sorry
theorem q1069 : (Jvm.Cond.classLink "LinkHouse$Judge" (23 : Nat) "LinkHouse$Kind") ∈ lw_all := sorry
theorem q1070 : (Jvm.Cond.classLink "LinkHouse$Judge" (48 : Nat) "LinkHouse$Use") ∈ lw_all := sorry
theorem q1072 : (Jvm.Cond.methodLinkNest "LinkHouse$Judge" (50 : Nat) ({ cls := "LinkHouse$Use", name := "<init>", desc := "()V" } : Jvm.MethodName) "LinkHouse") ∈ lw_tbl := sorry
theorem q1082 : (Jvm.Cond.fieldLinkNest "LinkHouse$Judge" (525 : Nat) "LinkHouse$Use" "sort" "I" "LinkHouse") ∈ lw_tbl := sorry
theorem q1086 : (Jvm.Cond.fieldLinkNest "LinkHouse$Judge" (526 : Nat) "LinkHouse$Use" "by" "LLinkHouse$Kind;" "LinkHouse") ∈ lw_tbl := sorry
theorem q1091 : (Jvm.Cond.fieldLinkNest "LinkHouse$Judge" (529 : Nat) "LinkHouse$Use" "title" "J" "LinkHouse") ∈ lw_tbl := sorry
theorem q1095 : (Jvm.Cond.fieldLinkNest "LinkHouse$Judge" (530 : Nat) "LinkHouse$Use" "other" "J" "LinkHouse") ∈ lw_tbl := sorry
theorem q1099 : (Jvm.Cond.fieldLinkNest "LinkHouse$Judge" (533 : Nat) "LinkHouse$Use" "as" "LLinkHouse$Member;" "LinkHouse") ∈ lw_tbl := sorry
theorem q1111 : (Jvm.Cond.fieldLink "LinkHouse$Judge" (55 : Nat) "LinkHouse$Judge" "tree" "LLinkHouse$Tree;") ∈ lw_all := sorry
theorem q1112 : (Jvm.Cond.fieldLink "LinkHouse$Judge" (59 : Nat) "LinkHouse$Judge" "w" "LLinkHouse$World;") ∈ lw_all := sorry
theorem q1113 : (Jvm.Cond.fieldLink "LinkHouse$Judge" (67 : Nat) "LinkHouse$Judge" "b" "LLinkHouse$Build;") ∈ lw_all := sorry
theorem q1114 : (Jvm.Cond.fieldLink "LinkHouse$Judge" (94 : Nat) "LinkHouse$Judge" "d" "LLinkHouse$Kind;") ∈ lw_all := sorry
theorem q1115 : (Jvm.Cond.fieldLink "LinkHouse$Judge" (372 : Nat) "LinkHouse$Judge" "at" "LLinkHouse$Member;") ∈ lw_all := sorry
theorem q1116 : (Jvm.Cond.fieldLink "LinkHouse$Judge" (381 : Nat) "LinkHouse$Judge" "isStatic" "Z") ∈ lw_all := sorry
theorem q1117 : (Jvm.Cond.fieldLink "LinkHouse$Judge" (11 : Nat) "LinkHouse$Judge" "type" "[J") ∈ lw_all := sorry
theorem q1118 : (Jvm.Cond.fieldLink "LinkHouse$Judge" (19 : Nat) "LinkHouse$Judge" "means" "[LLinkHouse$Member;") ∈ lw_all := sorry
theorem q1119 : (Jvm.Cond.fieldLink "LinkHouse$Judge" (25 : Nat) "LinkHouse$Judge" "named" "[LLinkHouse$Kind;") ∈ lw_all := sorry
theorem q1120 : (Jvm.Cond.fieldLink "LinkHouse$Judge" (29 : Nat) "LinkHouse$Judge" "slot" "[I") ∈ lw_all := sorry
theorem q1121 : (Jvm.Cond.fieldLink "LinkHouse$Judge" (33 : Nat) "LinkHouse$Judge" "local" "[J") ∈ lw_all := sorry
theorem q1122 : (Jvm.Cond.fieldLink "LinkHouse$Judge" (36 : Nat) "LinkHouse$Judge" "localType" "[J") ∈ lw_all := sorry
theorem q1123 : (Jvm.Cond.fieldLink "LinkHouse$Judge" (39 : Nat) "LinkHouse$Judge" "localSlot" "[I") ∈ lw_all := sorry
theorem q1124 : (Jvm.Cond.fieldLink "LinkHouse$Judge" (375 : Nat) "LinkHouse$Judge" "locals" "I") ∈ lw_all := sorry
theorem q1125 : (Jvm.Cond.fieldLink "LinkHouse$Judge" (378 : Nat) "LinkHouse$Judge" "slots" "I") ∈ lw_all := sorry
theorem q1126 : (Jvm.Cond.fieldLink "LinkHouse$Judge" (42 : Nat) "LinkHouse$Judge" "candidate" "[LLinkHouse$Member;") ∈ lw_all := sorry
theorem q1127 : (Jvm.Cond.fieldLink "LinkHouse$Judge" (460 : Nat) "LinkHouse$Judge" "candidates" "I") ∈ lw_all := sorry
theorem q1128 : (Jvm.Cond.fieldLink "LinkHouse$Judge" (45 : Nat) "LinkHouse$Judge" "faceKept" "[LLinkHouse$Kind;") ∈ lw_all := sorry
theorem q1129 : (Jvm.Cond.fieldLink "LinkHouse$Judge" (326 : Nat) "LinkHouse$Judge" "amount" "I") ∈ lw_all := sorry
theorem q1130 : (Jvm.Cond.fieldLink "LinkHouse$Judge" (51 : Nat) "LinkHouse$Judge" "fresh" "LLinkHouse$Use;") ∈ lw_all := sorry
theorem q1131 : (Jvm.Cond.laysFinal "LinkHouse$Judge" "LinkHouse$Judge" "tree" "LLinkHouse$Tree;") ∈ lw_all := sorry
theorem q1132 : (Jvm.Cond.soleField "LinkHouse$Judge" "tree") ∈ lw_all := sorry
theorem q1133 : (Jvm.Cond.laysFinal "LinkHouse$Judge" "LinkHouse$Judge" "w" "LLinkHouse$World;") ∈ lw_all := sorry
theorem q1134 : (Jvm.Cond.soleField "LinkHouse$Judge" "w") ∈ lw_all := sorry
theorem q1135 : (Jvm.Cond.lays "LinkHouse$Judge" "LinkHouse$Judge" "b" "LLinkHouse$Build;") ∈ lw_all := sorry
theorem q1136 : (Jvm.Cond.soleField "LinkHouse$Judge" "b") ∈ lw_all := sorry
theorem q1137 : (Jvm.Cond.lays "LinkHouse$Judge" "LinkHouse$Judge" "d" "LLinkHouse$Kind;") ∈ lw_all := sorry
theorem q1138 : (Jvm.Cond.soleField "LinkHouse$Judge" "d") ∈ lw_all := sorry
theorem q1139 : (Jvm.Cond.lays "LinkHouse$Judge" "LinkHouse$Judge" "at" "LLinkHouse$Member;") ∈ lw_all := sorry
theorem q1140 : (Jvm.Cond.soleField "LinkHouse$Judge" "at") ∈ lw_all := sorry
theorem q1141 : (Jvm.Cond.lays "LinkHouse$Judge" "LinkHouse$Judge" "isStatic" "Z") ∈ lw_all := sorry
theorem q1142 : (Jvm.Cond.soleField "LinkHouse$Judge" "isStatic") ∈ lw_all := sorry
theorem q1143 : (Jvm.Cond.laysFinal "LinkHouse$Judge" "LinkHouse$Judge" "type" "[J") ∈ lw_all := sorry
theorem q1144 : (Jvm.Cond.soleField "LinkHouse$Judge" "type") ∈ lw_all := sorry
theorem q1145 : (Jvm.Cond.laysFinal "LinkHouse$Judge" "LinkHouse$Judge" "means" "[LLinkHouse$Member;") ∈ lw_all := sorry
theorem q1146 : (Jvm.Cond.soleField "LinkHouse$Judge" "means") ∈ lw_all := sorry
theorem q1147 : (Jvm.Cond.laysFinal "LinkHouse$Judge" "LinkHouse$Judge" "named" "[LLinkHouse$Kind;") ∈ lw_all := sorry
theorem q1148 : (Jvm.Cond.soleField "LinkHouse$Judge" "named") ∈ lw_all := sorry
theorem q1149 : (Jvm.Cond.laysFinal "LinkHouse$Judge" "LinkHouse$Judge" "slot" "[I") ∈ lw_all := sorry
theorem q1150 : (Jvm.Cond.soleField "LinkHouse$Judge" "slot") ∈ lw_all := sorry
theorem q1151 : (Jvm.Cond.laysFinal "LinkHouse$Judge" "LinkHouse$Judge" "local" "[J") ∈ lw_all := sorry
theorem q1152 : (Jvm.Cond.soleField "LinkHouse$Judge" "local") ∈ lw_all := sorry
theorem q1153 : (Jvm.Cond.laysFinal "LinkHouse$Judge" "LinkHouse$Judge" "localType" "[J") ∈ lw_all := sorry
theorem q1154 : (Jvm.Cond.soleField "LinkHouse$Judge" "localType") ∈ lw_all := sorry
theorem q1155 : (Jvm.Cond.laysFinal "LinkHouse$Judge" "LinkHouse$Judge" "localSlot" "[I") ∈ lw_all := sorry
theorem q1156 : (Jvm.Cond.soleField "LinkHouse$Judge" "localSlot") ∈ lw_all := sorry
theorem q1157 : (Jvm.Cond.lays "LinkHouse$Judge" "LinkHouse$Judge" "locals" "I") ∈ lw_all := sorry
theorem q1158 : (Jvm.Cond.soleField "LinkHouse$Judge" "locals") ∈ lw_all := sorry
theorem q1159 : (Jvm.Cond.lays "LinkHouse$Judge" "LinkHouse$Judge" "slots" "I") ∈ lw_all := sorry
theorem q1160 : (Jvm.Cond.soleField "LinkHouse$Judge" "slots") ∈ lw_all := sorry
theorem q1161 : (Jvm.Cond.laysFinal "LinkHouse$Judge" "LinkHouse$Judge" "candidate" "[LLinkHouse$Member;") ∈ lw_all := sorry
theorem q1162 : (Jvm.Cond.soleField "LinkHouse$Judge" "candidate") ∈ lw_all := sorry
theorem q1163 : (Jvm.Cond.lays "LinkHouse$Judge" "LinkHouse$Judge" "candidates" "I") ∈ lw_all := sorry
theorem q1164 : (Jvm.Cond.soleField "LinkHouse$Judge" "candidates") ∈ lw_all := sorry
theorem q1165 : (Jvm.Cond.laysFinal "LinkHouse$Judge" "LinkHouse$Judge" "faceKept" "[LLinkHouse$Kind;") ∈ lw_all := sorry
theorem q1166 : (Jvm.Cond.soleField "LinkHouse$Judge" "faceKept") ∈ lw_all := sorry
theorem q1167 : (Jvm.Cond.lays "LinkHouse$Judge" "LinkHouse$Judge" "amount" "I") ∈ lw_all := sorry
theorem q1168 : (Jvm.Cond.soleField "LinkHouse$Judge" "amount") ∈ lw_all := sorry
theorem q1169 : (Jvm.Cond.laysFinal "LinkHouse$Judge" "LinkHouse$Judge" "fresh" "LLinkHouse$Use;") ∈ lw_all := sorry
theorem q1170 : (Jvm.Cond.soleField "LinkHouse$Judge" "fresh") ∈ lw_all := sorry
theorem q1171 : (Jvm.Cond.superclass "LinkHouse$Judge" "java/lang/Object") ∈ lw_all := sorry
theorem q1335 : (Jvm.Cond.fieldLinkNest "LinkHouse$Judge" (77 : Nat) "LinkHouse$Build" "kind" "[LLinkHouse$Kind;" "LinkHouse") ∈ lw_tbl := sorry
theorem q1339 : (Jvm.Cond.fieldLinkNest "LinkHouse$Judge" (71 : Nat) "LinkHouse$Build" "kinds" "I" "LinkHouse") ∈ lw_tbl := sorry
theorem q1345 : (Jvm.Cond.fieldLinkNest "LinkHouse$Judge" (546 : Nat) "LinkHouse$Build" "use" "[LLinkHouse$Use;" "LinkHouse") ∈ lw_tbl := sorry
theorem q1347 : (Jvm.Cond.fieldLinkNest "LinkHouse$Judge" (362 : Nat) "LinkHouse$Build" "uses" "I" "LinkHouse") ∈ lw_tbl := sorry
theorem q1351 : (Jvm.Cond.fieldLinkNest "LinkHouse$Judge" (520 : Nat) "LinkHouse$Build" "code" "[I" "LinkHouse") ∈ lw_tbl := sorry
theorem q1354 : (Jvm.Cond.fieldLinkNest "LinkHouse$Judge" (395 : Nat) "LinkHouse$Build" "codes" "I" "LinkHouse") ∈ lw_tbl := sorry
theorem q1358 : (Jvm.Cond.fieldLinkNest "LinkHouse$Judge" (584 : Nat) "LinkHouse$Build" "caught" "[I" "LinkHouse") ∈ lw_tbl := sorry
theorem q1362 : (Jvm.Cond.fieldLinkNest "LinkHouse$Judge" (581 : Nat) "LinkHouse$Build" "catches" "I" "LinkHouse") ∈ lw_tbl := sorry
theorem q1754 : (Jvm.Cond.instanceMethod ({ cls := "LinkHouse$Judge", name := "all", desc := "(LLinkHouse$Build;)V" } : Jvm.MethodName)) ∈ lw_all := sorry
theorem q1755 : (Jvm.Cond.selects "LinkHouse$Judge" ({ cls := "LinkHouse$Judge", name := "all", desc := "(LLinkHouse$Build;)V" } : Jvm.MethodName) ({ cls := "LinkHouse$Judge", name := "all", desc := "(LLinkHouse$Build;)V" } : Jvm.MethodName)) ∈ lw_all := sorry
theorem q1756 : (Jvm.Cond.code ({ cls := "LinkHouse$Judge", name := "all", desc := "(LLinkHouse$Build;)V" } : Jvm.MethodName) prog_3_method_3_code (4 : Nat) (Option.none : Option Jvm.ClassFile.FieldType)) ∈ lw_all := sorry
theorem q1757 : (Jvm.Cond.methodLink "LinkHouse$Judge" (80 : Nat) ({ cls := "LinkHouse$Judge", name := "head", desc := "(LLinkHouse$Kind;)V" } : Jvm.MethodName)) ∈ lw_all := sorry
theorem q1758 : (Jvm.Cond.privateMethod ({ cls := "LinkHouse$Judge", name := "head", desc := "(LLinkHouse$Kind;)V" } : Jvm.MethodName)) ∈ lw_tbl := sorry
theorem q1759 : (Jvm.Cond.instanceMethod ({ cls := "LinkHouse$Judge", name := "head", desc := "(LLinkHouse$Kind;)V" } : Jvm.MethodName)) ∈ lw_all := sorry
theorem q1760 : (Jvm.Cond.code ({ cls := "LinkHouse$Judge", name := "head", desc := "(LLinkHouse$Kind;)V" } : Jvm.MethodName) prog_3_method_4_code (6 : Nat) (Option.none : Option Jvm.ClassFile.FieldType)) ∈ lw_all := sorry
theorem q1761 : (Jvm.Cond.methodLink "LinkHouse$Judge" (130 : Nat) ({ cls := "LinkHouse$World", name := "find", desc := "(J)LLinkHouse$Kind;" } : Jvm.MethodName)) ∈ lw_all := sorry
theorem q1762 : (Jvm.Cond.methodLink "LinkHouse$Judge" (93 : Nat) ({ cls := "LinkHouse$Judge", name := "refuse", desc := "(II)Ljava/lang/RuntimeException;" } : Jvm.MethodName)) ∈ lw_all := sorry
theorem q1763 : (Jvm.Cond.privateMethod ({ cls := "LinkHouse$Judge", name := "refuse", desc := "(II)Ljava/lang/RuntimeException;" } : Jvm.MethodName)) ∈ lw_tbl := sorry
theorem q1764 : (Jvm.Cond.instanceMethod ({ cls := "LinkHouse$Judge", name := "refuse", desc := "(II)Ljava/lang/RuntimeException;" } : Jvm.MethodName)) ∈ lw_all := sorry
theorem q1765 : (Jvm.Cond.code ({ cls := "LinkHouse$Judge", name := "refuse", desc := "(II)Ljava/lang/RuntimeException;" } : Jvm.MethodName) prog_3_method_2_code (3 : Nat) (Option.some (Jvm.ClassFile.FieldType.object "java/lang/RuntimeException"))) ∈ lw_all := sorry
theorem q1766 : (Jvm.Cond.methodLink "LinkHouse$Judge" (63 : Nat) ({ cls := "LinkHouse$Tree", name := "refuse", desc := "(II)Ljava/lang/RuntimeException;" } : Jvm.MethodName)) ∈ lw_all := sorry
theorem q1767 : (Jvm.Cond.methodLink "LinkHouse$Judge" (147 : Nat) ({ cls := "LinkHouse$World", name := "isLet", desc := "(LLinkHouse$Kind;LLinkHouse$Kind;)Z" } : Jvm.MethodName)) ∈ lw_all := sorry
theorem q1770 : (Jvm.Cond.methodLink "LinkHouse$Judge" (153 : Nat) ({ cls := "LinkHouse$Kind", name := "lets", desc := "(J)Z" } : Jvm.MethodName)) ∈ lw_all := sorry
theorem q1774 : (Jvm.Cond.methodLink "LinkHouse$Judge" (169 : Nat) ({ cls := "LinkHouse$Judge", name := "ofText", desc := "(J)LLinkHouse$Kind;" } : Jvm.MethodName)) ∈ lw_all := sorry
theorem q1775 : (Jvm.Cond.privateMethod ({ cls := "LinkHouse$Judge", name := "ofText", desc := "(J)LLinkHouse$Kind;" } : Jvm.MethodName)) ∈ lw_tbl := sorry
theorem q1776 : (Jvm.Cond.instanceMethod ({ cls := "LinkHouse$Judge", name := "ofText", desc := "(J)LLinkHouse$Kind;" } : Jvm.MethodName)) ∈ lw_all := sorry
theorem q1777 : (Jvm.Cond.code ({ cls := "LinkHouse$Judge", name := "ofText", desc := "(J)LLinkHouse$Kind;" } : Jvm.MethodName) prog_3_method_5_code (4 : Nat) (Option.some (Jvm.ClassFile.FieldType.object "LinkHouse$Kind"))) ∈ lw_all := sorry
theorem q1778 : (Jvm.Cond.methodLink "LinkHouse$Judge" (172 : Nat) ({ cls := "LinkHouse$Kind", name := "hasWith", desc := "(J)Z" } : Jvm.MethodName)) ∈ lw_all := sorry
theorem q1782 : (Jvm.Cond.methodLink "LinkHouse$Judge" (84 : Nat) ({ cls := "LinkHouse$World", name := "isHeir", desc := "(LLinkHouse$Kind;LLinkHouse$Kind;)Z" } : Jvm.MethodName)) ∈ lw_all := sorry
theorem q1794 : (Jvm.Cond.methodLink "LinkHouse$Judge" (104 : Nat) ({ cls := "LinkHouse$Judge", name := "member", desc := "(LLinkHouse$Member;I)V" } : Jvm.MethodName)) ∈ lw_all := sorry
theorem q1795 : (Jvm.Cond.privateMethod ({ cls := "LinkHouse$Judge", name := "member", desc := "(LLinkHouse$Member;I)V" } : Jvm.MethodName)) ∈ lw_tbl := sorry
theorem q1796 : (Jvm.Cond.instanceMethod ({ cls := "LinkHouse$Judge", name := "member", desc := "(LLinkHouse$Member;I)V" } : Jvm.MethodName)) ∈ lw_all := sorry
theorem q1797 : (Jvm.Cond.code ({ cls := "LinkHouse$Judge", name := "member", desc := "(LLinkHouse$Member;I)V" } : Jvm.MethodName) prog_3_method_6_code (5 : Nat) (Option.none : Option Jvm.ClassFile.FieldType)) ∈ lw_all := sorry
theorem q1798 : (Jvm.Cond.methodLink "LinkHouse$Judge" (190 : Nat) ({ cls := "LinkHouse$Judge", name := "mayBe", desc := "(LLinkHouse$Member;)Z" } : Jvm.MethodName)) ∈ lw_all := sorry
theorem q1799 : (Jvm.Cond.privateMethod ({ cls := "LinkHouse$Judge", name := "mayBe", desc := "(LLinkHouse$Member;)Z" } : Jvm.MethodName)) ∈ lw_tbl := sorry
theorem q1800 : (Jvm.Cond.instanceMethod ({ cls := "LinkHouse$Judge", name := "mayBe", desc := "(LLinkHouse$Member;)Z" } : Jvm.MethodName)) ∈ lw_all := sorry
theorem q1801 : (Jvm.Cond.code ({ cls := "LinkHouse$Judge", name := "mayBe", desc := "(LLinkHouse$Member;)Z" } : Jvm.MethodName) prog_3_method_8_code (3 : Nat) (Option.some Jvm.ClassFile.FieldType.boolean)) ∈ lw_all := sorry
theorem q1802 : (Jvm.Cond.methodLink "LinkHouse$Judge" (211 : Nat) ({ cls := "LinkHouse$Judge", name := "typeAt", desc := "(I)V" } : Jvm.MethodName)) ∈ lw_all := sorry
theorem q1803 : (Jvm.Cond.privateMethod ({ cls := "LinkHouse$Judge", name := "typeAt", desc := "(I)V" } : Jvm.MethodName)) ∈ lw_tbl := sorry
theorem q1804 : (Jvm.Cond.instanceMethod ({ cls := "LinkHouse$Judge", name := "typeAt", desc := "(I)V" } : Jvm.MethodName)) ∈ lw_all := sorry
theorem q1805 : (Jvm.Cond.code ({ cls := "LinkHouse$Judge", name := "typeAt", desc := "(I)V" } : Jvm.MethodName) prog_3_method_9_code (2 : Nat) (Option.none : Option Jvm.ClassFile.FieldType)) ∈ lw_all := sorry
theorem q1806 : (Jvm.Cond.methodLink "LinkHouse$Judge" (240 : Nat) ({ cls := "LinkHouse$Tree", name := "typeOf", desc := "(I)J" } : Jvm.MethodName)) ∈ lw_all := sorry
theorem q1807 : (Jvm.Cond.methodLink "LinkHouse$Judge" (244 : Nat) ({ cls := "LinkHouse$Judge", name := "kindAt", desc := "(I)LLinkHouse$Kind;" } : Jvm.MethodName)) ∈ lw_all := sorry
theorem q1808 : (Jvm.Cond.privateMethod ({ cls := "LinkHouse$Judge", name := "kindAt", desc := "(I)LLinkHouse$Kind;" } : Jvm.MethodName)) ∈ lw_tbl := sorry
theorem q1809 : (Jvm.Cond.instanceMethod ({ cls := "LinkHouse$Judge", name := "kindAt", desc := "(I)LLinkHouse$Kind;" } : Jvm.MethodName)) ∈ lw_all := sorry
theorem q1810 : (Jvm.Cond.code ({ cls := "LinkHouse$Judge", name := "kindAt", desc := "(I)LLinkHouse$Kind;" } : Jvm.MethodName) prog_3_method_10_code (3 : Nat) (Option.some (Jvm.ClassFile.FieldType.object "LinkHouse$Kind"))) ∈ lw_all := sorry
theorem q1811 : (Jvm.Cond.methodLink "LinkHouse$Judge" (221 : Nat) ({ cls := "LinkHouse$Member", name := "isAlike", desc := "(LLinkHouse$Member;)Z" } : Jvm.MethodName)) ∈ lw_all := sorry
theorem q1819 : (Jvm.Cond.methodLink "LinkHouse$Judge" (224 : Nat) ({ cls := "LinkHouse$Member", name := "hasParams", desc := "(LLinkHouse$Member;)Z" } : Jvm.MethodName)) ∈ lw_all := sorry
theorem q1820 : (Jvm.Cond.methodLink "LinkHouse$Judge" (227 : Nat) ({ cls := "LinkHouse$Judge", name := "slotOf", desc := "(LLinkHouse$Member;I)I" } : Jvm.MethodName)) ∈ lw_all := sorry
theorem q1821 : (Jvm.Cond.privateMethod ({ cls := "LinkHouse$Judge", name := "slotOf", desc := "(LLinkHouse$Member;I)I" } : Jvm.MethodName)) ∈ lw_tbl := sorry
theorem q1822 : (Jvm.Cond.instanceMethod ({ cls := "LinkHouse$Judge", name := "slotOf", desc := "(LLinkHouse$Member;I)I" } : Jvm.MethodName)) ∈ lw_all := sorry
theorem q1823 : (Jvm.Cond.code ({ cls := "LinkHouse$Judge", name := "slotOf", desc := "(LLinkHouse$Member;I)I" } : Jvm.MethodName) prog_3_method_7_code (5 : Nat) (Option.some Jvm.ClassFile.FieldType.int)) ∈ lw_all := sorry
theorem q1824 : (Jvm.Cond.methodLink "LinkHouse$Judge" (107 : Nat) ({ cls := "LinkHouse$Judge", name := "above", desc := "(LLinkHouse$Member;)V" } : Jvm.MethodName)) ∈ lw_all := sorry
theorem q1825 : (Jvm.Cond.privateMethod ({ cls := "LinkHouse$Judge", name := "above", desc := "(LLinkHouse$Member;)V" } : Jvm.MethodName)) ∈ lw_tbl := sorry
theorem q1826 : (Jvm.Cond.instanceMethod ({ cls := "LinkHouse$Judge", name := "above", desc := "(LLinkHouse$Member;)V" } : Jvm.MethodName)) ∈ lw_all := sorry
theorem q1827 : (Jvm.Cond.code ({ cls := "LinkHouse$Judge", name := "above", desc := "(LLinkHouse$Member;)V" } : Jvm.MethodName) prog_3_method_12_code (5 : Nat) (Option.none : Option Jvm.ClassFile.FieldType)) ∈ lw_all := sorry
theorem q1828 : (Jvm.Cond.methodLink "LinkHouse$Judge" (261 : Nat) ({ cls := "LinkHouse$World", name := "parent", desc := "(LLinkHouse$Kind;)LLinkHouse$Kind;" } : Jvm.MethodName)) ∈ lw_all := sorry
theorem q1829 : (Jvm.Cond.methodLink "LinkHouse$Judge" (264 : Nat) ({ cls := "LinkHouse$Judge", name := "against", desc := "(LLinkHouse$Member;LLinkHouse$Kind;)V" } : Jvm.MethodName)) ∈ lw_all := sorry
theorem q1830 : (Jvm.Cond.privateMethod ({ cls := "LinkHouse$Judge", name := "against", desc := "(LLinkHouse$Member;LLinkHouse$Kind;)V" } : Jvm.MethodName)) ∈ lw_tbl := sorry
theorem q1831 : (Jvm.Cond.instanceMethod ({ cls := "LinkHouse$Judge", name := "against", desc := "(LLinkHouse$Member;LLinkHouse$Kind;)V" } : Jvm.MethodName)) ∈ lw_all := sorry
theorem q1832 : (Jvm.Cond.code ({ cls := "LinkHouse$Judge", name := "against", desc := "(LLinkHouse$Member;LLinkHouse$Kind;)V" } : Jvm.MethodName) prog_3_method_13_code (5 : Nat) (Option.none : Option Jvm.ClassFile.FieldType)) ∈ lw_all := sorry
theorem q1833 : (Jvm.Cond.methodLink "LinkHouse$Judge" (275 : Nat) ({ cls := "LinkHouse$Judge", name := "isAbove", desc := "(LLinkHouse$Member;LLinkHouse$Member;)Z" } : Jvm.MethodName)) ∈ lw_all := sorry
theorem q1834 : (Jvm.Cond.privateMethod ({ cls := "LinkHouse$Judge", name := "isAbove", desc := "(LLinkHouse$Member;LLinkHouse$Member;)Z" } : Jvm.MethodName)) ∈ lw_tbl := sorry
theorem q1835 : (Jvm.Cond.instanceMethod ({ cls := "LinkHouse$Judge", name := "isAbove", desc := "(LLinkHouse$Member;LLinkHouse$Member;)Z" } : Jvm.MethodName)) ∈ lw_all := sorry
theorem q1836 : (Jvm.Cond.code ({ cls := "LinkHouse$Judge", name := "isAbove", desc := "(LLinkHouse$Member;LLinkHouse$Member;)Z" } : Jvm.MethodName) prog_3_method_11_code (3 : Nat) (Option.some Jvm.ClassFile.FieldType.boolean)) ∈ lw_all := sorry
theorem q1837 : (Jvm.Cond.methodLinkNest "LinkHouse$Judge" (251 : Nat) ({ cls := "LinkHouse$World", name := "isMeantBy", desc := "(LLinkHouse$Member;LLinkHouse$Kind;)Z" } : Jvm.MethodName) "LinkHouse") ∈ lw_tbl := sorry
theorem q1840 : (Jvm.Cond.methodLink "LinkHouse$Judge" (281 : Nat) ({ cls := "LinkHouse$World", name := "fits", desc := "(JJ)Z" } : Jvm.MethodName)) ∈ lw_all := sorry
theorem q1846 : (Jvm.Cond.methodLink "LinkHouse$Judge" (268 : Nat) ({ cls := "LinkHouse$World", name := "layFaces", desc := "(LLinkHouse$Kind;)I" } : Jvm.MethodName)) ∈ lw_all := sorry
theorem q1854 : (Jvm.Cond.methodLink "LinkHouse$Judge" (111 : Nat) ({ cls := "LinkHouse$Judge", name := "defaultMaker", desc := "()V" } : Jvm.MethodName)) ∈ lw_all := sorry
theorem q1855 : (Jvm.Cond.privateMethod ({ cls := "LinkHouse$Judge", name := "defaultMaker", desc := "()V" } : Jvm.MethodName)) ∈ lw_tbl := sorry
theorem q1856 : (Jvm.Cond.instanceMethod ({ cls := "LinkHouse$Judge", name := "defaultMaker", desc := "()V" } : Jvm.MethodName)) ∈ lw_all := sorry
theorem q1857 : (Jvm.Cond.code ({ cls := "LinkHouse$Judge", name := "defaultMaker", desc := "()V" } : Jvm.MethodName) prog_3_method_14_code (2 : Nat) (Option.none : Option Jvm.ClassFile.FieldType)) ∈ lw_all := sorry
theorem q1858 : (Jvm.Cond.methodLink "LinkHouse$Judge" (285 : Nat) ({ cls := "LinkHouse$Kind", name := "hasMaker", desc := "()Z" } : Jvm.MethodName)) ∈ lw_all := sorry
theorem q1862 : (Jvm.Cond.methodLink "LinkHouse$Judge" (289 : Nat) ({ cls := "LinkHouse$Kind", name := "more", desc := "()LLinkHouse$Member;" } : Jvm.MethodName)) ∈ lw_all := sorry
theorem q1863 : (Jvm.Cond.methodLink "LinkHouse$Judge" (114 : Nat) ({ cls := "LinkHouse$Judge", name := "bridges", desc := "()V" } : Jvm.MethodName)) ∈ lw_all := sorry
theorem q1864 : (Jvm.Cond.privateMethod ({ cls := "LinkHouse$Judge", name := "bridges", desc := "()V" } : Jvm.MethodName)) ∈ lw_tbl := sorry
theorem q1865 : (Jvm.Cond.instanceMethod ({ cls := "LinkHouse$Judge", name := "bridges", desc := "()V" } : Jvm.MethodName)) ∈ lw_all := sorry
theorem q1866 : (Jvm.Cond.code ({ cls := "LinkHouse$Judge", name := "bridges", desc := "()V" } : Jvm.MethodName) prog_3_method_15_code (7 : Nat) (Option.none : Option Jvm.ClassFile.FieldType)) ∈ lw_all := sorry
theorem q1867 : (Jvm.Cond.methodLink "LinkHouse$Judge" (296 : Nat) ({ cls := "LinkHouse$Judge", name := "bridgesTo", desc := "(LLinkHouse$Member;LLinkHouse$Kind;)V" } : Jvm.MethodName)) ∈ lw_all := sorry
theorem q1868 : (Jvm.Cond.privateMethod ({ cls := "LinkHouse$Judge", name := "bridgesTo", desc := "(LLinkHouse$Member;LLinkHouse$Kind;)V" } : Jvm.MethodName)) ∈ lw_tbl := sorry
theorem q1869 : (Jvm.Cond.instanceMethod ({ cls := "LinkHouse$Judge", name := "bridgesTo", desc := "(LLinkHouse$Member;LLinkHouse$Kind;)V" } : Jvm.MethodName)) ∈ lw_all := sorry
theorem q1870 : (Jvm.Cond.code ({ cls := "LinkHouse$Judge", name := "bridgesTo", desc := "(LLinkHouse$Member;LLinkHouse$Kind;)V" } : Jvm.MethodName) prog_3_method_16_code (5 : Nat) (Option.none : Option Jvm.ClassFile.FieldType)) ∈ lw_all := sorry
theorem q1871 : (Jvm.Cond.methodLink "LinkHouse$Judge" (299 : Nat) ({ cls := "LinkHouse$Kind", name := "method", desc := "(LLinkHouse$Member;)LLinkHouse$Member;" } : Jvm.MethodName)) ∈ lw_all := sorry
theorem q1880 : (Jvm.Cond.methodLink "LinkHouse$Judge" (305 : Nat) ({ cls := "LinkHouse$Judge", name := "bridge", desc := "(LLinkHouse$Kind;LLinkHouse$Member;J)LLinkHouse$Member;" } : Jvm.MethodName)) ∈ lw_all := sorry
theorem q1881 : (Jvm.Cond.static ({ cls := "LinkHouse$Judge", name := "bridge", desc := "(LLinkHouse$Kind;LLinkHouse$Member;J)LLinkHouse$Member;" } : Jvm.MethodName)) ∈ lw_all := sorry
theorem q1882 : (Jvm.Cond.code ({ cls := "LinkHouse$Judge", name := "bridge", desc := "(LLinkHouse$Kind;LLinkHouse$Member;J)LLinkHouse$Member;" } : Jvm.MethodName) prog_3_method_17_code (6 : Nat) (Option.some (Jvm.ClassFile.FieldType.object "LinkHouse$Member"))) ∈ lw_all := sorry
theorem q1883 : (Jvm.Cond.methodLink "LinkHouse$Judge" (117 : Nat) ({ cls := "LinkHouse$Judge", name := "left", desc := "()V" } : Jvm.MethodName)) ∈ lw_all := sorry
theorem q1884 : (Jvm.Cond.privateMethod ({ cls := "LinkHouse$Judge", name := "left", desc := "()V" } : Jvm.MethodName)) ∈ lw_tbl := sorry
theorem q1885 : (Jvm.Cond.instanceMethod ({ cls := "LinkHouse$Judge", name := "left", desc := "()V" } : Jvm.MethodName)) ∈ lw_all := sorry
theorem q1886 : (Jvm.Cond.code ({ cls := "LinkHouse$Judge", name := "left", desc := "()V" } : Jvm.MethodName) prog_3_method_18_code (4 : Nat) (Option.none : Option Jvm.ClassFile.FieldType)) ∈ lw_all := sorry
theorem q1887 : (Jvm.Cond.methodLink "LinkHouse$Judge" (312 : Nat) ({ cls := "LinkHouse$Judge", name := "isDone", desc := "(LLinkHouse$Kind;)V" } : Jvm.MethodName)) ∈ lw_all := sorry
theorem q1888 : (Jvm.Cond.privateMethod ({ cls := "LinkHouse$Judge", name := "isDone", desc := "(LLinkHouse$Kind;)V" } : Jvm.MethodName)) ∈ lw_tbl := sorry
theorem q1889 : (Jvm.Cond.instanceMethod ({ cls := "LinkHouse$Judge", name := "isDone", desc := "(LLinkHouse$Kind;)V" } : Jvm.MethodName)) ∈ lw_all := sorry
theorem q1890 : (Jvm.Cond.code ({ cls := "LinkHouse$Judge", name := "isDone", desc := "(LLinkHouse$Kind;)V" } : Jvm.MethodName) prog_3_method_19_code (4 : Nat) (Option.none : Option Jvm.ClassFile.FieldType)) ∈ lw_all := sorry
theorem q1891 : (Jvm.Cond.methodLink "LinkHouse$Judge" (315 : Nat) ({ cls := "LinkHouse$Member", name := "isOfObjects", desc := "()Z" } : Jvm.MethodName)) ∈ lw_all := sorry
theorem q1895 : (Jvm.Cond.methodLink "LinkHouse$Judge" (318 : Nat) ({ cls := "LinkHouse$World", name := "selected", desc := "(LLinkHouse$Member;LLinkHouse$Kind;)LLinkHouse$Member;" } : Jvm.MethodName)) ∈ lw_all := sorry
theorem q1915 : (Jvm.Cond.methodLink "LinkHouse$Judge" (120 : Nat) ({ cls := "LinkHouse$Judge", name := "constants", desc := "()V" } : Jvm.MethodName)) ∈ lw_all := sorry
theorem q1916 : (Jvm.Cond.privateMethod ({ cls := "LinkHouse$Judge", name := "constants", desc := "()V" } : Jvm.MethodName)) ∈ lw_tbl := sorry
theorem q1917 : (Jvm.Cond.instanceMethod ({ cls := "LinkHouse$Judge", name := "constants", desc := "()V" } : Jvm.MethodName)) ∈ lw_all := sorry
theorem q1918 : (Jvm.Cond.code ({ cls := "LinkHouse$Judge", name := "constants", desc := "()V" } : Jvm.MethodName) prog_3_method_20_code (3 : Nat) (Option.none : Option Jvm.ClassFile.FieldType)) ∈ lw_all := sorry
theorem q1919 : (Jvm.Cond.methodLink "LinkHouse$Judge" (322 : Nat) ({ cls := "LinkHouse$Judge", name := "isConstant", desc := "(I)Z" } : Jvm.MethodName)) ∈ lw_all := sorry
theorem q1920 : (Jvm.Cond.privateMethod ({ cls := "LinkHouse$Judge", name := "isConstant", desc := "(I)Z" } : Jvm.MethodName)) ∈ lw_tbl := sorry
theorem q1921 : (Jvm.Cond.instanceMethod ({ cls := "LinkHouse$Judge", name := "isConstant", desc := "(I)Z" } : Jvm.MethodName)) ∈ lw_all := sorry
theorem q1922 : (Jvm.Cond.code ({ cls := "LinkHouse$Judge", name := "isConstant", desc := "(I)Z" } : Jvm.MethodName) prog_3_method_21_code (4 : Nat) (Option.some Jvm.ClassFile.FieldType.boolean)) ∈ lw_all := sorry
theorem q1923 : (Jvm.Cond.methodLink "LinkHouse$Judge" (345 : Nat) ({ cls := "LinkHouse$Judge", name := "isKnown", desc := "(LLinkHouse$Kind;J)Z" } : Jvm.MethodName)) ∈ lw_all := sorry
theorem q1924 : (Jvm.Cond.privateMethod ({ cls := "LinkHouse$Judge", name := "isKnown", desc := "(LLinkHouse$Kind;J)Z" } : Jvm.MethodName)) ∈ lw_tbl := sorry
theorem q1925 : (Jvm.Cond.instanceMethod ({ cls := "LinkHouse$Judge", name := "isKnown", desc := "(LLinkHouse$Kind;J)Z" } : Jvm.MethodName)) ∈ lw_all := sorry
theorem q1926 : (Jvm.Cond.code ({ cls := "LinkHouse$Judge", name := "isKnown", desc := "(LLinkHouse$Kind;J)Z" } : Jvm.MethodName) prog_3_method_23_code (5 : Nat) (Option.some Jvm.ClassFile.FieldType.boolean)) ∈ lw_all := sorry
theorem q1927 : (Jvm.Cond.constantLong "LinkHouse$Judge" (353 : Nat) (2 : Int64)) ∈ lw_all := sorry
theorem q1928 : (Jvm.Cond.methodLink "LinkHouse$Judge" (355 : Nat) ({ cls := "LinkHouse$World", name := "field", desc := "(LLinkHouse$Kind;JJ)LLinkHouse$Member;" } : Jvm.MethodName)) ∈ lw_all := sorry
theorem q1941 : (Jvm.Cond.methodLink "LinkHouse$Judge" (359 : Nat) ({ cls := "LinkHouse$World", name := "lets", desc := "(LLinkHouse$Kind;LLinkHouse$Kind;LLinkHouse$Member;LLinkHouse$Kind;LLinkHouse$Linker;)Z" } : Jvm.MethodName)) ∈ lw_all := sorry
theorem q1969 : (Jvm.Cond.methodLink "LinkHouse$Judge" (349 : Nat) ({ cls := "LinkHouse$Judge", name := "reckoned", desc := "(III)I" } : Jvm.MethodName)) ∈ lw_all := sorry
theorem q1970 : (Jvm.Cond.static ({ cls := "LinkHouse$Judge", name := "reckoned", desc := "(III)I" } : Jvm.MethodName)) ∈ lw_all := sorry
theorem q1971 : (Jvm.Cond.code ({ cls := "LinkHouse$Judge", name := "reckoned", desc := "(III)I" } : Jvm.MethodName) prog_3_method_22_code (3 : Nat) (Option.some Jvm.ClassFile.FieldType.int)) ∈ lw_all := sorry
theorem q1972 : (Jvm.Cond.methodLink "LinkHouse$Judge" (123 : Nat) ({ cls := "LinkHouse$Judge", name := "bodies", desc := "()V" } : Jvm.MethodName)) ∈ lw_all := sorry
theorem q1973 : (Jvm.Cond.privateMethod ({ cls := "LinkHouse$Judge", name := "bodies", desc := "()V" } : Jvm.MethodName)) ∈ lw_tbl := sorry
theorem q1974 : (Jvm.Cond.instanceMethod ({ cls := "LinkHouse$Judge", name := "bodies", desc := "()V" } : Jvm.MethodName)) ∈ lw_all := sorry
theorem q1975 : (Jvm.Cond.code ({ cls := "LinkHouse$Judge", name := "bodies", desc := "()V" } : Jvm.MethodName) prog_3_method_24_code (2 : Nat) (Option.none : Option Jvm.ClassFile.FieldType)) ∈ lw_all := sorry
theorem q1976 : (Jvm.Cond.methodLink "LinkHouse$Judge" (368 : Nat) ({ cls := "LinkHouse$Judge", name := "needs", desc := "(IJ)I" } : Jvm.MethodName)) ∈ lw_all := sorry
theorem q1977 : (Jvm.Cond.privateMethod ({ cls := "LinkHouse$Judge", name := "needs", desc := "(IJ)I" } : Jvm.MethodName)) ∈ lw_tbl := sorry
theorem q1978 : (Jvm.Cond.instanceMethod ({ cls := "LinkHouse$Judge", name := "needs", desc := "(IJ)I" } : Jvm.MethodName)) ∈ lw_all := sorry
theorem q1979 : (Jvm.Cond.code ({ cls := "LinkHouse$Judge", name := "needs", desc := "(IJ)I" } : Jvm.MethodName) prog_3_method_50_code (4 : Nat) (Option.some Jvm.ClassFile.FieldType.int)) ∈ lw_all := sorry
theorem q1980 : (Jvm.Cond.methodLink "LinkHouse$Judge" (522 : Nat) ({ cls := "LinkHouse$Judge", name := "needs", desc := "(IJJLLinkHouse$Member;)I" } : Jvm.MethodName)) ∈ lw_all := sorry
theorem q1981 : (Jvm.Cond.privateMethod ({ cls := "LinkHouse$Judge", name := "needs", desc := "(IJJLLinkHouse$Member;)I" } : Jvm.MethodName)) ∈ lw_tbl := sorry
theorem q1982 : (Jvm.Cond.instanceMethod ({ cls := "LinkHouse$Judge", name := "needs", desc := "(IJJLLinkHouse$Member;)I" } : Jvm.MethodName)) ∈ lw_all := sorry
theorem q1983 : (Jvm.Cond.code ({ cls := "LinkHouse$Judge", name := "needs", desc := "(IJJLLinkHouse$Member;)I" } : Jvm.MethodName) prog_3_method_51_code (7 : Nat) (Option.some Jvm.ClassFile.FieldType.int)) ∈ lw_all := sorry
theorem q1984 : (Jvm.Cond.methodLink "LinkHouse$Judge" (536 : Nat) ({ cls := "LinkHouse$Member", name := "begin", desc := "(LLinkHouse$Kind;)V" } : Jvm.MethodName)) ∈ lw_all := sorry
theorem q1985 : (Jvm.Cond.methodLink "LinkHouse$Judge" (539 : Nat) ({ cls := "LinkHouse$Member", name := "become", desc := "(LLinkHouse$Member;LLinkHouse$Kind;)V" } : Jvm.MethodName)) ∈ lw_all := sorry
theorem q1990 : (Jvm.Cond.methodLink "LinkHouse$Judge" (542 : Nat) ({ cls := "LinkHouse$Judge", name := "useOf", desc := "(LLinkHouse$Build;LLinkHouse$Kind;LLinkHouse$Use;)I" } : Jvm.MethodName)) ∈ lw_all := sorry
theorem q1991 : (Jvm.Cond.static ({ cls := "LinkHouse$Judge", name := "useOf", desc := "(LLinkHouse$Build;LLinkHouse$Kind;LLinkHouse$Use;)I" } : Jvm.MethodName)) ∈ lw_all := sorry
theorem q1992 : (Jvm.Cond.code ({ cls := "LinkHouse$Judge", name := "useOf", desc := "(LLinkHouse$Build;LLinkHouse$Kind;LLinkHouse$Use;)I" } : Jvm.MethodName) prog_3_method_52_code (4 : Nat) (Option.some Jvm.ClassFile.FieldType.int)) ∈ lw_all := sorry
theorem q1993 : (Jvm.Cond.methodLink "LinkHouse$Judge" (550 : Nat) ({ cls := "LinkHouse$Use", name := "isOne", desc := "(LLinkHouse$Use;)Z" } : Jvm.MethodName)) ∈ lw_all := sorry
theorem q1999 : (Jvm.Cond.methodLink "LinkHouse$Judge" (554 : Nat) ({ cls := "LinkHouse$Use", name := "become", desc := "(LLinkHouse$Use;LLinkHouse$Kind;)V" } : Jvm.MethodName)) ∈ lw_all := sorry
theorem q2004 : (Jvm.Cond.methodLink "LinkHouse$Judge" (382 : Nat) ({ cls := "LinkHouse$Judge", name := "body", desc := "()V" } : Jvm.MethodName)) ∈ lw_all := sorry
theorem q2005 : (Jvm.Cond.privateMethod ({ cls := "LinkHouse$Judge", name := "body", desc := "()V" } : Jvm.MethodName)) ∈ lw_tbl := sorry
theorem q2006 : (Jvm.Cond.instanceMethod ({ cls := "LinkHouse$Judge", name := "body", desc := "()V" } : Jvm.MethodName)) ∈ lw_all := sorry
theorem q2007 : (Jvm.Cond.code ({ cls := "LinkHouse$Judge", name := "body", desc := "()V" } : Jvm.MethodName) prog_3_method_25_code (2 : Nat) (Option.none : Option Jvm.ClassFile.FieldType)) ∈ lw_all := sorry
theorem q2008 : (Jvm.Cond.methodLink "LinkHouse$Judge" (401 : Nat) ({ cls := "LinkHouse$Judge", name := "writeBridge", desc := "(LLinkHouse$Build;LLinkHouse$Kind;LLinkHouse$Member;)V" } : Jvm.MethodName)) ∈ lw_all := sorry
theorem q2009 : (Jvm.Cond.instanceMethod ({ cls := "LinkHouse$Judge", name := "writeBridge", desc := "(LLinkHouse$Build;LLinkHouse$Kind;LLinkHouse$Member;)V" } : Jvm.MethodName)) ∈ lw_all := sorry
theorem q2010 : (Jvm.Cond.selects "LinkHouse$Judge" ({ cls := "LinkHouse$Judge", name := "writeBridge", desc := "(LLinkHouse$Build;LLinkHouse$Kind;LLinkHouse$Member;)V" } : Jvm.MethodName) ({ cls := "LinkHouse$Judge", name := "writeBridge", desc := "(LLinkHouse$Build;LLinkHouse$Kind;LLinkHouse$Member;)V" } : Jvm.MethodName)) ∈ lw_all := sorry
theorem q2011 : (Jvm.Cond.code ({ cls := "LinkHouse$Judge", name := "writeBridge", desc := "(LLinkHouse$Build;LLinkHouse$Kind;LLinkHouse$Member;)V" } : Jvm.MethodName) prog_3_method_65_code (7 : Nat) (Option.none : Option Jvm.ClassFile.FieldType)) ∈ lw_all := sorry
theorem q2012 : (Jvm.Cond.methodLink "LinkHouse$Judge" (566 : Nat) ({ cls := "LinkHouse$Judge", name := "callOf", desc := "(LLinkHouse$Kind;)I" } : Jvm.MethodName)) ∈ lw_all := sorry
theorem q2013 : (Jvm.Cond.privateMethod ({ cls := "LinkHouse$Judge", name := "callOf", desc := "(LLinkHouse$Kind;)I" } : Jvm.MethodName)) ∈ lw_tbl := sorry
theorem q2014 : (Jvm.Cond.instanceMethod ({ cls := "LinkHouse$Judge", name := "callOf", desc := "(LLinkHouse$Kind;)I" } : Jvm.MethodName)) ∈ lw_all := sorry
theorem q2015 : (Jvm.Cond.code ({ cls := "LinkHouse$Judge", name := "callOf", desc := "(LLinkHouse$Kind;)I" } : Jvm.MethodName) prog_3_method_56_code (2 : Nat) (Option.some Jvm.ClassFile.FieldType.int)) ∈ lw_all := sorry
theorem q2016 : (Jvm.Cond.methodLink "LinkHouse$Judge" (419 : Nat) ({ cls := "LinkHouse$Judge", name := "emit", desc := "(II)V" } : Jvm.MethodName)) ∈ lw_all := sorry
theorem q2017 : (Jvm.Cond.privateMethod ({ cls := "LinkHouse$Judge", name := "emit", desc := "(II)V" } : Jvm.MethodName)) ∈ lw_tbl := sorry
theorem q2018 : (Jvm.Cond.instanceMethod ({ cls := "LinkHouse$Judge", name := "emit", desc := "(II)V" } : Jvm.MethodName)) ∈ lw_all := sorry
theorem q2019 : (Jvm.Cond.code ({ cls := "LinkHouse$Judge", name := "emit", desc := "(II)V" } : Jvm.MethodName) prog_3_method_49_code (3 : Nat) (Option.none : Option Jvm.ClassFile.FieldType)) ∈ lw_all := sorry
theorem q2020 : (Jvm.Cond.methodLink "LinkHouse$Judge" (415 : Nat) ({ cls := "LinkHouse$Judge", name := "fit", desc := "(JJ)V" } : Jvm.MethodName)) ∈ lw_all := sorry
theorem q2021 : (Jvm.Cond.privateMethod ({ cls := "LinkHouse$Judge", name := "fit", desc := "(JJ)V" } : Jvm.MethodName)) ∈ lw_tbl := sorry
theorem q2022 : (Jvm.Cond.instanceMethod ({ cls := "LinkHouse$Judge", name := "fit", desc := "(JJ)V" } : Jvm.MethodName)) ∈ lw_all := sorry
theorem q2023 : (Jvm.Cond.code ({ cls := "LinkHouse$Judge", name := "fit", desc := "(JJ)V" } : Jvm.MethodName) prog_3_method_53_code (5 : Nat) (Option.none : Option Jvm.ClassFile.FieldType)) ∈ lw_all := sorry
theorem q2024 : (Jvm.Cond.constantLong "LinkHouse$Judge" (557 : Nat) (6927257 : Int64)) ∈ lw_all := sorry
theorem q2025 : (Jvm.Cond.methodLink "LinkHouse$Judge" (405 : Nat) ({ cls := "LinkHouse$Judge", name := "check", desc := "(I)V" } : Jvm.MethodName)) ∈ lw_all := sorry
theorem q2026 : (Jvm.Cond.privateMethod ({ cls := "LinkHouse$Judge", name := "check", desc := "(I)V" } : Jvm.MethodName)) ∈ lw_tbl := sorry
theorem q2027 : (Jvm.Cond.instanceMethod ({ cls := "LinkHouse$Judge", name := "check", desc := "(I)V" } : Jvm.MethodName)) ∈ lw_all := sorry
theorem q2028 : (Jvm.Cond.code ({ cls := "LinkHouse$Judge", name := "check", desc := "(I)V" } : Jvm.MethodName) prog_3_method_38_code (8 : Nat) (Option.none : Option Jvm.ClassFile.FieldType)) ∈ lw_all := sorry
theorem q2029 : (Jvm.Cond.methodLink "LinkHouse$Judge" (480 : Nat) ({ cls := "LinkHouse$Judge", name := "checkName", desc := "(I)V" } : Jvm.MethodName)) ∈ lw_all := sorry
theorem q2030 : (Jvm.Cond.privateMethod ({ cls := "LinkHouse$Judge", name := "checkName", desc := "(I)V" } : Jvm.MethodName)) ∈ lw_tbl := sorry
theorem q2031 : (Jvm.Cond.instanceMethod ({ cls := "LinkHouse$Judge", name := "checkName", desc := "(I)V" } : Jvm.MethodName)) ∈ lw_all := sorry
theorem q2032 : (Jvm.Cond.code ({ cls := "LinkHouse$Judge", name := "checkName", desc := "(I)V" } : Jvm.MethodName) prog_3_method_40_code (5 : Nat) (Option.none : Option Jvm.ClassFile.FieldType)) ∈ lw_all := sorry
theorem q2033 : (Jvm.Cond.methodLink "LinkHouse$Judge" (483 : Nat) ({ cls := "LinkHouse$Judge", name := "asField", desc := "(ILLinkHouse$Kind;)V" } : Jvm.MethodName)) ∈ lw_all := sorry
theorem q2034 : (Jvm.Cond.privateMethod ({ cls := "LinkHouse$Judge", name := "asField", desc := "(ILLinkHouse$Kind;)V" } : Jvm.MethodName)) ∈ lw_tbl := sorry
theorem q2035 : (Jvm.Cond.instanceMethod ({ cls := "LinkHouse$Judge", name := "asField", desc := "(ILLinkHouse$Kind;)V" } : Jvm.MethodName)) ∈ lw_all := sorry
theorem q2036 : (Jvm.Cond.code ({ cls := "LinkHouse$Judge", name := "asField", desc := "(ILLinkHouse$Kind;)V" } : Jvm.MethodName) prog_3_method_42_code (4 : Nat) (Option.none : Option Jvm.ClassFile.FieldType)) ∈ lw_all := sorry
theorem q2037 : (Jvm.Cond.methodLink "LinkHouse$Judge" (487 : Nat) ({ cls := "LinkHouse$Judge", name := "objectAt", desc := "(I)LLinkHouse$Kind;" } : Jvm.MethodName)) ∈ lw_all := sorry
theorem q2038 : (Jvm.Cond.privateMethod ({ cls := "LinkHouse$Judge", name := "objectAt", desc := "(I)LLinkHouse$Kind;" } : Jvm.MethodName)) ∈ lw_tbl := sorry
theorem q2039 : (Jvm.Cond.instanceMethod ({ cls := "LinkHouse$Judge", name := "objectAt", desc := "(I)LLinkHouse$Kind;" } : Jvm.MethodName)) ∈ lw_all := sorry
theorem q2040 : (Jvm.Cond.code ({ cls := "LinkHouse$Judge", name := "objectAt", desc := "(I)LLinkHouse$Kind;" } : Jvm.MethodName) prog_3_method_41_code (2 : Nat) (Option.some (Jvm.ClassFile.FieldType.object "LinkHouse$Kind"))) ∈ lw_all := sorry
theorem q2041 : (Jvm.Cond.methodLink "LinkHouse$Judge" (506 : Nat) ({ cls := "LinkHouse$Judge", name := "isObject", desc := "(J)Z" } : Jvm.MethodName)) ∈ lw_all := sorry
theorem q2042 : (Jvm.Cond.privateMethod ({ cls := "LinkHouse$Judge", name := "isObject", desc := "(J)Z" } : Jvm.MethodName)) ∈ lw_tbl := sorry
theorem q2043 : (Jvm.Cond.instanceMethod ({ cls := "LinkHouse$Judge", name := "isObject", desc := "(J)Z" } : Jvm.MethodName)) ∈ lw_all := sorry
theorem q2044 : (Jvm.Cond.code ({ cls := "LinkHouse$Judge", name := "isObject", desc := "(J)Z" } : Jvm.MethodName) prog_3_method_36_code (3 : Nat) (Option.some Jvm.ClassFile.FieldType.boolean)) ∈ lw_all := sorry
theorem q2045 : (Jvm.Cond.methodLink "LinkHouse$Judge" (490 : Nat) ({ cls := "LinkHouse$Judge", name := "checkArgs", desc := "(I)V" } : Jvm.MethodName)) ∈ lw_all := sorry
theorem q2046 : (Jvm.Cond.privateMethod ({ cls := "LinkHouse$Judge", name := "checkArgs", desc := "(I)V" } : Jvm.MethodName)) ∈ lw_tbl := sorry
theorem q2047 : (Jvm.Cond.instanceMethod ({ cls := "LinkHouse$Judge", name := "checkArgs", desc := "(I)V" } : Jvm.MethodName)) ∈ lw_all := sorry
theorem q2048 : (Jvm.Cond.code ({ cls := "LinkHouse$Judge", name := "checkArgs", desc := "(I)V" } : Jvm.MethodName) prog_3_method_35_code (3 : Nat) (Option.none : Option Jvm.ClassFile.FieldType)) ∈ lw_all := sorry
theorem q2049 : (Jvm.Cond.methodLink "LinkHouse$Judge" (493 : Nat) ({ cls := "LinkHouse$Judge", name := "asCall", desc := "(ILLinkHouse$Kind;)V" } : Jvm.MethodName)) ∈ lw_all := sorry
theorem q2050 : (Jvm.Cond.privateMethod ({ cls := "LinkHouse$Judge", name := "asCall", desc := "(ILLinkHouse$Kind;)V" } : Jvm.MethodName)) ∈ lw_tbl := sorry
theorem q2051 : (Jvm.Cond.instanceMethod ({ cls := "LinkHouse$Judge", name := "asCall", desc := "(ILLinkHouse$Kind;)V" } : Jvm.MethodName)) ∈ lw_all := sorry
theorem q2052 : (Jvm.Cond.code ({ cls := "LinkHouse$Judge", name := "asCall", desc := "(ILLinkHouse$Kind;)V" } : Jvm.MethodName) prog_3_method_43_code (4 : Nat) (Option.none : Option Jvm.ClassFile.FieldType)) ∈ lw_all := sorry
theorem q2053 : (Jvm.Cond.methodLink "LinkHouse$Judge" (512 : Nat) ({ cls := "LinkHouse$Judge", name := "method", desc := "(LLinkHouse$Kind;JI)LLinkHouse$Member;" } : Jvm.MethodName)) ∈ lw_all := sorry
theorem q2054 : (Jvm.Cond.privateMethod ({ cls := "LinkHouse$Judge", name := "method", desc := "(LLinkHouse$Kind;JI)LLinkHouse$Member;" } : Jvm.MethodName)) ∈ lw_tbl := sorry
theorem q2055 : (Jvm.Cond.instanceMethod ({ cls := "LinkHouse$Judge", name := "method", desc := "(LLinkHouse$Kind;JI)LLinkHouse$Member;" } : Jvm.MethodName)) ∈ lw_all := sorry
theorem q2056 : (Jvm.Cond.code ({ cls := "LinkHouse$Judge", name := "method", desc := "(LLinkHouse$Kind;JI)LLinkHouse$Member;" } : Jvm.MethodName) prog_3_method_33_code (8 : Nat) (Option.some (Jvm.ClassFile.FieldType.object "LinkHouse$Member"))) ∈ lw_all := sorry
theorem q2057 : (Jvm.Cond.methodLink "LinkHouse$Judge" (473 : Nat) ({ cls := "LinkHouse$Judge", name := "candidatesOf", desc := "(LLinkHouse$Kind;LLinkHouse$Kind;JI)V" } : Jvm.MethodName)) ∈ lw_all := sorry
theorem q2058 : (Jvm.Cond.privateMethod ({ cls := "LinkHouse$Judge", name := "candidatesOf", desc := "(LLinkHouse$Kind;LLinkHouse$Kind;JI)V" } : Jvm.MethodName)) ∈ lw_tbl := sorry
theorem q2059 : (Jvm.Cond.instanceMethod ({ cls := "LinkHouse$Judge", name := "candidatesOf", desc := "(LLinkHouse$Kind;LLinkHouse$Kind;JI)V" } : Jvm.MethodName)) ∈ lw_all := sorry
theorem q2060 : (Jvm.Cond.code ({ cls := "LinkHouse$Judge", name := "candidatesOf", desc := "(LLinkHouse$Kind;LLinkHouse$Kind;JI)V" } : Jvm.MethodName) prog_3_method_34_code (10 : Nat) (Option.none : Option Jvm.ClassFile.FieldType)) ∈ lw_all := sorry
theorem q2061 : (Jvm.Cond.methodLink "LinkHouse$Judge" (463 : Nat) ({ cls := "LinkHouse$Judge", name := "takes", desc := "(LLinkHouse$Member;I)Z" } : Jvm.MethodName)) ∈ lw_all := sorry
theorem q2062 : (Jvm.Cond.privateMethod ({ cls := "LinkHouse$Judge", name := "takes", desc := "(LLinkHouse$Member;I)Z" } : Jvm.MethodName)) ∈ lw_tbl := sorry
theorem q2063 : (Jvm.Cond.instanceMethod ({ cls := "LinkHouse$Judge", name := "takes", desc := "(LLinkHouse$Member;I)Z" } : Jvm.MethodName)) ∈ lw_all := sorry
theorem q2064 : (Jvm.Cond.code ({ cls := "LinkHouse$Judge", name := "takes", desc := "(LLinkHouse$Member;I)Z" } : Jvm.MethodName) prog_3_method_31_code (5 : Nat) (Option.some Jvm.ClassFile.FieldType.boolean)) ∈ lw_all := sorry
theorem q2065 : (Jvm.Cond.methodLink "LinkHouse$Judge" (467 : Nat) ({ cls := "LinkHouse$Judge", name := "best", desc := "()LLinkHouse$Member;" } : Jvm.MethodName)) ∈ lw_all := sorry
theorem q2066 : (Jvm.Cond.privateMethod ({ cls := "LinkHouse$Judge", name := "best", desc := "()LLinkHouse$Member;" } : Jvm.MethodName)) ∈ lw_tbl := sorry
theorem q2067 : (Jvm.Cond.instanceMethod ({ cls := "LinkHouse$Judge", name := "best", desc := "()LLinkHouse$Member;" } : Jvm.MethodName)) ∈ lw_all := sorry
theorem q2068 : (Jvm.Cond.code ({ cls := "LinkHouse$Judge", name := "best", desc := "()LLinkHouse$Member;" } : Jvm.MethodName) prog_3_method_32_code (5 : Nat) (Option.some (Jvm.ClassFile.FieldType.object "LinkHouse$Member"))) ∈ lw_all := sorry
theorem q2069 : (Jvm.Cond.methodLink "LinkHouse$Judge" (496 : Nat) ({ cls := "LinkHouse$Judge", name := "checkSuper", desc := "(ILLinkHouse$Kind;I)V" } : Jvm.MethodName)) ∈ lw_all := sorry
theorem q2070 : (Jvm.Cond.privateMethod ({ cls := "LinkHouse$Judge", name := "checkSuper", desc := "(ILLinkHouse$Kind;I)V" } : Jvm.MethodName)) ∈ lw_tbl := sorry
theorem q2071 : (Jvm.Cond.instanceMethod ({ cls := "LinkHouse$Judge", name := "checkSuper", desc := "(ILLinkHouse$Kind;I)V" } : Jvm.MethodName)) ∈ lw_all := sorry
theorem q2072 : (Jvm.Cond.code ({ cls := "LinkHouse$Judge", name := "checkSuper", desc := "(ILLinkHouse$Kind;I)V" } : Jvm.MethodName) prog_3_method_44_code (4 : Nat) (Option.none : Option Jvm.ClassFile.FieldType)) ∈ lw_all := sorry
theorem q2073 : (Jvm.Cond.methodLink "LinkHouse$Judge" (500 : Nat) ({ cls := "LinkHouse$Kind", name := "hasFace", desc := "(J)Z" } : Jvm.MethodName)) ∈ lw_all := sorry
theorem q2077 : (Jvm.Cond.methodLink "LinkHouse$Judge" (503 : Nat) ({ cls := "LinkHouse$Judge", name := "checkNew", desc := "(I)V" } : Jvm.MethodName)) ∈ lw_all := sorry
theorem q2078 : (Jvm.Cond.privateMethod ({ cls := "LinkHouse$Judge", name := "checkNew", desc := "(I)V" } : Jvm.MethodName)) ∈ lw_tbl := sorry
theorem q2079 : (Jvm.Cond.instanceMethod ({ cls := "LinkHouse$Judge", name := "checkNew", desc := "(I)V" } : Jvm.MethodName)) ∈ lw_all := sorry
theorem q2080 : (Jvm.Cond.code ({ cls := "LinkHouse$Judge", name := "checkNew", desc := "(I)V" } : Jvm.MethodName) prog_3_method_45_code (4 : Nat) (Option.none : Option Jvm.ClassFile.FieldType)) ∈ lw_all := sorry
theorem q2081 : (Jvm.Cond.methodLink "LinkHouse$Judge" (449 : Nat) ({ cls := "LinkHouse$Judge", name := "maker", desc := "(LLinkHouse$Kind;I)LLinkHouse$Member;" } : Jvm.MethodName)) ∈ lw_all := sorry
theorem q2082 : (Jvm.Cond.privateMethod ({ cls := "LinkHouse$Judge", name := "maker", desc := "(LLinkHouse$Kind;I)LLinkHouse$Member;" } : Jvm.MethodName)) ∈ lw_tbl := sorry
theorem q2083 : (Jvm.Cond.instanceMethod ({ cls := "LinkHouse$Judge", name := "maker", desc := "(LLinkHouse$Kind;I)LLinkHouse$Member;" } : Jvm.MethodName)) ∈ lw_all := sorry
theorem q2084 : (Jvm.Cond.code ({ cls := "LinkHouse$Judge", name := "maker", desc := "(LLinkHouse$Kind;I)LLinkHouse$Member;" } : Jvm.MethodName) prog_3_method_30_code (5 : Nat) (Option.some (Jvm.ClassFile.FieldType.object "LinkHouse$Member"))) ∈ lw_all := sorry
theorem q2085 : (Jvm.Cond.methodLink "LinkHouse$Judge" (509 : Nat) ({ cls := "LinkHouse$Judge", name := "checkChain", desc := "(I)V" } : Jvm.MethodName)) ∈ lw_all := sorry
theorem q2086 : (Jvm.Cond.privateMethod ({ cls := "LinkHouse$Judge", name := "checkChain", desc := "(I)V" } : Jvm.MethodName)) ∈ lw_tbl := sorry
theorem q2087 : (Jvm.Cond.instanceMethod ({ cls := "LinkHouse$Judge", name := "checkChain", desc := "(I)V" } : Jvm.MethodName)) ∈ lw_all := sorry
theorem q2088 : (Jvm.Cond.code ({ cls := "LinkHouse$Judge", name := "checkChain", desc := "(I)V" } : Jvm.MethodName) prog_3_method_39_code (7 : Nat) (Option.none : Option Jvm.ClassFile.FieldType)) ∈ lw_all := sorry
theorem q2089 : (Jvm.Cond.methodLink "LinkHouse$Judge" (408 : Nat) ({ cls := "LinkHouse$Judge", name := "expect", desc := "(IJ)V" } : Jvm.MethodName)) ∈ lw_all := sorry
theorem q2090 : (Jvm.Cond.privateMethod ({ cls := "LinkHouse$Judge", name := "expect", desc := "(IJ)V" } : Jvm.MethodName)) ∈ lw_tbl := sorry
theorem q2091 : (Jvm.Cond.instanceMethod ({ cls := "LinkHouse$Judge", name := "expect", desc := "(IJ)V" } : Jvm.MethodName)) ∈ lw_all := sorry
theorem q2092 : (Jvm.Cond.code ({ cls := "LinkHouse$Judge", name := "expect", desc := "(IJ)V" } : Jvm.MethodName) prog_3_method_37_code (4 : Nat) (Option.none : Option Jvm.ClassFile.FieldType)) ∈ lw_all := sorry
theorem q2093 : (Jvm.Cond.methodLink "LinkHouse$Judge" (412 : Nat) ({ cls := "LinkHouse$Judge", name := "write", desc := "(I)V" } : Jvm.MethodName)) ∈ lw_all := sorry
theorem q2094 : (Jvm.Cond.privateMethod ({ cls := "LinkHouse$Judge", name := "write", desc := "(I)V" } : Jvm.MethodName)) ∈ lw_tbl := sorry
theorem q2095 : (Jvm.Cond.instanceMethod ({ cls := "LinkHouse$Judge", name := "write", desc := "(I)V" } : Jvm.MethodName)) ∈ lw_all := sorry
theorem q2096 : (Jvm.Cond.code ({ cls := "LinkHouse$Judge", name := "write", desc := "(I)V" } : Jvm.MethodName) prog_3_method_57_code (6 : Nat) (Option.none : Option Jvm.ClassFile.FieldType)) ∈ lw_all := sorry
theorem q2097 : (Jvm.Cond.methodLink "LinkHouse$Judge" (559 : Nat) ({ cls := "LinkHouse$Judge", name := "writeGet", desc := "(I)V" } : Jvm.MethodName)) ∈ lw_all := sorry
theorem q2098 : (Jvm.Cond.privateMethod ({ cls := "LinkHouse$Judge", name := "writeGet", desc := "(I)V" } : Jvm.MethodName)) ∈ lw_tbl := sorry
theorem q2099 : (Jvm.Cond.instanceMethod ({ cls := "LinkHouse$Judge", name := "writeGet", desc := "(I)V" } : Jvm.MethodName)) ∈ lw_all := sorry
theorem q2100 : (Jvm.Cond.code ({ cls := "LinkHouse$Judge", name := "writeGet", desc := "(I)V" } : Jvm.MethodName) prog_3_method_59_code (3 : Nat) (Option.none : Option Jvm.ClassFile.FieldType)) ∈ lw_all := sorry
theorem q2101 : (Jvm.Cond.methodLink "LinkHouse$Judge" (562 : Nat) ({ cls := "LinkHouse$Judge", name := "writeArgs", desc := "(ILLinkHouse$Member;)V" } : Jvm.MethodName)) ∈ lw_all := sorry
theorem q2102 : (Jvm.Cond.privateMethod ({ cls := "LinkHouse$Judge", name := "writeArgs", desc := "(ILLinkHouse$Member;)V" } : Jvm.MethodName)) ∈ lw_tbl := sorry
theorem q2103 : (Jvm.Cond.instanceMethod ({ cls := "LinkHouse$Judge", name := "writeArgs", desc := "(ILLinkHouse$Member;)V" } : Jvm.MethodName)) ∈ lw_all := sorry
theorem q2104 : (Jvm.Cond.code ({ cls := "LinkHouse$Judge", name := "writeArgs", desc := "(ILLinkHouse$Member;)V" } : Jvm.MethodName) prog_3_method_54_code (5 : Nat) (Option.none : Option Jvm.ClassFile.FieldType)) ∈ lw_all := sorry
theorem q2105 : (Jvm.Cond.methodLink "LinkHouse$Judge" (569 : Nat) ({ cls := "LinkHouse$Judge", name := "writeCall", desc := "(II)V" } : Jvm.MethodName)) ∈ lw_all := sorry
theorem q2106 : (Jvm.Cond.privateMethod ({ cls := "LinkHouse$Judge", name := "writeCall", desc := "(II)V" } : Jvm.MethodName)) ∈ lw_tbl := sorry
theorem q2107 : (Jvm.Cond.instanceMethod ({ cls := "LinkHouse$Judge", name := "writeCall", desc := "(II)V" } : Jvm.MethodName)) ∈ lw_all := sorry
theorem q2108 : (Jvm.Cond.code ({ cls := "LinkHouse$Judge", name := "writeCall", desc := "(II)V" } : Jvm.MethodName) prog_3_method_55_code (3 : Nat) (Option.none : Option Jvm.ClassFile.FieldType)) ∈ lw_all := sorry
theorem q2109 : (Jvm.Cond.methodLink "LinkHouse$Judge" (572 : Nat) ({ cls := "LinkHouse$Judge", name := "writeChain", desc := "(I)V" } : Jvm.MethodName)) ∈ lw_all := sorry
theorem q2110 : (Jvm.Cond.privateMethod ({ cls := "LinkHouse$Judge", name := "writeChain", desc := "(I)V" } : Jvm.MethodName)) ∈ lw_tbl := sorry
theorem q2111 : (Jvm.Cond.instanceMethod ({ cls := "LinkHouse$Judge", name := "writeChain", desc := "(I)V" } : Jvm.MethodName)) ∈ lw_all := sorry
theorem q2112 : (Jvm.Cond.code ({ cls := "LinkHouse$Judge", name := "writeChain", desc := "(I)V" } : Jvm.MethodName) prog_3_method_58_code (7 : Nat) (Option.none : Option Jvm.ClassFile.FieldType)) ∈ lw_all := sorry
theorem q2113 : (Jvm.Cond.methodLink "LinkHouse$Judge" (423 : Nat) ({ cls := "LinkHouse$Judge", name := "paramsOf", desc := "(LLinkHouse$Member;)V" } : Jvm.MethodName)) ∈ lw_all := sorry
theorem q2114 : (Jvm.Cond.privateMethod ({ cls := "LinkHouse$Judge", name := "paramsOf", desc := "(LLinkHouse$Member;)V" } : Jvm.MethodName)) ∈ lw_tbl := sorry
theorem q2115 : (Jvm.Cond.instanceMethod ({ cls := "LinkHouse$Judge", name := "paramsOf", desc := "(LLinkHouse$Member;)V" } : Jvm.MethodName)) ∈ lw_all := sorry
theorem q2116 : (Jvm.Cond.code ({ cls := "LinkHouse$Judge", name := "paramsOf", desc := "(LLinkHouse$Member;)V" } : Jvm.MethodName) prog_3_method_26_code (3 : Nat) (Option.none : Option Jvm.ClassFile.FieldType)) ∈ lw_all := sorry
theorem q2117 : (Jvm.Cond.methodLink "LinkHouse$Judge" (441 : Nat) ({ cls := "LinkHouse$Judge", name := "know", desc := "(JJI)V" } : Jvm.MethodName)) ∈ lw_all := sorry
theorem q2118 : (Jvm.Cond.privateMethod ({ cls := "LinkHouse$Judge", name := "know", desc := "(JJI)V" } : Jvm.MethodName)) ∈ lw_tbl := sorry
theorem q2119 : (Jvm.Cond.instanceMethod ({ cls := "LinkHouse$Judge", name := "know", desc := "(JJI)V" } : Jvm.MethodName)) ∈ lw_all := sorry
theorem q2120 : (Jvm.Cond.code ({ cls := "LinkHouse$Judge", name := "know", desc := "(JJI)V" } : Jvm.MethodName) prog_3_method_27_code (7 : Nat) (Option.none : Option Jvm.ClassFile.FieldType)) ∈ lw_all := sorry
theorem q2121 : (Jvm.Cond.methodLink "LinkHouse$Judge" (426 : Nat) ({ cls := "LinkHouse$Judge", name := "statement", desc := "(I)V" } : Jvm.MethodName)) ∈ lw_all := sorry
theorem q2122 : (Jvm.Cond.privateMethod ({ cls := "LinkHouse$Judge", name := "statement", desc := "(I)V" } : Jvm.MethodName)) ∈ lw_tbl := sorry
theorem q2123 : (Jvm.Cond.instanceMethod ({ cls := "LinkHouse$Judge", name := "statement", desc := "(I)V" } : Jvm.MethodName)) ∈ lw_all := sorry
theorem q2124 : (Jvm.Cond.code ({ cls := "LinkHouse$Judge", name := "statement", desc := "(I)V" } : Jvm.MethodName) prog_3_method_46_code (8 : Nat) (Option.none : Option Jvm.ClassFile.FieldType)) ∈ lw_all := sorry
theorem q2125 : (Jvm.Cond.constantLong "LinkHouse$Judge" (515 : Nat) (6959884 : Int64)) ∈ lw_all := sorry
theorem q2126 : (Jvm.Cond.methodLink "LinkHouse$Judge" (445 : Nat) ({ cls := "LinkHouse$Judge", name := "firstOf", desc := "(LLinkHouse$Member;)I" } : Jvm.MethodName)) ∈ lw_all := sorry
theorem q2127 : (Jvm.Cond.privateMethod ({ cls := "LinkHouse$Judge", name := "firstOf", desc := "(LLinkHouse$Member;)I" } : Jvm.MethodName)) ∈ lw_tbl := sorry
theorem q2128 : (Jvm.Cond.instanceMethod ({ cls := "LinkHouse$Judge", name := "firstOf", desc := "(LLinkHouse$Member;)I" } : Jvm.MethodName)) ∈ lw_all := sorry
theorem q2129 : (Jvm.Cond.code ({ cls := "LinkHouse$Judge", name := "firstOf", desc := "(LLinkHouse$Member;)I" } : Jvm.MethodName) prog_3_method_28_code (2 : Nat) (Option.some Jvm.ClassFile.FieldType.int)) ∈ lw_all := sorry
theorem q2130 : (Jvm.Cond.methodLink "LinkHouse$Judge" (517 : Nat) ({ cls := "LinkHouse$Judge", name := "checkPut", desc := "(I)V" } : Jvm.MethodName)) ∈ lw_all := sorry
theorem q2131 : (Jvm.Cond.privateMethod ({ cls := "LinkHouse$Judge", name := "checkPut", desc := "(I)V" } : Jvm.MethodName)) ∈ lw_tbl := sorry
theorem q2132 : (Jvm.Cond.instanceMethod ({ cls := "LinkHouse$Judge", name := "checkPut", desc := "(I)V" } : Jvm.MethodName)) ∈ lw_all := sorry
theorem q2133 : (Jvm.Cond.code ({ cls := "LinkHouse$Judge", name := "checkPut", desc := "(I)V" } : Jvm.MethodName) prog_3_method_47_code (6 : Nat) (Option.none : Option Jvm.ClassFile.FieldType)) ∈ lw_all := sorry
theorem q2134 : (Jvm.Cond.methodLink "LinkHouse$Judge" (429 : Nat) ({ cls := "LinkHouse$Judge", name := "isCompleted", desc := "(I)Z" } : Jvm.MethodName)) ∈ lw_all := sorry
theorem q2135 : (Jvm.Cond.privateMethod ({ cls := "LinkHouse$Judge", name := "isCompleted", desc := "(I)Z" } : Jvm.MethodName)) ∈ lw_tbl := sorry
theorem q2136 : (Jvm.Cond.instanceMethod ({ cls := "LinkHouse$Judge", name := "isCompleted", desc := "(I)Z" } : Jvm.MethodName)) ∈ lw_all := sorry
theorem q2137 : (Jvm.Cond.code ({ cls := "LinkHouse$Judge", name := "isCompleted", desc := "(I)Z" } : Jvm.MethodName) prog_3_method_48_code (4 : Nat) (Option.some Jvm.ClassFile.FieldType.boolean)) ∈ lw_all := sorry
theorem q2138 : (Jvm.Cond.methodLink "LinkHouse$Judge" (432 : Nat) ({ cls := "LinkHouse$Judge", name := "writeStatement", desc := "(I)V" } : Jvm.MethodName)) ∈ lw_all := sorry
theorem q2139 : (Jvm.Cond.privateMethod ({ cls := "LinkHouse$Judge", name := "writeStatement", desc := "(I)V" } : Jvm.MethodName)) ∈ lw_tbl := sorry
theorem q2140 : (Jvm.Cond.instanceMethod ({ cls := "LinkHouse$Judge", name := "writeStatement", desc := "(I)V" } : Jvm.MethodName)) ∈ lw_all := sorry
theorem q2141 : (Jvm.Cond.code ({ cls := "LinkHouse$Judge", name := "writeStatement", desc := "(I)V" } : Jvm.MethodName) prog_3_method_60_code (8 : Nat) (Option.none : Option Jvm.ClassFile.FieldType)) ∈ lw_all := sorry
theorem q2142 : (Jvm.Cond.methodLink "LinkHouse$Judge" (575 : Nat) ({ cls := "LinkHouse$Judge", name := "writeTry", desc := "(I)V" } : Jvm.MethodName)) ∈ lw_all := sorry
theorem q2143 : (Jvm.Cond.privateMethod ({ cls := "LinkHouse$Judge", name := "writeTry", desc := "(I)V" } : Jvm.MethodName)) ∈ lw_tbl := sorry
theorem q2144 : (Jvm.Cond.instanceMethod ({ cls := "LinkHouse$Judge", name := "writeTry", desc := "(I)V" } : Jvm.MethodName)) ∈ lw_all := sorry
theorem q2145 : (Jvm.Cond.code ({ cls := "LinkHouse$Judge", name := "writeTry", desc := "(I)V" } : Jvm.MethodName) prog_3_method_61_code (6 : Nat) (Option.none : Option Jvm.ClassFile.FieldType)) ∈ lw_all := sorry
theorem q2146 : (Jvm.Cond.methodLink "LinkHouse$Judge" (453 : Nat) ({ cls := "LinkHouse$Judge", name := "writeSuper", desc := "(LLinkHouse$Kind;LLinkHouse$Member;I)V" } : Jvm.MethodName)) ∈ lw_all := sorry
theorem q2147 : (Jvm.Cond.privateMethod ({ cls := "LinkHouse$Judge", name := "writeSuper", desc := "(LLinkHouse$Kind;LLinkHouse$Member;I)V" } : Jvm.MethodName)) ∈ lw_tbl := sorry
theorem q2148 : (Jvm.Cond.instanceMethod ({ cls := "LinkHouse$Judge", name := "writeSuper", desc := "(LLinkHouse$Kind;LLinkHouse$Member;I)V" } : Jvm.MethodName)) ∈ lw_all := sorry
theorem q2149 : (Jvm.Cond.code ({ cls := "LinkHouse$Judge", name := "writeSuper", desc := "(LLinkHouse$Kind;LLinkHouse$Member;I)V" } : Jvm.MethodName) prog_3_method_63_code (4 : Nat) (Option.none : Option Jvm.ClassFile.FieldType)) ∈ lw_all := sorry
theorem q2150 : (Jvm.Cond.methodLink "LinkHouse$Judge" (457 : Nat) ({ cls := "LinkHouse$Judge", name := "writeFirst", desc := "()V" } : Jvm.MethodName)) ∈ lw_all := sorry
theorem q2151 : (Jvm.Cond.privateMethod ({ cls := "LinkHouse$Judge", name := "writeFirst", desc := "()V" } : Jvm.MethodName)) ∈ lw_tbl := sorry
theorem q2152 : (Jvm.Cond.instanceMethod ({ cls := "LinkHouse$Judge", name := "writeFirst", desc := "()V" } : Jvm.MethodName)) ∈ lw_all := sorry
theorem q2153 : (Jvm.Cond.code ({ cls := "LinkHouse$Judge", name := "writeFirst", desc := "()V" } : Jvm.MethodName) prog_3_method_64_code (3 : Nat) (Option.none : Option Jvm.ClassFile.FieldType)) ∈ lw_all := sorry
theorem q2154 : (Jvm.Cond.methodLink "LinkHouse$Judge" (578 : Nat) ({ cls := "LinkHouse$Judge", name := "writePut", desc := "(I)V" } : Jvm.MethodName)) ∈ lw_all := sorry
theorem q2155 : (Jvm.Cond.privateMethod ({ cls := "LinkHouse$Judge", name := "writePut", desc := "(I)V" } : Jvm.MethodName)) ∈ lw_tbl := sorry
theorem q2156 : (Jvm.Cond.instanceMethod ({ cls := "LinkHouse$Judge", name := "writePut", desc := "(I)V" } : Jvm.MethodName)) ∈ lw_all := sorry
theorem q2157 : (Jvm.Cond.code ({ cls := "LinkHouse$Judge", name := "writePut", desc := "(I)V" } : Jvm.MethodName) prog_3_method_62_code (5 : Nat) (Option.none : Option Jvm.ClassFile.FieldType)) ∈ lw_all := sorry
theorem q2158 : (Jvm.Cond.methodLink "LinkHouse$Judge" (435 : Nat) ({ cls := "LinkHouse$Judge", name := "makerBody", desc := "(LLinkHouse$Member;)V" } : Jvm.MethodName)) ∈ lw_all := sorry
theorem q2159 : (Jvm.Cond.privateMethod ({ cls := "LinkHouse$Judge", name := "makerBody", desc := "(LLinkHouse$Member;)V" } : Jvm.MethodName)) ∈ lw_tbl := sorry
theorem q2160 : (Jvm.Cond.instanceMethod ({ cls := "LinkHouse$Judge", name := "makerBody", desc := "(LLinkHouse$Member;)V" } : Jvm.MethodName)) ∈ lw_all := sorry
theorem q2161 : (Jvm.Cond.code ({ cls := "LinkHouse$Judge", name := "makerBody", desc := "(LLinkHouse$Member;)V" } : Jvm.MethodName) prog_3_method_29_code (6 : Nat) (Option.none : Option Jvm.ClassFile.FieldType)) ∈ lw_all := sorry
theorem q2162 : (Jvm.Cond.methodLink "LinkHouse$Judge" (386 : Nat) ({ cls := "java/lang/Math", name := "max", desc := "(II)I" } : Jvm.MethodName)) ∈ lw_all := sorry
theorem in_X6 : ∀ w ∈ wsX60, w ∈ lw_all := sorry
/-! LinkHouse$Use -/
def RX7 : String := "LinkHouse$Use"
def TX7 : u_T := fun k => match k with
  | 0 => ("LinkHouse$Use", "sort", "I", false)
  | 1 => ("LinkHouse$Use", "by", "LLinkHouse$Kind;", false)
  | 2 => ("LinkHouse$Use", "title", "J", false)
  | 3 => ("LinkHouse$Use", "other", "J", false)
  | _ => ("LinkHouse$Use", "as", "LLinkHouse$Member;", true)
def tyX7 : Nat → FieldType := fun k => match k with
  | 0 => .int
  | 1 => .object "LinkHouse$Kind"
  | 2 => .long
  | 3 => .long
  | _ => .object "LinkHouse$Member"
abbrev wsX70 : List Cond := u_ws RX7 TX7 5
theorem nmX7 : ∀ a, a < 5 → ∀ b, b < 5 → a ≠ b → (TX7 a).2.1 ≠ (TX7 b).2.1 := sorry
theorem tyX7_ok : ∀ k, k < 5 → parseFieldDescriptor (TX7 k).2.2.1 = some (tyX7 k) := sorry
abbrev cX7_init : ByteArray := prog_10_method_1_code
def yX7_init : MethodName := ⟨RX7, "<init>", "()V"⟩
abbrev cX7_isOne : ByteArray := prog_10_method_3_code
def yX7_isOne : MethodName := ⟨RX7, "isOne", "(LLinkHouse$Use;)Z"⟩
abbrev cX7_become : ByteArray := prog_10_method_2_code
def yX7_become : MethodName := ⟨RX7, "become", "(LLinkHouse$Use;LLinkHouse$Kind;)V"⟩
theorem q407 : (Jvm.Cond.initialized "LinkHouse$Use") ∈ lw_all := sorry
theorem q444 : (Jvm.Cond.fieldLinkNest "LinkHouse$Use" (41 : Nat) "LinkHouse$Member" "title" "J" "LinkHouse") ∈ lw_tbl := sorry
theorem q481 : (Jvm.Cond.fieldLinkNest "LinkHouse$Use" (42 : Nat) "LinkHouse$Member" "type" "J" "LinkHouse") ∈ lw_tbl := sorry
theorem q508 : (Jvm.Cond.fieldLinkNest "LinkHouse$Use" (45 : Nat) "LinkHouse$Member" "constant" "I" "LinkHouse") ∈ lw_tbl := sorry
theorem q1071 : (Jvm.Cond.instantiable "LinkHouse$Use" (5 : Nat)) ∈ lw_all := sorry
theorem q1073 : (Jvm.Cond.instanceMethod ({ cls := "LinkHouse$Use", name := "<init>", desc := "()V" } : Jvm.MethodName)) ∈ lw_all := sorry
theorem q1074 : (Jvm.Cond.code ({ cls := "LinkHouse$Use", name := "<init>", desc := "()V" } : Jvm.MethodName) prog_10_method_1_code (1 : Nat) (Option.none : Option Jvm.ClassFile.FieldType)) ∈ lw_all := sorry
theorem q1075 : (Jvm.Cond.methodLink "LinkHouse$Use" (3 : Nat) ({ cls := "java/lang/Object", name := "<init>", desc := "()V" } : Jvm.MethodName)) ∈ lw_all := sorry
theorem q1076 : (Jvm.Cond.classLink "LinkHouse$Use" (9 : Nat) "LinkHouse$Member") ∈ lw_all := sorry
theorem q1077 : (Jvm.Cond.methodLinkNest "LinkHouse$Use" (11 : Nat) ({ cls := "LinkHouse$Member", name := "<init>", desc := "()V" } : Jvm.MethodName) "LinkHouse") ∈ lw_tbl := sorry
theorem q1078 : (Jvm.Cond.fieldLink "LinkHouse$Use" (18 : Nat) "LinkHouse$Use" "sort" "I") ∈ lw_all := sorry
theorem q1083 : (Jvm.Cond.fieldLink "LinkHouse$Use" (22 : Nat) "LinkHouse$Use" "by" "LLinkHouse$Kind;") ∈ lw_all := sorry
theorem q1087 : (Jvm.Cond.fieldLink "LinkHouse$Use" (26 : Nat) "LinkHouse$Use" "title" "J") ∈ lw_all := sorry
theorem q1092 : (Jvm.Cond.fieldLink "LinkHouse$Use" (30 : Nat) "LinkHouse$Use" "other" "J") ∈ lw_all := sorry
theorem q1096 : (Jvm.Cond.fieldLink "LinkHouse$Use" (12 : Nat) "LinkHouse$Use" "as" "LLinkHouse$Member;") ∈ lw_all := sorry
theorem q1100 : (Jvm.Cond.lays "LinkHouse$Use" "LinkHouse$Use" "sort" "I") ∈ lw_all := sorry
theorem q1101 : (Jvm.Cond.soleField "LinkHouse$Use" "sort") ∈ lw_all := sorry
theorem q1102 : (Jvm.Cond.lays "LinkHouse$Use" "LinkHouse$Use" "by" "LLinkHouse$Kind;") ∈ lw_all := sorry
theorem q1103 : (Jvm.Cond.soleField "LinkHouse$Use" "by") ∈ lw_all := sorry
theorem q1104 : (Jvm.Cond.lays "LinkHouse$Use" "LinkHouse$Use" "title" "J") ∈ lw_all := sorry
theorem q1105 : (Jvm.Cond.soleField "LinkHouse$Use" "title") ∈ lw_all := sorry
theorem q1106 : (Jvm.Cond.lays "LinkHouse$Use" "LinkHouse$Use" "other" "J") ∈ lw_all := sorry
theorem q1107 : (Jvm.Cond.soleField "LinkHouse$Use" "other") ∈ lw_all := sorry
theorem q1108 : (Jvm.Cond.laysFinal "LinkHouse$Use" "LinkHouse$Use" "as" "LLinkHouse$Member;") ∈ lw_all := sorry
theorem q1109 : (Jvm.Cond.soleField "LinkHouse$Use" "as") ∈ lw_all := sorry
theorem q1110 : (Jvm.Cond.superclass "LinkHouse$Use" "java/lang/Object") ∈ lw_all := sorry
theorem q1994 : (Jvm.Cond.instanceMethod ({ cls := "LinkHouse$Use", name := "isOne", desc := "(LLinkHouse$Use;)Z" } : Jvm.MethodName)) ∈ lw_all := sorry
theorem q1995 : (Jvm.Cond.selects "LinkHouse$Use" ({ cls := "LinkHouse$Use", name := "isOne", desc := "(LLinkHouse$Use;)Z" } : Jvm.MethodName) ({ cls := "LinkHouse$Use", name := "isOne", desc := "(LLinkHouse$Use;)Z" } : Jvm.MethodName)) ∈ lw_all := sorry
theorem q1996 : (Jvm.Cond.code ({ cls := "LinkHouse$Use", name := "isOne", desc := "(LLinkHouse$Use;)Z" } : Jvm.MethodName) prog_10_method_3_code (2 : Nat) (Option.some Jvm.ClassFile.FieldType.boolean)) ∈ lw_all := sorry
theorem q1997 : (Jvm.Cond.methodLink "LinkHouse$Use" (37 : Nat) ({ cls := "LinkHouse$Member", name := "hasParams", desc := "(LLinkHouse$Member;)Z" } : Jvm.MethodName)) ∈ lw_all := sorry
theorem q1998 : (Jvm.Cond.methodLink "LinkHouse$Use" (48 : Nat) ({ cls := "LinkHouse$Member", name := "isOne", desc := "(LLinkHouse$Member;)Z" } : Jvm.MethodName)) ∈ lw_all := sorry
theorem q2000 : (Jvm.Cond.instanceMethod ({ cls := "LinkHouse$Use", name := "become", desc := "(LLinkHouse$Use;LLinkHouse$Kind;)V" } : Jvm.MethodName)) ∈ lw_all := sorry
theorem q2001 : (Jvm.Cond.selects "LinkHouse$Use" ({ cls := "LinkHouse$Use", name := "become", desc := "(LLinkHouse$Use;LLinkHouse$Kind;)V" } : Jvm.MethodName) ({ cls := "LinkHouse$Use", name := "become", desc := "(LLinkHouse$Use;LLinkHouse$Kind;)V" } : Jvm.MethodName)) ∈ lw_all := sorry
theorem q2002 : (Jvm.Cond.code ({ cls := "LinkHouse$Use", name := "become", desc := "(LLinkHouse$Use;LLinkHouse$Kind;)V" } : Jvm.MethodName) prog_10_method_2_code (3 : Nat) (Option.none : Option Jvm.ClassFile.FieldType)) ∈ lw_all := sorry
theorem q2003 : (Jvm.Cond.methodLink "LinkHouse$Use" (33 : Nat) ({ cls := "LinkHouse$Member", name := "become", desc := "(LLinkHouse$Member;LLinkHouse$Kind;)V" } : Jvm.MethodName)) ∈ lw_all := sorry
theorem in_X7 : ∀ w ∈ wsX70, w ∈ lw_all := sorry
/-! LinkHouse$Linker -/
def RX8 : String := "LinkHouse$Linker"
def TX8 : u_T := fun k => match k with
  | 0 => ("LinkHouse$Linker", "w", "LLinkHouse$World;", true)
  | 1 => ("LinkHouse$Linker", "loads", "[I", true)
  | 2 => ("LinkHouse$Linker", "events", "[I", true)
  | 3 => ("LinkHouse$Linker", "eventCount", "I", false)
  | 4 => ("LinkHouse$Linker", "found", "LLinkHouse$Member;", false)
  | 5 => ("LinkHouse$Linker", "target", "LLinkHouse$Member;", false)
  | 6 => ("LinkHouse$Linker", "looked", "[LLinkHouse$Kind;", true)
  | _ => ("LinkHouse$Linker", "looks", "I", false)
def tyX8 : Nat → FieldType := fun k => match k with
  | 0 => .object "LinkHouse$World"
  | 1 => .array .int
  | 2 => .array .int
  | 3 => .int
  | 4 => .object "LinkHouse$Member"
  | 5 => .object "LinkHouse$Member"
  | 6 => .array (.object "LinkHouse$Kind")
  | _ => .int
abbrev wsX80 : List Cond := u_ws RX8 TX8 8
theorem nmX8 : ∀ a, a < 8 → ∀ b, b < 8 → a ≠ b → (TX8 a).2.1 ≠ (TX8 b).2.1 := sorry
theorem tyX8_ok : ∀ k, k < 8 → parseFieldDescriptor (TX8 k).2.2.1 = some (tyX8 k) := sorry
abbrev cX8_init : ByteArray := prog_5_method_1_code
def yX8_init : MethodName := ⟨RX8, "<init>", "(LLinkHouse$World;)V"⟩
abbrev cX8_begin : ByteArray := prog_5_method_2_code
def yX8_begin : MethodName := ⟨RX8, "begin", "()V"⟩
abbrev cX8_load : ByteArray := prog_5_method_5_code
def yX8_load : MethodName := ⟨RX8, "load", "(LLinkHouse$Kind;)I"⟩
abbrev cX8_isBuiltIn : ByteArray := prog_5_method_4_code
def yX8_isBuiltIn : MethodName := ⟨RX8, "isBuiltIn", "(LLinkHouse$Kind;)Z"⟩
abbrev cX8_loadHead : ByteArray := prog_5_method_6_code
def yX8_loadHead : MethodName := ⟨RX8, "loadHead", "(LLinkHouse$Kind;)I"⟩
abbrev cX8_tellEvent : ByteArray := prog_5_method_3_code
def yX8_tellEvent : MethodName := ⟨RX8, "tellEvent", "(LLinkHouse$Kind;I)V"⟩
abbrev cX8_resolve : ByteArray := prog_5_method_8_code
def yX8_resolve : MethodName := ⟨RX8, "resolve", "(LLinkHouse$Use;)I"⟩
abbrev cX8_copied : ByteArray := prog_5_method_12_code
def yX8_copied : MethodName := ⟨RX8, "copied", "(LLinkHouse$Use;)I"⟩
abbrev cX8_fitted : ByteArray := prog_5_method_10_code
def yX8_fitted : MethodName := ⟨RX8, "fitted", "(LLinkHouse$Use;)I"⟩
abbrev cX8_loadNamed : ByteArray := prog_5_method_7_code
def yX8_loadNamed : MethodName := ⟨RX8, "loadNamed", "(J)I"⟩
abbrev cX8_isIll : ByteArray := prog_5_method_9_code
def yX8_isIll : MethodName := ⟨RX8, "isIll", "(LLinkHouse$Kind;)Z"⟩
abbrev cX8_maker : ByteArray := prog_5_method_13_code
def yX8_maker : MethodName := ⟨RX8, "maker", "(LLinkHouse$Use;LLinkHouse$Kind;)I"⟩
abbrev cX8_fieldOf : ByteArray := prog_5_method_14_code
def yX8_fieldOf : MethodName := ⟨RX8, "fieldOf", "(LLinkHouse$Use;LLinkHouse$Kind;)I"⟩
abbrev cX8_called : ByteArray := prog_5_method_15_code
def yX8_called : MethodName := ⟨RX8, "called", "(LLinkHouse$Use;LLinkHouse$Kind;)I"⟩
abbrev cX8_above : ByteArray := prog_5_method_16_code
def yX8_above : MethodName := ⟨RX8, "above", "(LLinkHouse$Use;LLinkHouse$Kind;)I"⟩
abbrev cX8_canBeCaught : ByteArray := prog_5_method_11_code
def yX8_canBeCaught : MethodName := ⟨RX8, "canBeCaught", "(LLinkHouse$Use;)I"⟩
theorem q408 : (Jvm.Cond.initialized "LinkHouse$Linker") ∈ lw_all := sorry
theorem q448 : (Jvm.Cond.fieldLinkNest "LinkHouse$Linker" (147 : Nat) "LinkHouse$Member" "title" "J" "LinkHouse") ∈ lw_tbl := sorry
theorem q461 : (Jvm.Cond.fieldLinkNest "LinkHouse$Linker" (180 : Nat) "LinkHouse$Member" "isStatic" "Z" "LinkHouse") ∈ lw_tbl := sorry
theorem q467 : (Jvm.Cond.fieldLinkNest "LinkHouse$Linker" (183 : Nat) "LinkHouse$Member" "isFinal" "Z" "LinkHouse") ∈ lw_tbl := sorry
theorem q474 : (Jvm.Cond.fieldLinkNest "LinkHouse$Linker" (207 : Nat) "LinkHouse$Member" "isBare" "Z" "LinkHouse") ∈ lw_tbl := sorry
theorem q485 : (Jvm.Cond.fieldLinkNest "LinkHouse$Linker" (166 : Nat) "LinkHouse$Member" "type" "J" "LinkHouse") ∈ lw_tbl := sorry
theorem q504 : (Jvm.Cond.fieldLinkNest "LinkHouse$Linker" (154 : Nat) "LinkHouse$Member" "isConstant" "Z" "LinkHouse") ∈ lw_tbl := sorry
theorem q510 : (Jvm.Cond.fieldLinkNest "LinkHouse$Linker" (157 : Nat) "LinkHouse$Member" "constant" "I" "LinkHouse") ∈ lw_tbl := sorry
theorem q540 : (Jvm.Cond.fieldLinkNest "LinkHouse$Linker" (177 : Nat) "LinkHouse$Member" "of" "LLinkHouse$Kind;" "LinkHouse") ∈ lw_tbl := sorry
theorem q598 : (Jvm.Cond.fieldLinkNest "LinkHouse$Linker" (74 : Nat) "LinkHouse$Kind" "title" "J" "LinkHouse") ∈ lw_tbl := sorry
theorem q600 : (Jvm.Cond.fieldLinkNest "LinkHouse$Linker" (35 : Nat) "LinkHouse$Kind" "pack" "I" "LinkHouse") ∈ lw_tbl := sorry
theorem q609 : (Jvm.Cond.fieldLinkNest "LinkHouse$Linker" (50 : Nat) "LinkHouse$Kind" "isFace" "Z" "LinkHouse") ∈ lw_tbl := sorry
theorem q620 : (Jvm.Cond.fieldLinkNest "LinkHouse$Linker" (71 : Nat) "LinkHouse$Kind" "isFinal" "Z" "LinkHouse") ∈ lw_tbl := sorry
theorem q625 : (Jvm.Cond.fieldLinkNest "LinkHouse$Linker" (122 : Nat) "LinkHouse$Kind" "isBare" "Z" "LinkHouse") ∈ lw_tbl := sorry
theorem q635 : (Jvm.Cond.fieldLinkNest "LinkHouse$Linker" (54 : Nat) "LinkHouse$Kind" "parent" "J" "LinkHouse") ∈ lw_tbl := sorry
theorem q641 : (Jvm.Cond.fieldLinkNest "LinkHouse$Linker" (84 : Nat) "LinkHouse$Kind" "face" "[J" "LinkHouse") ∈ lw_tbl := sorry
theorem q648 : (Jvm.Cond.fieldLinkNest "LinkHouse$Linker" (81 : Nat) "LinkHouse$Kind" "faces" "I" "LinkHouse") ∈ lw_tbl := sorry
theorem q715 : (Jvm.Cond.fieldLinkNest "LinkHouse$Linker" (32 : Nat) "LinkHouse$Kind" "inWorld" "I" "LinkHouse") ∈ lw_tbl := sorry
theorem q786 : (Jvm.Cond.fieldLinkNest "LinkHouse$Linker" (135 : Nat) "LinkHouse$World" "ill" "LLinkHouse$Kind;" "LinkHouse") ∈ lw_tbl := sorry
theorem q793 : (Jvm.Cond.fieldLinkNest "LinkHouse$Linker" (197 : Nat) "LinkHouse$World" "list" "[LLinkHouse$Kind;" "LinkHouse") ∈ lw_tbl := sorry
theorem q800 : (Jvm.Cond.fieldLinkNest "LinkHouse$Linker" (208 : Nat) "LinkHouse$World" "clash" "I" "LinkHouse") ∈ lw_tbl := sorry
theorem q804 : (Jvm.Cond.fieldLinkNest "LinkHouse$Linker" (170 : Nat) "LinkHouse$World" "looked" "[LLinkHouse$Kind;" "LinkHouse") ∈ lw_tbl := sorry
theorem q806 : (Jvm.Cond.fieldLinkNest "LinkHouse$Linker" (169 : Nat) "LinkHouse$World" "looks" "I" "LinkHouse") ∈ lw_tbl := sorry
theorem q1080 : (Jvm.Cond.fieldLinkNest "LinkHouse$Linker" (104 : Nat) "LinkHouse$Use" "sort" "I" "LinkHouse") ∈ lw_tbl := sorry
theorem q1084 : (Jvm.Cond.fieldLinkNest "LinkHouse$Linker" (98 : Nat) "LinkHouse$Use" "by" "LLinkHouse$Kind;" "LinkHouse") ∈ lw_tbl := sorry
theorem q1088 : (Jvm.Cond.fieldLinkNest "LinkHouse$Linker" (114 : Nat) "LinkHouse$Use" "title" "J" "LinkHouse") ∈ lw_tbl := sorry
theorem q1093 : (Jvm.Cond.fieldLinkNest "LinkHouse$Linker" (141 : Nat) "LinkHouse$Use" "other" "J" "LinkHouse") ∈ lw_tbl := sorry
theorem q1097 : (Jvm.Cond.fieldLinkNest "LinkHouse$Linker" (144 : Nat) "LinkHouse$Use" "as" "LLinkHouse$Member;" "LinkHouse") ∈ lw_tbl := sorry
theorem q1173 : (Jvm.Cond.instantiable "LinkHouse$Linker" (8 : Nat)) ∈ lw_all := sorry
theorem q1175 : (Jvm.Cond.instanceMethod ({ cls := "LinkHouse$Linker", name := "<init>", desc := "(LLinkHouse$World;)V" } : Jvm.MethodName)) ∈ lw_all := sorry
theorem q1176 : (Jvm.Cond.code ({ cls := "LinkHouse$Linker", name := "<init>", desc := "(LLinkHouse$World;)V" } : Jvm.MethodName) prog_5_method_1_code (2 : Nat) (Option.none : Option Jvm.ClassFile.FieldType)) ∈ lw_all := sorry
theorem q1177 : (Jvm.Cond.methodLink "LinkHouse$Linker" (3 : Nat) ({ cls := "java/lang/Object", name := "<init>", desc := "()V" } : Jvm.MethodName)) ∈ lw_all := sorry
theorem q1178 : (Jvm.Cond.classLink "LinkHouse$Linker" (18 : Nat) "LinkHouse$Kind") ∈ lw_all := sorry
theorem q1179 : (Jvm.Cond.fieldLink "LinkHouse$Linker" (24 : Nat) "LinkHouse$Linker" "w" "LLinkHouse$World;") ∈ lw_all := sorry
theorem q1180 : (Jvm.Cond.fieldLink "LinkHouse$Linker" (9 : Nat) "LinkHouse$Linker" "loads" "[I") ∈ lw_all := sorry
theorem q1183 : (Jvm.Cond.fieldLink "LinkHouse$Linker" (15 : Nat) "LinkHouse$Linker" "events" "[I") ∈ lw_all := sorry
theorem q1185 : (Jvm.Cond.fieldLink "LinkHouse$Linker" (28 : Nat) "LinkHouse$Linker" "eventCount" "I") ∈ lw_all := sorry
theorem q1187 : (Jvm.Cond.fieldLink "LinkHouse$Linker" (88 : Nat) "LinkHouse$Linker" "found" "LLinkHouse$Member;") ∈ lw_all := sorry
theorem q1190 : (Jvm.Cond.fieldLink "LinkHouse$Linker" (92 : Nat) "LinkHouse$Linker" "target" "LLinkHouse$Member;") ∈ lw_all := sorry
theorem q1193 : (Jvm.Cond.fieldLink "LinkHouse$Linker" (20 : Nat) "LinkHouse$Linker" "looked" "[LLinkHouse$Kind;") ∈ lw_all := sorry
theorem q1195 : (Jvm.Cond.fieldLink "LinkHouse$Linker" (95 : Nat) "LinkHouse$Linker" "looks" "I") ∈ lw_all := sorry
theorem q1197 : (Jvm.Cond.laysFinal "LinkHouse$Linker" "LinkHouse$Linker" "w" "LLinkHouse$World;") ∈ lw_all := sorry
theorem q1198 : (Jvm.Cond.soleField "LinkHouse$Linker" "w") ∈ lw_all := sorry
theorem q1199 : (Jvm.Cond.laysFinal "LinkHouse$Linker" "LinkHouse$Linker" "loads" "[I") ∈ lw_all := sorry
theorem q1200 : (Jvm.Cond.soleField "LinkHouse$Linker" "loads") ∈ lw_all := sorry
theorem q1201 : (Jvm.Cond.laysFinal "LinkHouse$Linker" "LinkHouse$Linker" "events" "[I") ∈ lw_all := sorry
theorem q1202 : (Jvm.Cond.soleField "LinkHouse$Linker" "events") ∈ lw_all := sorry
theorem q1203 : (Jvm.Cond.lays "LinkHouse$Linker" "LinkHouse$Linker" "eventCount" "I") ∈ lw_all := sorry
theorem q1204 : (Jvm.Cond.soleField "LinkHouse$Linker" "eventCount") ∈ lw_all := sorry
theorem q1205 : (Jvm.Cond.lays "LinkHouse$Linker" "LinkHouse$Linker" "found" "LLinkHouse$Member;") ∈ lw_all := sorry
theorem q1206 : (Jvm.Cond.soleField "LinkHouse$Linker" "found") ∈ lw_all := sorry
theorem q1207 : (Jvm.Cond.lays "LinkHouse$Linker" "LinkHouse$Linker" "target" "LLinkHouse$Member;") ∈ lw_all := sorry
theorem q1208 : (Jvm.Cond.soleField "LinkHouse$Linker" "target") ∈ lw_all := sorry
theorem q1209 : (Jvm.Cond.laysFinal "LinkHouse$Linker" "LinkHouse$Linker" "looked" "[LLinkHouse$Kind;") ∈ lw_all := sorry
theorem q1210 : (Jvm.Cond.soleField "LinkHouse$Linker" "looked") ∈ lw_all := sorry
theorem q1211 : (Jvm.Cond.lays "LinkHouse$Linker" "LinkHouse$Linker" "looks" "I") ∈ lw_all := sorry
theorem q1212 : (Jvm.Cond.soleField "LinkHouse$Linker" "looks") ∈ lw_all := sorry
theorem q1213 : (Jvm.Cond.superclass "LinkHouse$Linker" "java/lang/Object") ∈ lw_all := sorry
theorem q1439 : (Jvm.Cond.instanceMethod ({ cls := "LinkHouse$Linker", name := "begin", desc := "()V" } : Jvm.MethodName)) ∈ lw_all := sorry
theorem q1440 : (Jvm.Cond.selects "LinkHouse$Linker" ({ cls := "LinkHouse$Linker", name := "begin", desc := "()V" } : Jvm.MethodName) ({ cls := "LinkHouse$Linker", name := "begin", desc := "()V" } : Jvm.MethodName)) ∈ lw_all := sorry
theorem q1441 : (Jvm.Cond.code ({ cls := "LinkHouse$Linker", name := "begin", desc := "()V" } : Jvm.MethodName) prog_5_method_2_code (2 : Nat) (Option.none : Option Jvm.ClassFile.FieldType)) ∈ lw_all := sorry
theorem q1950 : (Jvm.Cond.instanceMethod ({ cls := "LinkHouse$Linker", name := "load", desc := "(LLinkHouse$Kind;)I" } : Jvm.MethodName)) ∈ lw_all := sorry
theorem q1951 : (Jvm.Cond.selects "LinkHouse$Linker" ({ cls := "LinkHouse$Linker", name := "load", desc := "(LLinkHouse$Kind;)I" } : Jvm.MethodName) ({ cls := "LinkHouse$Linker", name := "load", desc := "(LLinkHouse$Kind;)I" } : Jvm.MethodName)) ∈ lw_all := sorry
theorem q1952 : (Jvm.Cond.code ({ cls := "LinkHouse$Linker", name := "load", desc := "(LLinkHouse$Kind;)I" } : Jvm.MethodName) prog_5_method_5_code (4 : Nat) (Option.some Jvm.ClassFile.FieldType.int)) ∈ lw_all := sorry
theorem q1953 : (Jvm.Cond.methodLink "LinkHouse$Linker" (38 : Nat) ({ cls := "LinkHouse$Linker", name := "isBuiltIn", desc := "(LLinkHouse$Kind;)Z" } : Jvm.MethodName)) ∈ lw_all := sorry
theorem q1954 : (Jvm.Cond.static ({ cls := "LinkHouse$Linker", name := "isBuiltIn", desc := "(LLinkHouse$Kind;)Z" } : Jvm.MethodName)) ∈ lw_all := sorry
theorem q1955 : (Jvm.Cond.code ({ cls := "LinkHouse$Linker", name := "isBuiltIn", desc := "(LLinkHouse$Kind;)Z" } : Jvm.MethodName) prog_5_method_4_code (1 : Nat) (Option.some Jvm.ClassFile.FieldType.boolean)) ∈ lw_all := sorry
theorem q1956 : (Jvm.Cond.methodLink "LinkHouse$Linker" (42 : Nat) ({ cls := "LinkHouse$Linker", name := "loadHead", desc := "(LLinkHouse$Kind;)I" } : Jvm.MethodName)) ∈ lw_all := sorry
theorem q1957 : (Jvm.Cond.privateMethod ({ cls := "LinkHouse$Linker", name := "loadHead", desc := "(LLinkHouse$Kind;)I" } : Jvm.MethodName)) ∈ lw_tbl := sorry
theorem q1958 : (Jvm.Cond.instanceMethod ({ cls := "LinkHouse$Linker", name := "loadHead", desc := "(LLinkHouse$Kind;)I" } : Jvm.MethodName)) ∈ lw_all := sorry
theorem q1959 : (Jvm.Cond.code ({ cls := "LinkHouse$Linker", name := "loadHead", desc := "(LLinkHouse$Kind;)I" } : Jvm.MethodName) prog_5_method_6_code (5 : Nat) (Option.some Jvm.ClassFile.FieldType.int)) ∈ lw_all := sorry
theorem q1960 : (Jvm.Cond.methodLink "LinkHouse$Linker" (58 : Nat) ({ cls := "LinkHouse$World", name := "find", desc := "(J)LLinkHouse$Kind;" } : Jvm.MethodName)) ∈ lw_all := sorry
theorem q1961 : (Jvm.Cond.methodLink "LinkHouse$Linker" (64 : Nat) ({ cls := "LinkHouse$Linker", name := "load", desc := "(LLinkHouse$Kind;)I" } : Jvm.MethodName)) ∈ lw_all := sorry
theorem q1962 : (Jvm.Cond.methodLink "LinkHouse$Linker" (67 : Nat) ({ cls := "LinkHouse$World", name := "isLet", desc := "(LLinkHouse$Kind;LLinkHouse$Kind;)Z" } : Jvm.MethodName)) ∈ lw_all := sorry
theorem q1963 : (Jvm.Cond.methodLink "LinkHouse$Linker" (77 : Nat) ({ cls := "LinkHouse$Kind", name := "lets", desc := "(J)Z" } : Jvm.MethodName)) ∈ lw_all := sorry
theorem q1964 : (Jvm.Cond.methodLink "LinkHouse$Linker" (46 : Nat) ({ cls := "LinkHouse$Linker", name := "tellEvent", desc := "(LLinkHouse$Kind;I)V" } : Jvm.MethodName)) ∈ lw_all := sorry
theorem q1965 : (Jvm.Cond.instanceMethod ({ cls := "LinkHouse$Linker", name := "tellEvent", desc := "(LLinkHouse$Kind;I)V" } : Jvm.MethodName)) ∈ lw_all := sorry
theorem q1966 : (Jvm.Cond.selects "LinkHouse$Linker" ({ cls := "LinkHouse$Linker", name := "tellEvent", desc := "(LLinkHouse$Kind;I)V" } : Jvm.MethodName) ({ cls := "LinkHouse$Linker", name := "tellEvent", desc := "(LLinkHouse$Kind;I)V" } : Jvm.MethodName)) ∈ lw_all := sorry
theorem q1967 : (Jvm.Cond.code ({ cls := "LinkHouse$Linker", name := "tellEvent", desc := "(LLinkHouse$Kind;I)V" } : Jvm.MethodName) prog_5_method_3_code (3 : Nat) (Option.none : Option Jvm.ClassFile.FieldType)) ∈ lw_all := sorry
theorem q2306 : (Jvm.Cond.instanceMethod ({ cls := "LinkHouse$Linker", name := "resolve", desc := "(LLinkHouse$Use;)I" } : Jvm.MethodName)) ∈ lw_all := sorry
theorem q2307 : (Jvm.Cond.selects "LinkHouse$Linker" ({ cls := "LinkHouse$Linker", name := "resolve", desc := "(LLinkHouse$Use;)I" } : Jvm.MethodName) ({ cls := "LinkHouse$Linker", name := "resolve", desc := "(LLinkHouse$Use;)I" } : Jvm.MethodName)) ∈ lw_all := sorry
theorem q2308 : (Jvm.Cond.code ({ cls := "LinkHouse$Linker", name := "resolve", desc := "(LLinkHouse$Use;)I" } : Jvm.MethodName) prog_5_method_8_code (5 : Nat) (Option.some Jvm.ClassFile.FieldType.int)) ∈ lw_all := sorry
theorem q2309 : (Jvm.Cond.methodLink "LinkHouse$Linker" (107 : Nat) ({ cls := "LinkHouse$Linker", name := "copied", desc := "(LLinkHouse$Use;)I" } : Jvm.MethodName)) ∈ lw_all := sorry
theorem q2310 : (Jvm.Cond.privateMethod ({ cls := "LinkHouse$Linker", name := "copied", desc := "(LLinkHouse$Use;)I" } : Jvm.MethodName)) ∈ lw_tbl := sorry
theorem q2311 : (Jvm.Cond.instanceMethod ({ cls := "LinkHouse$Linker", name := "copied", desc := "(LLinkHouse$Use;)I" } : Jvm.MethodName)) ∈ lw_all := sorry
theorem q2312 : (Jvm.Cond.code ({ cls := "LinkHouse$Linker", name := "copied", desc := "(LLinkHouse$Use;)I" } : Jvm.MethodName) prog_5_method_12_code (4 : Nat) (Option.some Jvm.ClassFile.FieldType.int)) ∈ lw_all := sorry
theorem q2313 : (Jvm.Cond.methodLink "LinkHouse$Linker" (150 : Nat) ({ cls := "LinkHouse$World", name := "field", desc := "(LLinkHouse$Kind;JJ)LLinkHouse$Member;" } : Jvm.MethodName)) ∈ lw_all := sorry
theorem q2314 : (Jvm.Cond.methodLink "LinkHouse$Linker" (111 : Nat) ({ cls := "LinkHouse$Linker", name := "fitted", desc := "(LLinkHouse$Use;)I" } : Jvm.MethodName)) ∈ lw_all := sorry
theorem q2315 : (Jvm.Cond.instanceMethod ({ cls := "LinkHouse$Linker", name := "fitted", desc := "(LLinkHouse$Use;)I" } : Jvm.MethodName)) ∈ lw_all := sorry
theorem q2316 : (Jvm.Cond.selects "LinkHouse$Linker" ({ cls := "LinkHouse$Linker", name := "fitted", desc := "(LLinkHouse$Use;)I" } : Jvm.MethodName) ({ cls := "LinkHouse$Linker", name := "fitted", desc := "(LLinkHouse$Use;)I" } : Jvm.MethodName)) ∈ lw_all := sorry
theorem q2317 : (Jvm.Cond.code ({ cls := "LinkHouse$Linker", name := "fitted", desc := "(LLinkHouse$Use;)I" } : Jvm.MethodName) prog_5_method_10_code (5 : Nat) (Option.some Jvm.ClassFile.FieldType.int)) ∈ lw_all := sorry
theorem q2318 : (Jvm.Cond.methodLink "LinkHouse$Linker" (115 : Nat) ({ cls := "LinkHouse$Linker", name := "loadNamed", desc := "(J)I" } : Jvm.MethodName)) ∈ lw_all := sorry
theorem q2319 : (Jvm.Cond.privateMethod ({ cls := "LinkHouse$Linker", name := "loadNamed", desc := "(J)I" } : Jvm.MethodName)) ∈ lw_tbl := sorry
theorem q2320 : (Jvm.Cond.instanceMethod ({ cls := "LinkHouse$Linker", name := "loadNamed", desc := "(J)I" } : Jvm.MethodName)) ∈ lw_all := sorry
theorem q2321 : (Jvm.Cond.code ({ cls := "LinkHouse$Linker", name := "loadNamed", desc := "(J)I" } : Jvm.MethodName) prog_5_method_7_code (4 : Nat) (Option.some Jvm.ClassFile.FieldType.int)) ∈ lw_all := sorry
theorem q2322 : (Jvm.Cond.methodLink "LinkHouse$Linker" (138 : Nat) ({ cls := "LinkHouse$World", name := "isHeir", desc := "(LLinkHouse$Kind;LLinkHouse$Kind;)Z" } : Jvm.MethodName)) ∈ lw_all := sorry
theorem q2323 : (Jvm.Cond.methodLink "LinkHouse$Linker" (119 : Nat) ({ cls := "LinkHouse$Linker", name := "isIll", desc := "(LLinkHouse$Kind;)Z" } : Jvm.MethodName)) ∈ lw_all := sorry
theorem q2324 : (Jvm.Cond.privateMethod ({ cls := "LinkHouse$Linker", name := "isIll", desc := "(LLinkHouse$Kind;)Z" } : Jvm.MethodName)) ∈ lw_tbl := sorry
theorem q2325 : (Jvm.Cond.instanceMethod ({ cls := "LinkHouse$Linker", name := "isIll", desc := "(LLinkHouse$Kind;)Z" } : Jvm.MethodName)) ∈ lw_all := sorry
theorem q2326 : (Jvm.Cond.code ({ cls := "LinkHouse$Linker", name := "isIll", desc := "(LLinkHouse$Kind;)Z" } : Jvm.MethodName) prog_5_method_9_code (2 : Nat) (Option.some Jvm.ClassFile.FieldType.boolean)) ∈ lw_all := sorry
theorem q2327 : (Jvm.Cond.methodLink "LinkHouse$Linker" (125 : Nat) ({ cls := "LinkHouse$Linker", name := "maker", desc := "(LLinkHouse$Use;LLinkHouse$Kind;)I" } : Jvm.MethodName)) ∈ lw_all := sorry
theorem q2328 : (Jvm.Cond.privateMethod ({ cls := "LinkHouse$Linker", name := "maker", desc := "(LLinkHouse$Use;LLinkHouse$Kind;)I" } : Jvm.MethodName)) ∈ lw_tbl := sorry
theorem q2329 : (Jvm.Cond.instanceMethod ({ cls := "LinkHouse$Linker", name := "maker", desc := "(LLinkHouse$Use;LLinkHouse$Kind;)I" } : Jvm.MethodName)) ∈ lw_all := sorry
theorem q2330 : (Jvm.Cond.code ({ cls := "LinkHouse$Linker", name := "maker", desc := "(LLinkHouse$Use;LLinkHouse$Kind;)I" } : Jvm.MethodName) prog_5_method_13_code (3 : Nat) (Option.some Jvm.ClassFile.FieldType.int)) ∈ lw_all := sorry
theorem q2331 : (Jvm.Cond.methodLink "LinkHouse$Linker" (160 : Nat) ({ cls := "LinkHouse$Kind", name := "maker", desc := "(LLinkHouse$Member;)LLinkHouse$Member;" } : Jvm.MethodName)) ∈ lw_all := sorry
theorem q2336 : (Jvm.Cond.methodLink "LinkHouse$Linker" (163 : Nat) ({ cls := "LinkHouse$World", name := "lets", desc := "(LLinkHouse$Kind;LLinkHouse$Kind;LLinkHouse$Member;LLinkHouse$Kind;LLinkHouse$Linker;)Z" } : Jvm.MethodName)) ∈ lw_all := sorry
theorem q2337 : (Jvm.Cond.methodLink "LinkHouse$Linker" (129 : Nat) ({ cls := "LinkHouse$Linker", name := "fieldOf", desc := "(LLinkHouse$Use;LLinkHouse$Kind;)I" } : Jvm.MethodName)) ∈ lw_all := sorry
theorem q2338 : (Jvm.Cond.privateMethod ({ cls := "LinkHouse$Linker", name := "fieldOf", desc := "(LLinkHouse$Use;LLinkHouse$Kind;)I" } : Jvm.MethodName)) ∈ lw_tbl := sorry
theorem q2339 : (Jvm.Cond.instanceMethod ({ cls := "LinkHouse$Linker", name := "fieldOf", desc := "(LLinkHouse$Use;LLinkHouse$Kind;)I" } : Jvm.MethodName)) ∈ lw_all := sorry
theorem q2340 : (Jvm.Cond.code ({ cls := "LinkHouse$Linker", name := "fieldOf", desc := "(LLinkHouse$Use;LLinkHouse$Kind;)I" } : Jvm.MethodName) prog_5_method_14_code (4 : Nat) (Option.some Jvm.ClassFile.FieldType.int)) ∈ lw_all := sorry
theorem q2341 : (Jvm.Cond.methodLink "LinkHouse$Linker" (171 : Nat) ({ cls := "java/lang/System", name := "arraycopy", desc := "(Ljava/lang/Object;ILjava/lang/Object;II)V" } : Jvm.MethodName)) ∈ lw_all := sorry
theorem q2342 : (Jvm.Cond.methodLink "LinkHouse$Linker" (132 : Nat) ({ cls := "LinkHouse$Linker", name := "called", desc := "(LLinkHouse$Use;LLinkHouse$Kind;)I" } : Jvm.MethodName)) ∈ lw_all := sorry
theorem q2343 : (Jvm.Cond.privateMethod ({ cls := "LinkHouse$Linker", name := "called", desc := "(LLinkHouse$Use;LLinkHouse$Kind;)I" } : Jvm.MethodName)) ∈ lw_tbl := sorry
theorem q2344 : (Jvm.Cond.instanceMethod ({ cls := "LinkHouse$Linker", name := "called", desc := "(LLinkHouse$Use;LLinkHouse$Kind;)I" } : Jvm.MethodName)) ∈ lw_all := sorry
theorem q2345 : (Jvm.Cond.code ({ cls := "LinkHouse$Linker", name := "called", desc := "(LLinkHouse$Use;LLinkHouse$Kind;)I" } : Jvm.MethodName) prog_5_method_15_code (8 : Nat) (Option.some Jvm.ClassFile.FieldType.int)) ∈ lw_all := sorry
theorem q2346 : (Jvm.Cond.methodLink "LinkHouse$Linker" (184 : Nat) ({ cls := "LinkHouse$Kind", name := "method", desc := "(LLinkHouse$Member;)LLinkHouse$Member;" } : Jvm.MethodName)) ∈ lw_all := sorry
theorem q2347 : (Jvm.Cond.methodLink "LinkHouse$Linker" (187 : Nat) ({ cls := "LinkHouse$World", name := "parent", desc := "(LLinkHouse$Kind;)LLinkHouse$Kind;" } : Jvm.MethodName)) ∈ lw_all := sorry
theorem q2348 : (Jvm.Cond.methodLink "LinkHouse$Linker" (190 : Nat) ({ cls := "LinkHouse$World", name := "mostSpecial", desc := "(LLinkHouse$Kind;LLinkHouse$Member;)LLinkHouse$Member;" } : Jvm.MethodName)) ∈ lw_all := sorry
theorem q2349 : (Jvm.Cond.methodLink "LinkHouse$Linker" (194 : Nat) ({ cls := "LinkHouse$World", name := "layFaces", desc := "(LLinkHouse$Kind;)I" } : Jvm.MethodName)) ∈ lw_all := sorry
theorem q2350 : (Jvm.Cond.methodLink "LinkHouse$Linker" (200 : Nat) ({ cls := "LinkHouse$Member", name := "isOfObjects", desc := "()Z" } : Jvm.MethodName)) ∈ lw_all := sorry
theorem q2351 : (Jvm.Cond.methodLink "LinkHouse$Linker" (204 : Nat) ({ cls := "LinkHouse$Linker", name := "above", desc := "(LLinkHouse$Use;LLinkHouse$Kind;)I" } : Jvm.MethodName)) ∈ lw_all := sorry
theorem q2352 : (Jvm.Cond.privateMethod ({ cls := "LinkHouse$Linker", name := "above", desc := "(LLinkHouse$Use;LLinkHouse$Kind;)I" } : Jvm.MethodName)) ∈ lw_tbl := sorry
theorem q2353 : (Jvm.Cond.instanceMethod ({ cls := "LinkHouse$Linker", name := "above", desc := "(LLinkHouse$Use;LLinkHouse$Kind;)I" } : Jvm.MethodName)) ∈ lw_all := sorry
theorem q2354 : (Jvm.Cond.code ({ cls := "LinkHouse$Linker", name := "above", desc := "(LLinkHouse$Use;LLinkHouse$Kind;)I" } : Jvm.MethodName) prog_5_method_16_code (5 : Nat) (Option.some Jvm.ClassFile.FieldType.int)) ∈ lw_all := sorry
theorem q2532 : (Jvm.Cond.instanceMethod ({ cls := "LinkHouse$Linker", name := "canBeCaught", desc := "(LLinkHouse$Use;)I" } : Jvm.MethodName)) ∈ lw_all := sorry
theorem q2533 : (Jvm.Cond.selects "LinkHouse$Linker" ({ cls := "LinkHouse$Linker", name := "canBeCaught", desc := "(LLinkHouse$Use;)I" } : Jvm.MethodName) ({ cls := "LinkHouse$Linker", name := "canBeCaught", desc := "(LLinkHouse$Use;)I" } : Jvm.MethodName)) ∈ lw_all := sorry
theorem q2534 : (Jvm.Cond.code ({ cls := "LinkHouse$Linker", name := "canBeCaught", desc := "(LLinkHouse$Use;)I" } : Jvm.MethodName) prog_5_method_11_code (3 : Nat) (Option.some Jvm.ClassFile.FieldType.int)) ∈ lw_all := sorry
theorem in_X8 : ∀ w ∈ wsX80, w ∈ lw_all := sorry
/-! LinkHouse$Machine -/
def RX9 : String := "LinkHouse$Machine"
def TX9 : u_T := fun k => match k with
  | 0 => ("LinkHouse$Machine", "w", "LLinkHouse$World;", true)
  | 1 => ("LinkHouse$Machine", "l", "LLinkHouse$Linker;", true)
  | 2 => ("LinkHouse$Machine", "links", "[I", true)
  | 3 => ("LinkHouse$Machine", "starts", "[I", true)
  | 4 => ("LinkHouse$Machine", "statics", "[I", true)
  | 5 => ("LinkHouse$Machine", "ofObject", "[LLinkHouse$Kind;", true)
  | 6 => ("LinkHouse$Machine", "objectAt", "[I", true)
  | 7 => ("LinkHouse$Machine", "objects", "I", false)
  | 8 => ("LinkHouse$Machine", "cells", "[I", true)
  | 9 => ("LinkHouse$Machine", "used", "I", false)
  | 10 => ("LinkHouse$Machine", "outs", "[I", true)
  | 11 => ("LinkHouse$Machine", "outCount", "I", false)
  | 12 => ("LinkHouse$Machine", "steps", "I", false)
  | 13 => ("LinkHouse$Machine", "active", "I", false)
  | 14 => ("LinkHouse$Machine", "given", "I", false)
  | 15 => ("LinkHouse$Machine", "stack", "[I", true)
  | 16 => ("LinkHouse$Machine", "sp", "I", false)
  | 17 => ("LinkHouse$Machine", "frame", "[LLinkHouse$Member;", true)
  | 18 => ("LinkHouse$Machine", "pc", "[I", true)
  | 19 => ("LinkHouse$Machine", "base", "[I", true)
  | 20 => ("LinkHouse$Machine", "isCall", "[Z", true)
  | 21 => ("LinkHouse$Machine", "top", "I", false)
  | _ => ("LinkHouse$Machine", "rows", "[[LLinkHouse$Kind;", true)
def tyX9 : Nat → FieldType := fun k => match k with
  | 0 => .object "LinkHouse$World"
  | 1 => .object "LinkHouse$Linker"
  | 2 => .array .int
  | 3 => .array .int
  | 4 => .array .int
  | 5 => .array (.object "LinkHouse$Kind")
  | 6 => .array .int
  | 7 => .int
  | 8 => .array .int
  | 9 => .int
  | 10 => .array .int
  | 11 => .int
  | 12 => .int
  | 13 => .int
  | 14 => .int
  | 15 => .array .int
  | 16 => .int
  | 17 => .array (.object "LinkHouse$Member")
  | 18 => .array .int
  | 19 => .array .int
  | 20 => .array .boolean
  | 21 => .int
  | _ => .array (.array (.object "LinkHouse$Kind"))
abbrev wsX90 : List Cond := u_ws RX9 TX9 23
set_option maxRecDepth 100000 in
theorem nmX9 : ∀ a, a < 23 → ∀ b, b < 23 → a ≠ b → (TX9 a).2.1 ≠ (TX9 b).2.1 := sorry
set_option maxRecDepth 100000 in
theorem tyX9_ok : ∀ k, k < 23 → parseFieldDescriptor (TX9 k).2.2.1 = some (tyX9 k) := sorry
abbrev cX9_init : ByteArray := prog_6_method_1_code
def yX9_init : MethodName := ⟨RX9, "<init>", "(LLinkHouse$World;)V"⟩
abbrev cX9_begin : ByteArray := prog_6_method_2_code
def yX9_begin : MethodName := ⟨RX9, "begin", "()V"⟩
abbrev cX9_call : ByteArray := prog_6_method_14_code
def yX9_call : MethodName := ⟨RX9, "call", "(LLinkHouse$Kind;LLinkHouse$Member;)I"⟩
abbrev cX9_start : ByteArray := prog_6_method_7_code
def yX9_start : MethodName := ⟨RX9, "start", "(LLinkHouse$Kind;)I"⟩
abbrev cX9_link : ByteArray := prog_6_method_4_code
def yX9_link : MethodName := ⟨RX9, "link", "(LLinkHouse$Kind;)I"⟩
abbrev cX9_linkHead : ByteArray := prog_6_method_5_code
def yX9_linkHead : MethodName := ⟨RX9, "linkHead", "(LLinkHouse$Kind;)I"⟩
abbrev cX9_isBarred : ByteArray := prog_6_method_6_code
def yX9_isBarred : MethodName := ⟨RX9, "isBarred", "(LLinkHouse$Member;LLinkHouse$Kind;)Z"⟩
abbrev cX9_startAll : ByteArray := prog_6_method_8_code
def yX9_startAll : MethodName := ⟨RX9, "startAll", "(LLinkHouse$Kind;)I"⟩
abbrev cX9_layUpwards : ByteArray := prog_6_method_9_code
def yX9_layUpwards : MethodName := ⟨RX9, "layUpwards", "([LLinkHouse$Kind;ILLinkHouse$Kind;)I"⟩
abbrev cX9_fragment : ByteArray := prog_6_method_13_code
def yX9_fragment : MethodName := ⟨RX9, "fragment", "(LLinkHouse$Member;)I"⟩
abbrev cX9_enter : ByteArray := prog_6_method_11_code
def yX9_enter : MethodName := ⟨RX9, "enter", "(LLinkHouse$Member;IZ)I"⟩
abbrev cX9_push : ByteArray := prog_6_method_10_code
def yX9_push : MethodName := ⟨RX9, "push", "(I)V"⟩
abbrev cX9_loop : ByteArray := prog_6_method_18_code
def yX9_loop : MethodName := ⟨RX9, "loop", "(I)I"⟩
abbrev cX9_simple : ByteArray := prog_6_method_19_code
def yX9_simple : MethodName := ⟨RX9, "simple", "(II)I"⟩
abbrev cX9_byUse : ByteArray := prog_6_method_20_code
def yX9_byUse : MethodName := ⟨RX9, "byUse", "(IILLinkHouse$Kind;)I"⟩
abbrev cX9_leave : ByteArray := prog_6_method_12_code
def yX9_leave : MethodName := ⟨RX9, "leave", "()V"⟩
abbrev cX9_slotOf : ByteArray := prog_6_method_15_code
def yX9_slotOf : MethodName := ⟨RX9, "slotOf", "(LLinkHouse$Member;)I"⟩
abbrev cX9_byRow : ByteArray := prog_6_method_21_code
def yX9_byRow : MethodName := ⟨RX9, "byRow", "(ILLinkHouse$Use;)I"⟩
abbrev cX9_made : ByteArray := prog_6_method_22_code
def yX9_made : MethodName := ⟨RX9, "made", "(LLinkHouse$Kind;)I"⟩
abbrev cX9_fieldsOf : ByteArray := prog_6_method_16_code
def yX9_fieldsOf : MethodName := ⟨RX9, "fieldsOf", "(LLinkHouse$Kind;)I"⟩
abbrev cX9_isOf : ByteArray := prog_6_method_17_code
def yX9_isOf : MethodName := ⟨RX9, "isOf", "(ILLinkHouse$Kind;)Z"⟩
abbrev cX9_called : ByteArray := prog_6_method_23_code
def yX9_called : MethodName := ⟨RX9, "called", "(LLinkHouse$Use;LLinkHouse$Member;)I"⟩
abbrev cX9_unwind : ByteArray := prog_6_method_24_code
def yX9_unwind : MethodName := ⟨RX9, "unwind", "(I)I"⟩
abbrev cX9_isAt : ByteArray := prog_6_method_3_code
def yX9_isAt : MethodName := ⟨RX9, "isAt", "(LLinkHouse$Kind;)I"⟩
theorem q409 : (Jvm.Cond.initialized "LinkHouse$Machine") ∈ lw_all := sorry
theorem q441 : (Jvm.Cond.fieldLinkNest "LinkHouse$Machine" (200 : Nat) "LinkHouse$Member" "sort" "I" "LinkHouse") ∈ lw_tbl := sorry
theorem q455 : (Jvm.Cond.fieldLinkNest "LinkHouse$Machine" (320 : Nat) "LinkHouse$Member" "access" "I" "LinkHouse") ∈ lw_tbl := sorry
theorem q458 : (Jvm.Cond.fieldLinkNest "LinkHouse$Machine" (213 : Nat) "LinkHouse$Member" "isStatic" "Z" "LinkHouse") ∈ lw_tbl := sorry
theorem q465 : (Jvm.Cond.fieldLinkNest "LinkHouse$Machine" (173 : Nat) "LinkHouse$Member" "isFinal" "Z" "LinkHouse") ∈ lw_tbl := sorry
theorem q489 : (Jvm.Cond.fieldLinkNest "LinkHouse$Machine" (299 : Nat) "LinkHouse$Member" "params" "I" "LinkHouse") ∈ lw_tbl := sorry
theorem q503 : (Jvm.Cond.fieldLinkNest "LinkHouse$Machine" (201 : Nat) "LinkHouse$Member" "isConstant" "Z" "LinkHouse") ∈ lw_tbl := sorry
theorem q509 : (Jvm.Cond.fieldLinkNest "LinkHouse$Machine" (207 : Nat) "LinkHouse$Member" "constant" "I" "LinkHouse") ∈ lw_tbl := sorry
theorem q529 : (Jvm.Cond.fieldLinkNest "LinkHouse$Machine" (210 : Nat) "LinkHouse$Member" "code" "I" "LinkHouse") ∈ lw_tbl := sorry
theorem q532 : (Jvm.Cond.fieldLinkNest "LinkHouse$Machine" (230 : Nat) "LinkHouse$Member" "locals" "I" "LinkHouse") ∈ lw_tbl := sorry
theorem q537 : (Jvm.Cond.fieldLinkNest "LinkHouse$Machine" (204 : Nat) "LinkHouse$Member" "slot" "I" "LinkHouse") ∈ lw_tbl := sorry
theorem q541 : (Jvm.Cond.fieldLinkNest "LinkHouse$Machine" (251 : Nat) "LinkHouse$Member" "of" "LLinkHouse$Kind;" "LinkHouse") ∈ lw_tbl := sorry
theorem q610 : (Jvm.Cond.fieldLinkNest "LinkHouse$Machine" (187 : Nat) "LinkHouse$Kind" "isFace" "Z" "LinkHouse") ∈ lw_tbl := sorry
theorem q640 : (Jvm.Cond.fieldLinkNest "LinkHouse$Machine" (119 : Nat) "LinkHouse$Kind" "face" "[J" "LinkHouse") ∈ lw_tbl := sorry
theorem q647 : (Jvm.Cond.fieldLinkNest "LinkHouse$Machine" (116 : Nat) "LinkHouse$Kind" "faces" "I" "LinkHouse") ∈ lw_tbl := sorry
theorem q678 : (Jvm.Cond.fieldLinkNest "LinkHouse$Machine" (130 : Nat) "LinkHouse$Kind" "member" "[LLinkHouse$Member;" "LinkHouse") ∈ lw_tbl := sorry
theorem q682 : (Jvm.Cond.fieldLinkNest "LinkHouse$Machine" (127 : Nat) "LinkHouse$Kind" "members" "I" "LinkHouse") ∈ lw_tbl := sorry
theorem q688 : (Jvm.Cond.fieldLinkNest "LinkHouse$Machine" (141 : Nat) "LinkHouse$Kind" "useFrom" "I" "LinkHouse") ∈ lw_tbl := sorry
theorem q692 : (Jvm.Cond.fieldLinkNest "LinkHouse$Machine" (144 : Nat) "LinkHouse$Kind" "useTo" "I" "LinkHouse") ∈ lw_tbl := sorry
theorem q700 : (Jvm.Cond.fieldLinkNest "LinkHouse$Machine" (255 : Nat) "LinkHouse$Kind" "fields" "I" "LinkHouse") ∈ lw_tbl := sorry
theorem q709 : (Jvm.Cond.fieldLinkNest "LinkHouse$Machine" (147 : Nat) "LinkHouse$Kind" "build" "LLinkHouse$Build;" "LinkHouse") ∈ lw_tbl := sorry
theorem q714 : (Jvm.Cond.fieldLinkNest "LinkHouse$Machine" (93 : Nat) "LinkHouse$Kind" "inWorld" "I" "LinkHouse") ∈ lw_tbl := sorry
theorem q801 : (Jvm.Cond.fieldLinkNest "LinkHouse$Machine" (317 : Nat) "LinkHouse$World" "clash" "I" "LinkHouse") ∈ lw_tbl := sorry
theorem q1079 : (Jvm.Cond.fieldLinkNest "LinkHouse$Machine" (157 : Nat) "LinkHouse$Use" "sort" "I" "LinkHouse") ∈ lw_tbl := sorry
theorem q1089 : (Jvm.Cond.fieldLinkNest "LinkHouse$Machine" (292 : Nat) "LinkHouse$Use" "title" "J" "LinkHouse") ∈ lw_tbl := sorry
theorem q1181 : (Jvm.Cond.fieldLinkNest "LinkHouse$Machine" (90 : Nat) "LinkHouse$Linker" "loads" "[I" "LinkHouse") ∈ lw_tbl := sorry
theorem q1188 : (Jvm.Cond.fieldLinkNest "LinkHouse$Machine" (288 : Nat) "LinkHouse$Linker" "found" "LLinkHouse$Member;" "LinkHouse") ∈ lw_tbl := sorry
theorem q1191 : (Jvm.Cond.fieldLinkNest "LinkHouse$Machine" (323 : Nat) "LinkHouse$Linker" "target" "LLinkHouse$Member;" "LinkHouse") ∈ lw_tbl := sorry
theorem q1215 : (Jvm.Cond.instantiable "LinkHouse$Machine" (23 : Nat)) ∈ lw_all := sorry
theorem q1217 : (Jvm.Cond.instanceMethod ({ cls := "LinkHouse$Machine", name := "<init>", desc := "(LLinkHouse$World;)V" } : Jvm.MethodName)) ∈ lw_all := sorry
theorem q1218 : (Jvm.Cond.code ({ cls := "LinkHouse$Machine", name := "<init>", desc := "(LLinkHouse$World;)V" } : Jvm.MethodName) prog_6_method_1_code (2 : Nat) (Option.none : Option Jvm.ClassFile.FieldType)) ∈ lw_all := sorry
theorem q1219 : (Jvm.Cond.methodLink "LinkHouse$Machine" (3 : Nat) ({ cls := "java/lang/Object", name := "<init>", desc := "()V" } : Jvm.MethodName)) ∈ lw_all := sorry
theorem q1220 : (Jvm.Cond.classLink "LinkHouse$Machine" (21 : Nat) "LinkHouse$Kind") ∈ lw_all := sorry
theorem q1221 : (Jvm.Cond.classLink "LinkHouse$Machine" (39 : Nat) "LinkHouse$Member") ∈ lw_all := sorry
theorem q1222 : (Jvm.Cond.classLink "LinkHouse$Machine" (59 : Nat) "[[LLinkHouse$Kind;") ∈ lw_all := sorry
theorem q1224 : (Jvm.Cond.classLink "LinkHouse$Machine" (68 : Nat) "LinkHouse$Linker") ∈ lw_all := sorry
theorem q1225 : (Jvm.Cond.methodLink "LinkHouse$Machine" (70 : Nat) ({ cls := "LinkHouse$Linker", name := "<init>", desc := "(LLinkHouse$World;)V" } : Jvm.MethodName)) ∈ lw_all := sorry
theorem q1226 : (Jvm.Cond.fieldLink "LinkHouse$Machine" (64 : Nat) "LinkHouse$Machine" "w" "LLinkHouse$World;") ∈ lw_all := sorry
theorem q1227 : (Jvm.Cond.fieldLink "LinkHouse$Machine" (73 : Nat) "LinkHouse$Machine" "l" "LLinkHouse$Linker;") ∈ lw_all := sorry
theorem q1229 : (Jvm.Cond.fieldLink "LinkHouse$Machine" (9 : Nat) "LinkHouse$Machine" "links" "[I") ∈ lw_all := sorry
theorem q1230 : (Jvm.Cond.fieldLink "LinkHouse$Machine" (15 : Nat) "LinkHouse$Machine" "starts" "[I") ∈ lw_all := sorry
theorem q1231 : (Jvm.Cond.fieldLink "LinkHouse$Machine" (18 : Nat) "LinkHouse$Machine" "statics" "[I") ∈ lw_all := sorry
theorem q1232 : (Jvm.Cond.fieldLink "LinkHouse$Machine" (23 : Nat) "LinkHouse$Machine" "ofObject" "[LLinkHouse$Kind;") ∈ lw_all := sorry
theorem q1234 : (Jvm.Cond.fieldLink "LinkHouse$Machine" (27 : Nat) "LinkHouse$Machine" "objectAt" "[I") ∈ lw_all := sorry
theorem q1236 : (Jvm.Cond.fieldLink "LinkHouse$Machine" (80 : Nat) "LinkHouse$Machine" "objects" "I") ∈ lw_all := sorry
theorem q1238 : (Jvm.Cond.fieldLink "LinkHouse$Machine" (30 : Nat) "LinkHouse$Machine" "cells" "[I") ∈ lw_all := sorry
theorem q1240 : (Jvm.Cond.fieldLink "LinkHouse$Machine" (83 : Nat) "LinkHouse$Machine" "used" "I") ∈ lw_all := sorry
theorem q1242 : (Jvm.Cond.fieldLink "LinkHouse$Machine" (33 : Nat) "LinkHouse$Machine" "outs" "[I") ∈ lw_all := sorry
theorem q1244 : (Jvm.Cond.fieldLink "LinkHouse$Machine" (245 : Nat) "LinkHouse$Machine" "outCount" "I") ∈ lw_all := sorry
theorem q1246 : (Jvm.Cond.fieldLink "LinkHouse$Machine" (227 : Nat) "LinkHouse$Machine" "steps" "I") ∈ lw_all := sorry
theorem q1248 : (Jvm.Cond.fieldLink "LinkHouse$Machine" (181 : Nat) "LinkHouse$Machine" "active" "I") ∈ lw_all := sorry
theorem q1249 : (Jvm.Cond.fieldLink "LinkHouse$Machine" (248 : Nat) "LinkHouse$Machine" "given" "I") ∈ lw_all := sorry
theorem q1251 : (Jvm.Cond.fieldLink "LinkHouse$Machine" (36 : Nat) "LinkHouse$Machine" "stack" "[I") ∈ lw_all := sorry
theorem q1252 : (Jvm.Cond.fieldLink "LinkHouse$Machine" (224 : Nat) "LinkHouse$Machine" "sp" "I") ∈ lw_all := sorry
theorem q1253 : (Jvm.Cond.fieldLink "LinkHouse$Machine" (41 : Nat) "LinkHouse$Machine" "frame" "[LLinkHouse$Member;") ∈ lw_all := sorry
theorem q1254 : (Jvm.Cond.fieldLink "LinkHouse$Machine" (45 : Nat) "LinkHouse$Machine" "pc" "[I") ∈ lw_all := sorry
theorem q1255 : (Jvm.Cond.fieldLink "LinkHouse$Machine" (48 : Nat) "LinkHouse$Machine" "base" "[I") ∈ lw_all := sorry
theorem q1256 : (Jvm.Cond.fieldLink "LinkHouse$Machine" (51 : Nat) "LinkHouse$Machine" "isCall" "[Z") ∈ lw_all := sorry
theorem q1257 : (Jvm.Cond.fieldLink "LinkHouse$Machine" (55 : Nat) "LinkHouse$Machine" "top" "I") ∈ lw_all := sorry
theorem q1258 : (Jvm.Cond.fieldLink "LinkHouse$Machine" (61 : Nat) "LinkHouse$Machine" "rows" "[[LLinkHouse$Kind;") ∈ lw_all := sorry
theorem q1259 : (Jvm.Cond.laysFinal "LinkHouse$Machine" "LinkHouse$Machine" "w" "LLinkHouse$World;") ∈ lw_all := sorry
theorem q1260 : (Jvm.Cond.soleField "LinkHouse$Machine" "w") ∈ lw_all := sorry
theorem q1261 : (Jvm.Cond.laysFinal "LinkHouse$Machine" "LinkHouse$Machine" "l" "LLinkHouse$Linker;") ∈ lw_all := sorry
theorem q1262 : (Jvm.Cond.soleField "LinkHouse$Machine" "l") ∈ lw_all := sorry
theorem q1263 : (Jvm.Cond.laysFinal "LinkHouse$Machine" "LinkHouse$Machine" "links" "[I") ∈ lw_all := sorry
theorem q1264 : (Jvm.Cond.soleField "LinkHouse$Machine" "links") ∈ lw_all := sorry
theorem q1265 : (Jvm.Cond.laysFinal "LinkHouse$Machine" "LinkHouse$Machine" "starts" "[I") ∈ lw_all := sorry
theorem q1266 : (Jvm.Cond.soleField "LinkHouse$Machine" "starts") ∈ lw_all := sorry
theorem q1267 : (Jvm.Cond.laysFinal "LinkHouse$Machine" "LinkHouse$Machine" "statics" "[I") ∈ lw_all := sorry
theorem q1268 : (Jvm.Cond.soleField "LinkHouse$Machine" "statics") ∈ lw_all := sorry
theorem q1269 : (Jvm.Cond.laysFinal "LinkHouse$Machine" "LinkHouse$Machine" "ofObject" "[LLinkHouse$Kind;") ∈ lw_all := sorry
theorem q1270 : (Jvm.Cond.soleField "LinkHouse$Machine" "ofObject") ∈ lw_all := sorry
theorem q1271 : (Jvm.Cond.laysFinal "LinkHouse$Machine" "LinkHouse$Machine" "objectAt" "[I") ∈ lw_all := sorry
theorem q1272 : (Jvm.Cond.soleField "LinkHouse$Machine" "objectAt") ∈ lw_all := sorry
theorem q1273 : (Jvm.Cond.lays "LinkHouse$Machine" "LinkHouse$Machine" "objects" "I") ∈ lw_all := sorry
theorem q1274 : (Jvm.Cond.soleField "LinkHouse$Machine" "objects") ∈ lw_all := sorry
theorem q1275 : (Jvm.Cond.laysFinal "LinkHouse$Machine" "LinkHouse$Machine" "cells" "[I") ∈ lw_all := sorry
theorem q1276 : (Jvm.Cond.soleField "LinkHouse$Machine" "cells") ∈ lw_all := sorry
theorem q1277 : (Jvm.Cond.lays "LinkHouse$Machine" "LinkHouse$Machine" "used" "I") ∈ lw_all := sorry
theorem q1278 : (Jvm.Cond.soleField "LinkHouse$Machine" "used") ∈ lw_all := sorry
theorem q1279 : (Jvm.Cond.laysFinal "LinkHouse$Machine" "LinkHouse$Machine" "outs" "[I") ∈ lw_all := sorry
theorem q1280 : (Jvm.Cond.soleField "LinkHouse$Machine" "outs") ∈ lw_all := sorry
theorem q1281 : (Jvm.Cond.lays "LinkHouse$Machine" "LinkHouse$Machine" "outCount" "I") ∈ lw_all := sorry
theorem q1282 : (Jvm.Cond.soleField "LinkHouse$Machine" "outCount") ∈ lw_all := sorry
theorem q1283 : (Jvm.Cond.lays "LinkHouse$Machine" "LinkHouse$Machine" "steps" "I") ∈ lw_all := sorry
theorem q1284 : (Jvm.Cond.soleField "LinkHouse$Machine" "steps") ∈ lw_all := sorry
theorem q1285 : (Jvm.Cond.lays "LinkHouse$Machine" "LinkHouse$Machine" "active" "I") ∈ lw_all := sorry
theorem q1286 : (Jvm.Cond.soleField "LinkHouse$Machine" "active") ∈ lw_all := sorry
theorem q1287 : (Jvm.Cond.lays "LinkHouse$Machine" "LinkHouse$Machine" "given" "I") ∈ lw_all := sorry
theorem q1288 : (Jvm.Cond.soleField "LinkHouse$Machine" "given") ∈ lw_all := sorry
theorem q1289 : (Jvm.Cond.laysFinal "LinkHouse$Machine" "LinkHouse$Machine" "stack" "[I") ∈ lw_all := sorry
theorem q1290 : (Jvm.Cond.soleField "LinkHouse$Machine" "stack") ∈ lw_all := sorry
theorem q1291 : (Jvm.Cond.lays "LinkHouse$Machine" "LinkHouse$Machine" "sp" "I") ∈ lw_all := sorry
theorem q1292 : (Jvm.Cond.soleField "LinkHouse$Machine" "sp") ∈ lw_all := sorry
theorem q1293 : (Jvm.Cond.laysFinal "LinkHouse$Machine" "LinkHouse$Machine" "frame" "[LLinkHouse$Member;") ∈ lw_all := sorry
theorem q1294 : (Jvm.Cond.soleField "LinkHouse$Machine" "frame") ∈ lw_all := sorry
theorem q1295 : (Jvm.Cond.laysFinal "LinkHouse$Machine" "LinkHouse$Machine" "pc" "[I") ∈ lw_all := sorry
theorem q1296 : (Jvm.Cond.soleField "LinkHouse$Machine" "pc") ∈ lw_all := sorry
theorem q1297 : (Jvm.Cond.laysFinal "LinkHouse$Machine" "LinkHouse$Machine" "base" "[I") ∈ lw_all := sorry
theorem q1298 : (Jvm.Cond.soleField "LinkHouse$Machine" "base") ∈ lw_all := sorry
theorem q1299 : (Jvm.Cond.laysFinal "LinkHouse$Machine" "LinkHouse$Machine" "isCall" "[Z") ∈ lw_all := sorry
theorem q1300 : (Jvm.Cond.soleField "LinkHouse$Machine" "isCall") ∈ lw_all := sorry
theorem q1301 : (Jvm.Cond.lays "LinkHouse$Machine" "LinkHouse$Machine" "top" "I") ∈ lw_all := sorry
theorem q1302 : (Jvm.Cond.soleField "LinkHouse$Machine" "top") ∈ lw_all := sorry
theorem q1303 : (Jvm.Cond.laysFinal "LinkHouse$Machine" "LinkHouse$Machine" "rows" "[[LLinkHouse$Kind;") ∈ lw_all := sorry
theorem q1304 : (Jvm.Cond.soleField "LinkHouse$Machine" "rows") ∈ lw_all := sorry
theorem q1305 : (Jvm.Cond.superclass "LinkHouse$Machine" "java/lang/Object") ∈ lw_all := sorry
theorem q1343 : (Jvm.Cond.fieldLinkNest "LinkHouse$Machine" (151 : Nat) "LinkHouse$Build" "use" "[LLinkHouse$Use;" "LinkHouse") ∈ lw_tbl := sorry
theorem q1350 : (Jvm.Cond.fieldLinkNest "LinkHouse$Machine" (262 : Nat) "LinkHouse$Build" "code" "[I" "LinkHouse") ∈ lw_tbl := sorry
theorem q1357 : (Jvm.Cond.fieldLinkNest "LinkHouse$Machine" (329 : Nat) "LinkHouse$Build" "caught" "[I" "LinkHouse") ∈ lw_tbl := sorry
theorem q1361 : (Jvm.Cond.fieldLinkNest "LinkHouse$Machine" (326 : Nat) "LinkHouse$Build" "catches" "I" "LinkHouse") ∈ lw_tbl := sorry
theorem q1435 : (Jvm.Cond.instanceMethod ({ cls := "LinkHouse$Machine", name := "begin", desc := "()V" } : Jvm.MethodName)) ∈ lw_all := sorry
theorem q1436 : (Jvm.Cond.selects "LinkHouse$Machine" ({ cls := "LinkHouse$Machine", name := "begin", desc := "()V" } : Jvm.MethodName) ({ cls := "LinkHouse$Machine", name := "begin", desc := "()V" } : Jvm.MethodName)) ∈ lw_all := sorry
theorem q1437 : (Jvm.Cond.code ({ cls := "LinkHouse$Machine", name := "begin", desc := "()V" } : Jvm.MethodName) prog_6_method_2_code (2 : Nat) (Option.none : Option Jvm.ClassFile.FieldType)) ∈ lw_all := sorry
theorem q1438 : (Jvm.Cond.methodLink "LinkHouse$Machine" (77 : Nat) ({ cls := "LinkHouse$Linker", name := "begin", desc := "()V" } : Jvm.MethodName)) ∈ lw_all := sorry
theorem q2504 : (Jvm.Cond.instanceMethod ({ cls := "LinkHouse$Machine", name := "call", desc := "(LLinkHouse$Kind;LLinkHouse$Member;)I" } : Jvm.MethodName)) ∈ lw_all := sorry
theorem q2505 : (Jvm.Cond.selects "LinkHouse$Machine" ({ cls := "LinkHouse$Machine", name := "call", desc := "(LLinkHouse$Kind;LLinkHouse$Member;)I" } : Jvm.MethodName) ({ cls := "LinkHouse$Machine", name := "call", desc := "(LLinkHouse$Kind;LLinkHouse$Member;)I" } : Jvm.MethodName)) ∈ lw_all := sorry
theorem q2506 : (Jvm.Cond.code ({ cls := "LinkHouse$Machine", name := "call", desc := "(LLinkHouse$Kind;LLinkHouse$Member;)I" } : Jvm.MethodName) prog_6_method_14_code (4 : Nat) (Option.some Jvm.ClassFile.FieldType.int)) ∈ lw_all := sorry
theorem q2507 : (Jvm.Cond.methodLink "LinkHouse$Machine" (190 : Nat) ({ cls := "LinkHouse$Machine", name := "start", desc := "(LLinkHouse$Kind;)I" } : Jvm.MethodName)) ∈ lw_all := sorry
theorem q2508 : (Jvm.Cond.instanceMethod ({ cls := "LinkHouse$Machine", name := "start", desc := "(LLinkHouse$Kind;)I" } : Jvm.MethodName)) ∈ lw_all := sorry
theorem q2509 : (Jvm.Cond.selects "LinkHouse$Machine" ({ cls := "LinkHouse$Machine", name := "start", desc := "(LLinkHouse$Kind;)I" } : Jvm.MethodName) ({ cls := "LinkHouse$Machine", name := "start", desc := "(LLinkHouse$Kind;)I" } : Jvm.MethodName)) ∈ lw_all := sorry
theorem q2510 : (Jvm.Cond.code ({ cls := "LinkHouse$Machine", name := "start", desc := "(LLinkHouse$Kind;)I" } : Jvm.MethodName) prog_6_method_7_code (4 : Nat) (Option.some Jvm.ClassFile.FieldType.int)) ∈ lw_all := sorry
theorem q2511 : (Jvm.Cond.methodLink "LinkHouse$Machine" (86 : Nat) ({ cls := "LinkHouse$Linker", name := "isBuiltIn", desc := "(LLinkHouse$Kind;)Z" } : Jvm.MethodName)) ∈ lw_all := sorry
theorem q2512 : (Jvm.Cond.methodLink "LinkHouse$Machine" (113 : Nat) ({ cls := "LinkHouse$Machine", name := "link", desc := "(LLinkHouse$Kind;)I" } : Jvm.MethodName)) ∈ lw_all := sorry
theorem q2513 : (Jvm.Cond.privateMethod ({ cls := "LinkHouse$Machine", name := "link", desc := "(LLinkHouse$Kind;)I" } : Jvm.MethodName)) ∈ lw_tbl := sorry
theorem q2514 : (Jvm.Cond.instanceMethod ({ cls := "LinkHouse$Machine", name := "link", desc := "(LLinkHouse$Kind;)I" } : Jvm.MethodName)) ∈ lw_all := sorry
theorem q2515 : (Jvm.Cond.code ({ cls := "LinkHouse$Machine", name := "link", desc := "(LLinkHouse$Kind;)I" } : Jvm.MethodName) prog_6_method_4_code (4 : Nat) (Option.some Jvm.ClassFile.FieldType.int)) ∈ lw_all := sorry
theorem q2516 : (Jvm.Cond.methodLink "LinkHouse$Machine" (96 : Nat) ({ cls := "LinkHouse$Linker", name := "load", desc := "(LLinkHouse$Kind;)I" } : Jvm.MethodName)) ∈ lw_all := sorry
theorem q2517 : (Jvm.Cond.methodLink "LinkHouse$Machine" (100 : Nat) ({ cls := "LinkHouse$Machine", name := "linkHead", desc := "(LLinkHouse$Kind;)I" } : Jvm.MethodName)) ∈ lw_all := sorry
theorem q2518 : (Jvm.Cond.privateMethod ({ cls := "LinkHouse$Machine", name := "linkHead", desc := "(LLinkHouse$Kind;)I" } : Jvm.MethodName)) ∈ lw_tbl := sorry
theorem q2519 : (Jvm.Cond.instanceMethod ({ cls := "LinkHouse$Machine", name := "linkHead", desc := "(LLinkHouse$Kind;)I" } : Jvm.MethodName)) ∈ lw_all := sorry
theorem q2520 : (Jvm.Cond.code ({ cls := "LinkHouse$Machine", name := "linkHead", desc := "(LLinkHouse$Kind;)I" } : Jvm.MethodName) prog_6_method_5_code (6 : Nat) (Option.some Jvm.ClassFile.FieldType.int)) ∈ lw_all := sorry
theorem q2521 : (Jvm.Cond.methodLink "LinkHouse$Machine" (107 : Nat) ({ cls := "LinkHouse$World", name := "parent", desc := "(LLinkHouse$Kind;)LLinkHouse$Kind;" } : Jvm.MethodName)) ∈ lw_all := sorry
theorem q2522 : (Jvm.Cond.methodLink "LinkHouse$Machine" (123 : Nat) ({ cls := "LinkHouse$World", name := "find", desc := "(J)LLinkHouse$Kind;" } : Jvm.MethodName)) ∈ lw_all := sorry
theorem q2523 : (Jvm.Cond.methodLink "LinkHouse$Machine" (133 : Nat) ({ cls := "LinkHouse$Member", name := "isOfObjects", desc := "()Z" } : Jvm.MethodName)) ∈ lw_all := sorry
theorem q2524 : (Jvm.Cond.methodLink "LinkHouse$Machine" (137 : Nat) ({ cls := "LinkHouse$Machine", name := "isBarred", desc := "(LLinkHouse$Member;LLinkHouse$Kind;)Z" } : Jvm.MethodName)) ∈ lw_all := sorry
theorem q2525 : (Jvm.Cond.privateMethod ({ cls := "LinkHouse$Machine", name := "isBarred", desc := "(LLinkHouse$Member;LLinkHouse$Kind;)Z" } : Jvm.MethodName)) ∈ lw_tbl := sorry
theorem q2526 : (Jvm.Cond.instanceMethod ({ cls := "LinkHouse$Machine", name := "isBarred", desc := "(LLinkHouse$Member;LLinkHouse$Kind;)Z" } : Jvm.MethodName)) ∈ lw_all := sorry
theorem q2527 : (Jvm.Cond.code ({ cls := "LinkHouse$Machine", name := "isBarred", desc := "(LLinkHouse$Member;LLinkHouse$Kind;)Z" } : Jvm.MethodName) prog_6_method_6_code (5 : Nat) (Option.some Jvm.ClassFile.FieldType.boolean)) ∈ lw_all := sorry
theorem q2528 : (Jvm.Cond.methodLink "LinkHouse$Machine" (169 : Nat) ({ cls := "LinkHouse$Kind", name := "method", desc := "(LLinkHouse$Member;)LLinkHouse$Member;" } : Jvm.MethodName)) ∈ lw_all := sorry
theorem q2529 : (Jvm.Cond.methodLink "LinkHouse$Machine" (177 : Nat) ({ cls := "LinkHouse$World", name := "overrides", desc := "(LLinkHouse$Member;LLinkHouse$Member;)Z" } : Jvm.MethodName)) ∈ lw_all := sorry
theorem q2530 : (Jvm.Cond.methodLink "LinkHouse$Machine" (162 : Nat) ({ cls := "LinkHouse$Linker", name := "fitted", desc := "(LLinkHouse$Use;)I" } : Jvm.MethodName)) ∈ lw_all := sorry
theorem q2531 : (Jvm.Cond.methodLink "LinkHouse$Machine" (166 : Nat) ({ cls := "LinkHouse$Linker", name := "canBeCaught", desc := "(LLinkHouse$Use;)I" } : Jvm.MethodName)) ∈ lw_all := sorry
theorem q2535 : (Jvm.Cond.methodLink "LinkHouse$Machine" (103 : Nat) ({ cls := "LinkHouse$Linker", name := "tellEvent", desc := "(LLinkHouse$Kind;I)V" } : Jvm.MethodName)) ∈ lw_all := sorry
theorem q2536 : (Jvm.Cond.methodLink "LinkHouse$Machine" (184 : Nat) ({ cls := "LinkHouse$Machine", name := "startAll", desc := "(LLinkHouse$Kind;)I" } : Jvm.MethodName)) ∈ lw_all := sorry
theorem q2537 : (Jvm.Cond.privateMethod ({ cls := "LinkHouse$Machine", name := "startAll", desc := "(LLinkHouse$Kind;)I" } : Jvm.MethodName)) ∈ lw_tbl := sorry
theorem q2538 : (Jvm.Cond.instanceMethod ({ cls := "LinkHouse$Machine", name := "startAll", desc := "(LLinkHouse$Kind;)I" } : Jvm.MethodName)) ∈ lw_all := sorry
theorem q2539 : (Jvm.Cond.code ({ cls := "LinkHouse$Machine", name := "startAll", desc := "(LLinkHouse$Kind;)I" } : Jvm.MethodName) prog_6_method_8_code (6 : Nat) (Option.some Jvm.ClassFile.FieldType.int)) ∈ lw_all := sorry
theorem q2540 : (Jvm.Cond.methodLink "LinkHouse$Machine" (193 : Nat) ({ cls := "LinkHouse$Machine", name := "layUpwards", desc := "([LLinkHouse$Kind;ILLinkHouse$Kind;)I" } : Jvm.MethodName)) ∈ lw_all := sorry
theorem q2541 : (Jvm.Cond.privateMethod ({ cls := "LinkHouse$Machine", name := "layUpwards", desc := "([LLinkHouse$Kind;ILLinkHouse$Kind;)I" } : Jvm.MethodName)) ∈ lw_tbl := sorry
theorem q2542 : (Jvm.Cond.instanceMethod ({ cls := "LinkHouse$Machine", name := "layUpwards", desc := "([LLinkHouse$Kind;ILLinkHouse$Kind;)I" } : Jvm.MethodName)) ∈ lw_all := sorry
theorem q2543 : (Jvm.Cond.code ({ cls := "LinkHouse$Machine", name := "layUpwards", desc := "([LLinkHouse$Kind;ILLinkHouse$Kind;)I" } : Jvm.MethodName) prog_6_method_9_code (7 : Nat) (Option.some Jvm.ClassFile.FieldType.int)) ∈ lw_all := sorry
theorem q2544 : (Jvm.Cond.methodLinkNest "LinkHouse$Machine" (220 : Nat) ({ cls := "LinkHouse$World", name := "isIn", desc := "([LLinkHouse$Kind;ILLinkHouse$Kind;)Z" } : Jvm.MethodName) "LinkHouse") ∈ lw_tbl := sorry
theorem q2545 : (Jvm.Cond.methodLink "LinkHouse$Machine" (197 : Nat) ({ cls := "LinkHouse$Kind", name := "hasWhole", desc := "()Z" } : Jvm.MethodName)) ∈ lw_all := sorry
theorem q2549 : (Jvm.Cond.methodLink "LinkHouse$Machine" (216 : Nat) ({ cls := "LinkHouse$Machine", name := "fragment", desc := "(LLinkHouse$Member;)I" } : Jvm.MethodName)) ∈ lw_all := sorry
theorem q2550 : (Jvm.Cond.privateMethod ({ cls := "LinkHouse$Machine", name := "fragment", desc := "(LLinkHouse$Member;)I" } : Jvm.MethodName)) ∈ lw_tbl := sorry
theorem q2551 : (Jvm.Cond.instanceMethod ({ cls := "LinkHouse$Machine", name := "fragment", desc := "(LLinkHouse$Member;)I" } : Jvm.MethodName)) ∈ lw_all := sorry
theorem q2552 : (Jvm.Cond.code ({ cls := "LinkHouse$Machine", name := "fragment", desc := "(LLinkHouse$Member;)I" } : Jvm.MethodName) prog_6_method_13_code (6 : Nat) (Option.some Jvm.ClassFile.FieldType.int)) ∈ lw_all := sorry
theorem q2553 : (Jvm.Cond.methodLink "LinkHouse$Machine" (237 : Nat) ({ cls := "LinkHouse$Machine", name := "enter", desc := "(LLinkHouse$Member;IZ)I" } : Jvm.MethodName)) ∈ lw_all := sorry
theorem q2554 : (Jvm.Cond.privateMethod ({ cls := "LinkHouse$Machine", name := "enter", desc := "(LLinkHouse$Member;IZ)I" } : Jvm.MethodName)) ∈ lw_tbl := sorry
theorem q2555 : (Jvm.Cond.instanceMethod ({ cls := "LinkHouse$Machine", name := "enter", desc := "(LLinkHouse$Member;IZ)I" } : Jvm.MethodName)) ∈ lw_all := sorry
theorem q2556 : (Jvm.Cond.code ({ cls := "LinkHouse$Machine", name := "enter", desc := "(LLinkHouse$Member;IZ)I" } : Jvm.MethodName) prog_6_method_11_code (4 : Nat) (Option.some Jvm.ClassFile.FieldType.int)) ∈ lw_all := sorry
theorem q2557 : (Jvm.Cond.methodLink "LinkHouse$Machine" (233 : Nat) ({ cls := "LinkHouse$Machine", name := "push", desc := "(I)V" } : Jvm.MethodName)) ∈ lw_all := sorry
theorem q2558 : (Jvm.Cond.privateMethod ({ cls := "LinkHouse$Machine", name := "push", desc := "(I)V" } : Jvm.MethodName)) ∈ lw_tbl := sorry
theorem q2559 : (Jvm.Cond.instanceMethod ({ cls := "LinkHouse$Machine", name := "push", desc := "(I)V" } : Jvm.MethodName)) ∈ lw_all := sorry
theorem q2560 : (Jvm.Cond.code ({ cls := "LinkHouse$Machine", name := "push", desc := "(I)V" } : Jvm.MethodName) prog_6_method_10_code (2 : Nat) (Option.none : Option Jvm.ClassFile.FieldType)) ∈ lw_all := sorry
theorem q2561 : (Jvm.Cond.methodLink "LinkHouse$Machine" (241 : Nat) ({ cls := "LinkHouse$Machine", name := "loop", desc := "(I)I" } : Jvm.MethodName)) ∈ lw_all := sorry
theorem q2562 : (Jvm.Cond.privateMethod ({ cls := "LinkHouse$Machine", name := "loop", desc := "(I)I" } : Jvm.MethodName)) ∈ lw_tbl := sorry
theorem q2563 : (Jvm.Cond.instanceMethod ({ cls := "LinkHouse$Machine", name := "loop", desc := "(I)I" } : Jvm.MethodName)) ∈ lw_all := sorry
theorem q2564 : (Jvm.Cond.code ({ cls := "LinkHouse$Machine", name := "loop", desc := "(I)I" } : Jvm.MethodName) prog_6_method_18_code (7 : Nat) (Option.some Jvm.ClassFile.FieldType.int)) ∈ lw_all := sorry
theorem q2565 : (Jvm.Cond.methodLink "LinkHouse$Machine" (264 : Nat) ({ cls := "LinkHouse$Machine", name := "simple", desc := "(II)I" } : Jvm.MethodName)) ∈ lw_all := sorry
theorem q2566 : (Jvm.Cond.privateMethod ({ cls := "LinkHouse$Machine", name := "simple", desc := "(II)I" } : Jvm.MethodName)) ∈ lw_tbl := sorry
theorem q2567 : (Jvm.Cond.instanceMethod ({ cls := "LinkHouse$Machine", name := "simple", desc := "(II)I" } : Jvm.MethodName)) ∈ lw_all := sorry
theorem q2568 : (Jvm.Cond.code ({ cls := "LinkHouse$Machine", name := "simple", desc := "(II)I" } : Jvm.MethodName) prog_6_method_19_code (6 : Nat) (Option.some Jvm.ClassFile.FieldType.int)) ∈ lw_all := sorry
theorem q2569 : (Jvm.Cond.methodLink "LinkHouse$Machine" (268 : Nat) ({ cls := "LinkHouse$Machine", name := "byUse", desc := "(IILLinkHouse$Kind;)I" } : Jvm.MethodName)) ∈ lw_all := sorry
theorem q2570 : (Jvm.Cond.privateMethod ({ cls := "LinkHouse$Machine", name := "byUse", desc := "(IILLinkHouse$Kind;)I" } : Jvm.MethodName)) ∈ lw_tbl := sorry
theorem q2571 : (Jvm.Cond.instanceMethod ({ cls := "LinkHouse$Machine", name := "byUse", desc := "(IILLinkHouse$Kind;)I" } : Jvm.MethodName)) ∈ lw_all := sorry
theorem q2572 : (Jvm.Cond.code ({ cls := "LinkHouse$Machine", name := "byUse", desc := "(IILLinkHouse$Kind;)I" } : Jvm.MethodName) prog_6_method_20_code (5 : Nat) (Option.some Jvm.ClassFile.FieldType.int)) ∈ lw_all := sorry
theorem q2573 : (Jvm.Cond.methodLink "LinkHouse$Machine" (275 : Nat) ({ cls := "LinkHouse$Machine", name := "leave", desc := "()V" } : Jvm.MethodName)) ∈ lw_all := sorry
theorem q2574 : (Jvm.Cond.privateMethod ({ cls := "LinkHouse$Machine", name := "leave", desc := "()V" } : Jvm.MethodName)) ∈ lw_tbl := sorry
theorem q2575 : (Jvm.Cond.instanceMethod ({ cls := "LinkHouse$Machine", name := "leave", desc := "()V" } : Jvm.MethodName)) ∈ lw_all := sorry
theorem q2576 : (Jvm.Cond.code ({ cls := "LinkHouse$Machine", name := "leave", desc := "()V" } : Jvm.MethodName) prog_6_method_12_code (1 : Nat) (Option.none : Option Jvm.ClassFile.FieldType)) ∈ lw_all := sorry
theorem q2577 : (Jvm.Cond.methodLink "LinkHouse$Machine" (278 : Nat) ({ cls := "LinkHouse$Machine", name := "slotOf", desc := "(LLinkHouse$Member;)I" } : Jvm.MethodName)) ∈ lw_all := sorry
theorem q2578 : (Jvm.Cond.privateMethod ({ cls := "LinkHouse$Machine", name := "slotOf", desc := "(LLinkHouse$Member;)I" } : Jvm.MethodName)) ∈ lw_tbl := sorry
theorem q2579 : (Jvm.Cond.instanceMethod ({ cls := "LinkHouse$Machine", name := "slotOf", desc := "(LLinkHouse$Member;)I" } : Jvm.MethodName)) ∈ lw_all := sorry
theorem q2580 : (Jvm.Cond.code ({ cls := "LinkHouse$Machine", name := "slotOf", desc := "(LLinkHouse$Member;)I" } : Jvm.MethodName) prog_6_method_15_code (4 : Nat) (Option.some Jvm.ClassFile.FieldType.int)) ∈ lw_all := sorry
theorem q2581 : (Jvm.Cond.methodLink "LinkHouse$Machine" (281 : Nat) ({ cls := "LinkHouse$Machine", name := "byRow", desc := "(ILLinkHouse$Use;)I" } : Jvm.MethodName)) ∈ lw_all := sorry
theorem q2582 : (Jvm.Cond.privateMethod ({ cls := "LinkHouse$Machine", name := "byRow", desc := "(ILLinkHouse$Use;)I" } : Jvm.MethodName)) ∈ lw_tbl := sorry
theorem q2583 : (Jvm.Cond.instanceMethod ({ cls := "LinkHouse$Machine", name := "byRow", desc := "(ILLinkHouse$Use;)I" } : Jvm.MethodName)) ∈ lw_all := sorry
theorem q2584 : (Jvm.Cond.code ({ cls := "LinkHouse$Machine", name := "byRow", desc := "(ILLinkHouse$Use;)I" } : Jvm.MethodName) prog_6_method_21_code (6 : Nat) (Option.some Jvm.ClassFile.FieldType.int)) ∈ lw_all := sorry
theorem q2585 : (Jvm.Cond.methodLink "LinkHouse$Machine" (285 : Nat) ({ cls := "LinkHouse$Linker", name := "resolve", desc := "(LLinkHouse$Use;)I" } : Jvm.MethodName)) ∈ lw_all := sorry
theorem q2586 : (Jvm.Cond.methodLink "LinkHouse$Machine" (296 : Nat) ({ cls := "LinkHouse$Machine", name := "made", desc := "(LLinkHouse$Kind;)I" } : Jvm.MethodName)) ∈ lw_all := sorry
theorem q2587 : (Jvm.Cond.privateMethod ({ cls := "LinkHouse$Machine", name := "made", desc := "(LLinkHouse$Kind;)I" } : Jvm.MethodName)) ∈ lw_tbl := sorry
theorem q2588 : (Jvm.Cond.instanceMethod ({ cls := "LinkHouse$Machine", name := "made", desc := "(LLinkHouse$Kind;)I" } : Jvm.MethodName)) ∈ lw_all := sorry
theorem q2589 : (Jvm.Cond.code ({ cls := "LinkHouse$Machine", name := "made", desc := "(LLinkHouse$Kind;)I" } : Jvm.MethodName) prog_6_method_22_code (5 : Nat) (Option.some Jvm.ClassFile.FieldType.int)) ∈ lw_all := sorry
theorem q2590 : (Jvm.Cond.methodLink "LinkHouse$Machine" (310 : Nat) ({ cls := "LinkHouse$Machine", name := "fieldsOf", desc := "(LLinkHouse$Kind;)I" } : Jvm.MethodName)) ∈ lw_all := sorry
theorem q2591 : (Jvm.Cond.instanceMethod ({ cls := "LinkHouse$Machine", name := "fieldsOf", desc := "(LLinkHouse$Kind;)I" } : Jvm.MethodName)) ∈ lw_all := sorry
theorem q2592 : (Jvm.Cond.selects "LinkHouse$Machine" ({ cls := "LinkHouse$Machine", name := "fieldsOf", desc := "(LLinkHouse$Kind;)I" } : Jvm.MethodName) ({ cls := "LinkHouse$Machine", name := "fieldsOf", desc := "(LLinkHouse$Kind;)I" } : Jvm.MethodName)) ∈ lw_all := sorry
theorem q2593 : (Jvm.Cond.code ({ cls := "LinkHouse$Machine", name := "fieldsOf", desc := "(LLinkHouse$Kind;)I" } : Jvm.MethodName) prog_6_method_16_code (4 : Nat) (Option.some Jvm.ClassFile.FieldType.int)) ∈ lw_all := sorry
theorem q2594 : (Jvm.Cond.methodLink "LinkHouse$Machine" (302 : Nat) ({ cls := "LinkHouse$Machine", name := "isOf", desc := "(ILLinkHouse$Kind;)Z" } : Jvm.MethodName)) ∈ lw_all := sorry
theorem q2595 : (Jvm.Cond.privateMethod ({ cls := "LinkHouse$Machine", name := "isOf", desc := "(ILLinkHouse$Kind;)Z" } : Jvm.MethodName)) ∈ lw_tbl := sorry
theorem q2596 : (Jvm.Cond.instanceMethod ({ cls := "LinkHouse$Machine", name := "isOf", desc := "(ILLinkHouse$Kind;)Z" } : Jvm.MethodName)) ∈ lw_all := sorry
theorem q2597 : (Jvm.Cond.code ({ cls := "LinkHouse$Machine", name := "isOf", desc := "(ILLinkHouse$Kind;)Z" } : Jvm.MethodName) prog_6_method_17_code (3 : Nat) (Option.some Jvm.ClassFile.FieldType.boolean)) ∈ lw_all := sorry
theorem q2598 : (Jvm.Cond.methodLink "LinkHouse$Machine" (258 : Nat) ({ cls := "LinkHouse$World", name := "isHeir", desc := "(LLinkHouse$Kind;LLinkHouse$Kind;)Z" } : Jvm.MethodName)) ∈ lw_all := sorry
theorem q2599 : (Jvm.Cond.methodLink "LinkHouse$Machine" (306 : Nat) ({ cls := "LinkHouse$Machine", name := "called", desc := "(LLinkHouse$Use;LLinkHouse$Member;)I" } : Jvm.MethodName)) ∈ lw_all := sorry
theorem q2600 : (Jvm.Cond.privateMethod ({ cls := "LinkHouse$Machine", name := "called", desc := "(LLinkHouse$Use;LLinkHouse$Member;)I" } : Jvm.MethodName)) ∈ lw_tbl := sorry
theorem q2601 : (Jvm.Cond.instanceMethod ({ cls := "LinkHouse$Machine", name := "called", desc := "(LLinkHouse$Use;LLinkHouse$Member;)I" } : Jvm.MethodName)) ∈ lw_all := sorry
theorem q2602 : (Jvm.Cond.code ({ cls := "LinkHouse$Machine", name := "called", desc := "(LLinkHouse$Use;LLinkHouse$Member;)I" } : Jvm.MethodName) prog_6_method_23_code (8 : Nat) (Option.some Jvm.ClassFile.FieldType.int)) ∈ lw_all := sorry
theorem q2603 : (Jvm.Cond.methodLink "LinkHouse$Machine" (313 : Nat) ({ cls := "LinkHouse$World", name := "selected", desc := "(LLinkHouse$Member;LLinkHouse$Kind;)LLinkHouse$Member;" } : Jvm.MethodName)) ∈ lw_all := sorry
theorem q2604 : (Jvm.Cond.methodLink "LinkHouse$Machine" (272 : Nat) ({ cls := "LinkHouse$Machine", name := "unwind", desc := "(I)I" } : Jvm.MethodName)) ∈ lw_all := sorry
theorem q2605 : (Jvm.Cond.privateMethod ({ cls := "LinkHouse$Machine", name := "unwind", desc := "(I)I" } : Jvm.MethodName)) ∈ lw_tbl := sorry
theorem q2606 : (Jvm.Cond.instanceMethod ({ cls := "LinkHouse$Machine", name := "unwind", desc := "(I)I" } : Jvm.MethodName)) ∈ lw_all := sorry
theorem q2607 : (Jvm.Cond.code ({ cls := "LinkHouse$Machine", name := "unwind", desc := "(I)I" } : Jvm.MethodName) prog_6_method_24_code (9 : Nat) (Option.some Jvm.ClassFile.FieldType.int)) ∈ lw_all := sorry
theorem q2633 : (Jvm.Cond.instanceMethod ({ cls := "LinkHouse$Machine", name := "isAt", desc := "(LLinkHouse$Kind;)I" } : Jvm.MethodName)) ∈ lw_all := sorry
theorem q2634 : (Jvm.Cond.selects "LinkHouse$Machine" ({ cls := "LinkHouse$Machine", name := "isAt", desc := "(LLinkHouse$Kind;)I" } : Jvm.MethodName) ({ cls := "LinkHouse$Machine", name := "isAt", desc := "(LLinkHouse$Kind;)I" } : Jvm.MethodName)) ∈ lw_all := sorry
theorem q2635 : (Jvm.Cond.code ({ cls := "LinkHouse$Machine", name := "isAt", desc := "(LLinkHouse$Kind;)I" } : Jvm.MethodName) prog_6_method_3_code (5 : Nat) (Option.some Jvm.ClassFile.FieldType.int)) ∈ lw_all := sorry
theorem in_X9 : ∀ w ∈ wsX90, w ∈ lw_all := sorry
/-! LinkHouse$Build -/
def RX10 : String := "LinkHouse$Build"
def TX10 : u_T := fun k => match k with
  | 0 => ("LinkHouse$Build", "library", "I", false)
  | 1 => ("LinkHouse$Build", "text", "[B", true)
  | 2 => ("LinkHouse$Build", "bytes", "I", false)
  | 3 => ("LinkHouse$Build", "tokenAt", "[I", true)
  | 4 => ("LinkHouse$Build", "tokenSize", "[I", true)
  | 5 => ("LinkHouse$Build", "tokens", "I", false)
  | 6 => ("LinkHouse$Build", "kind", "[LLinkHouse$Kind;", true)
  | 7 => ("LinkHouse$Build", "kinds", "I", false)
  | 8 => ("LinkHouse$Build", "use", "[LLinkHouse$Use;", true)
  | 9 => ("LinkHouse$Build", "uses", "I", false)
  | 10 => ("LinkHouse$Build", "code", "[I", true)
  | 11 => ("LinkHouse$Build", "codes", "I", false)
  | 12 => ("LinkHouse$Build", "caught", "[I", true)
  | _ => ("LinkHouse$Build", "catches", "I", false)
def tyX10 : Nat → FieldType := fun k => match k with
  | 0 => .int
  | 1 => .array .byte
  | 2 => .int
  | 3 => .array .int
  | 4 => .array .int
  | 5 => .int
  | 6 => .array (.object "LinkHouse$Kind")
  | 7 => .int
  | 8 => .array (.object "LinkHouse$Use")
  | 9 => .int
  | 10 => .array .int
  | 11 => .int
  | 12 => .array .int
  | _ => .int
abbrev wsX100 : List Cond := u_ws RX10 TX10 14
set_option maxRecDepth 100000 in
theorem nmX10 : ∀ a, a < 14 → ∀ b, b < 14 → a ≠ b → (TX10 a).2.1 ≠ (TX10 b).2.1 := sorry
set_option maxRecDepth 100000 in
theorem tyX10_ok : ∀ k, k < 14 → parseFieldDescriptor (TX10 k).2.2.1 = some (tyX10 k) := sorry
abbrev cX10_init : ByteArray := prog_2_method_1_code
def yX10_init : MethodName := ⟨RX10, "<init>", "()V"⟩
abbrev cX10_begin : ByteArray := prog_2_method_2_code
def yX10_begin : MethodName := ⟨RX10, "begin", "()V"⟩
abbrev cX10_more : ByteArray := prog_2_method_3_code
def yX10_more : MethodName := ⟨RX10, "more", "()LLinkHouse$Kind;"⟩
abbrev cX10_isTokenAs : ByteArray := prog_2_method_4_code
def yX10_isTokenAs : MethodName := ⟨RX10, "isTokenAs", "(ILLinkHouse$Build;I)Z"⟩
theorem q410 : (Jvm.Cond.initialized "LinkHouse$Build") ∈ lw_all := sorry
theorem q1306 : (Jvm.Cond.instantiable "LinkHouse$Build" (14 : Nat)) ∈ lw_all := sorry
theorem q1308 : (Jvm.Cond.instanceMethod ({ cls := "LinkHouse$Build", name := "<init>", desc := "()V" } : Jvm.MethodName)) ∈ lw_all := sorry
theorem q1309 : (Jvm.Cond.code ({ cls := "LinkHouse$Build", name := "<init>", desc := "()V" } : Jvm.MethodName) prog_2_method_1_code (2 : Nat) (Option.none : Option Jvm.ClassFile.FieldType)) ∈ lw_all := sorry
theorem q1310 : (Jvm.Cond.methodLink "LinkHouse$Build" (3 : Nat) ({ cls := "java/lang/Object", name := "<init>", desc := "()V" } : Jvm.MethodName)) ∈ lw_all := sorry
theorem q1311 : (Jvm.Cond.classLink "LinkHouse$Build" (26 : Nat) "LinkHouse$Kind") ∈ lw_all := sorry
theorem q1312 : (Jvm.Cond.classLink "LinkHouse$Build" (32 : Nat) "LinkHouse$Use") ∈ lw_all := sorry
theorem q1314 : (Jvm.Cond.methodLink "LinkHouse$Build" (44 : Nat) ({ cls := "LinkHouse$Kind", name := "<init>", desc := "()V" } : Jvm.MethodName)) ∈ lw_all := sorry
theorem q1315 : (Jvm.Cond.methodLinkNest "LinkHouse$Build" (45 : Nat) ({ cls := "LinkHouse$Use", name := "<init>", desc := "()V" } : Jvm.MethodName) "LinkHouse") ∈ lw_tbl := sorry
theorem q1316 : (Jvm.Cond.fieldLink "LinkHouse$Build" (9 : Nat) "LinkHouse$Build" "library" "I") ∈ lw_all := sorry
theorem q1318 : (Jvm.Cond.fieldLink "LinkHouse$Build" (15 : Nat) "LinkHouse$Build" "text" "[B") ∈ lw_all := sorry
theorem q1321 : (Jvm.Cond.fieldLink "LinkHouse$Build" (46 : Nat) "LinkHouse$Build" "bytes" "I") ∈ lw_all := sorry
theorem q1324 : (Jvm.Cond.fieldLink "LinkHouse$Build" (19 : Nat) "LinkHouse$Build" "tokenAt" "[I") ∈ lw_all := sorry
theorem q1327 : (Jvm.Cond.fieldLink "LinkHouse$Build" (23 : Nat) "LinkHouse$Build" "tokenSize" "[I") ∈ lw_all := sorry
theorem q1330 : (Jvm.Cond.fieldLink "LinkHouse$Build" (49 : Nat) "LinkHouse$Build" "tokens" "I") ∈ lw_all := sorry
theorem q1333 : (Jvm.Cond.fieldLink "LinkHouse$Build" (28 : Nat) "LinkHouse$Build" "kind" "[LLinkHouse$Kind;") ∈ lw_all := sorry
theorem q1338 : (Jvm.Cond.fieldLink "LinkHouse$Build" (52 : Nat) "LinkHouse$Build" "kinds" "I") ∈ lw_all := sorry
theorem q1342 : (Jvm.Cond.fieldLink "LinkHouse$Build" (34 : Nat) "LinkHouse$Build" "use" "[LLinkHouse$Use;") ∈ lw_all := sorry
theorem q1346 : (Jvm.Cond.fieldLink "LinkHouse$Build" (55 : Nat) "LinkHouse$Build" "uses" "I") ∈ lw_all := sorry
theorem q1349 : (Jvm.Cond.fieldLink "LinkHouse$Build" (38 : Nat) "LinkHouse$Build" "code" "[I") ∈ lw_all := sorry
theorem q1353 : (Jvm.Cond.fieldLink "LinkHouse$Build" (58 : Nat) "LinkHouse$Build" "codes" "I") ∈ lw_all := sorry
theorem q1356 : (Jvm.Cond.fieldLink "LinkHouse$Build" (41 : Nat) "LinkHouse$Build" "caught" "[I") ∈ lw_all := sorry
theorem q1360 : (Jvm.Cond.fieldLink "LinkHouse$Build" (61 : Nat) "LinkHouse$Build" "catches" "I") ∈ lw_all := sorry
theorem q1364 : (Jvm.Cond.lays "LinkHouse$Build" "LinkHouse$Build" "library" "I") ∈ lw_all := sorry
theorem q1365 : (Jvm.Cond.soleField "LinkHouse$Build" "library") ∈ lw_all := sorry
theorem q1366 : (Jvm.Cond.laysFinal "LinkHouse$Build" "LinkHouse$Build" "text" "[B") ∈ lw_all := sorry
theorem q1367 : (Jvm.Cond.soleField "LinkHouse$Build" "text") ∈ lw_all := sorry
theorem q1368 : (Jvm.Cond.lays "LinkHouse$Build" "LinkHouse$Build" "bytes" "I") ∈ lw_all := sorry
theorem q1369 : (Jvm.Cond.soleField "LinkHouse$Build" "bytes") ∈ lw_all := sorry
theorem q1370 : (Jvm.Cond.laysFinal "LinkHouse$Build" "LinkHouse$Build" "tokenAt" "[I") ∈ lw_all := sorry
theorem q1371 : (Jvm.Cond.soleField "LinkHouse$Build" "tokenAt") ∈ lw_all := sorry
theorem q1372 : (Jvm.Cond.laysFinal "LinkHouse$Build" "LinkHouse$Build" "tokenSize" "[I") ∈ lw_all := sorry
theorem q1373 : (Jvm.Cond.soleField "LinkHouse$Build" "tokenSize") ∈ lw_all := sorry
theorem q1374 : (Jvm.Cond.lays "LinkHouse$Build" "LinkHouse$Build" "tokens" "I") ∈ lw_all := sorry
theorem q1375 : (Jvm.Cond.soleField "LinkHouse$Build" "tokens") ∈ lw_all := sorry
theorem q1376 : (Jvm.Cond.laysFinal "LinkHouse$Build" "LinkHouse$Build" "kind" "[LLinkHouse$Kind;") ∈ lw_all := sorry
theorem q1377 : (Jvm.Cond.soleField "LinkHouse$Build" "kind") ∈ lw_all := sorry
theorem q1378 : (Jvm.Cond.lays "LinkHouse$Build" "LinkHouse$Build" "kinds" "I") ∈ lw_all := sorry
theorem q1379 : (Jvm.Cond.soleField "LinkHouse$Build" "kinds") ∈ lw_all := sorry
theorem q1380 : (Jvm.Cond.laysFinal "LinkHouse$Build" "LinkHouse$Build" "use" "[LLinkHouse$Use;") ∈ lw_all := sorry
theorem q1381 : (Jvm.Cond.soleField "LinkHouse$Build" "use") ∈ lw_all := sorry
theorem q1382 : (Jvm.Cond.lays "LinkHouse$Build" "LinkHouse$Build" "uses" "I") ∈ lw_all := sorry
theorem q1383 : (Jvm.Cond.soleField "LinkHouse$Build" "uses") ∈ lw_all := sorry
theorem q1384 : (Jvm.Cond.laysFinal "LinkHouse$Build" "LinkHouse$Build" "code" "[I") ∈ lw_all := sorry
theorem q1385 : (Jvm.Cond.soleField "LinkHouse$Build" "code") ∈ lw_all := sorry
theorem q1386 : (Jvm.Cond.lays "LinkHouse$Build" "LinkHouse$Build" "codes" "I") ∈ lw_all := sorry
theorem q1387 : (Jvm.Cond.soleField "LinkHouse$Build" "codes") ∈ lw_all := sorry
theorem q1388 : (Jvm.Cond.laysFinal "LinkHouse$Build" "LinkHouse$Build" "caught" "[I") ∈ lw_all := sorry
theorem q1389 : (Jvm.Cond.soleField "LinkHouse$Build" "caught") ∈ lw_all := sorry
theorem q1390 : (Jvm.Cond.lays "LinkHouse$Build" "LinkHouse$Build" "catches" "I") ∈ lw_all := sorry
theorem q1391 : (Jvm.Cond.soleField "LinkHouse$Build" "catches") ∈ lw_all := sorry
theorem q1392 : (Jvm.Cond.superclass "LinkHouse$Build" "java/lang/Object") ∈ lw_all := sorry
theorem q1579 : (Jvm.Cond.instanceMethod ({ cls := "LinkHouse$Build", name := "begin", desc := "()V" } : Jvm.MethodName)) ∈ lw_all := sorry
theorem q1580 : (Jvm.Cond.selects "LinkHouse$Build" ({ cls := "LinkHouse$Build", name := "begin", desc := "()V" } : Jvm.MethodName) ({ cls := "LinkHouse$Build", name := "begin", desc := "()V" } : Jvm.MethodName)) ∈ lw_all := sorry
theorem q1581 : (Jvm.Cond.code ({ cls := "LinkHouse$Build", name := "begin", desc := "()V" } : Jvm.MethodName) prog_2_method_2_code (1 : Nat) (Option.none : Option Jvm.ClassFile.FieldType)) ∈ lw_all := sorry
theorem q1644 : (Jvm.Cond.instanceMethod ({ cls := "LinkHouse$Build", name := "more", desc := "()LLinkHouse$Kind;" } : Jvm.MethodName)) ∈ lw_all := sorry
theorem q1645 : (Jvm.Cond.selects "LinkHouse$Build" ({ cls := "LinkHouse$Build", name := "more", desc := "()LLinkHouse$Kind;" } : Jvm.MethodName) ({ cls := "LinkHouse$Build", name := "more", desc := "()LLinkHouse$Kind;" } : Jvm.MethodName)) ∈ lw_all := sorry
theorem q1646 : (Jvm.Cond.code ({ cls := "LinkHouse$Build", name := "more", desc := "()LLinkHouse$Kind;" } : Jvm.MethodName) prog_2_method_3_code (2 : Nat) (Option.some (Jvm.ClassFile.FieldType.object "LinkHouse$Kind"))) ∈ lw_all := sorry
theorem q1647 : (Jvm.Cond.methodLink "LinkHouse$Build" (64 : Nat) ({ cls := "LinkHouse$Kind", name := "begin", desc := "(LLinkHouse$Build;I)V" } : Jvm.MethodName)) ∈ lw_all := sorry
theorem q2438 : (Jvm.Cond.instanceMethod ({ cls := "LinkHouse$Build", name := "isTokenAs", desc := "(ILLinkHouse$Build;I)Z" } : Jvm.MethodName)) ∈ lw_all := sorry
theorem q2439 : (Jvm.Cond.selects "LinkHouse$Build" ({ cls := "LinkHouse$Build", name := "isTokenAs", desc := "(ILLinkHouse$Build;I)Z" } : Jvm.MethodName) ({ cls := "LinkHouse$Build", name := "isTokenAs", desc := "(ILLinkHouse$Build;I)Z" } : Jvm.MethodName)) ∈ lw_all := sorry
theorem q2440 : (Jvm.Cond.code ({ cls := "LinkHouse$Build", name := "isTokenAs", desc := "(ILLinkHouse$Build;I)Z" } : Jvm.MethodName) prog_2_method_4_code (6 : Nat) (Option.some Jvm.ClassFile.FieldType.boolean)) ∈ lw_all := sorry
theorem in_X10 : ∀ w ∈ wsX100, w ∈ lw_all := sorry
theorem q423 : (Jvm.Cond.arrayOver (Jvm.ClassFile.FieldType.object "LinkHouse$Build")) ∈ lw_tbl := sorry
theorem q431 : (Jvm.Cond.arrayOver (Jvm.ClassFile.FieldType.object "LinkHouse$Member")) ∈ lw_tbl := sorry
theorem q591 : (Jvm.Cond.arrayClass Jvm.ClassFile.FieldType.byte) ∈ lw_all := sorry
theorem q592 : (Jvm.Cond.arrayClass Jvm.ClassFile.FieldType.int) ∈ lw_all := sorry
theorem q593 : (Jvm.Cond.arrayClass Jvm.ClassFile.FieldType.long) ∈ lw_all := sorry
theorem q783 : (Jvm.Cond.arrayOver (Jvm.ClassFile.FieldType.object "LinkHouse$Kind")) ∈ lw_tbl := sorry
theorem q836 : (Jvm.Cond.arrayClass Jvm.ClassFile.FieldType.boolean) ∈ lw_all := sorry
theorem q1223 : (Jvm.Cond.arrayOver (Jvm.ClassFile.FieldType.array (Jvm.ClassFile.FieldType.object "LinkHouse$Kind"))) ∈ lw_tbl := sorry
theorem q1313 : (Jvm.Cond.arrayOver (Jvm.ClassFile.FieldType.object "LinkHouse$Use")) ∈ lw_tbl := sorry
theorem q392 : (Jvm.Cond.initialized "LinkHouseLaw") ∈ lw_all := sorry
theorem q414 : (Jvm.Cond.classLink "LinkHouseLaw" (7 : Nat) "LinkHouse") ∈ lw_all := sorry
theorem q416 : (Jvm.Cond.methodLink "LinkHouseLaw" (9 : Nat) ({ cls := "LinkHouse", name := "<init>", desc := "()V" } : Jvm.MethodName)) ∈ lw_all := sorry
theorem q1539 : (Jvm.Cond.methodLink "LinkHouseLaw" (13 : Nat) ({ cls := "LinkHouse", name := "feed", desc := "(IIIII)I" } : Jvm.MethodName)) ∈ lw_all := sorry
theorem q1547 : (Jvm.Cond.methodLink "LinkHouseLaw" (18 : Nat) ({ cls := "LinkHouse", name := "cut", desc := "(I)I" } : Jvm.MethodName)) ∈ lw_all := sorry
theorem q1551 : (Jvm.Cond.methodLink "LinkHouseLaw" (23 : Nat) ({ cls := "LinkHouse", name := "splice", desc := "(III)I" } : Jvm.MethodName)) ∈ lw_all := sorry
theorem q1558 : (Jvm.Cond.methodLink "LinkHouseLaw" (28 : Nat) ({ cls := "LinkHouse", name := "text", desc := "(II)I" } : Jvm.MethodName)) ∈ lw_all := sorry
theorem q1566 : (Jvm.Cond.methodLink "LinkHouseLaw" (33 : Nat) ({ cls := "LinkHouse", name := "size", desc := "()I" } : Jvm.MethodName)) ∈ lw_all := sorry
theorem q1570 : (Jvm.Cond.methodLink "LinkHouseLaw" (38 : Nat) ({ cls := "LinkHouse", name := "octet", desc := "(I)I" } : Jvm.MethodName)) ∈ lw_all := sorry
theorem q1574 : (Jvm.Cond.methodLink "LinkHouseLaw" (42 : Nat) ({ cls := "LinkHouse", name := "make", desc := "(I)I" } : Jvm.MethodName)) ∈ lw_all := sorry
theorem q2169 : (Jvm.Cond.methodLink "LinkHouseLaw" (46 : Nat) ({ cls := "LinkHouse", name := "place", desc := "()I" } : Jvm.MethodName)) ∈ lw_all := sorry
theorem q2173 : (Jvm.Cond.methodLink "LinkHouseLaw" (50 : Nat) ({ cls := "LinkHouse", name := "builds", desc := "(I)I" } : Jvm.MethodName)) ∈ lw_all := sorry
theorem q2177 : (Jvm.Cond.methodLink "LinkHouseLaw" (54 : Nat) ({ cls := "LinkHouse", name := "pick", desc := "(II)I" } : Jvm.MethodName)) ∈ lw_all := sorry
theorem q2185 : (Jvm.Cond.methodLink "LinkHouseLaw" (58 : Nat) ({ cls := "LinkHouse", name := "picked", desc := "(I)I" } : Jvm.MethodName)) ∈ lw_all := sorry
theorem q2189 : (Jvm.Cond.methodLink "LinkHouseLaw" (62 : Nat) ({ cls := "LinkHouse", name := "classes", desc := "(II)I" } : Jvm.MethodName)) ∈ lw_all := sorry
theorem q2193 : (Jvm.Cond.methodLink "LinkHouseLaw" (66 : Nat) ({ cls := "LinkHouse", name := "members", desc := "(III)I" } : Jvm.MethodName)) ∈ lw_all := sorry
theorem q2204 : (Jvm.Cond.methodLink "LinkHouseLaw" (70 : Nat) ({ cls := "LinkHouse", name := "shape", desc := "(IIII)I" } : Jvm.MethodName)) ∈ lw_all := sorry
theorem q2273 : (Jvm.Cond.methodLink "LinkHouseLaw" (75 : Nat) ({ cls := "LinkHouse", name := "uses", desc := "(II)I" } : Jvm.MethodName)) ∈ lw_all := sorry
theorem q2277 : (Jvm.Cond.methodLink "LinkHouseLaw" (79 : Nat) ({ cls := "LinkHouse", name := "use", desc := "(IIII)I" } : Jvm.MethodName)) ∈ lw_all := sorry
theorem q2285 : (Jvm.Cond.methodLink "LinkHouseLaw" (83 : Nat) ({ cls := "LinkHouse", name := "tell", desc := "(III)I" } : Jvm.MethodName)) ∈ lw_all := sorry
theorem q2296 : (Jvm.Cond.methodLink "LinkHouseLaw" (87 : Nat) ({ cls := "LinkHouse", name := "meet", desc := "(III)I" } : Jvm.MethodName)) ∈ lw_all := sorry
theorem q2355 : (Jvm.Cond.methodLink "LinkHouseLaw" (91 : Nat) ({ cls := "LinkHouse", name := "met", desc := "()I" } : Jvm.MethodName)) ∈ lw_all := sorry
theorem q2359 : (Jvm.Cond.methodLink "LinkHouseLaw" (95 : Nat) ({ cls := "LinkHouse", name := "looked", desc := "(I)I" } : Jvm.MethodName)) ∈ lw_all := sorry
theorem q2363 : (Jvm.Cond.methodLink "LinkHouseLaw" (99 : Nat) ({ cls := "LinkHouse", name := "broken", desc := "()I" } : Jvm.MethodName)) ∈ lw_all := sorry
theorem q2371 : (Jvm.Cond.methodLink "LinkHouseLaw" (103 : Nat) ({ cls := "LinkHouse", name := "brokenAt", desc := "(II)I" } : Jvm.MethodName)) ∈ lw_all := sorry
theorem q2375 : (Jvm.Cond.methodLink "LinkHouseLaw" (107 : Nat) ({ cls := "LinkHouse", name := "stale", desc := "()I" } : Jvm.MethodName)) ∈ lw_all := sorry
theorem q2379 : (Jvm.Cond.methodLink "LinkHouseLaw" (111 : Nat) ({ cls := "LinkHouse", name := "choose", desc := "()I" } : Jvm.MethodName)) ∈ lw_all := sorry
theorem q2387 : (Jvm.Cond.methodLink "LinkHouseLaw" (115 : Nat) ({ cls := "LinkHouse", name := "differ", desc := "(III)I" } : Jvm.MethodName)) ∈ lw_all := sorry
theorem q2452 : (Jvm.Cond.methodLink "LinkHouseLaw" (119 : Nat) ({ cls := "LinkHouse", name := "change", desc := "(II)I" } : Jvm.MethodName)) ∈ lw_all := sorry
theorem q2456 : (Jvm.Cond.methodLink "LinkHouseLaw" (123 : Nat) ({ cls := "LinkHouse", name := "word", desc := "(III)I" } : Jvm.MethodName)) ∈ lw_all := sorry
theorem q2464 : (Jvm.Cond.methodLink "LinkHouseLaw" (127 : Nat) ({ cls := "LinkHouse", name := "weave", desc := "(III)I" } : Jvm.MethodName)) ∈ lw_all := sorry
theorem q2489 : (Jvm.Cond.methodLink "LinkHouseLaw" (131 : Nat) ({ cls := "LinkHouse", name := "fresh", desc := "()I" } : Jvm.MethodName)) ∈ lw_all := sorry
theorem q2493 : (Jvm.Cond.methodLink "LinkHouseLaw" (135 : Nat) ({ cls := "LinkHouse", name := "touch", desc := "(III)I" } : Jvm.MethodName)) ∈ lw_all := sorry
theorem q2497 : (Jvm.Cond.methodLink "LinkHouseLaw" (139 : Nat) ({ cls := "LinkHouse", name := "run", desc := "()I" } : Jvm.MethodName)) ∈ lw_all := sorry
theorem q2608 : (Jvm.Cond.methodLink "LinkHouseLaw" (143 : Nat) ({ cls := "LinkHouse", name := "value", desc := "()I" } : Jvm.MethodName)) ∈ lw_all := sorry
theorem q2612 : (Jvm.Cond.methodLink "LinkHouseLaw" (147 : Nat) ({ cls := "LinkHouse", name := "told", desc := "(I)I" } : Jvm.MethodName)) ∈ lw_all := sorry
theorem q2616 : (Jvm.Cond.methodLink "LinkHouseLaw" (151 : Nat) ({ cls := "LinkHouse", name := "number", desc := "(I)I" } : Jvm.MethodName)) ∈ lw_all := sorry
theorem q2620 : (Jvm.Cond.methodLink "LinkHouseLaw" (155 : Nat) ({ cls := "LinkHouse", name := "event", desc := "(I)I" } : Jvm.MethodName)) ∈ lw_all := sorry
theorem q2624 : (Jvm.Cond.methodLink "LinkHouseLaw" (159 : Nat) ({ cls := "LinkHouse", name := "name", desc := "(I)I" } : Jvm.MethodName)) ∈ lw_all := sorry
theorem q2628 : (Jvm.Cond.methodLink "LinkHouseLaw" (163 : Nat) ({ cls := "LinkHouse", name := "state", desc := "(I)I" } : Jvm.MethodName)) ∈ lw_all := sorry
theorem q2636 : (Jvm.Cond.methodLink "LinkHouseLaw" (167 : Nat) ({ cls := "LinkHouse", name := "classOf", desc := "(I)I" } : Jvm.MethodName)) ∈ lw_all := sorry
theorem q2640 : (Jvm.Cond.methodLink "LinkHouseLaw" (171 : Nat) ({ cls := "LinkHouse", name := "fieldOf", desc := "(II)I" } : Jvm.MethodName)) ∈ lw_all := sorry
theorem q2645 : (Jvm.Cond.methodLink "LinkHouseLaw" (17 : Nat) ({ cls := "LinkHouseModel", name := "feed", desc := "(IIIII)I" } : Jvm.MethodName)) ∈ lw_all := sorry
theorem q2654 : (Jvm.Cond.methodLink "LinkHouseLaw" (22 : Nat) ({ cls := "LinkHouseModel", name := "cut", desc := "(I)I" } : Jvm.MethodName)) ∈ lw_all := sorry
theorem q2658 : (Jvm.Cond.methodLink "LinkHouseLaw" (27 : Nat) ({ cls := "LinkHouseModel", name := "splice", desc := "(III)I" } : Jvm.MethodName)) ∈ lw_all := sorry
theorem q2662 : (Jvm.Cond.methodLink "LinkHouseLaw" (37 : Nat) ({ cls := "LinkHouseModel", name := "size", desc := "()I" } : Jvm.MethodName)) ∈ lw_all := sorry
theorem q2666 : (Jvm.Cond.methodLink "LinkHouseLaw" (41 : Nat) ({ cls := "LinkHouseModel", name := "octet", desc := "(I)I" } : Jvm.MethodName)) ∈ lw_all := sorry
theorem q2670 : (Jvm.Cond.methodLink "LinkHouseLaw" (45 : Nat) ({ cls := "LinkHouseModel", name := "make", desc := "(I)I" } : Jvm.MethodName)) ∈ lw_all := sorry
theorem q3315 : (Jvm.Cond.methodLink "LinkHouseLaw" (49 : Nat) ({ cls := "LinkHouseModel", name := "place", desc := "()I" } : Jvm.MethodName)) ∈ lw_all := sorry
theorem q3319 : (Jvm.Cond.methodLink "LinkHouseLaw" (53 : Nat) ({ cls := "LinkHouseModel", name := "builds", desc := "(I)I" } : Jvm.MethodName)) ∈ lw_all := sorry
theorem q3323 : (Jvm.Cond.methodLink "LinkHouseLaw" (32 : Nat) ({ cls := "LinkHouseModel", name := "text", desc := "(II)I" } : Jvm.MethodName)) ∈ lw_all := sorry
theorem q3331 : (Jvm.Cond.methodLink "LinkHouseLaw" (57 : Nat) ({ cls := "LinkHouseModel", name := "pick", desc := "(II)I" } : Jvm.MethodName)) ∈ lw_all := sorry
theorem q3359 : (Jvm.Cond.methodLink "LinkHouseLaw" (61 : Nat) ({ cls := "LinkHouseModel", name := "picked", desc := "(I)I" } : Jvm.MethodName)) ∈ lw_all := sorry
theorem q3360 : (Jvm.Cond.methodLink "LinkHouseLaw" (65 : Nat) ({ cls := "LinkHouseModel", name := "classes", desc := "(II)I" } : Jvm.MethodName)) ∈ lw_all := sorry
theorem q3364 : (Jvm.Cond.methodLink "LinkHouseLaw" (69 : Nat) ({ cls := "LinkHouseModel", name := "members", desc := "(III)I" } : Jvm.MethodName)) ∈ lw_all := sorry
theorem q3376 : (Jvm.Cond.methodLink "LinkHouseLaw" (74 : Nat) ({ cls := "LinkHouseModel", name := "shape", desc := "(IIII)I" } : Jvm.MethodName)) ∈ lw_all := sorry
theorem q3434 : (Jvm.Cond.methodLink "LinkHouseLaw" (78 : Nat) ({ cls := "LinkHouseModel", name := "uses", desc := "(II)I" } : Jvm.MethodName)) ∈ lw_all := sorry
theorem q3438 : (Jvm.Cond.methodLink "LinkHouseLaw" (82 : Nat) ({ cls := "LinkHouseModel", name := "use", desc := "(IIII)I" } : Jvm.MethodName)) ∈ lw_all := sorry
theorem q3446 : (Jvm.Cond.methodLink "LinkHouseLaw" (86 : Nat) ({ cls := "LinkHouseModel", name := "tell", desc := "(III)I" } : Jvm.MethodName)) ∈ lw_all := sorry
theorem q3454 : (Jvm.Cond.methodLink "LinkHouseLaw" (90 : Nat) ({ cls := "LinkHouseModel", name := "meet", desc := "(III)I" } : Jvm.MethodName)) ∈ lw_all := sorry
theorem q3514 : (Jvm.Cond.methodLink "LinkHouseLaw" (94 : Nat) ({ cls := "LinkHouseModel", name := "met", desc := "()I" } : Jvm.MethodName)) ∈ lw_all := sorry
theorem q3518 : (Jvm.Cond.methodLink "LinkHouseLaw" (98 : Nat) ({ cls := "LinkHouseModel", name := "looked", desc := "(I)I" } : Jvm.MethodName)) ∈ lw_all := sorry
theorem q3522 : (Jvm.Cond.methodLink "LinkHouseLaw" (102 : Nat) ({ cls := "LinkHouseModel", name := "broken", desc := "()I" } : Jvm.MethodName)) ∈ lw_all := sorry
theorem q3526 : (Jvm.Cond.methodLink "LinkHouseLaw" (106 : Nat) ({ cls := "LinkHouseModel", name := "brokenAt", desc := "(II)I" } : Jvm.MethodName)) ∈ lw_all := sorry
theorem q3530 : (Jvm.Cond.methodLink "LinkHouseLaw" (110 : Nat) ({ cls := "LinkHouseModel", name := "stale", desc := "()I" } : Jvm.MethodName)) ∈ lw_all := sorry
theorem q3534 : (Jvm.Cond.methodLink "LinkHouseLaw" (114 : Nat) ({ cls := "LinkHouseModel", name := "choose", desc := "()I" } : Jvm.MethodName)) ∈ lw_all := sorry
theorem q3542 : (Jvm.Cond.methodLink "LinkHouseLaw" (134 : Nat) ({ cls := "LinkHouseModel", name := "fresh", desc := "()I" } : Jvm.MethodName)) ∈ lw_all := sorry
theorem q3546 : (Jvm.Cond.methodLink "LinkHouseLaw" (138 : Nat) ({ cls := "LinkHouseModel", name := "touch", desc := "(III)I" } : Jvm.MethodName)) ∈ lw_all := sorry
theorem q3550 : (Jvm.Cond.methodLink "LinkHouseLaw" (142 : Nat) ({ cls := "LinkHouseModel", name := "run", desc := "()I" } : Jvm.MethodName)) ∈ lw_all := sorry
theorem q3698 : (Jvm.Cond.methodLink "LinkHouseLaw" (146 : Nat) ({ cls := "LinkHouseModel", name := "value", desc := "()I" } : Jvm.MethodName)) ∈ lw_all := sorry
theorem q3702 : (Jvm.Cond.methodLink "LinkHouseLaw" (150 : Nat) ({ cls := "LinkHouseModel", name := "told", desc := "(I)I" } : Jvm.MethodName)) ∈ lw_all := sorry
theorem q3706 : (Jvm.Cond.methodLink "LinkHouseLaw" (154 : Nat) ({ cls := "LinkHouseModel", name := "number", desc := "(I)I" } : Jvm.MethodName)) ∈ lw_all := sorry
theorem q3710 : (Jvm.Cond.methodLink "LinkHouseLaw" (158 : Nat) ({ cls := "LinkHouseModel", name := "event", desc := "(I)I" } : Jvm.MethodName)) ∈ lw_all := sorry
theorem q3714 : (Jvm.Cond.methodLink "LinkHouseLaw" (162 : Nat) ({ cls := "LinkHouseModel", name := "name", desc := "(I)I" } : Jvm.MethodName)) ∈ lw_all := sorry
theorem q3718 : (Jvm.Cond.methodLink "LinkHouseLaw" (166 : Nat) ({ cls := "LinkHouseModel", name := "state", desc := "(I)I" } : Jvm.MethodName)) ∈ lw_all := sorry
theorem q3722 : (Jvm.Cond.methodLink "LinkHouseLaw" (170 : Nat) ({ cls := "LinkHouseModel", name := "classOf", desc := "(I)I" } : Jvm.MethodName)) ∈ lw_all := sorry
theorem q3726 : (Jvm.Cond.methodLink "LinkHouseLaw" (174 : Nat) ({ cls := "LinkHouseModel", name := "fieldOf", desc := "(II)I" } : Jvm.MethodName)) ∈ lw_all := sorry
theorem q3730 : (Jvm.Cond.methodLink "LinkHouseLaw" (118 : Nat) ({ cls := "LinkHouseModel", name := "differ", desc := "(III)I" } : Jvm.MethodName)) ∈ lw_all := sorry
theorem q3798 : (Jvm.Cond.methodLink "LinkHouseLaw" (122 : Nat) ({ cls := "LinkHouseModel", name := "change", desc := "(II)I" } : Jvm.MethodName)) ∈ lw_all := sorry
theorem q3802 : (Jvm.Cond.methodLink "LinkHouseLaw" (126 : Nat) ({ cls := "LinkHouseModel", name := "word", desc := "(III)I" } : Jvm.MethodName)) ∈ lw_all := sorry
theorem q3812 : (Jvm.Cond.methodLink "LinkHouseLaw" (130 : Nat) ({ cls := "LinkHouseModel", name := "weave", desc := "(III)I" } : Jvm.MethodName)) ∈ lw_all := sorry
theorem q3848 : (Jvm.Cond.classLink "LinkHouseLaw" (10 : Nat) "LinkHouseModel") ∈ lw_all := sorry
theorem q3849 : (Jvm.Cond.methodLink "LinkHouseLaw" (12 : Nat) ({ cls := "LinkHouseModel", name := "<init>", desc := "()V" } : Jvm.MethodName)) ∈ lw_all := sorry
theorem q412 : (Jvm.Cond.initialized "java/lang/System") ∈ lw_all := sorry
theorem q1556 : (Jvm.Cond.static ({ cls := "java/lang/System", name := "arraycopy", desc := "(Ljava/lang/Object;ILjava/lang/Object;II)V" } : Jvm.MethodName)) ∈ lw_all := sorry
theorem q1557 : (Jvm.Cond.native ({ cls := "java/lang/System", name := "arraycopy", desc := "(Ljava/lang/Object;ILjava/lang/Object;II)V" } : Jvm.MethodName)) ∈ lw_all := sorry
