set_option maxRecDepth 100000
/-! LinkHouseModel -/
def RX11 : String := "LinkHouseModel"
def TX11 : u_T := fun k => match k with
  | 0 => ("LinkHouseModel", "tape", "[I", true)
  | 1 => ("LinkHouseModel", "size", "I", false)
  | 2 => ("LinkHouseModel", "outRow", "[I", true)
  | 3 => ("LinkHouseModel", "outSize", "I", false)
  | 4 => ("LinkHouseModel", "spliceRow", "[I", true)
  | 5 => ("LinkHouseModel", "text", "[B", true)
  | 6 => ("LinkHouseModel", "textSize", "[I", true)
  | 7 => ("LinkHouseModel", "libOf", "[I", true)
  | 8 => ("LinkHouseModel", "slotOf", "[I", true)
  | 9 => ("LinkHouseModel", "buildMany", "[I", true)
  | 10 => ("LinkHouseModel", "slots", "I", false)
  | 11 => ("LinkHouseModel", "tKind", "[I", true)
  | 12 => ("LinkHouseModel", "tAt", "[I", true)
  | 13 => ("LinkHouseModel", "tEnd", "[I", true)
  | 14 => ("LinkHouseModel", "tName", "[J", true)
  | 15 => ("LinkHouseModel", "tValue", "[I", true)
  | 16 => ("LinkHouseModel", "tokens", "[I", true)
  | 17 => ("LinkHouseModel", "words", "[J", true)
  | 18 => ("LinkHouseModel", "wordMany", "I", false)
  | 19 => ("LinkHouseModel", "slot", "I", false)
  | 20 => ("LinkHouseModel", "flaw", "I", false)
  | 21 => ("LinkHouseModel", "flawAt", "I", false)
  | 22 => ("LinkHouseModel", "p", "I", false)
  | 23 => ("LinkHouseModel", "clsMany", "[I", true)
  | 24 => ("LinkHouseModel", "cName", "[J", true)
  | 25 => ("LinkHouseModel", "cAt", "[I", true)
  | 26 => ("LinkHouseModel", "cOpen", "[Z", true)
  | 27 => ("LinkHouseModel", "cSort", "[I", true)
  | 28 => ("LinkHouseModel", "cParent", "[J", true)
  | 29 => ("LinkHouseModel", "cParentAt", "[I", true)
  | 30 => ("LinkHouseModel", "cFace", "[J", true)
  | 31 => ("LinkHouseModel", "cFaceAt", "[I", true)
  | 32 => ("LinkHouseModel", "cFaces", "[I", true)
  | 33 => ("LinkHouseModel", "cIn", "[J", true)
  | 34 => ("LinkHouseModel", "cInAt", "[I", true)
  | 35 => ("LinkHouseModel", "cWith", "[J", true)
  | 36 => ("LinkHouseModel", "cWithAt", "[I", true)
  | 37 => ("LinkHouseModel", "cWiths", "[I", true)
  | 38 => ("LinkHouseModel", "cOnly", "[J", true)
  | 39 => ("LinkHouseModel", "cOnlyAt", "[I", true)
  | 40 => ("LinkHouseModel", "cOnlys", "[I", true)
  | 41 => ("LinkHouseModel", "mMany", "[I", true)
  | 42 => ("LinkHouseModel", "mKind", "[I", true)
  | 43 => ("LinkHouseModel", "mTold", "[I", true)
  | 44 => ("LinkHouseModel", "mAccess", "[I", true)
  | 45 => ("LinkHouseModel", "mStatic", "[Z", true)
  | 46 => ("LinkHouseModel", "mFinal", "[Z", true)
  | 47 => ("LinkHouseModel", "mBare", "[Z", true)
  | 48 => ("LinkHouseModel", "mBareTold", "[Z", true)
  | 49 => ("LinkHouseModel", "mBridge", "[Z", true)
  | 50 => ("LinkHouseModel", "mGiven", "[Z", true)
  | 51 => ("LinkHouseModel", "mName", "[J", true)
  | 52 => ("LinkHouseModel", "mAt", "[I", true)
  | 53 => ("LinkHouseModel", "mType", "[J", true)
  | 54 => ("LinkHouseModel", "mTypeAt", "[I", true)
  | 55 => ("LinkHouseModel", "mParams", "[I", true)
  | 56 => ("LinkHouseModel", "mParam", "[J", true)
  | 57 => ("LinkHouseModel", "mParamAt", "[I", true)
  | 58 => ("LinkHouseModel", "mParamName", "[J", true)
  | 59 => ("LinkHouseModel", "mParamNameAt", "[I", true)
  | 60 => ("LinkHouseModel", "mExpr", "[I", true)
  | 61 => ("LinkHouseModel", "mBlock", "[I", true)
  | 62 => ("LinkHouseModel", "mTokFrom", "[I", true)
  | 63 => ("LinkHouseModel", "mTokTo", "[I", true)
  | 64 => ("LinkHouseModel", "mConst", "[Z", true)
  | 65 => ("LinkHouseModel", "mValue", "[I", true)
  | 66 => ("LinkHouseModel", "mTarget", "[J", true)
  | 67 => ("LinkHouseModel", "mUse", "[I", true)
  | 68 => ("LinkHouseModel", "mLocals", "[I", true)
  | 69 => ("LinkHouseModel", "nodeMany", "[I", true)
  | 70 => ("LinkHouseModel", "nKind", "[I", true)
  | 71 => ("LinkHouseModel", "nAt", "[I", true)
  | 72 => ("LinkHouseModel", "nNameAt", "[I", true)
  | 73 => ("LinkHouseModel", "nCAt", "[I", true)
  | 74 => ("LinkHouseModel", "nName", "[J", true)
  | 75 => ("LinkHouseModel", "nC", "[J", true)
  | 76 => ("LinkHouseModel", "nT", "[J", true)
  | 77 => ("LinkHouseModel", "nA", "[I", true)
  | 78 => ("LinkHouseModel", "nB", "[I", true)
  | 79 => ("LinkHouseModel", "nD", "[I", true)
  | 80 => ("LinkHouseModel", "nNext", "[I", true)
  | 81 => ("LinkHouseModel", "nValue", "[I", true)
  | 82 => ("LinkHouseModel", "nMean", "[I", true)
  | 83 => ("LinkHouseModel", "nX", "[J", true)
  | 84 => ("LinkHouseModel", "nRes", "[J", true)
  | 85 => ("LinkHouseModel", "nParams", "[I", true)
  | 86 => ("LinkHouseModel", "nParam", "[J", true)
  | 87 => ("LinkHouseModel", "nUse", "[I", true)
  | 88 => ("LinkHouseModel", "nUse2", "[I", true)
  | 89 => ("LinkHouseModel", "depth", "I", false)
  | 90 => ("LinkHouseModel", "world", "[I", true)
  | 91 => ("LinkHouseModel", "judged", "I", false)
  | 92 => ("LinkHouseModel", "linking", "Z", false)
  | 93 => ("LinkHouseModel", "added", "[I", true)
  | 94 => ("LinkHouseModel", "opened", "[I", true)
  | 95 => ("LinkHouseModel", "stamp", "I", false)
  | 96 => ("LinkHouseModel", "pile", "[I", true)
  | 97 => ("LinkHouseModel", "lookedRow", "[I", true)
  | 98 => ("LinkHouseModel", "lookedMany", "I", false)
  | 99 => ("LinkHouseModel", "special", "[I", true)
  | 100 => ("LinkHouseModel", "specialFaces", "[I", true)
  | 101 => ("LinkHouseModel", "specialMany", "I", false)
  | 102 => ("LinkHouseModel", "unbare", "I", false)
  | 103 => ("LinkHouseModel", "above", "[I", true)
  | 104 => ("LinkHouseModel", "aboveMany", "I", false)
  | 105 => ("LinkHouseModel", "aboveFaces", "[I", true)
  | 106 => ("LinkHouseModel", "wholeFaces", "[I", true)
  | 107 => ("LinkHouseModel", "path", "[I", true)
  | 108 => ("LinkHouseModel", "pathTop", "I", false)
  | 109 => ("LinkHouseModel", "atClass", "I", false)
  | 110 => ("LinkHouseModel", "atMember", "I", false)
  | 111 => ("LinkHouseModel", "inStatic", "Z", false)
  | 112 => ("LinkHouseModel", "localName", "[J", true)
  | 113 => ("LinkHouseModel", "localType", "[J", true)
  | 114 => ("LinkHouseModel", "locals", "I", false)
  | 115 => ("LinkHouseModel", "candidates", "[I", true)
  | 116 => ("LinkHouseModel", "candidateMany", "I", false)
  | 117 => ("LinkHouseModel", "candidateFaces", "[I", true)
  | 118 => ("LinkHouseModel", "uMany", "[I", true)
  | 119 => ("LinkHouseModel", "uSort", "[I", true)
  | 120 => ("LinkHouseModel", "uClass", "[I", true)
  | 121 => ("LinkHouseModel", "uC", "[J", true)
  | 122 => ("LinkHouseModel", "uName", "[J", true)
  | 123 => ("LinkHouseModel", "uType", "[J", true)
  | 124 => ("LinkHouseModel", "uParams", "[I", true)
  | 125 => ("LinkHouseModel", "uParam", "[J", true)
  | 126 => ("LinkHouseModel", "uSecond", "[J", true)
  | 127 => ("LinkHouseModel", "uValue", "[I", true)
  | 128 => ("LinkHouseModel", "placed", "I", false)
  | 129 => ("LinkHouseModel", "worldMany", "I", false)
  | 130 => ("LinkHouseModel", "worldClass", "[I", true)
  | 131 => ("LinkHouseModel", "worldNumber", "[I", true)
  | 132 => ("LinkHouseModel", "state", "[I", true)
  | 133 => ("LinkHouseModel", "failure", "[I", true)
  | 134 => ("LinkHouseModel", "set", "I", false)
  | 135 => ("LinkHouseModel", "events", "[I", true)
  | 136 => ("LinkHouseModel", "eventMany", "I", false)
  | 137 => ("LinkHouseModel", "metMember", "I", false)
  | 138 => ("LinkHouseModel", "seenRow", "[I", true)
  | 139 => ("LinkHouseModel", "seenMany", "I", false)
  | 140 => ("LinkHouseModel", "metNow", "I", false)
  | 141 => ("LinkHouseModel", "seenNow", "[I", true)
  | 142 => ("LinkHouseModel", "seenNowMany", "I", false)
  | 143 => ("LinkHouseModel", "askedFaces", "[I", true)
  | 144 => ("LinkHouseModel", "brokenRow", "[I", true)
  | 145 => ("LinkHouseModel", "brokenMany", "I", false)
  | 146 => ("LinkHouseModel", "chosen", "[I", true)
  | 147 => ("LinkHouseModel", "stood", "[I", true)
  | 148 => ("LinkHouseModel", "statics", "[I", true)
  | 149 => ("LinkHouseModel", "objectClass", "[I", true)
  | 150 => ("LinkHouseModel", "objectFrom", "[I", true)
  | 151 => ("LinkHouseModel", "objects", "I", false)
  | 152 => ("LinkHouseModel", "fields", "[I", true)
  | 153 => ("LinkHouseModel", "fieldMany", "I", false)
  | 154 => ("LinkHouseModel", "cells", "[I", true)
  | 155 => ("LinkHouseModel", "cellTop", "I", false)
  | 156 => ("LinkHouseModel", "taskNode", "[I", true)
  | 157 => ("LinkHouseModel", "taskState", "[I", true)
  | 158 => ("LinkHouseModel", "taskValue", "[I", true)
  | 159 => ("LinkHouseModel", "taskTo", "[I", true)
  | 160 => ("LinkHouseModel", "taskArg", "[I", true)
  | 161 => ("LinkHouseModel", "taskTop", "I", false)
  | 162 => ("LinkHouseModel", "level", "I", false)
  | 163 => ("LinkHouseModel", "steps", "I", false)
  | 164 => ("LinkHouseModel", "stop", "I", false)
  | 165 => ("LinkHouseModel", "failed", "I", false)
  | 166 => ("LinkHouseModel", "given", "I", false)
  | 167 => ("LinkHouseModel", "runValue", "I", false)
  | 168 => ("LinkHouseModel", "outs", "[I", true)
  | 169 => ("LinkHouseModel", "toldMany", "I", false)
  | 170 => ("LinkHouseModel", "faceSeen", "[I", true)
  | 171 => ("LinkHouseModel", "faceStamp", "I", false)
  | 172 => ("LinkHouseModel", "facePile", "[I", true)
  | 173 => ("LinkHouseModel", "faceTop", "I", false)
  | 174 => ("LinkHouseModel", "changes", "[I", true)
  | 175 => ("LinkHouseModel", "changeMany", "I", false)
  | 176 => ("LinkHouseModel", "restA", "[I", true)
  | 177 => ("LinkHouseModel", "restB", "[I", true)
  | 178 => ("LinkHouseModel", "keptChanges", "[I", true)
  | _ => ("LinkHouseModel", "useMap", "[I", true)
def tyX11 : Nat → FieldType := fun k => match k with
  | 0 => .array .int
  | 1 => .int
  | 2 => .array .int
  | 3 => .int
  | 4 => .array .int
  | 5 => .array .byte
  | 6 => .array .int
  | 7 => .array .int
  | 8 => .array .int
  | 9 => .array .int
  | 10 => .int
  | 11 => .array .int
  | 12 => .array .int
  | 13 => .array .int
  | 14 => .array .long
  | 15 => .array .int
  | 16 => .array .int
  | 17 => .array .long
  | 18 => .int
  | 19 => .int
  | 20 => .int
  | 21 => .int
  | 22 => .int
  | 23 => .array .int
  | 24 => .array .long
  | 25 => .array .int
  | 26 => .array .boolean
  | 27 => .array .int
  | 28 => .array .long
  | 29 => .array .int
  | 30 => .array .long
  | 31 => .array .int
  | 32 => .array .int
  | 33 => .array .long
  | 34 => .array .int
  | 35 => .array .long
  | 36 => .array .int
  | 37 => .array .int
  | 38 => .array .long
  | 39 => .array .int
  | 40 => .array .int
  | 41 => .array .int
  | 42 => .array .int
  | 43 => .array .int
  | 44 => .array .int
  | 45 => .array .boolean
  | 46 => .array .boolean
  | 47 => .array .boolean
  | 48 => .array .boolean
  | 49 => .array .boolean
  | 50 => .array .boolean
  | 51 => .array .long
  | 52 => .array .int
  | 53 => .array .long
  | 54 => .array .int
  | 55 => .array .int
  | 56 => .array .long
  | 57 => .array .int
  | 58 => .array .long
  | 59 => .array .int
  | 60 => .array .int
  | 61 => .array .int
  | 62 => .array .int
  | 63 => .array .int
  | 64 => .array .boolean
  | 65 => .array .int
  | 66 => .array .long
  | 67 => .array .int
  | 68 => .array .int
  | 69 => .array .int
  | 70 => .array .int
  | 71 => .array .int
  | 72 => .array .int
  | 73 => .array .int
  | 74 => .array .long
  | 75 => .array .long
  | 76 => .array .long
  | 77 => .array .int
  | 78 => .array .int
  | 79 => .array .int
  | 80 => .array .int
  | 81 => .array .int
  | 82 => .array .int
  | 83 => .array .long
  | 84 => .array .long
  | 85 => .array .int
  | 86 => .array .long
  | 87 => .array .int
  | 88 => .array .int
  | 89 => .int
  | 90 => .array .int
  | 91 => .int
  | 92 => .boolean
  | 93 => .array .int
  | 94 => .array .int
  | 95 => .int
  | 96 => .array .int
  | 97 => .array .int
  | 98 => .int
  | 99 => .array .int
  | 100 => .array .int
  | 101 => .int
  | 102 => .int
  | 103 => .array .int
  | 104 => .int
  | 105 => .array .int
  | 106 => .array .int
  | 107 => .array .int
  | 108 => .int
  | 109 => .int
  | 110 => .int
  | 111 => .boolean
  | 112 => .array .long
  | 113 => .array .long
  | 114 => .int
  | 115 => .array .int
  | 116 => .int
  | 117 => .array .int
  | 118 => .array .int
  | 119 => .array .int
  | 120 => .array .int
  | 121 => .array .long
  | 122 => .array .long
  | 123 => .array .long
  | 124 => .array .int
  | 125 => .array .long
  | 126 => .array .long
  | 127 => .array .int
  | 128 => .int
  | 129 => .int
  | 130 => .array .int
  | 131 => .array .int
  | 132 => .array .int
  | 133 => .array .int
  | 134 => .int
  | 135 => .array .int
  | 136 => .int
  | 137 => .int
  | 138 => .array .int
  | 139 => .int
  | 140 => .int
  | 141 => .array .int
  | 142 => .int
  | 143 => .array .int
  | 144 => .array .int
  | 145 => .int
  | 146 => .array .int
  | 147 => .array .int
  | 148 => .array .int
  | 149 => .array .int
  | 150 => .array .int
  | 151 => .int
  | 152 => .array .int
  | 153 => .int
  | 154 => .array .int
  | 155 => .int
  | 156 => .array .int
  | 157 => .array .int
  | 158 => .array .int
  | 159 => .array .int
  | 160 => .array .int
  | 161 => .int
  | 162 => .int
  | 163 => .int
  | 164 => .int
  | 165 => .int
  | 166 => .int
  | 167 => .int
  | 168 => .array .int
  | 169 => .int
  | 170 => .array .int
  | 171 => .int
  | 172 => .array .int
  | 173 => .int
  | 174 => .array .int
  | 175 => .int
  | 176 => .array .int
  | 177 => .array .int
  | 178 => .array .int
  | _ => .array .int
abbrev wsX110 : List Cond := u_ws RX11 TX11 180
set_option maxRecDepth 100000 in
theorem nmX11 : ∀ a, a < 180 → ∀ b, b < 180 → a ≠ b → (TX11 a).2.1 ≠ (TX11 b).2.1 := sorry
set_option maxRecDepth 100000 in
theorem tyX11_ok : ∀ k, k < 180 → parseFieldDescriptor (TX11 k).2.2.1 = some (tyX11 k) := sorry
abbrev cX11_feed : ByteArray := prog_13_method_10_code
def yX11_feed : MethodName := ⟨RX11, "feed", "(IIIII)I"⟩
abbrev cX11_four : ByteArray := prog_13_method_11_code
def yX11_four : MethodName := ⟨RX11, "four", "(I)V"⟩
abbrev cX11_cut : ByteArray := prog_13_method_12_code
def yX11_cut : MethodName := ⟨RX11, "cut", "(I)I"⟩
abbrev cX11_splice : ByteArray := prog_13_method_13_code
def yX11_splice : MethodName := ⟨RX11, "splice", "(III)I"⟩
abbrev cX11_size : ByteArray := prog_13_method_14_code
def yX11_size : MethodName := ⟨RX11, "size", "()I"⟩
abbrev cX11_octet : ByteArray := prog_13_method_15_code
def yX11_octet : MethodName := ⟨RX11, "octet", "(I)I"⟩
abbrev cX11_make : ByteArray := prog_13_method_161_code
def yX11_make : MethodName := ⟨RX11, "make", "(I)I"⟩
abbrev cX11_isLib : ByteArray := prog_13_method_163_code
def yX11_isLib : MethodName := ⟨RX11, "isLib", "(I)Z"⟩
abbrev cX11_tokenize : ByteArray := prog_13_method_22_code
def yX11_tokenize : MethodName := ⟨RX11, "tokenize", "()V"⟩
abbrev cX11_byteAt : ByteArray := prog_13_method_19_code
def yX11_byteAt : MethodName := ⟨RX11, "byteAt", "(I)I"⟩
abbrev cX11_tokenAt : ByteArray := prog_13_method_24_code
def yX11_tokenAt : MethodName := ⟨RX11, "tokenAt", "(II)I"⟩
abbrev cX11_isSmall : ByteArray := prog_13_method_20_code
def yX11_isSmall : MethodName := ⟨RX11, "isSmall", "(I)Z"⟩
abbrev cX11_isGreat : ByteArray := prog_13_method_21_code
def yX11_isGreat : MethodName := ⟨RX11, "isGreat", "(I)Z"⟩
abbrev cX11_wordEnd : ByteArray := prog_13_method_23_code
def yX11_wordEnd : MethodName := ⟨RX11, "wordEnd", "(I)I"⟩
abbrev cX11_sym : ByteArray := prog_13_method_1_code
def yX11_sym : MethodName := ⟨RX11, "sym", "(I)I"⟩
abbrev cX11_isWord : ByteArray := prog_13_method_18_code
def yX11_isWord : MethodName := ⟨RX11, "isWord", "(J)Z"⟩
abbrev cX11_parse : ByteArray := prog_13_method_39_code
def yX11_parse : MethodName := ⟨RX11, "parse", "()V"⟩
abbrev cX11_kindAt : ByteArray := prog_13_method_26_code
def yX11_kindAt : MethodName := ⟨RX11, "kindAt", "(I)I"⟩
abbrev cX11_klass : ByteArray := prog_13_method_40_code
def yX11_klass : MethodName := ⟨RX11, "klass", "()V"⟩
abbrev cX11_takesWord : ByteArray := prog_13_method_36_code
def yX11_takesWord : MethodName := ⟨RX11, "takesWord", "(Ljava/lang/String;)Z"⟩
abbrev cX11_isWordAt : ByteArray := prog_13_method_31_code
def yX11_isWordAt : MethodName := ⟨RX11, "isWordAt", "(Ljava/lang/String;)Z"⟩
abbrev cX11_nameAt : ByteArray := prog_13_method_28_code
def yX11_nameAt : MethodName := ⟨RX11, "nameAt", "(I)J"⟩
abbrev cX11_nameOf : ByteArray := prog_13_method_17_code
def yX11_nameOf : MethodName := ⟨RX11, "nameOf", "(Ljava/lang/String;)J"⟩
abbrev cX11_step : ByteArray := prog_13_method_33_code
def yX11_step : MethodName := ⟨RX11, "step", "()V"⟩
abbrev cX11_placeAt : ByteArray := prog_13_method_27_code
def yX11_placeAt : MethodName := ⟨RX11, "placeAt", "(I)I"⟩
abbrev cX11_fault : ByteArray := prog_13_method_25_code
def yX11_fault : MethodName := ⟨RX11, "fault", "(II)V"⟩
abbrev cX11_wantWord : ByteArray := prog_13_method_35_code
def yX11_wantWord : MethodName := ⟨RX11, "wantWord", "(Ljava/lang/String;)V"⟩
abbrev cX11_wrong : ByteArray := prog_13_method_32_code
def yX11_wrong : MethodName := ⟨RX11, "wrong", "()V"⟩
abbrev cX11_want : ByteArray := prog_13_method_37_code
def yX11_want : MethodName := ⟨RX11, "want", "(IZ)I"⟩
abbrev cX11_list : ByteArray := prog_13_method_41_code
def yX11_list : MethodName := ⟨RX11, "list", "([J[III)I"⟩
abbrev cX11_isSign : ByteArray := prog_13_method_29_code
def yX11_isSign : MethodName := ⟨RX11, "isSign", "(I)Z"⟩
abbrev cX11_wantSign : ByteArray := prog_13_method_34_code
def yX11_wantSign : MethodName := ⟨RX11, "wantSign", "(I)V"⟩
abbrev cX11_member : ByteArray := prog_13_method_44_code
def yX11_member : MethodName := ⟨RX11, "member", "(I)V"⟩
abbrev cX11_beginsMember : ByteArray := prog_13_method_42_code
def yX11_beginsMember : MethodName := ⟨RX11, "beginsMember", "()Z"⟩
abbrev cX11_newMember : ByteArray := prog_13_method_43_code
def yX11_newMember : MethodName := ⟨RX11, "newMember", "(I)V"⟩
abbrev cX11_params : ByteArray := prog_13_method_49_code
def yX11_params : MethodName := ⟨RX11, "params", "(I)V"⟩
abbrev cX11_typeToken : ByteArray := prog_13_method_48_code
def yX11_typeToken : MethodName := ⟨RX11, "typeToken", "()J"⟩
abbrev cX11_body : ByteArray := prog_13_method_46_code
def yX11_body : MethodName := ⟨RX11, "body", "(I)V"⟩
abbrev cX11_statement : ByteArray := prog_13_method_52_code
def yX11_statement : MethodName := ⟨RX11, "statement", "()I"⟩
abbrev cX11_beginsS : ByteArray := prog_13_method_51_code
def yX11_beginsS : MethodName := ⟨RX11, "beginsS", "()Z"⟩
abbrev cX11_beginsE : ByteArray := prog_13_method_50_code
def yX11_beginsE : MethodName := ⟨RX11, "beginsE", "()Z"⟩
abbrev cX11_statementWithin : ByteArray := prog_13_method_53_code
def yX11_statementWithin : MethodName := ⟨RX11, "statementWithin", "()I"⟩
abbrev cX11_block : ByteArray := prog_13_method_54_code
def yX11_block : MethodName := ⟨RX11, "block", "(I)I"⟩
abbrev cX11_node : ByteArray := prog_13_method_38_code
def yX11_node : MethodName := ⟨RX11, "node", "(II)I"⟩
abbrev cX11_expression : ByteArray := prog_13_method_57_code
def yX11_expression : MethodName := ⟨RX11, "expression", "()I"⟩
abbrev cX11_sum : ByteArray := prog_13_method_58_code
def yX11_sum : MethodName := ⟨RX11, "sum", "()I"⟩
abbrev cX11_product : ByteArray := prog_13_method_59_code
def yX11_product : MethodName := ⟨RX11, "product", "()I"⟩
abbrev cX11_unit : ByteArray := prog_13_method_60_code
def yX11_unit : MethodName := ⟨RX11, "unit", "()I"⟩
abbrev cX11_first : ByteArray := prog_13_method_62_code
def yX11_first : MethodName := ⟨RX11, "first", "()I"⟩
abbrev cX11_arguments : ByteArray := prog_13_method_61_code
def yX11_arguments : MethodName := ⟨RX11, "arguments", "()I"⟩
abbrev cX11_ofClass : ByteArray := prog_13_method_63_code
def yX11_ofClass : MethodName := ⟨RX11, "ofClass", "(I)I"⟩
abbrev cX11_inBrackets : ByteArray := prog_13_method_64_code
def yX11_inBrackets : MethodName := ⟨RX11, "inBrackets", "(I)I"⟩
abbrev cX11_tryOf : ByteArray := prog_13_method_55_code
def yX11_tryOf : MethodName := ⟨RX11, "tryOf", "(I)I"⟩
abbrev cX11_blockOnly : ByteArray := prog_13_method_56_code
def yX11_blockOnly : MethodName := ⟨RX11, "blockOnly", "()I"⟩
abbrev cX11_isSignNext : ByteArray := prog_13_method_30_code
def yX11_isSignNext : MethodName := ⟨RX11, "isSignNext", "(I)Z"⟩
abbrev cX11_fieldOrMethod : ByteArray := prog_13_method_45_code
def yX11_fieldOrMethod : MethodName := ⟨RX11, "fieldOrMethod", "(I)V"⟩
abbrev cX11_effects : ByteArray := prog_13_method_47_code
def yX11_effects : MethodName := ⟨RX11, "effects", "(II)V"⟩
abbrev cX11_judgeAll : ByteArray := prog_13_method_162_code
def yX11_judgeAll : MethodName := ⟨RX11, "judgeAll", "()V"⟩
abbrev cX11_heads : ByteArray := prog_13_method_93_code
def yX11_heads : MethodName := ⟨RX11, "heads", "()V"⟩
abbrev cX11_head : ByteArray := prog_13_method_95_code
def yX11_head : MethodName := ⟨RX11, "head", "(I)V"⟩
abbrev cX11_inSlot : ByteArray := prog_13_method_66_code
def yX11_inSlot : MethodName := ⟨RX11, "inSlot", "(IJ)I"⟩
abbrev cX11_pack : ByteArray := prog_13_method_70_code
def yX11_pack : MethodName := ⟨RX11, "pack", "(J)I"⟩
abbrev cX11_packageOf : ByteArray := prog_13_method_4_code
def yX11_packageOf : MethodName := ⟨RX11, "packageOf", "(J)I"⟩
abbrev cX11_find : ByteArray := prog_13_method_67_code
def yX11_find : MethodName := ⟨RX11, "find", "(J)I"⟩
abbrev cX11_isFace : ByteArray := prog_13_method_68_code
def yX11_isFace : MethodName := ⟨RX11, "isFace", "(I)Z"⟩
abbrev cX11_letsBelow : ByteArray := prog_13_method_94_code
def yX11_letsBelow : MethodName := ⟨RX11, "letsBelow", "(II)Z"⟩
abbrev cX11_isLet : ByteArray := prog_13_method_79_code
def yX11_isLet : MethodName := ⟨RX11, "isLet", "(II)Z"⟩
abbrev cX11_onePackage : ByteArray := prog_13_method_71_code
def yX11_onePackage : MethodName := ⟨RX11, "onePackage", "(II)Z"⟩
abbrev cX11_stands : ByteArray := prog_13_method_80_code
def yX11_stands : MethodName := ⟨RX11, "stands", "([JIIJ)Z"⟩
abbrev cX11_isHeir : ByteArray := prog_13_method_77_code
def yX11_isHeir : MethodName := ⟨RX11, "isHeir", "(II)Z"⟩
abbrev cX11_newStamp : ByteArray := prog_13_method_75_code
def yX11_newStamp : MethodName := ⟨RX11, "newStamp", "()V"⟩
abbrev cX11_parent : ByteArray := prog_13_method_72_code
def yX11_parent : MethodName := ⟨RX11, "parent", "(I)I"⟩
abbrev cX11_membersOf : ByteArray := prog_13_method_96_code
def yX11_membersOf : MethodName := ⟨RX11, "membersOf", "()V"⟩
abbrev cX11_isWrongInFace : ByteArray := prog_13_method_97_code
def yX11_isWrongInFace : MethodName := ⟨RX11, "isWrongInFace", "(I)Z"⟩
abbrev cX11_isWrongInClass : ByteArray := prog_13_method_98_code
def yX11_isWrongInClass : MethodName := ⟨RX11, "isWrongInClass", "(II)Z"⟩
abbrev cX11_type : ByteArray := prog_13_method_99_code
def yX11_type : MethodName := ⟨RX11, "type", "(JII)V"⟩
abbrev cX11_isC : ByteArray := prog_13_method_3_code
def yX11_isC : MethodName := ⟨RX11, "isC", "(J)Z"⟩
abbrev cX11_sameParams : ByteArray := prog_13_method_86_code
def yX11_sameParams : MethodName := ⟨RX11, "sameParams", "(II)Z"⟩
abbrev cX11_againstAbove : ByteArray := prog_13_method_102_code
def yX11_againstAbove : MethodName := ⟨RX11, "againstAbove", "()V"⟩
abbrev cX11_findAbove : ByteArray := prog_13_method_101_code
def yX11_findAbove : MethodName := ⟨RX11, "findAbove", "(I)V"⟩
abbrev cX11_classOfMember : ByteArray := prog_13_method_69_code
def yX11_classOfMember : MethodName := ⟨RX11, "classOfMember", "(I)I"⟩
abbrev cX11_parents : ByteArray := prog_13_method_74_code
def yX11_parents : MethodName := ⟨RX11, "parents", "(I[I)I"⟩
abbrev cX11_stoodBefore : ByteArray := prog_13_method_73_code
def yX11_stoodBefore : MethodName := ⟨RX11, "stoodBefore", "([III)Z"⟩
abbrev cX11_aboveIn : ByteArray := prog_13_method_100_code
def yX11_aboveIn : MethodName := ⟨RX11, "aboveIn", "(III)V"⟩
abbrev cX11_allFaces : ByteArray := prog_13_method_76_code
def yX11_allFaces : MethodName := ⟨RX11, "allFaces", "(I[I)I"⟩
abbrev cX11_isAgainst : ByteArray := prog_13_method_103_code
def yX11_isAgainst : MethodName := ⟨RX11, "isAgainst", "(II)Z"⟩
abbrev cX11_fits : ByteArray := prog_13_method_78_code
def yX11_fits : MethodName := ⟨RX11, "fits", "(JJ)Z"⟩
abbrev cX11_makersAndBridges : ByteArray := prog_13_method_104_code
def yX11_makersAndBridges : MethodName := ⟨RX11, "makersAndBridges", "()V"⟩
abbrev cX11_bridges : ByteArray := prog_13_method_105_code
def yX11_bridges : MethodName := ⟨RX11, "bridges", "(I)V"⟩
abbrev cX11_isFree : ByteArray := prog_13_method_89_code
def yX11_isFree : MethodName := ⟨RX11, "isFree", "(I)Z"⟩
abbrev cX11_hasBridge : ByteArray := prog_13_method_106_code
def yX11_hasBridge : MethodName := ⟨RX11, "hasBridge", "(III)Z"⟩
abbrev cX11_sameSign : ByteArray := prog_13_method_87_code
def yX11_sameSign : MethodName := ⟨RX11, "sameSign", "(II)Z"⟩
abbrev cX11_bridge : ByteArray := prog_13_method_107_code
def yX11_bridge : MethodName := ⟨RX11, "bridge", "(IIJ)I"⟩
abbrev cX11_lacking : ByteArray := prog_13_method_108_code
def yX11_lacking : MethodName := ⟨RX11, "lacking", "()V"⟩
abbrev cX11_lackingOf : ByteArray := prog_13_method_109_code
def yX11_lackingOf : MethodName := ⟨RX11, "lackingOf", "(II)V"⟩
abbrev cX11_selected : ByteArray := prog_13_method_92_code
def yX11_selected : MethodName := ⟨RX11, "selected", "(II)I"⟩
abbrev cX11_ownMethod : ByteArray := prog_13_method_88_code
def yX11_ownMethod : MethodName := ⟨RX11, "ownMethod", "(II)I"⟩
abbrev cX11_overrides : ByteArray := prog_13_method_90_code
def yX11_overrides : MethodName := ⟨RX11, "overrides", "(II)Z"⟩
abbrev cX11_mostSpecial : ByteArray := prog_13_method_91_code
def yX11_mostSpecial : MethodName := ⟨RX11, "mostSpecial", "(II)I"⟩
abbrev cX11_constants : ByteArray := prog_13_method_112_code
def yX11_constants : MethodName := ⟨RX11, "constants", "()V"⟩
abbrev cX11_folded : ByteArray := prog_13_method_113_code
def yX11_folded : MethodName := ⟨RX11, "folded", "(II)J"⟩
abbrev cX11_isTwo : ByteArray := prog_13_method_110_code
def yX11_isTwo : MethodName := ⟨RX11, "isTwo", "(I)Z"⟩
abbrev cX11_knownConstant : ByteArray := prog_13_method_114_code
def yX11_knownConstant : MethodName := ⟨RX11, "knownConstant", "(II)J"⟩
abbrev cX11_theField : ByteArray := prog_13_method_85_code
def yX11_theField : MethodName := ⟨RX11, "theField", "(IJJ)I"⟩
abbrev cX11_ownField : ByteArray := prog_13_method_84_code
def yX11_ownField : MethodName := ⟨RX11, "ownField", "(IJJ)I"⟩
abbrev cX11_isLetMember : ByteArray := prog_13_method_82_code
def yX11_isLetMember : MethodName := ⟨RX11, "isLetMember", "(III)Z"⟩
abbrev cX11_nestsAreOne : ByteArray := prog_13_method_83_code
def yX11_nestsAreOne : MethodName := ⟨RX11, "nestsAreOne", "(II)Z"⟩
abbrev cX11_nest : ByteArray := prog_13_method_81_code
def yX11_nest : MethodName := ⟨RX11, "nest", "(I)I"⟩
abbrev cX11_load : ByteArray := prog_13_method_190_code
def yX11_load : MethodName := ⟨RX11, "load", "(I)I"⟩
abbrev cX11_stateOf : ByteArray := prog_13_method_189_code
def yX11_stateOf : MethodName := ⟨RX11, "stateOf", "(I)I"⟩
abbrev cX11_becomes : ByteArray := prog_13_method_187_code
def yX11_becomes : MethodName := ⟨RX11, "becomes", "(III)V"⟩
abbrev cX11_event : ByteArray := prog_13_method_186_code
def yX11_event : MethodName := ⟨RX11, "event", "(II)V"⟩
abbrev cX11_loadAbove : ByteArray := prog_13_method_191_code
def yX11_loadAbove : MethodName := ⟨RX11, "loadAbove", "(I)I"⟩
abbrev cX11_act : ByteArray := prog_13_method_111_code
def yX11_act : MethodName := ⟨RX11, "act", "(III)I"⟩
abbrev cX11_bodies : ByteArray := prog_13_method_115_code
def yX11_bodies : MethodName := ⟨RX11, "bodies", "()V"⟩
abbrev cX11_bodyOf : ByteArray := prog_13_method_116_code
def yX11_bodyOf : MethodName := ⟨RX11, "bodyOf", "(II)V"⟩
abbrev cX11_judge : ByteArray := prog_13_method_121_code
def yX11_judge : MethodName := ⟨RX11, "judge", "(I)J"⟩
abbrev cX11_leaf : ByteArray := prog_13_method_127_code
def yX11_leaf : MethodName := ⟨RX11, "leaf", "(I)J"⟩
abbrev cX11_nameAlone : ByteArray := prog_13_method_129_code
def yX11_nameAlone : MethodName := ⟨RX11, "nameAlone", "(I)J"⟩
abbrev cX11_field : ByteArray := prog_13_method_125_code
def yX11_field : MethodName := ⟨RX11, "field", "(IIJZ)J"⟩
abbrev cX11_args : ByteArray := prog_13_method_126_code
def yX11_args : MethodName := ⟨RX11, "args", "(I)V"⟩
abbrev cX11_call : ByteArray := prog_13_method_131_code
def yX11_call : MethodName := ⟨RX11, "call", "(IIJZ)J"⟩
abbrev cX11_meant : ByteArray := prog_13_method_136_code
def yX11_meant : MethodName := ⟨RX11, "meant", "(IJI)I"⟩
abbrev cX11_candidatesIn : ByteArray := prog_13_method_135_code
def yX11_candidatesIn : MethodName := ⟨RX11, "candidatesIn", "(IIJI)V"⟩
abbrev cX11_takesArgs : ByteArray := prog_13_method_134_code
def yX11_takesArgs : MethodName := ⟨RX11, "takesArgs", "(II)Z"⟩
abbrev cX11_best : ByteArray := prog_13_method_138_code
def yX11_best : MethodName := ⟨RX11, "best", "()I"⟩
abbrev cX11_means : ByteArray := prog_13_method_132_code
def yX11_means : MethodName := ⟨RX11, "means", "(IIJ)J"⟩
abbrev cX11_keepParams : ByteArray := prog_13_method_130_code
def yX11_keepParams : MethodName := ⟨RX11, "keepParams", "(II)V"⟩
abbrev cX11_leafOfMore : ByteArray := prog_13_method_128_code
def yX11_leafOfMore : MethodName := ⟨RX11, "leafOfMore", "(I)J"⟩
abbrev cX11_superCall : ByteArray := prog_13_method_133_code
def yX11_superCall : MethodName := ⟨RX11, "superCall", "(III)J"⟩
abbrev cX11_meantMaker : ByteArray := prog_13_method_137_code
def yX11_meantMaker : MethodName := ⟨RX11, "meantMaker", "(II)I"⟩
abbrev cX11_isObject : ByteArray := prog_13_method_120_code
def yX11_isObject : MethodName := ⟨RX11, "isObject", "(J)Z"⟩
abbrev cX11_overLeft : ByteArray := prog_13_method_122_code
def yX11_overLeft : MethodName := ⟨RX11, "overLeft", "(IIJ)J"⟩
abbrev cX11_dot : ByteArray := prog_13_method_124_code
def yX11_dot : MethodName := ⟨RX11, "dot", "(IIJ)J"⟩
abbrev cX11_two : ByteArray := prog_13_method_123_code
def yX11_two : MethodName := ⟨RX11, "two", "(IIJ)J"⟩
abbrev cX11_wanted : ByteArray := prog_13_method_119_code
def yX11_wanted : MethodName := ⟨RX11, "wanted", "(IJJ)V"⟩
abbrev cX11_local : ByteArray := prog_13_method_118_code
def yX11_local : MethodName := ⟨RX11, "local", "(JJI)V"⟩
abbrev cX11_beginsBySuper : ByteArray := prog_13_method_117_code
def yX11_beginsBySuper : MethodName := ⟨RX11, "beginsBySuper", "(I)Z"⟩
abbrev cX11_judgeS : ByteArray := prog_13_method_139_code
def yX11_judgeS : MethodName := ⟨RX11, "judgeS", "(I)V"⟩
abbrev cX11_judgeOther : ByteArray := prog_13_method_140_code
def yX11_judgeOther : MethodName := ⟨RX11, "judgeOther", "(I)V"⟩
abbrev cX11_judgeReturn : ByteArray := prog_13_method_141_code
def yX11_judgeReturn : MethodName := ⟨RX11, "judgeReturn", "(I)V"⟩
abbrev cX11_judgePut : ByteArray := prog_13_method_142_code
def yX11_judgePut : MethodName := ⟨RX11, "judgePut", "(I)V"⟩
abbrev cX11_canEnd : ByteArray := prog_13_method_143_code
def yX11_canEnd : MethodName := ⟨RX11, "canEnd", "(I)Z"⟩
abbrev cX11_usesOfAll : ByteArray := prog_13_method_150_code
def yX11_usesOfAll : MethodName := ⟨RX11, "usesOfAll", "()V"⟩
abbrev cX11_usesOf : ByteArray := prog_13_method_151_code
def yX11_usesOf : MethodName := ⟨RX11, "usesOf", "(I)V"⟩
abbrev cX11_useFor : ByteArray := prog_13_method_146_code
def yX11_useFor : MethodName := ⟨RX11, "useFor", "(IJJJ)I"⟩
abbrev cX11_nextUse : ByteArray := prog_13_method_144_code
def yX11_nextUse : MethodName := ⟨RX11, "nextUse", "(IJJJ)I"⟩
abbrev cX11_keepUse : ByteArray := prog_13_method_145_code
def yX11_keepUse : MethodName := ⟨RX11, "keepUse", "(I)I"⟩
abbrev cX11_bridgeUse : ByteArray := prog_13_method_152_code
def yX11_bridgeUse : MethodName := ⟨RX11, "bridgeUse", "(II)I"⟩
abbrev cX11_copies : ByteArray := prog_13_method_153_code
def yX11_copies : MethodName := ⟨RX11, "copies", "(I)V"⟩
abbrev cX11_copyOf : ByteArray := prog_13_method_148_code
def yX11_copyOf : MethodName := ⟨RX11, "copyOf", "(I)I"⟩
abbrev cX11_usesE : ByteArray := prog_13_method_154_code
def yX11_usesE : MethodName := ⟨RX11, "usesE", "(I)V"⟩
abbrev cX11_usesLeaf : ByteArray := prog_13_method_158_code
def yX11_usesLeaf : MethodName := ⟨RX11, "usesLeaf", "(I)V"⟩
abbrev cX11_fieldUse : ByteArray := prog_13_method_155_code
def yX11_fieldUse : MethodName := ⟨RX11, "fieldUse", "(II)I"⟩
abbrev cX11_usesArgs : ByteArray := prog_13_method_156_code
def yX11_usesArgs : MethodName := ⟨RX11, "usesArgs", "(II)V"⟩
abbrev cX11_fit : ByteArray := prog_13_method_149_code
def yX11_fit : MethodName := ⟨RX11, "fit", "(IJ)V"⟩
abbrev cX11_callUse : ByteArray := prog_13_method_157_code
def yX11_callUse : MethodName := ⟨RX11, "callUse", "(I)I"⟩
abbrev cX11_useOf : ByteArray := prog_13_method_147_code
def yX11_useOf : MethodName := ⟨RX11, "useOf", "(IIJJJ)I"⟩
abbrev cX11_usesS : ByteArray := prog_13_method_159_code
def yX11_usesS : MethodName := ⟨RX11, "usesS", "(I)V"⟩
abbrev cX11_usesPut : ByteArray := prog_13_method_160_code
def yX11_usesPut : MethodName := ⟨RX11, "usesPut", "(I)V"⟩
abbrev cX11_place : ByteArray := prog_13_method_165_code
def yX11_place : MethodName := ⟨RX11, "place", "()I"⟩
abbrev cX11_builds : ByteArray := prog_13_method_166_code
def yX11_builds : MethodName := ⟨RX11, "builds", "(I)I"⟩
abbrev cX11_text : ByteArray := prog_13_method_167_code
def yX11_text : MethodName := ⟨RX11, "text", "(II)I"⟩
abbrev cX11_slotAt : ByteArray := prog_13_method_164_code
def yX11_slotAt : MethodName := ⟨RX11, "slotAt", "(II)I"⟩
abbrev cX11_pick : ByteArray := prog_13_method_168_code
def yX11_pick : MethodName := ⟨RX11, "pick", "(II)I"⟩
abbrev cX11_picked : ByteArray := prog_13_method_169_code
def yX11_picked : MethodName := ⟨RX11, "picked", "(I)I"⟩
abbrev cX11_buildOf : ByteArray := prog_13_method_170_code
def yX11_buildOf : MethodName := ⟨RX11, "buildOf", "(I)I"⟩
abbrev cX11_settle : ByteArray := prog_13_method_217_code
def yX11_settle : MethodName := ⟨RX11, "settle", "()V"⟩
abbrev cX11_numberWorld : ByteArray := prog_13_method_184_code
def yX11_numberWorld : MethodName := ⟨RX11, "numberWorld", "()V"⟩
abbrev cX11_intoWorld : ByteArray := prog_13_method_185_code
def yX11_intoWorld : MethodName := ⟨RX11, "intoWorld", "(I)V"⟩
abbrev cX11_clearSet : ByteArray := prog_13_method_188_code
def yX11_clearSet : MethodName := ⟨RX11, "clearSet", "(I)V"⟩
abbrev cX11_classes : ByteArray := prog_13_method_171_code
def yX11_classes : MethodName := ⟨RX11, "classes", "(II)I"⟩
abbrev cX11_members : ByteArray := prog_13_method_175_code
def yX11_members : MethodName := ⟨RX11, "members", "(III)I"⟩
abbrev cX11_classAt : ByteArray := prog_13_method_172_code
def yX11_classAt : MethodName := ⟨RX11, "classAt", "(III)I"⟩
abbrev cX11_memberMany : ByteArray := prog_13_method_174_code
def yX11_memberMany : MethodName := ⟨RX11, "memberMany", "(I)I"⟩
abbrev cX11_shape : ByteArray := prog_13_method_178_code
def yX11_shape : MethodName := ⟨RX11, "shape", "(IIII)I"⟩
abbrev cX11_memberAt : ByteArray := prog_13_method_173_code
def yX11_memberAt : MethodName := ⟨RX11, "memberAt", "(II)I"⟩
abbrev cX11_outWord : ByteArray := prog_13_method_6_code
def yX11_outWord : MethodName := ⟨RX11, "outWord", "(Ljava/lang/String;)V"⟩
abbrev cX11_outByte : ByteArray := prog_13_method_5_code
def yX11_outByte : MethodName := ⟨RX11, "outByte", "(I)V"⟩
abbrev cX11_outName : ByteArray := prog_13_method_7_code
def yX11_outName : MethodName := ⟨RX11, "outName", "(J)V"⟩
abbrev cX11_letter : ByteArray := prog_13_method_2_code
def yX11_letter : MethodName := ⟨RX11, "letter", "(I)I"⟩
abbrev cX11_outList : ByteArray := prog_13_method_177_code
def yX11_outList : MethodName := ⟨RX11, "outList", "(Ljava/lang/String;[JII)V"⟩
abbrev cX11_outType : ByteArray := prog_13_method_9_code
def yX11_outType : MethodName := ⟨RX11, "outType", "(J)V"⟩
abbrev cX11_outParams : ByteArray := prog_13_method_176_code
def yX11_outParams : MethodName := ⟨RX11, "outParams", "(I)V"⟩
abbrev cX11_outInt : ByteArray := prog_13_method_8_code
def yX11_outInt : MethodName := ⟨RX11, "outInt", "(J)V"⟩
abbrev cX11_uses : ByteArray := prog_13_method_179_code
def yX11_uses : MethodName := ⟨RX11, "uses", "(II)I"⟩
abbrev cX11_use : ByteArray := prog_13_method_181_code
def yX11_use : MethodName := ⟨RX11, "use", "(IIII)I"⟩
abbrev cX11_useAt : ByteArray := prog_13_method_180_code
def yX11_useAt : MethodName := ⟨RX11, "useAt", "(III)I"⟩
abbrev cX11_tell : ByteArray := prog_13_method_182_code
def yX11_tell : MethodName := ⟨RX11, "tell", "(III)I"⟩
abbrev cX11_outMember : ByteArray := prog_13_method_183_code
def yX11_outMember : MethodName := ⟨RX11, "outMember", "(II)V"⟩
abbrev cX11_meet : ByteArray := prog_13_method_209_code
def yX11_meet : MethodName := ⟨RX11, "meet", "(III)I"⟩
abbrev cX11_stands_2 : ByteArray := prog_13_method_207_code
def yX11_stands_2 : MethodName := ⟨RX11, "stands", "(I)Z"⟩
abbrev cX11_foretell : ByteArray := prog_13_method_208_code
def yX11_foretell : MethodName := ⟨RX11, "foretell", "(I)I"⟩
abbrev cX11_ask : ByteArray := prog_13_method_196_code
def yX11_ask : MethodName := ⟨RX11, "ask", "(IZ)I"⟩
abbrev cX11_isStale : ByteArray := prog_13_method_197_code
def yX11_isStale : MethodName := ⟨RX11, "isStale", "(I)Z"⟩
abbrev cX11_askFit : ByteArray := prog_13_method_198_code
def yX11_askFit : MethodName := ⟨RX11, "askFit", "(I)I"⟩
abbrev cX11_askClass : ByteArray := prog_13_method_199_code
def yX11_askClass : MethodName := ⟨RX11, "askClass", "(IZ)I"⟩
abbrev cX11_askMaker : ByteArray := prog_13_method_200_code
def yX11_askMaker : MethodName := ⟨RX11, "askMaker", "(II)I"⟩
abbrev cX11_see : ByteArray := prog_13_method_195_code
def yX11_see : MethodName := ⟨RX11, "see", "(I)V"⟩
abbrev cX11_askField : ByteArray := prog_13_method_201_code
def yX11_askField : MethodName := ⟨RX11, "askField", "(III)I"⟩
abbrev cX11_askMethod : ByteArray := prog_13_method_203_code
def yX11_askMethod : MethodName := ⟨RX11, "askMethod", "(III)I"⟩
abbrev cX11_methodOf : ByteArray := prog_13_method_202_code
def yX11_methodOf : MethodName := ⟨RX11, "methodOf", "(I)I"⟩
abbrev cX11_askSuper : ByteArray := prog_13_method_204_code
def yX11_askSuper : MethodName := ⟨RX11, "askSuper", "(I)I"⟩
abbrev cX11_askCalled : ByteArray := prog_13_method_206_code
def yX11_askCalled : MethodName := ⟨RX11, "askCalled", "(II)I"⟩
abbrev cX11_askFaceSuper : ByteArray := prog_13_method_205_code
def yX11_askFaceSuper : MethodName := ⟨RX11, "askFaceSuper", "(I)I"⟩
abbrev cX11_met : ByteArray := prog_13_method_210_code
def yX11_met : MethodName := ⟨RX11, "met", "()I"⟩
abbrev cX11_looked : ByteArray := prog_13_method_211_code
def yX11_looked : MethodName := ⟨RX11, "looked", "(I)I"⟩
abbrev cX11_broken : ByteArray := prog_13_method_212_code
def yX11_broken : MethodName := ⟨RX11, "broken", "()I"⟩
abbrev cX11_brokenAt : ByteArray := prog_13_method_214_code
def yX11_brokenAt : MethodName := ⟨RX11, "brokenAt", "(II)I"⟩
abbrev cX11_stale : ByteArray := prog_13_method_215_code
def yX11_stale : MethodName := ⟨RX11, "stale", "()I"⟩
abbrev cX11_choose : ByteArray := prog_13_method_216_code
def yX11_choose : MethodName := ⟨RX11, "choose", "()I"⟩
abbrev cX11_isBroken : ByteArray := prog_13_method_213_code
def yX11_isBroken : MethodName := ⟨RX11, "isBroken", "()Z"⟩
abbrev cX11_fresh : ByteArray := prog_13_method_218_code
def yX11_fresh : MethodName := ⟨RX11, "fresh", "()I"⟩
abbrev cX11_touch : ByteArray := prog_13_method_219_code
def yX11_touch : MethodName := ⟨RX11, "touch", "(III)I"⟩
abbrev cX11_run : ByteArray := prog_13_method_253_code
def yX11_run : MethodName := ⟨RX11, "run", "()I"⟩
abbrev cX11_named : ByteArray := prog_13_method_252_code
def yX11_named : MethodName := ⟨RX11, "named", "()I"⟩
abbrev cX11_start : ByteArray := prog_13_method_224_code
def yX11_start : MethodName := ⟨RX11, "start", "(I)V"⟩
abbrev cX11_fail : ByteArray := prog_13_method_220_code
def yX11_fail : MethodName := ⟨RX11, "fail", "(I)I"⟩
abbrev cX11_link : ByteArray := prog_13_method_192_code
def yX11_link : MethodName := ⟨RX11, "link", "(I)I"⟩
abbrev cX11_linkWith : ByteArray := prog_13_method_193_code
def yX11_linkWith : MethodName := ⟨RX11, "linkWith", "(I)I"⟩
abbrev cX11_overridesFinal : ByteArray := prog_13_method_194_code
def yX11_overridesFinal : MethodName := ⟨RX11, "overridesFinal", "(I)Z"⟩
abbrev cX11_startFaces : ByteArray := prog_13_method_225_code
def yX11_startFaces : MethodName := ⟨RX11, "startFaces", "(I)V"⟩
abbrev cX11_pushFaces : ByteArray := prog_13_method_226_code
def yX11_pushFaces : MethodName := ⟨RX11, "pushFaces", "(I)V"⟩
abbrev cX11_hasBody : ByteArray := prog_13_method_223_code
def yX11_hasBody : MethodName := ⟨RX11, "hasBody", "(I)Z"⟩
abbrev cX11_startSelf : ByteArray := prog_13_method_227_code
def yX11_startSelf : MethodName := ⟨RX11, "startSelf", "(I)V"⟩
abbrev cX11_eval : ByteArray := prog_13_method_237_code
def yX11_eval : MethodName := ⟨RX11, "eval", "(IIII)I"⟩
abbrev cX11_push : ByteArray := prog_13_method_236_code
def yX11_push : MethodName := ⟨RX11, "push", "(I)V"⟩
abbrev cX11_evalNode : ByteArray := prog_13_method_238_code
def yX11_evalNode : MethodName := ⟨RX11, "evalNode", "(IIIIII)I"⟩
abbrev cX11_getStatic : ByteArray := prog_13_method_247_code
def yX11_getStatic : MethodName := ⟨RX11, "getStatic", "(I)I"⟩
abbrev cX11_asks : ByteArray := prog_13_method_221_code
def yX11_asks : MethodName := ⟨RX11, "asks", "(I)Z"⟩
abbrev cX11_getOf : ByteArray := prog_13_method_246_code
def yX11_getOf : MethodName := ⟨RX11, "getOf", "(II)I"⟩
abbrev cX11_cellOf : ByteArray := prog_13_method_229_code
def yX11_cellOf : MethodName := ⟨RX11, "cellOf", "(II)I"⟩
abbrev cX11_fieldsOf : ByteArray := prog_13_method_228_code
def yX11_fieldsOf : MethodName := ⟨RX11, "fieldsOf", "(I)I"⟩
abbrev cX11_asked : ByteArray := prog_13_method_240_code
def yX11_asked : MethodName := ⟨RX11, "asked", "(II)I"⟩
abbrev cX11_isMade : ByteArray := prog_13_method_222_code
def yX11_isMade : MethodName := ⟨RX11, "isMade", "(II)Z"⟩
abbrev cX11_cast : ByteArray := prog_13_method_241_code
def yX11_cast : MethodName := ⟨RX11, "cast", "(II)I"⟩
abbrev cX11_beginArgs : ByteArray := prog_13_method_243_code
def yX11_beginArgs : MethodName := ⟨RX11, "beginArgs", "(II)V"⟩
abbrev cX11_evalCall : ByteArray := prog_13_method_244_code
def yX11_evalCall : MethodName := ⟨RX11, "evalCall", "(IIII)I"⟩
abbrev cX11_invoke : ByteArray := prog_13_method_232_code
def yX11_invoke : MethodName := ⟨RX11, "invoke", "(III)I"⟩
abbrev cX11_steps : ByteArray := prog_13_method_231_code
def yX11_steps : MethodName := ⟨RX11, "steps", "()Z"⟩
abbrev cX11_alongBridge : ByteArray := prog_13_method_233_code
def yX11_alongBridge : MethodName := ⟨RX11, "alongBridge", "(III)I"⟩
abbrev cX11_callBy : ByteArray := prog_13_method_234_code
def yX11_callBy : MethodName := ⟨RX11, "callBy", "(III)I"⟩
abbrev cX11_runMaker : ByteArray := prog_13_method_235_code
def yX11_runMaker : MethodName := ⟨RX11, "runMaker", "(III)V"⟩
abbrev cX11_exec : ByteArray := prog_13_method_248_code
def yX11_exec : MethodName := ⟨RX11, "exec", "(IIII)V"⟩
abbrev cX11_caught : ByteArray := prog_13_method_249_code
def yX11_caught : MethodName := ⟨RX11, "caught", "(IIII)V"⟩
abbrev cX11_execOther : ByteArray := prog_13_method_250_code
def yX11_execOther : MethodName := ⟨RX11, "execOther", "(IIII)V"⟩
abbrev cX11_evalArgs : ByteArray := prog_13_method_245_code
def yX11_evalArgs : MethodName := ⟨RX11, "evalArgs", "(IIII)I"⟩
abbrev cX11_execPut : ByteArray := prog_13_method_251_code
def yX11_execPut : MethodName := ⟨RX11, "execPut", "(IIII)V"⟩
abbrev cX11_evalNew : ByteArray := prog_13_method_242_code
def yX11_evalNew : MethodName := ⟨RX11, "evalNew", "(II)I"⟩
abbrev cX11_newObject : ByteArray := prog_13_method_230_code
def yX11_newObject : MethodName := ⟨RX11, "newObject", "(I)I"⟩
abbrev cX11_evalTwo : ByteArray := prog_13_method_239_code
def yX11_evalTwo : MethodName := ⟨RX11, "evalTwo", "(III)I"⟩
abbrev cX11_value : ByteArray := prog_13_method_254_code
def yX11_value : MethodName := ⟨RX11, "value", "()I"⟩
abbrev cX11_told : ByteArray := prog_13_method_255_code
def yX11_told : MethodName := ⟨RX11, "told", "(I)I"⟩
abbrev cX11_number : ByteArray := prog_13_method_256_code
def yX11_number : MethodName := ⟨RX11, "number", "(I)I"⟩
abbrev cX11_event_2 : ByteArray := prog_13_method_257_code
def yX11_event_2 : MethodName := ⟨RX11, "event", "(I)I"⟩
abbrev cX11_name : ByteArray := prog_13_method_258_code
def yX11_name : MethodName := ⟨RX11, "name", "(I)I"⟩
abbrev cX11_state : ByteArray := prog_13_method_259_code
def yX11_state : MethodName := ⟨RX11, "state", "(I)I"⟩
abbrev cX11_classOf : ByteArray := prog_13_method_260_code
def yX11_classOf : MethodName := ⟨RX11, "classOf", "(I)I"⟩
abbrev cX11_fieldOf : ByteArray := prog_13_method_261_code
def yX11_fieldOf : MethodName := ⟨RX11, "fieldOf", "(II)I"⟩
abbrev cX11_differ : ByteArray := prog_13_method_264_code
def yX11_differ : MethodName := ⟨RX11, "differ", "(III)I"⟩
abbrev cX11_compare : ByteArray := prog_13_method_265_code
def yX11_compare : MethodName := ⟨RX11, "compare", "(II)V"⟩
abbrev cX11_differs : ByteArray := prog_13_method_262_code
def yX11_differs : MethodName := ⟨RX11, "differs", "(IIIII)V"⟩
abbrev cX11_toldPlace : ByteArray := prog_13_method_263_code
def yX11_toldPlace : MethodName := ⟨RX11, "toldPlace", "(I)I"⟩
abbrev cX11_compareHeads : ByteArray := prog_13_method_267_code
def yX11_compareHeads : MethodName := ⟨RX11, "compareHeads", "(II)V"⟩
abbrev cX11_either : ByteArray := prog_13_method_266_code
def yX11_either : MethodName := ⟨RX11, "either", "(IZZII)V"⟩
abbrev cX11_compareFields : ByteArray := prog_13_method_270_code
def yX11_compareFields : MethodName := ⟨RX11, "compareFields", "(II)V"⟩
abbrev cX11_eitherOf : ByteArray := prog_13_method_268_code
def yX11_eitherOf : MethodName := ⟨RX11, "eitherOf", "(IZZII)V"⟩
abbrev cX11_accessOf : ByteArray := prog_13_method_269_code
def yX11_accessOf : MethodName := ⟨RX11, "accessOf", "(III)V"⟩
abbrev cX11_compareMethods : ByteArray := prog_13_method_272_code
def yX11_compareMethods : MethodName := ⟨RX11, "compareMethods", "(II)V"⟩
abbrev cX11_alike : ByteArray := prog_13_method_271_code
def yX11_alike : MethodName := ⟨RX11, "alike", "(II)I"⟩
abbrev cX11_sameTokens : ByteArray := prog_13_method_275_code
def yX11_sameTokens : MethodName := ⟨RX11, "sameTokens", "(II)Z"⟩
abbrev cX11_sameToken : ByteArray := prog_13_method_274_code
def yX11_sameToken : MethodName := ⟨RX11, "sameToken", "(II)Z"⟩
abbrev cX11_compareMakers : ByteArray := prog_13_method_273_code
def yX11_compareMakers : MethodName := ⟨RX11, "compareMakers", "(II)V"⟩
abbrev cX11_sameRest : ByteArray := prog_13_method_278_code
def yX11_sameRest : MethodName := ⟨RX11, "sameRest", "(II)Z"⟩
abbrev cX11_rest : ByteArray := prog_13_method_277_code
def yX11_rest : MethodName := ⟨RX11, "rest", "(I[I)I"⟩
abbrev cX11_isRest : ByteArray := prog_13_method_276_code
def yX11_isRest : MethodName := ⟨RX11, "isRest", "(I)Z"⟩
abbrev cX11_change : ByteArray := prog_13_method_279_code
def yX11_change : MethodName := ⟨RX11, "change", "(II)I"⟩
abbrev cX11_word : ByteArray := prog_13_method_281_code
def yX11_word : MethodName := ⟨RX11, "word", "(III)I"⟩
abbrev cX11_weight : ByteArray := prog_13_method_280_code
def yX11_weight : MethodName := ⟨RX11, "weight", "(I)I"⟩
abbrev cX11_weave : ByteArray := prog_13_method_282_code
def yX11_weave : MethodName := ⟨RX11, "weave", "(III)I"⟩
abbrev cX11_heal : ByteArray := prog_13_method_284_code
def yX11_heal : MethodName := ⟨RX11, "heal", "(III)I"⟩
abbrev cX11_bridgesOf : ByteArray := prog_13_method_283_code
def yX11_bridgesOf : MethodName := ⟨RX11, "bridgesOf", "(I)I"⟩
abbrev cX11_copyBuild : ByteArray := prog_13_method_285_code
def yX11_copyBuild : MethodName := ⟨RX11, "copyBuild", "(II)V"⟩
abbrev cX11_copyClasses : ByteArray := prog_13_method_286_code
def yX11_copyClasses : MethodName := ⟨RX11, "copyClasses", "(II)V"⟩
abbrev cX11_copyMembers : ByteArray := prog_13_method_287_code
def yX11_copyMembers : MethodName := ⟨RX11, "copyMembers", "(II)V"⟩
abbrev cX11_copyNodes : ByteArray := prog_13_method_288_code
def yX11_copyNodes : MethodName := ⟨RX11, "copyNodes", "(II)V"⟩
abbrev cX11_weaveUses : ByteArray := prog_13_method_289_code
def yX11_weaveUses : MethodName := ⟨RX11, "weaveUses", "(I)V"⟩
abbrev cX11_copyUse : ByteArray := prog_13_method_290_code
def yX11_copyUse : MethodName := ⟨RX11, "copyUse", "(I)I"⟩
abbrev cX11_init : ByteArray := prog_13_method_291_code
def yX11_init : MethodName := ⟨RX11, "<init>", "()V"⟩
abbrev cX11_wordTable : ByteArray := prog_13_method_16_code
def yX11_wordTable : MethodName := ⟨RX11, "wordTable", "()V"⟩
abbrev cX11_given : ByteArray := prog_13_method_65_code
def yX11_given : MethodName := ⟨RX11, "given", "()V"⟩
theorem q411 : (Jvm.Cond.initialized "LinkHouseModel") ∈ lw_all := sorry
theorem q2646 : (Jvm.Cond.instanceMethod ({ cls := "LinkHouseModel", name := "feed", desc := "(IIIII)I" } : Jvm.MethodName)) ∈ lw_all := sorry
theorem q2647 : (Jvm.Cond.selects "LinkHouseModel" ({ cls := "LinkHouseModel", name := "feed", desc := "(IIIII)I" } : Jvm.MethodName) ({ cls := "LinkHouseModel", name := "feed", desc := "(IIIII)I" } : Jvm.MethodName)) ∈ lw_all := sorry
theorem q2648 : (Jvm.Cond.code ({ cls := "LinkHouseModel", name := "feed", desc := "(IIIII)I" } : Jvm.MethodName) prog_13_method_10_code (6 : Nat) (Option.some Jvm.ClassFile.FieldType.int)) ∈ lw_all := sorry
theorem q2649 : (Jvm.Cond.methodLink "LinkHouseModel" (60 : Nat) ({ cls := "LinkHouseModel", name := "four", desc := "(I)V" } : Jvm.MethodName)) ∈ lw_all := sorry
theorem q2650 : (Jvm.Cond.privateMethod ({ cls := "LinkHouseModel", name := "four", desc := "(I)V" } : Jvm.MethodName)) ∈ lw_tbl := sorry
theorem q2651 : (Jvm.Cond.instanceMethod ({ cls := "LinkHouseModel", name := "four", desc := "(I)V" } : Jvm.MethodName)) ∈ lw_all := sorry
theorem q2652 : (Jvm.Cond.instantiable "LinkHouseModel" (180 : Nat)) ∈ lw_all := sorry
theorem q2653 : (Jvm.Cond.code ({ cls := "LinkHouseModel", name := "four", desc := "(I)V" } : Jvm.MethodName) prog_13_method_11_code (3 : Nat) (Option.none : Option Jvm.ClassFile.FieldType)) ∈ lw_all := sorry
theorem q2655 : (Jvm.Cond.instanceMethod ({ cls := "LinkHouseModel", name := "cut", desc := "(I)I" } : Jvm.MethodName)) ∈ lw_all := sorry
theorem q2656 : (Jvm.Cond.selects "LinkHouseModel" ({ cls := "LinkHouseModel", name := "cut", desc := "(I)I" } : Jvm.MethodName) ({ cls := "LinkHouseModel", name := "cut", desc := "(I)I" } : Jvm.MethodName)) ∈ lw_all := sorry
theorem q2657 : (Jvm.Cond.code ({ cls := "LinkHouseModel", name := "cut", desc := "(I)I" } : Jvm.MethodName) prog_13_method_12_code (2 : Nat) (Option.some Jvm.ClassFile.FieldType.int)) ∈ lw_all := sorry
theorem q2659 : (Jvm.Cond.instanceMethod ({ cls := "LinkHouseModel", name := "splice", desc := "(III)I" } : Jvm.MethodName)) ∈ lw_all := sorry
theorem q2660 : (Jvm.Cond.selects "LinkHouseModel" ({ cls := "LinkHouseModel", name := "splice", desc := "(III)I" } : Jvm.MethodName) ({ cls := "LinkHouseModel", name := "splice", desc := "(III)I" } : Jvm.MethodName)) ∈ lw_all := sorry
theorem q2661 : (Jvm.Cond.code ({ cls := "LinkHouseModel", name := "splice", desc := "(III)I" } : Jvm.MethodName) prog_13_method_13_code (7 : Nat) (Option.some Jvm.ClassFile.FieldType.int)) ∈ lw_all := sorry
theorem q2663 : (Jvm.Cond.instanceMethod ({ cls := "LinkHouseModel", name := "size", desc := "()I" } : Jvm.MethodName)) ∈ lw_all := sorry
theorem q2664 : (Jvm.Cond.selects "LinkHouseModel" ({ cls := "LinkHouseModel", name := "size", desc := "()I" } : Jvm.MethodName) ({ cls := "LinkHouseModel", name := "size", desc := "()I" } : Jvm.MethodName)) ∈ lw_all := sorry
theorem q2665 : (Jvm.Cond.code ({ cls := "LinkHouseModel", name := "size", desc := "()I" } : Jvm.MethodName) prog_13_method_14_code (1 : Nat) (Option.some Jvm.ClassFile.FieldType.int)) ∈ lw_all := sorry
theorem q2667 : (Jvm.Cond.instanceMethod ({ cls := "LinkHouseModel", name := "octet", desc := "(I)I" } : Jvm.MethodName)) ∈ lw_all := sorry
theorem q2668 : (Jvm.Cond.selects "LinkHouseModel" ({ cls := "LinkHouseModel", name := "octet", desc := "(I)I" } : Jvm.MethodName) ({ cls := "LinkHouseModel", name := "octet", desc := "(I)I" } : Jvm.MethodName)) ∈ lw_all := sorry
theorem q2669 : (Jvm.Cond.code ({ cls := "LinkHouseModel", name := "octet", desc := "(I)I" } : Jvm.MethodName) prog_13_method_15_code (2 : Nat) (Option.some Jvm.ClassFile.FieldType.int)) ∈ lw_all := sorry
theorem q2671 : (Jvm.Cond.instanceMethod ({ cls := "LinkHouseModel", name := "make", desc := "(I)I" } : Jvm.MethodName)) ∈ lw_all := sorry
theorem q2672 : (Jvm.Cond.selects "LinkHouseModel" ({ cls := "LinkHouseModel", name := "make", desc := "(I)I" } : Jvm.MethodName) ({ cls := "LinkHouseModel", name := "make", desc := "(I)I" } : Jvm.MethodName)) ∈ lw_all := sorry
theorem q2673 : (Jvm.Cond.code ({ cls := "LinkHouseModel", name := "make", desc := "(I)I" } : Jvm.MethodName) prog_13_method_161_code (3 : Nat) (Option.some Jvm.ClassFile.FieldType.int)) ∈ lw_all := sorry
theorem q2674 : (Jvm.Cond.methodLink "LinkHouseModel" (944 : Nat) ({ cls := "LinkHouseModel", name := "isLib", desc := "(I)Z" } : Jvm.MethodName)) ∈ lw_all := sorry
theorem q2675 : (Jvm.Cond.privateMethod ({ cls := "LinkHouseModel", name := "isLib", desc := "(I)Z" } : Jvm.MethodName)) ∈ lw_tbl := sorry
theorem q2676 : (Jvm.Cond.instanceMethod ({ cls := "LinkHouseModel", name := "isLib", desc := "(I)Z" } : Jvm.MethodName)) ∈ lw_all := sorry
theorem q2677 : (Jvm.Cond.code ({ cls := "LinkHouseModel", name := "isLib", desc := "(I)Z" } : Jvm.MethodName) prog_13_method_163_code (2 : Nat) (Option.some Jvm.ClassFile.FieldType.boolean)) ∈ lw_all := sorry
theorem q2678 : (Jvm.Cond.methodLink "LinkHouseModel" (953 : Nat) ({ cls := "LinkHouseModel", name := "tokenize", desc := "()V" } : Jvm.MethodName)) ∈ lw_all := sorry
theorem q2679 : (Jvm.Cond.privateMethod ({ cls := "LinkHouseModel", name := "tokenize", desc := "()V" } : Jvm.MethodName)) ∈ lw_tbl := sorry
theorem q2680 : (Jvm.Cond.instanceMethod ({ cls := "LinkHouseModel", name := "tokenize", desc := "()V" } : Jvm.MethodName)) ∈ lw_all := sorry
theorem q2681 : (Jvm.Cond.code ({ cls := "LinkHouseModel", name := "tokenize", desc := "()V" } : Jvm.MethodName) prog_13_method_22_code (6 : Nat) (Option.none : Option Jvm.ClassFile.FieldType)) ∈ lw_all := sorry
theorem q2682 : (Jvm.Cond.methodLink "LinkHouseModel" (91 : Nat) ({ cls := "LinkHouseModel", name := "byteAt", desc := "(I)I" } : Jvm.MethodName)) ∈ lw_all := sorry
theorem q2683 : (Jvm.Cond.privateMethod ({ cls := "LinkHouseModel", name := "byteAt", desc := "(I)I" } : Jvm.MethodName)) ∈ lw_tbl := sorry
theorem q2684 : (Jvm.Cond.instanceMethod ({ cls := "LinkHouseModel", name := "byteAt", desc := "(I)I" } : Jvm.MethodName)) ∈ lw_all := sorry
theorem q2685 : (Jvm.Cond.code ({ cls := "LinkHouseModel", name := "byteAt", desc := "(I)I" } : Jvm.MethodName) prog_13_method_19_code (2 : Nat) (Option.some Jvm.ClassFile.FieldType.int)) ∈ lw_all := sorry
theorem q2686 : (Jvm.Cond.methodLink "LinkHouseModel" (106 : Nat) ({ cls := "LinkHouseModel", name := "tokenAt", desc := "(II)I" } : Jvm.MethodName)) ∈ lw_all := sorry
theorem q2687 : (Jvm.Cond.privateMethod ({ cls := "LinkHouseModel", name := "tokenAt", desc := "(II)I" } : Jvm.MethodName)) ∈ lw_tbl := sorry
theorem q2688 : (Jvm.Cond.instanceMethod ({ cls := "LinkHouseModel", name := "tokenAt", desc := "(II)I" } : Jvm.MethodName)) ∈ lw_all := sorry
theorem q2689 : (Jvm.Cond.code ({ cls := "LinkHouseModel", name := "tokenAt", desc := "(II)I" } : Jvm.MethodName) prog_13_method_24_code (8 : Nat) (Option.some Jvm.ClassFile.FieldType.int)) ∈ lw_all := sorry
theorem q2690 : (Jvm.Cond.methodLink "LinkHouseModel" (116 : Nat) ({ cls := "LinkHouseModel", name := "isSmall", desc := "(I)Z" } : Jvm.MethodName)) ∈ lw_all := sorry
theorem q2691 : (Jvm.Cond.static ({ cls := "LinkHouseModel", name := "isSmall", desc := "(I)Z" } : Jvm.MethodName)) ∈ lw_all := sorry
theorem q2692 : (Jvm.Cond.code ({ cls := "LinkHouseModel", name := "isSmall", desc := "(I)Z" } : Jvm.MethodName) prog_13_method_20_code (1 : Nat) (Option.some Jvm.ClassFile.FieldType.boolean)) ∈ lw_all := sorry
theorem q2693 : (Jvm.Cond.methodLink "LinkHouseModel" (120 : Nat) ({ cls := "LinkHouseModel", name := "isGreat", desc := "(I)Z" } : Jvm.MethodName)) ∈ lw_all := sorry
theorem q2694 : (Jvm.Cond.static ({ cls := "LinkHouseModel", name := "isGreat", desc := "(I)Z" } : Jvm.MethodName)) ∈ lw_all := sorry
theorem q2695 : (Jvm.Cond.code ({ cls := "LinkHouseModel", name := "isGreat", desc := "(I)Z" } : Jvm.MethodName) prog_13_method_21_code (1 : Nat) (Option.some Jvm.ClassFile.FieldType.boolean)) ∈ lw_all := sorry
theorem q2696 : (Jvm.Cond.methodLink "LinkHouseModel" (123 : Nat) ({ cls := "LinkHouseModel", name := "wordEnd", desc := "(I)I" } : Jvm.MethodName)) ∈ lw_all := sorry
theorem q2697 : (Jvm.Cond.privateMethod ({ cls := "LinkHouseModel", name := "wordEnd", desc := "(I)I" } : Jvm.MethodName)) ∈ lw_tbl := sorry
theorem q2698 : (Jvm.Cond.instanceMethod ({ cls := "LinkHouseModel", name := "wordEnd", desc := "(I)I" } : Jvm.MethodName)) ∈ lw_all := sorry
theorem q2699 : (Jvm.Cond.code ({ cls := "LinkHouseModel", name := "wordEnd", desc := "(I)I" } : Jvm.MethodName) prog_13_method_23_code (3 : Nat) (Option.some Jvm.ClassFile.FieldType.int)) ∈ lw_all := sorry
theorem q2700 : (Jvm.Cond.methodLink "LinkHouseModel" (78 : Nat) ({ cls := "LinkHouseModel", name := "sym", desc := "(I)I" } : Jvm.MethodName)) ∈ lw_all := sorry
theorem q2701 : (Jvm.Cond.static ({ cls := "LinkHouseModel", name := "sym", desc := "(I)I" } : Jvm.MethodName)) ∈ lw_all := sorry
theorem q2702 : (Jvm.Cond.code ({ cls := "LinkHouseModel", name := "sym", desc := "(I)I" } : Jvm.MethodName) prog_13_method_1_code (1 : Nat) (Option.some Jvm.ClassFile.FieldType.int)) ∈ lw_all := sorry
theorem q2703 : (Jvm.Cond.constantLong "LinkHouseModel" (5 : Nat) (2305843009213693952 : Int64)) ∈ lw_all := sorry
theorem q2704 : (Jvm.Cond.methodLink "LinkHouseModel" (126 : Nat) ({ cls := "LinkHouseModel", name := "isWord", desc := "(J)Z" } : Jvm.MethodName)) ∈ lw_all := sorry
theorem q2705 : (Jvm.Cond.privateMethod ({ cls := "LinkHouseModel", name := "isWord", desc := "(J)Z" } : Jvm.MethodName)) ∈ lw_tbl := sorry
theorem q2706 : (Jvm.Cond.instanceMethod ({ cls := "LinkHouseModel", name := "isWord", desc := "(J)Z" } : Jvm.MethodName)) ∈ lw_all := sorry
theorem q2707 : (Jvm.Cond.code ({ cls := "LinkHouseModel", name := "isWord", desc := "(J)Z" } : Jvm.MethodName) prog_13_method_18_code (4 : Nat) (Option.some Jvm.ClassFile.FieldType.boolean)) ∈ lw_all := sorry
theorem q2708 : (Jvm.Cond.methodLink "LinkHouseModel" (956 : Nat) ({ cls := "LinkHouseModel", name := "parse", desc := "()V" } : Jvm.MethodName)) ∈ lw_all := sorry
theorem q2709 : (Jvm.Cond.privateMethod ({ cls := "LinkHouseModel", name := "parse", desc := "()V" } : Jvm.MethodName)) ∈ lw_tbl := sorry
theorem q2710 : (Jvm.Cond.instanceMethod ({ cls := "LinkHouseModel", name := "parse", desc := "()V" } : Jvm.MethodName)) ∈ lw_all := sorry
theorem q2711 : (Jvm.Cond.code ({ cls := "LinkHouseModel", name := "parse", desc := "()V" } : Jvm.MethodName) prog_13_method_39_code (1 : Nat) (Option.none : Option Jvm.ClassFile.FieldType)) ∈ lw_all := sorry
theorem q2712 : (Jvm.Cond.methodLink "LinkHouseModel" (138 : Nat) ({ cls := "LinkHouseModel", name := "kindAt", desc := "(I)I" } : Jvm.MethodName)) ∈ lw_all := sorry
theorem q2713 : (Jvm.Cond.privateMethod ({ cls := "LinkHouseModel", name := "kindAt", desc := "(I)I" } : Jvm.MethodName)) ∈ lw_tbl := sorry
theorem q2714 : (Jvm.Cond.instanceMethod ({ cls := "LinkHouseModel", name := "kindAt", desc := "(I)I" } : Jvm.MethodName)) ∈ lw_all := sorry
theorem q2715 : (Jvm.Cond.code ({ cls := "LinkHouseModel", name := "kindAt", desc := "(I)I" } : Jvm.MethodName) prog_13_method_26_code (2 : Nat) (Option.some Jvm.ClassFile.FieldType.int)) ∈ lw_all := sorry
theorem q2716 : (Jvm.Cond.methodLink "LinkHouseModel" (233 : Nat) ({ cls := "LinkHouseModel", name := "klass", desc := "()V" } : Jvm.MethodName)) ∈ lw_all := sorry
theorem q2717 : (Jvm.Cond.privateMethod ({ cls := "LinkHouseModel", name := "klass", desc := "()V" } : Jvm.MethodName)) ∈ lw_tbl := sorry
theorem q2718 : (Jvm.Cond.instanceMethod ({ cls := "LinkHouseModel", name := "klass", desc := "()V" } : Jvm.MethodName)) ∈ lw_all := sorry
theorem q2719 : (Jvm.Cond.code ({ cls := "LinkHouseModel", name := "klass", desc := "()V" } : Jvm.MethodName) prog_13_method_40_code (5 : Nat) (Option.none : Option Jvm.ClassFile.FieldType)) ∈ lw_all := sorry
theorem q2720 : (Jvm.Cond.stringRef "LinkHouseModel" (236 : Nat) "open") ∈ lw_tbl := sorry
theorem q2721 : (Jvm.Cond.methodLink "LinkHouseModel" (238 : Nat) ({ cls := "LinkHouseModel", name := "takesWord", desc := "(Ljava/lang/String;)Z" } : Jvm.MethodName)) ∈ lw_all := sorry
theorem q2722 : (Jvm.Cond.privateMethod ({ cls := "LinkHouseModel", name := "takesWord", desc := "(Ljava/lang/String;)Z" } : Jvm.MethodName)) ∈ lw_tbl := sorry
theorem q2723 : (Jvm.Cond.instanceMethod ({ cls := "LinkHouseModel", name := "takesWord", desc := "(Ljava/lang/String;)Z" } : Jvm.MethodName)) ∈ lw_all := sorry
theorem q2724 : (Jvm.Cond.code ({ cls := "LinkHouseModel", name := "takesWord", desc := "(Ljava/lang/String;)Z" } : Jvm.MethodName) prog_13_method_36_code (3 : Nat) (Option.some Jvm.ClassFile.FieldType.boolean)) ∈ lw_all := sorry
theorem q2725 : (Jvm.Cond.methodLink "LinkHouseModel" (166 : Nat) ({ cls := "LinkHouseModel", name := "isWordAt", desc := "(Ljava/lang/String;)Z" } : Jvm.MethodName)) ∈ lw_all := sorry
theorem q2726 : (Jvm.Cond.privateMethod ({ cls := "LinkHouseModel", name := "isWordAt", desc := "(Ljava/lang/String;)Z" } : Jvm.MethodName)) ∈ lw_tbl := sorry
theorem q2727 : (Jvm.Cond.instanceMethod ({ cls := "LinkHouseModel", name := "isWordAt", desc := "(Ljava/lang/String;)Z" } : Jvm.MethodName)) ∈ lw_all := sorry
theorem q2728 : (Jvm.Cond.code ({ cls := "LinkHouseModel", name := "isWordAt", desc := "(Ljava/lang/String;)Z" } : Jvm.MethodName) prog_13_method_31_code (2 : Nat) (Option.some Jvm.ClassFile.FieldType.boolean)) ∈ lw_all := sorry
theorem q2729 : (Jvm.Cond.methodLink "LinkHouseModel" (141 : Nat) ({ cls := "LinkHouseModel", name := "nameAt", desc := "(I)J" } : Jvm.MethodName)) ∈ lw_all := sorry
theorem q2730 : (Jvm.Cond.privateMethod ({ cls := "LinkHouseModel", name := "nameAt", desc := "(I)J" } : Jvm.MethodName)) ∈ lw_tbl := sorry
theorem q2731 : (Jvm.Cond.instanceMethod ({ cls := "LinkHouseModel", name := "nameAt", desc := "(I)J" } : Jvm.MethodName)) ∈ lw_all := sorry
theorem q2732 : (Jvm.Cond.code ({ cls := "LinkHouseModel", name := "nameAt", desc := "(I)J" } : Jvm.MethodName) prog_13_method_28_code (2 : Nat) (Option.some Jvm.ClassFile.FieldType.long)) ∈ lw_all := sorry
theorem q2733 : (Jvm.Cond.methodLink "LinkHouseModel" (145 : Nat) ({ cls := "LinkHouseModel", name := "nameOf", desc := "(Ljava/lang/String;)J" } : Jvm.MethodName)) ∈ lw_all := sorry
theorem q2734 : (Jvm.Cond.static ({ cls := "LinkHouseModel", name := "nameOf", desc := "(Ljava/lang/String;)J" } : Jvm.MethodName)) ∈ lw_all := sorry
theorem q2735 : (Jvm.Cond.code ({ cls := "LinkHouseModel", name := "nameOf", desc := "(Ljava/lang/String;)J" } : Jvm.MethodName) prog_13_method_17_code (4 : Nat) (Option.some Jvm.ClassFile.FieldType.long)) ∈ lw_all := sorry
theorem q2736 : (Jvm.Cond.methodLink "LinkHouseModel" (19 : Nat) ({ cls := "java/lang/String", name := "length", desc := "()I" } : Jvm.MethodName)) ∈ lw_all := sorry
theorem q2737 : (Jvm.Cond.methodLink "LinkHouseModel" (25 : Nat) ({ cls := "java/lang/String", name := "charAt", desc := "(I)C" } : Jvm.MethodName)) ∈ lw_all := sorry
theorem q2738 : (Jvm.Cond.methodLink "LinkHouseModel" (159 : Nat) ({ cls := "LinkHouseModel", name := "step", desc := "()V" } : Jvm.MethodName)) ∈ lw_all := sorry
theorem q2739 : (Jvm.Cond.privateMethod ({ cls := "LinkHouseModel", name := "step", desc := "()V" } : Jvm.MethodName)) ∈ lw_tbl := sorry
theorem q2740 : (Jvm.Cond.instanceMethod ({ cls := "LinkHouseModel", name := "step", desc := "()V" } : Jvm.MethodName)) ∈ lw_all := sorry
theorem q2741 : (Jvm.Cond.code ({ cls := "LinkHouseModel", name := "step", desc := "()V" } : Jvm.MethodName) prog_13_method_33_code (1 : Nat) (Option.none : Option Jvm.ClassFile.FieldType)) ∈ lw_all := sorry
theorem q2742 : (Jvm.Cond.methodLink "LinkHouseModel" (149 : Nat) ({ cls := "LinkHouseModel", name := "placeAt", desc := "(I)I" } : Jvm.MethodName)) ∈ lw_all := sorry
theorem q2743 : (Jvm.Cond.privateMethod ({ cls := "LinkHouseModel", name := "placeAt", desc := "(I)I" } : Jvm.MethodName)) ∈ lw_tbl := sorry
theorem q2744 : (Jvm.Cond.instanceMethod ({ cls := "LinkHouseModel", name := "placeAt", desc := "(I)I" } : Jvm.MethodName)) ∈ lw_all := sorry
theorem q2745 : (Jvm.Cond.code ({ cls := "LinkHouseModel", name := "placeAt", desc := "(I)I" } : Jvm.MethodName) prog_13_method_27_code (2 : Nat) (Option.some Jvm.ClassFile.FieldType.int)) ∈ lw_all := sorry
theorem q2746 : (Jvm.Cond.methodLink "LinkHouseModel" (152 : Nat) ({ cls := "LinkHouseModel", name := "fault", desc := "(II)V" } : Jvm.MethodName)) ∈ lw_all := sorry
theorem q2747 : (Jvm.Cond.privateMethod ({ cls := "LinkHouseModel", name := "fault", desc := "(II)V" } : Jvm.MethodName)) ∈ lw_tbl := sorry
theorem q2748 : (Jvm.Cond.instanceMethod ({ cls := "LinkHouseModel", name := "fault", desc := "(II)V" } : Jvm.MethodName)) ∈ lw_all := sorry
theorem q2749 : (Jvm.Cond.code ({ cls := "LinkHouseModel", name := "fault", desc := "(II)V" } : Jvm.MethodName) prog_13_method_25_code (3 : Nat) (Option.none : Option Jvm.ClassFile.FieldType)) ∈ lw_all := sorry
theorem q2750 : (Jvm.Cond.stringRef "LinkHouseModel" (241 : Nat) "final") ∈ lw_tbl := sorry
theorem q2751 : (Jvm.Cond.stringRef "LinkHouseModel" (243 : Nat) "bare") ∈ lw_tbl := sorry
theorem q2752 : (Jvm.Cond.stringRef "LinkHouseModel" (245 : Nat) "face") ∈ lw_tbl := sorry
theorem q2753 : (Jvm.Cond.stringRef "LinkHouseModel" (247 : Nat) "class") ∈ lw_tbl := sorry
theorem q2754 : (Jvm.Cond.methodLink "LinkHouseModel" (249 : Nat) ({ cls := "LinkHouseModel", name := "wantWord", desc := "(Ljava/lang/String;)V" } : Jvm.MethodName)) ∈ lw_all := sorry
theorem q2755 : (Jvm.Cond.privateMethod ({ cls := "LinkHouseModel", name := "wantWord", desc := "(Ljava/lang/String;)V" } : Jvm.MethodName)) ∈ lw_tbl := sorry
theorem q2756 : (Jvm.Cond.instanceMethod ({ cls := "LinkHouseModel", name := "wantWord", desc := "(Ljava/lang/String;)V" } : Jvm.MethodName)) ∈ lw_all := sorry
theorem q2757 : (Jvm.Cond.code ({ cls := "LinkHouseModel", name := "wantWord", desc := "(Ljava/lang/String;)V" } : Jvm.MethodName) prog_13_method_35_code (2 : Nat) (Option.none : Option Jvm.ClassFile.FieldType)) ∈ lw_all := sorry
theorem q2758 : (Jvm.Cond.methodLink "LinkHouseModel" (163 : Nat) ({ cls := "LinkHouseModel", name := "wrong", desc := "()V" } : Jvm.MethodName)) ∈ lw_all := sorry
theorem q2759 : (Jvm.Cond.privateMethod ({ cls := "LinkHouseModel", name := "wrong", desc := "()V" } : Jvm.MethodName)) ∈ lw_tbl := sorry
theorem q2760 : (Jvm.Cond.instanceMethod ({ cls := "LinkHouseModel", name := "wrong", desc := "()V" } : Jvm.MethodName)) ∈ lw_all := sorry
theorem q2761 : (Jvm.Cond.code ({ cls := "LinkHouseModel", name := "wrong", desc := "()V" } : Jvm.MethodName) prog_13_method_32_code (1 : Nat) (Option.none : Option Jvm.ClassFile.FieldType)) ∈ lw_all := sorry
theorem q2762 : (Jvm.Cond.methodLink "LinkHouseModel" (252 : Nat) ({ cls := "LinkHouseModel", name := "want", desc := "(IZ)I" } : Jvm.MethodName)) ∈ lw_all := sorry
theorem q2763 : (Jvm.Cond.privateMethod ({ cls := "LinkHouseModel", name := "want", desc := "(IZ)I" } : Jvm.MethodName)) ∈ lw_tbl := sorry
theorem q2764 : (Jvm.Cond.instanceMethod ({ cls := "LinkHouseModel", name := "want", desc := "(IZ)I" } : Jvm.MethodName)) ∈ lw_all := sorry
theorem q2765 : (Jvm.Cond.code ({ cls := "LinkHouseModel", name := "want", desc := "(IZ)I" } : Jvm.MethodName) prog_13_method_37_code (4 : Nat) (Option.some Jvm.ClassFile.FieldType.int)) ∈ lw_all := sorry
theorem q2766 : (Jvm.Cond.stringRef "LinkHouseModel" (278 : Nat) "is") ∈ lw_tbl := sorry
theorem q2767 : (Jvm.Cond.stringRef "LinkHouseModel" (286 : Nat) "as") ∈ lw_tbl := sorry
theorem q2768 : (Jvm.Cond.methodLink "LinkHouseModel" (294 : Nat) ({ cls := "LinkHouseModel", name := "list", desc := "([J[III)I" } : Jvm.MethodName)) ∈ lw_all := sorry
theorem q2769 : (Jvm.Cond.privateMethod ({ cls := "LinkHouseModel", name := "list", desc := "([J[III)I" } : Jvm.MethodName)) ∈ lw_tbl := sorry
theorem q2770 : (Jvm.Cond.instanceMethod ({ cls := "LinkHouseModel", name := "list", desc := "([J[III)I" } : Jvm.MethodName)) ∈ lw_all := sorry
theorem q2771 : (Jvm.Cond.code ({ cls := "LinkHouseModel", name := "list", desc := "([J[III)I" } : Jvm.MethodName) prog_13_method_41_code (8 : Nat) (Option.some Jvm.ClassFile.FieldType.int)) ∈ lw_all := sorry
theorem q2772 : (Jvm.Cond.methodLink "LinkHouseModel" (156 : Nat) ({ cls := "LinkHouseModel", name := "isSign", desc := "(I)Z" } : Jvm.MethodName)) ∈ lw_all := sorry
theorem q2773 : (Jvm.Cond.privateMethod ({ cls := "LinkHouseModel", name := "isSign", desc := "(I)Z" } : Jvm.MethodName)) ∈ lw_tbl := sorry
theorem q2774 : (Jvm.Cond.instanceMethod ({ cls := "LinkHouseModel", name := "isSign", desc := "(I)Z" } : Jvm.MethodName)) ∈ lw_all := sorry
theorem q2775 : (Jvm.Cond.code ({ cls := "LinkHouseModel", name := "isSign", desc := "(I)Z" } : Jvm.MethodName) prog_13_method_29_code (2 : Nat) (Option.some Jvm.ClassFile.FieldType.boolean)) ∈ lw_all := sorry
theorem q2776 : (Jvm.Cond.stringRef "LinkHouseModel" (298 : Nat) "in") ∈ lw_tbl := sorry
theorem q2777 : (Jvm.Cond.stringRef "LinkHouseModel" (306 : Nat) "with") ∈ lw_tbl := sorry
theorem q2778 : (Jvm.Cond.stringRef "LinkHouseModel" (317 : Nat) "only") ∈ lw_tbl := sorry
theorem q2779 : (Jvm.Cond.methodLink "LinkHouseModel" (325 : Nat) ({ cls := "LinkHouseModel", name := "wantSign", desc := "(I)V" } : Jvm.MethodName)) ∈ lw_all := sorry
theorem q2780 : (Jvm.Cond.privateMethod ({ cls := "LinkHouseModel", name := "wantSign", desc := "(I)V" } : Jvm.MethodName)) ∈ lw_tbl := sorry
theorem q2781 : (Jvm.Cond.instanceMethod ({ cls := "LinkHouseModel", name := "wantSign", desc := "(I)V" } : Jvm.MethodName)) ∈ lw_all := sorry
theorem q2782 : (Jvm.Cond.code ({ cls := "LinkHouseModel", name := "wantSign", desc := "(I)V" } : Jvm.MethodName) prog_13_method_34_code (2 : Nat) (Option.none : Option Jvm.ClassFile.FieldType)) ∈ lw_all := sorry
theorem q2783 : (Jvm.Cond.methodLink "LinkHouseModel" (328 : Nat) ({ cls := "LinkHouseModel", name := "member", desc := "(I)V" } : Jvm.MethodName)) ∈ lw_all := sorry
theorem q2784 : (Jvm.Cond.privateMethod ({ cls := "LinkHouseModel", name := "member", desc := "(I)V" } : Jvm.MethodName)) ∈ lw_tbl := sorry
theorem q2785 : (Jvm.Cond.instanceMethod ({ cls := "LinkHouseModel", name := "member", desc := "(I)V" } : Jvm.MethodName)) ∈ lw_all := sorry
theorem q2786 : (Jvm.Cond.code ({ cls := "LinkHouseModel", name := "member", desc := "(I)V" } : Jvm.MethodName) prog_13_method_44_code (3 : Nat) (Option.none : Option Jvm.ClassFile.FieldType)) ∈ lw_all := sorry
theorem q2787 : (Jvm.Cond.methodLink "LinkHouseModel" (392 : Nat) ({ cls := "LinkHouseModel", name := "beginsMember", desc := "()Z" } : Jvm.MethodName)) ∈ lw_all := sorry
theorem q2788 : (Jvm.Cond.privateMethod ({ cls := "LinkHouseModel", name := "beginsMember", desc := "()Z" } : Jvm.MethodName)) ∈ lw_tbl := sorry
theorem q2789 : (Jvm.Cond.instanceMethod ({ cls := "LinkHouseModel", name := "beginsMember", desc := "()Z" } : Jvm.MethodName)) ∈ lw_all := sorry
theorem q2790 : (Jvm.Cond.code ({ cls := "LinkHouseModel", name := "beginsMember", desc := "()Z" } : Jvm.MethodName) prog_13_method_42_code (1 : Nat) (Option.some Jvm.ClassFile.FieldType.boolean)) ∈ lw_all := sorry
theorem q2791 : (Jvm.Cond.stringRef "LinkHouseModel" (331 : Nat) "kin") ∈ lw_tbl := sorry
theorem q2792 : (Jvm.Cond.stringRef "LinkHouseModel" (333 : Nat) "own") ∈ lw_tbl := sorry
theorem q2793 : (Jvm.Cond.stringRef "LinkHouseModel" (335 : Nat) "static") ∈ lw_tbl := sorry
theorem q2794 : (Jvm.Cond.stringRef "LinkHouseModel" (45 : Nat) "int") ∈ lw_tbl := sorry
theorem q2795 : (Jvm.Cond.stringRef "LinkHouseModel" (51 : Nat) "void") ∈ lw_tbl := sorry
theorem q2796 : (Jvm.Cond.stringRef "LinkHouseModel" (337 : Nat) "new") ∈ lw_tbl := sorry
theorem q2797 : (Jvm.Cond.stringRef "LinkHouseModel" (339 : Nat) "start") ∈ lw_tbl := sorry
theorem q2798 : (Jvm.Cond.methodLink "LinkHouseModel" (396 : Nat) ({ cls := "LinkHouseModel", name := "newMember", desc := "(I)V" } : Jvm.MethodName)) ∈ lw_all := sorry
theorem q2799 : (Jvm.Cond.privateMethod ({ cls := "LinkHouseModel", name := "newMember", desc := "(I)V" } : Jvm.MethodName)) ∈ lw_tbl := sorry
theorem q2800 : (Jvm.Cond.instanceMethod ({ cls := "LinkHouseModel", name := "newMember", desc := "(I)V" } : Jvm.MethodName)) ∈ lw_all := sorry
theorem q2801 : (Jvm.Cond.code ({ cls := "LinkHouseModel", name := "newMember", desc := "(I)V" } : Jvm.MethodName) prog_13_method_43_code (2 : Nat) (Option.none : Option Jvm.ClassFile.FieldType)) ∈ lw_all := sorry
theorem q2802 : (Jvm.Cond.methodLink "LinkHouseModel" (408 : Nat) ({ cls := "LinkHouseModel", name := "params", desc := "(I)V" } : Jvm.MethodName)) ∈ lw_all := sorry
theorem q2803 : (Jvm.Cond.privateMethod ({ cls := "LinkHouseModel", name := "params", desc := "(I)V" } : Jvm.MethodName)) ∈ lw_tbl := sorry
theorem q2804 : (Jvm.Cond.instanceMethod ({ cls := "LinkHouseModel", name := "params", desc := "(I)V" } : Jvm.MethodName)) ∈ lw_all := sorry
theorem q2805 : (Jvm.Cond.code ({ cls := "LinkHouseModel", name := "params", desc := "(I)V" } : Jvm.MethodName) prog_13_method_49_code (6 : Nat) (Option.none : Option Jvm.ClassFile.FieldType)) ∈ lw_all := sorry
theorem q2806 : (Jvm.Cond.methodLink "LinkHouseModel" (423 : Nat) ({ cls := "LinkHouseModel", name := "typeToken", desc := "()J" } : Jvm.MethodName)) ∈ lw_all := sorry
theorem q2807 : (Jvm.Cond.privateMethod ({ cls := "LinkHouseModel", name := "typeToken", desc := "()J" } : Jvm.MethodName)) ∈ lw_tbl := sorry
theorem q2808 : (Jvm.Cond.instanceMethod ({ cls := "LinkHouseModel", name := "typeToken", desc := "()J" } : Jvm.MethodName)) ∈ lw_all := sorry
theorem q2809 : (Jvm.Cond.code ({ cls := "LinkHouseModel", name := "typeToken", desc := "()J" } : Jvm.MethodName) prog_13_method_48_code (2 : Nat) (Option.some Jvm.ClassFile.FieldType.long)) ∈ lw_all := sorry
theorem q2810 : (Jvm.Cond.constantLong "LinkHouseModel" (43 : Nat) (2 : Int64)) ∈ lw_all := sorry
theorem q2811 : (Jvm.Cond.methodLink "LinkHouseModel" (411 : Nat) ({ cls := "LinkHouseModel", name := "body", desc := "(I)V" } : Jvm.MethodName)) ∈ lw_all := sorry
theorem q2812 : (Jvm.Cond.privateMethod ({ cls := "LinkHouseModel", name := "body", desc := "(I)V" } : Jvm.MethodName)) ∈ lw_tbl := sorry
theorem q2813 : (Jvm.Cond.instanceMethod ({ cls := "LinkHouseModel", name := "body", desc := "(I)V" } : Jvm.MethodName)) ∈ lw_all := sorry
theorem q2814 : (Jvm.Cond.code ({ cls := "LinkHouseModel", name := "body", desc := "(I)V" } : Jvm.MethodName) prog_13_method_46_code (2 : Nat) (Option.none : Option Jvm.ClassFile.FieldType)) ∈ lw_all := sorry
theorem q2815 : (Jvm.Cond.methodLink "LinkHouseModel" (430 : Nat) ({ cls := "LinkHouseModel", name := "statement", desc := "()I" } : Jvm.MethodName)) ∈ lw_all := sorry
theorem q2816 : (Jvm.Cond.privateMethod ({ cls := "LinkHouseModel", name := "statement", desc := "()I" } : Jvm.MethodName)) ∈ lw_tbl := sorry
theorem q2817 : (Jvm.Cond.instanceMethod ({ cls := "LinkHouseModel", name := "statement", desc := "()I" } : Jvm.MethodName)) ∈ lw_all := sorry
theorem q2818 : (Jvm.Cond.code ({ cls := "LinkHouseModel", name := "statement", desc := "()I" } : Jvm.MethodName) prog_13_method_52_code (2 : Nat) (Option.some Jvm.ClassFile.FieldType.int)) ∈ lw_all := sorry
theorem q2819 : (Jvm.Cond.methodLink "LinkHouseModel" (474 : Nat) ({ cls := "LinkHouseModel", name := "beginsS", desc := "()Z" } : Jvm.MethodName)) ∈ lw_all := sorry
theorem q2820 : (Jvm.Cond.privateMethod ({ cls := "LinkHouseModel", name := "beginsS", desc := "()Z" } : Jvm.MethodName)) ∈ lw_tbl := sorry
theorem q2821 : (Jvm.Cond.instanceMethod ({ cls := "LinkHouseModel", name := "beginsS", desc := "()Z" } : Jvm.MethodName)) ∈ lw_all := sorry
theorem q2822 : (Jvm.Cond.code ({ cls := "LinkHouseModel", name := "beginsS", desc := "()Z" } : Jvm.MethodName) prog_13_method_51_code (1 : Nat) (Option.some Jvm.ClassFile.FieldType.boolean)) ∈ lw_all := sorry
theorem q2823 : (Jvm.Cond.methodLink "LinkHouseModel" (457 : Nat) ({ cls := "LinkHouseModel", name := "beginsE", desc := "()Z" } : Jvm.MethodName)) ∈ lw_all := sorry
theorem q2824 : (Jvm.Cond.privateMethod ({ cls := "LinkHouseModel", name := "beginsE", desc := "()Z" } : Jvm.MethodName)) ∈ lw_tbl := sorry
theorem q2825 : (Jvm.Cond.instanceMethod ({ cls := "LinkHouseModel", name := "beginsE", desc := "()Z" } : Jvm.MethodName)) ∈ lw_all := sorry
theorem q2826 : (Jvm.Cond.code ({ cls := "LinkHouseModel", name := "beginsE", desc := "()Z" } : Jvm.MethodName) prog_13_method_50_code (1 : Nat) (Option.some Jvm.ClassFile.FieldType.boolean)) ∈ lw_all := sorry
theorem q2827 : (Jvm.Cond.stringRef "LinkHouseModel" (451 : Nat) "null") ∈ lw_tbl := sorry
theorem q2828 : (Jvm.Cond.stringRef "LinkHouseModel" (453 : Nat) "this") ∈ lw_tbl := sorry
theorem q2829 : (Jvm.Cond.stringRef "LinkHouseModel" (455 : Nat) "super") ∈ lw_tbl := sorry
theorem q2830 : (Jvm.Cond.stringRef "LinkHouseModel" (460 : Nat) "let") ∈ lw_tbl := sorry
theorem q2831 : (Jvm.Cond.stringRef "LinkHouseModel" (462 : Nat) "if") ∈ lw_tbl := sorry
theorem q2832 : (Jvm.Cond.stringRef "LinkHouseModel" (464 : Nat) "while") ∈ lw_tbl := sorry
theorem q2833 : (Jvm.Cond.stringRef "LinkHouseModel" (466 : Nat) "return") ∈ lw_tbl := sorry
theorem q2834 : (Jvm.Cond.stringRef "LinkHouseModel" (468 : Nat) "throw") ∈ lw_tbl := sorry
theorem q2835 : (Jvm.Cond.stringRef "LinkHouseModel" (470 : Nat) "try") ∈ lw_tbl := sorry
theorem q2836 : (Jvm.Cond.stringRef "LinkHouseModel" (472 : Nat) "out") ∈ lw_tbl := sorry
theorem q2837 : (Jvm.Cond.methodLink "LinkHouseModel" (477 : Nat) ({ cls := "LinkHouseModel", name := "statementWithin", desc := "()I" } : Jvm.MethodName)) ∈ lw_all := sorry
theorem q2838 : (Jvm.Cond.privateMethod ({ cls := "LinkHouseModel", name := "statementWithin", desc := "()I" } : Jvm.MethodName)) ∈ lw_tbl := sorry
theorem q2839 : (Jvm.Cond.instanceMethod ({ cls := "LinkHouseModel", name := "statementWithin", desc := "()I" } : Jvm.MethodName)) ∈ lw_all := sorry
theorem q2840 : (Jvm.Cond.code ({ cls := "LinkHouseModel", name := "statementWithin", desc := "()I" } : Jvm.MethodName) prog_13_method_53_code (4 : Nat) (Option.some Jvm.ClassFile.FieldType.int)) ∈ lw_all := sorry
theorem q2841 : (Jvm.Cond.methodLink "LinkHouseModel" (480 : Nat) ({ cls := "LinkHouseModel", name := "block", desc := "(I)I" } : Jvm.MethodName)) ∈ lw_all := sorry
theorem q2842 : (Jvm.Cond.privateMethod ({ cls := "LinkHouseModel", name := "block", desc := "(I)I" } : Jvm.MethodName)) ∈ lw_tbl := sorry
theorem q2843 : (Jvm.Cond.instanceMethod ({ cls := "LinkHouseModel", name := "block", desc := "(I)I" } : Jvm.MethodName)) ∈ lw_all := sorry
theorem q2844 : (Jvm.Cond.code ({ cls := "LinkHouseModel", name := "block", desc := "(I)I" } : Jvm.MethodName) prog_13_method_54_code (5 : Nat) (Option.some Jvm.ClassFile.FieldType.int)) ∈ lw_all := sorry
theorem q2845 : (Jvm.Cond.methodLink "LinkHouseModel" (483 : Nat) ({ cls := "LinkHouseModel", name := "node", desc := "(II)I" } : Jvm.MethodName)) ∈ lw_all := sorry
theorem q2846 : (Jvm.Cond.privateMethod ({ cls := "LinkHouseModel", name := "node", desc := "(II)I" } : Jvm.MethodName)) ∈ lw_tbl := sorry
theorem q2847 : (Jvm.Cond.instanceMethod ({ cls := "LinkHouseModel", name := "node", desc := "(II)I" } : Jvm.MethodName)) ∈ lw_all := sorry
theorem q2848 : (Jvm.Cond.code ({ cls := "LinkHouseModel", name := "node", desc := "(II)I" } : Jvm.MethodName) prog_13_method_38_code (4 : Nat) (Option.some Jvm.ClassFile.FieldType.int)) ∈ lw_all := sorry
theorem q2849 : (Jvm.Cond.methodLink "LinkHouseModel" (427 : Nat) ({ cls := "LinkHouseModel", name := "expression", desc := "()I" } : Jvm.MethodName)) ∈ lw_all := sorry
theorem q2850 : (Jvm.Cond.privateMethod ({ cls := "LinkHouseModel", name := "expression", desc := "()I" } : Jvm.MethodName)) ∈ lw_tbl := sorry
theorem q2851 : (Jvm.Cond.instanceMethod ({ cls := "LinkHouseModel", name := "expression", desc := "()I" } : Jvm.MethodName)) ∈ lw_all := sorry
theorem q2852 : (Jvm.Cond.code ({ cls := "LinkHouseModel", name := "expression", desc := "()I" } : Jvm.MethodName) prog_13_method_57_code (3 : Nat) (Option.some Jvm.ClassFile.FieldType.int)) ∈ lw_all := sorry
theorem q2853 : (Jvm.Cond.methodLink "LinkHouseModel" (502 : Nat) ({ cls := "LinkHouseModel", name := "sum", desc := "()I" } : Jvm.MethodName)) ∈ lw_all := sorry
theorem q2854 : (Jvm.Cond.privateMethod ({ cls := "LinkHouseModel", name := "sum", desc := "()I" } : Jvm.MethodName)) ∈ lw_tbl := sorry
theorem q2855 : (Jvm.Cond.instanceMethod ({ cls := "LinkHouseModel", name := "sum", desc := "()I" } : Jvm.MethodName)) ∈ lw_all := sorry
theorem q2856 : (Jvm.Cond.code ({ cls := "LinkHouseModel", name := "sum", desc := "()I" } : Jvm.MethodName) prog_13_method_58_code (3 : Nat) (Option.some Jvm.ClassFile.FieldType.int)) ∈ lw_all := sorry
theorem q2857 : (Jvm.Cond.methodLink "LinkHouseModel" (505 : Nat) ({ cls := "LinkHouseModel", name := "product", desc := "()I" } : Jvm.MethodName)) ∈ lw_all := sorry
theorem q2858 : (Jvm.Cond.privateMethod ({ cls := "LinkHouseModel", name := "product", desc := "()I" } : Jvm.MethodName)) ∈ lw_tbl := sorry
theorem q2859 : (Jvm.Cond.instanceMethod ({ cls := "LinkHouseModel", name := "product", desc := "()I" } : Jvm.MethodName)) ∈ lw_all := sorry
theorem q2860 : (Jvm.Cond.code ({ cls := "LinkHouseModel", name := "product", desc := "()I" } : Jvm.MethodName) prog_13_method_59_code (3 : Nat) (Option.some Jvm.ClassFile.FieldType.int)) ∈ lw_all := sorry
theorem q2861 : (Jvm.Cond.methodLink "LinkHouseModel" (508 : Nat) ({ cls := "LinkHouseModel", name := "unit", desc := "()I" } : Jvm.MethodName)) ∈ lw_all := sorry
theorem q2862 : (Jvm.Cond.privateMethod ({ cls := "LinkHouseModel", name := "unit", desc := "()I" } : Jvm.MethodName)) ∈ lw_tbl := sorry
theorem q2863 : (Jvm.Cond.instanceMethod ({ cls := "LinkHouseModel", name := "unit", desc := "()I" } : Jvm.MethodName)) ∈ lw_all := sorry
theorem q2864 : (Jvm.Cond.code ({ cls := "LinkHouseModel", name := "unit", desc := "()I" } : Jvm.MethodName) prog_13_method_60_code (6 : Nat) (Option.some Jvm.ClassFile.FieldType.int)) ∈ lw_all := sorry
theorem q2865 : (Jvm.Cond.methodLink "LinkHouseModel" (511 : Nat) ({ cls := "LinkHouseModel", name := "first", desc := "()I" } : Jvm.MethodName)) ∈ lw_all := sorry
theorem q2866 : (Jvm.Cond.privateMethod ({ cls := "LinkHouseModel", name := "first", desc := "()I" } : Jvm.MethodName)) ∈ lw_tbl := sorry
theorem q2867 : (Jvm.Cond.instanceMethod ({ cls := "LinkHouseModel", name := "first", desc := "()I" } : Jvm.MethodName)) ∈ lw_all := sorry
theorem q2868 : (Jvm.Cond.code ({ cls := "LinkHouseModel", name := "first", desc := "()I" } : Jvm.MethodName) prog_13_method_62_code (7 : Nat) (Option.some Jvm.ClassFile.FieldType.int)) ∈ lw_all := sorry
theorem q2869 : (Jvm.Cond.methodLink "LinkHouseModel" (494 : Nat) ({ cls := "LinkHouseModel", name := "arguments", desc := "()I" } : Jvm.MethodName)) ∈ lw_all := sorry
theorem q2870 : (Jvm.Cond.privateMethod ({ cls := "LinkHouseModel", name := "arguments", desc := "()I" } : Jvm.MethodName)) ∈ lw_tbl := sorry
theorem q2871 : (Jvm.Cond.instanceMethod ({ cls := "LinkHouseModel", name := "arguments", desc := "()I" } : Jvm.MethodName)) ∈ lw_all := sorry
theorem q2872 : (Jvm.Cond.code ({ cls := "LinkHouseModel", name := "arguments", desc := "()I" } : Jvm.MethodName) prog_13_method_61_code (5 : Nat) (Option.some Jvm.ClassFile.FieldType.int)) ∈ lw_all := sorry
theorem q2873 : (Jvm.Cond.methodLink "LinkHouseModel" (516 : Nat) ({ cls := "LinkHouseModel", name := "ofClass", desc := "(I)I" } : Jvm.MethodName)) ∈ lw_all := sorry
theorem q2874 : (Jvm.Cond.privateMethod ({ cls := "LinkHouseModel", name := "ofClass", desc := "(I)I" } : Jvm.MethodName)) ∈ lw_tbl := sorry
theorem q2875 : (Jvm.Cond.instanceMethod ({ cls := "LinkHouseModel", name := "ofClass", desc := "(I)I" } : Jvm.MethodName)) ∈ lw_all := sorry
theorem q2876 : (Jvm.Cond.code ({ cls := "LinkHouseModel", name := "ofClass", desc := "(I)I" } : Jvm.MethodName) prog_13_method_63_code (7 : Nat) (Option.some Jvm.ClassFile.FieldType.int)) ∈ lw_all := sorry
theorem q2877 : (Jvm.Cond.methodLink "LinkHouseModel" (519 : Nat) ({ cls := "LinkHouseModel", name := "inBrackets", desc := "(I)I" } : Jvm.MethodName)) ∈ lw_all := sorry
theorem q2878 : (Jvm.Cond.privateMethod ({ cls := "LinkHouseModel", name := "inBrackets", desc := "(I)I" } : Jvm.MethodName)) ∈ lw_tbl := sorry
theorem q2879 : (Jvm.Cond.instanceMethod ({ cls := "LinkHouseModel", name := "inBrackets", desc := "(I)I" } : Jvm.MethodName)) ∈ lw_all := sorry
theorem q2880 : (Jvm.Cond.code ({ cls := "LinkHouseModel", name := "inBrackets", desc := "(I)I" } : Jvm.MethodName) prog_13_method_64_code (4 : Nat) (Option.some Jvm.ClassFile.FieldType.int)) ∈ lw_all := sorry
theorem q2881 : (Jvm.Cond.stringRef "LinkHouseModel" (514 : Nat) "ask") ∈ lw_tbl := sorry
theorem q2882 : (Jvm.Cond.stringRef "LinkHouseModel" (486 : Nat) "else") ∈ lw_tbl := sorry
theorem q2883 : (Jvm.Cond.methodLink "LinkHouseModel" (488 : Nat) ({ cls := "LinkHouseModel", name := "tryOf", desc := "(I)I" } : Jvm.MethodName)) ∈ lw_all := sorry
theorem q2884 : (Jvm.Cond.privateMethod ({ cls := "LinkHouseModel", name := "tryOf", desc := "(I)I" } : Jvm.MethodName)) ∈ lw_tbl := sorry
theorem q2885 : (Jvm.Cond.instanceMethod ({ cls := "LinkHouseModel", name := "tryOf", desc := "(I)I" } : Jvm.MethodName)) ∈ lw_all := sorry
theorem q2886 : (Jvm.Cond.code ({ cls := "LinkHouseModel", name := "tryOf", desc := "(I)I" } : Jvm.MethodName) prog_13_method_55_code (4 : Nat) (Option.some Jvm.ClassFile.FieldType.int)) ∈ lw_all := sorry
theorem q2887 : (Jvm.Cond.methodLink "LinkHouseModel" (497 : Nat) ({ cls := "LinkHouseModel", name := "blockOnly", desc := "()I" } : Jvm.MethodName)) ∈ lw_all := sorry
theorem q2888 : (Jvm.Cond.privateMethod ({ cls := "LinkHouseModel", name := "blockOnly", desc := "()I" } : Jvm.MethodName)) ∈ lw_tbl := sorry
theorem q2889 : (Jvm.Cond.instanceMethod ({ cls := "LinkHouseModel", name := "blockOnly", desc := "()I" } : Jvm.MethodName)) ∈ lw_all := sorry
theorem q2890 : (Jvm.Cond.code ({ cls := "LinkHouseModel", name := "blockOnly", desc := "()I" } : Jvm.MethodName) prog_13_method_56_code (1 : Nat) (Option.some Jvm.ClassFile.FieldType.int)) ∈ lw_all := sorry
theorem q2891 : (Jvm.Cond.stringRef "LinkHouseModel" (500 : Nat) "catch") ∈ lw_tbl := sorry
theorem q2892 : (Jvm.Cond.methodLink "LinkHouseModel" (491 : Nat) ({ cls := "LinkHouseModel", name := "isSignNext", desc := "(I)Z" } : Jvm.MethodName)) ∈ lw_all := sorry
theorem q2893 : (Jvm.Cond.privateMethod ({ cls := "LinkHouseModel", name := "isSignNext", desc := "(I)Z" } : Jvm.MethodName)) ∈ lw_tbl := sorry
theorem q2894 : (Jvm.Cond.instanceMethod ({ cls := "LinkHouseModel", name := "isSignNext", desc := "(I)Z" } : Jvm.MethodName)) ∈ lw_all := sorry
theorem q2895 : (Jvm.Cond.code ({ cls := "LinkHouseModel", name := "isSignNext", desc := "(I)Z" } : Jvm.MethodName) prog_13_method_30_code (2 : Nat) (Option.some Jvm.ClassFile.FieldType.boolean)) ∈ lw_all := sorry
theorem q2896 : (Jvm.Cond.methodLink "LinkHouseModel" (414 : Nat) ({ cls := "LinkHouseModel", name := "fieldOrMethod", desc := "(I)V" } : Jvm.MethodName)) ∈ lw_all := sorry
theorem q2897 : (Jvm.Cond.privateMethod ({ cls := "LinkHouseModel", name := "fieldOrMethod", desc := "(I)V" } : Jvm.MethodName)) ∈ lw_tbl := sorry
theorem q2898 : (Jvm.Cond.instanceMethod ({ cls := "LinkHouseModel", name := "fieldOrMethod", desc := "(I)V" } : Jvm.MethodName)) ∈ lw_all := sorry
theorem q2899 : (Jvm.Cond.code ({ cls := "LinkHouseModel", name := "fieldOrMethod", desc := "(I)V" } : Jvm.MethodName) prog_13_method_45_code (4 : Nat) (Option.none : Option Jvm.ClassFile.FieldType)) ∈ lw_all := sorry
theorem q2900 : (Jvm.Cond.methodLink "LinkHouseModel" (417 : Nat) ({ cls := "LinkHouseModel", name := "effects", desc := "(II)V" } : Jvm.MethodName)) ∈ lw_all := sorry
theorem q2901 : (Jvm.Cond.privateMethod ({ cls := "LinkHouseModel", name := "effects", desc := "(II)V" } : Jvm.MethodName)) ∈ lw_tbl := sorry
theorem q2902 : (Jvm.Cond.instanceMethod ({ cls := "LinkHouseModel", name := "effects", desc := "(II)V" } : Jvm.MethodName)) ∈ lw_all := sorry
theorem q2903 : (Jvm.Cond.code ({ cls := "LinkHouseModel", name := "effects", desc := "(II)V" } : Jvm.MethodName) prog_13_method_47_code (4 : Nat) (Option.none : Option Jvm.ClassFile.FieldType)) ∈ lw_all := sorry
theorem q2904 : (Jvm.Cond.methodLink "LinkHouseModel" (959 : Nat) ({ cls := "LinkHouseModel", name := "judgeAll", desc := "()V" } : Jvm.MethodName)) ∈ lw_all := sorry
theorem q2905 : (Jvm.Cond.privateMethod ({ cls := "LinkHouseModel", name := "judgeAll", desc := "()V" } : Jvm.MethodName)) ∈ lw_tbl := sorry
theorem q2906 : (Jvm.Cond.instanceMethod ({ cls := "LinkHouseModel", name := "judgeAll", desc := "()V" } : Jvm.MethodName)) ∈ lw_all := sorry
theorem q2907 : (Jvm.Cond.code ({ cls := "LinkHouseModel", name := "judgeAll", desc := "()V" } : Jvm.MethodName) prog_13_method_162_code (1 : Nat) (Option.none : Option Jvm.ClassFile.FieldType)) ∈ lw_all := sorry
theorem q2908 : (Jvm.Cond.methodLink "LinkHouseModel" (968 : Nat) ({ cls := "LinkHouseModel", name := "heads", desc := "()V" } : Jvm.MethodName)) ∈ lw_all := sorry
theorem q2909 : (Jvm.Cond.privateMethod ({ cls := "LinkHouseModel", name := "heads", desc := "()V" } : Jvm.MethodName)) ∈ lw_tbl := sorry
theorem q2910 : (Jvm.Cond.instanceMethod ({ cls := "LinkHouseModel", name := "heads", desc := "()V" } : Jvm.MethodName)) ∈ lw_all := sorry
theorem q2911 : (Jvm.Cond.code ({ cls := "LinkHouseModel", name := "heads", desc := "()V" } : Jvm.MethodName) prog_13_method_93_code (3 : Nat) (Option.none : Option Jvm.ClassFile.FieldType)) ∈ lw_all := sorry
theorem q2912 : (Jvm.Cond.methodLink "LinkHouseModel" (649 : Nat) ({ cls := "LinkHouseModel", name := "head", desc := "(I)V" } : Jvm.MethodName)) ∈ lw_all := sorry
theorem q2913 : (Jvm.Cond.privateMethod ({ cls := "LinkHouseModel", name := "head", desc := "(I)V" } : Jvm.MethodName)) ∈ lw_tbl := sorry
theorem q2914 : (Jvm.Cond.instanceMethod ({ cls := "LinkHouseModel", name := "head", desc := "(I)V" } : Jvm.MethodName)) ∈ lw_all := sorry
theorem q2915 : (Jvm.Cond.code ({ cls := "LinkHouseModel", name := "head", desc := "(I)V" } : Jvm.MethodName) prog_13_method_95_code (4 : Nat) (Option.none : Option Jvm.ClassFile.FieldType)) ∈ lw_all := sorry
theorem q2916 : (Jvm.Cond.methodLink "LinkHouseModel" (531 : Nat) ({ cls := "LinkHouseModel", name := "inSlot", desc := "(IJ)I" } : Jvm.MethodName)) ∈ lw_all := sorry
theorem q2917 : (Jvm.Cond.privateMethod ({ cls := "LinkHouseModel", name := "inSlot", desc := "(IJ)I" } : Jvm.MethodName)) ∈ lw_tbl := sorry
theorem q2918 : (Jvm.Cond.instanceMethod ({ cls := "LinkHouseModel", name := "inSlot", desc := "(IJ)I" } : Jvm.MethodName)) ∈ lw_all := sorry
theorem q2919 : (Jvm.Cond.code ({ cls := "LinkHouseModel", name := "inSlot", desc := "(IJ)I" } : Jvm.MethodName) prog_13_method_66_code (5 : Nat) (Option.some Jvm.ClassFile.FieldType.int)) ∈ lw_all := sorry
theorem q2920 : (Jvm.Cond.methodLink "LinkHouseModel" (545 : Nat) ({ cls := "LinkHouseModel", name := "pack", desc := "(J)I" } : Jvm.MethodName)) ∈ lw_all := sorry
theorem q2921 : (Jvm.Cond.static ({ cls := "LinkHouseModel", name := "pack", desc := "(J)I" } : Jvm.MethodName)) ∈ lw_all := sorry
theorem q2922 : (Jvm.Cond.code ({ cls := "LinkHouseModel", name := "pack", desc := "(J)I" } : Jvm.MethodName) prog_13_method_70_code (2 : Nat) (Option.some Jvm.ClassFile.FieldType.int)) ∈ lw_all := sorry
theorem q2923 : (Jvm.Cond.methodLink "LinkHouseModel" (541 : Nat) ({ cls := "LinkHouseModel", name := "packageOf", desc := "(J)I" } : Jvm.MethodName)) ∈ lw_all := sorry
theorem q2924 : (Jvm.Cond.static ({ cls := "LinkHouseModel", name := "packageOf", desc := "(J)I" } : Jvm.MethodName)) ∈ lw_all := sorry
theorem q2925 : (Jvm.Cond.code ({ cls := "LinkHouseModel", name := "packageOf", desc := "(J)I" } : Jvm.MethodName) prog_13_method_4_code (5 : Nat) (Option.some Jvm.ClassFile.FieldType.int)) ∈ lw_all := sorry
theorem q2926 : (Jvm.Cond.constantLong "LinkHouseModel" (7 : Nat) (-2305843009213693953 : Int64)) ∈ lw_all := sorry
theorem q2927 : (Jvm.Cond.constantLong "LinkHouseModel" (9 : Nat) (63 : Int64)) ∈ lw_all := sorry
theorem q2928 : (Jvm.Cond.methodLink "LinkHouseModel" (551 : Nat) ({ cls := "LinkHouseModel", name := "find", desc := "(J)I" } : Jvm.MethodName)) ∈ lw_all := sorry
theorem q2929 : (Jvm.Cond.privateMethod ({ cls := "LinkHouseModel", name := "find", desc := "(J)I" } : Jvm.MethodName)) ∈ lw_tbl := sorry
theorem q2930 : (Jvm.Cond.instanceMethod ({ cls := "LinkHouseModel", name := "find", desc := "(J)I" } : Jvm.MethodName)) ∈ lw_all := sorry
theorem q2931 : (Jvm.Cond.code ({ cls := "LinkHouseModel", name := "find", desc := "(J)I" } : Jvm.MethodName) prog_13_method_67_code (6 : Nat) (Option.some Jvm.ClassFile.FieldType.int)) ∈ lw_all := sorry
theorem q2932 : (Jvm.Cond.constantLong "LinkHouseModel" (522 : Nat) (2305843009220621209 : Int64)) ∈ lw_all := sorry
theorem q2933 : (Jvm.Cond.constantLong "LinkHouseModel" (524 : Nat) (2305843009220653836 : Int64)) ∈ lw_all := sorry
theorem q2934 : (Jvm.Cond.methodLink "LinkHouseModel" (548 : Nat) ({ cls := "LinkHouseModel", name := "isFace", desc := "(I)Z" } : Jvm.MethodName)) ∈ lw_all := sorry
theorem q2935 : (Jvm.Cond.privateMethod ({ cls := "LinkHouseModel", name := "isFace", desc := "(I)Z" } : Jvm.MethodName)) ∈ lw_tbl := sorry
theorem q2936 : (Jvm.Cond.instanceMethod ({ cls := "LinkHouseModel", name := "isFace", desc := "(I)Z" } : Jvm.MethodName)) ∈ lw_all := sorry
theorem q2937 : (Jvm.Cond.code ({ cls := "LinkHouseModel", name := "isFace", desc := "(I)Z" } : Jvm.MethodName) prog_13_method_68_code (2 : Nat) (Option.some Jvm.ClassFile.FieldType.boolean)) ∈ lw_all := sorry
theorem q2938 : (Jvm.Cond.methodLink "LinkHouseModel" (655 : Nat) ({ cls := "LinkHouseModel", name := "letsBelow", desc := "(II)Z" } : Jvm.MethodName)) ∈ lw_all := sorry
theorem q2939 : (Jvm.Cond.privateMethod ({ cls := "LinkHouseModel", name := "letsBelow", desc := "(II)Z" } : Jvm.MethodName)) ∈ lw_tbl := sorry
theorem q2940 : (Jvm.Cond.instanceMethod ({ cls := "LinkHouseModel", name := "letsBelow", desc := "(II)Z" } : Jvm.MethodName)) ∈ lw_all := sorry
theorem q2941 : (Jvm.Cond.code ({ cls := "LinkHouseModel", name := "letsBelow", desc := "(II)Z" } : Jvm.MethodName) prog_13_method_94_code (3 : Nat) (Option.some Jvm.ClassFile.FieldType.boolean)) ∈ lw_all := sorry
theorem q2942 : (Jvm.Cond.methodLink "LinkHouseModel" (652 : Nat) ({ cls := "LinkHouseModel", name := "isLet", desc := "(II)Z" } : Jvm.MethodName)) ∈ lw_all := sorry
theorem q2943 : (Jvm.Cond.privateMethod ({ cls := "LinkHouseModel", name := "isLet", desc := "(II)Z" } : Jvm.MethodName)) ∈ lw_tbl := sorry
theorem q2944 : (Jvm.Cond.instanceMethod ({ cls := "LinkHouseModel", name := "isLet", desc := "(II)Z" } : Jvm.MethodName)) ∈ lw_all := sorry
theorem q2945 : (Jvm.Cond.code ({ cls := "LinkHouseModel", name := "isLet", desc := "(II)Z" } : Jvm.MethodName) prog_13_method_79_code (3 : Nat) (Option.some Jvm.ClassFile.FieldType.boolean)) ∈ lw_all := sorry
theorem q2946 : (Jvm.Cond.methodLink "LinkHouseModel" (585 : Nat) ({ cls := "LinkHouseModel", name := "onePackage", desc := "(II)Z" } : Jvm.MethodName)) ∈ lw_all := sorry
theorem q2947 : (Jvm.Cond.privateMethod ({ cls := "LinkHouseModel", name := "onePackage", desc := "(II)Z" } : Jvm.MethodName)) ∈ lw_tbl := sorry
theorem q2948 : (Jvm.Cond.instanceMethod ({ cls := "LinkHouseModel", name := "onePackage", desc := "(II)Z" } : Jvm.MethodName)) ∈ lw_all := sorry
theorem q2949 : (Jvm.Cond.code ({ cls := "LinkHouseModel", name := "onePackage", desc := "(II)Z" } : Jvm.MethodName) prog_13_method_71_code (3 : Nat) (Option.some Jvm.ClassFile.FieldType.boolean)) ∈ lw_all := sorry
theorem q2950 : (Jvm.Cond.methodLink "LinkHouseModel" (595 : Nat) ({ cls := "LinkHouseModel", name := "stands", desc := "([JIIJ)Z" } : Jvm.MethodName)) ∈ lw_all := sorry
theorem q2951 : (Jvm.Cond.static ({ cls := "LinkHouseModel", name := "stands", desc := "([JIIJ)Z" } : Jvm.MethodName)) ∈ lw_all := sorry
theorem q2952 : (Jvm.Cond.code ({ cls := "LinkHouseModel", name := "stands", desc := "([JIIJ)Z" } : Jvm.MethodName) prog_13_method_80_code (7 : Nat) (Option.some Jvm.ClassFile.FieldType.boolean)) ∈ lw_all := sorry
theorem q2953 : (Jvm.Cond.methodLink "LinkHouseModel" (581 : Nat) ({ cls := "LinkHouseModel", name := "isHeir", desc := "(II)Z" } : Jvm.MethodName)) ∈ lw_all := sorry
theorem q2954 : (Jvm.Cond.privateMethod ({ cls := "LinkHouseModel", name := "isHeir", desc := "(II)Z" } : Jvm.MethodName)) ∈ lw_tbl := sorry
theorem q2955 : (Jvm.Cond.instanceMethod ({ cls := "LinkHouseModel", name := "isHeir", desc := "(II)Z" } : Jvm.MethodName)) ∈ lw_all := sorry
theorem q2956 : (Jvm.Cond.code ({ cls := "LinkHouseModel", name := "isHeir", desc := "(II)Z" } : Jvm.MethodName) prog_13_method_77_code (9 : Nat) (Option.some Jvm.ClassFile.FieldType.boolean)) ∈ lw_all := sorry
theorem q2957 : (Jvm.Cond.methodLink "LinkHouseModel" (573 : Nat) ({ cls := "LinkHouseModel", name := "newStamp", desc := "()V" } : Jvm.MethodName)) ∈ lw_all := sorry
theorem q2958 : (Jvm.Cond.privateMethod ({ cls := "LinkHouseModel", name := "newStamp", desc := "()V" } : Jvm.MethodName)) ∈ lw_tbl := sorry
theorem q2959 : (Jvm.Cond.instanceMethod ({ cls := "LinkHouseModel", name := "newStamp", desc := "()V" } : Jvm.MethodName)) ∈ lw_all := sorry
theorem q2960 : (Jvm.Cond.code ({ cls := "LinkHouseModel", name := "newStamp", desc := "()V" } : Jvm.MethodName) prog_13_method_75_code (2 : Nat) (Option.none : Option Jvm.ClassFile.FieldType)) ∈ lw_all := sorry
theorem q2961 : (Jvm.Cond.constant "LinkHouseModel" (566 : Nat) (2147483647 : Int32)) ∈ lw_all := sorry
theorem q2962 : (Jvm.Cond.methodLink "LinkHouseModel" (558 : Nat) ({ cls := "LinkHouseModel", name := "parent", desc := "(I)I" } : Jvm.MethodName)) ∈ lw_all := sorry
theorem q2963 : (Jvm.Cond.privateMethod ({ cls := "LinkHouseModel", name := "parent", desc := "(I)I" } : Jvm.MethodName)) ∈ lw_tbl := sorry
theorem q2964 : (Jvm.Cond.instanceMethod ({ cls := "LinkHouseModel", name := "parent", desc := "(I)I" } : Jvm.MethodName)) ∈ lw_all := sorry
theorem q2965 : (Jvm.Cond.code ({ cls := "LinkHouseModel", name := "parent", desc := "(I)I" } : Jvm.MethodName) prog_13_method_72_code (2 : Nat) (Option.some Jvm.ClassFile.FieldType.int)) ∈ lw_all := sorry
theorem q2966 : (Jvm.Cond.methodLink "LinkHouseModel" (971 : Nat) ({ cls := "LinkHouseModel", name := "membersOf", desc := "()V" } : Jvm.MethodName)) ∈ lw_all := sorry
theorem q2967 : (Jvm.Cond.privateMethod ({ cls := "LinkHouseModel", name := "membersOf", desc := "()V" } : Jvm.MethodName)) ∈ lw_tbl := sorry
theorem q2968 : (Jvm.Cond.instanceMethod ({ cls := "LinkHouseModel", name := "membersOf", desc := "()V" } : Jvm.MethodName)) ∈ lw_all := sorry
theorem q2969 : (Jvm.Cond.code ({ cls := "LinkHouseModel", name := "membersOf", desc := "()V" } : Jvm.MethodName) prog_13_method_96_code (8 : Nat) (Option.none : Option Jvm.ClassFile.FieldType)) ∈ lw_all := sorry
theorem q2970 : (Jvm.Cond.methodLink "LinkHouseModel" (658 : Nat) ({ cls := "LinkHouseModel", name := "isWrongInFace", desc := "(I)Z" } : Jvm.MethodName)) ∈ lw_all := sorry
theorem q2971 : (Jvm.Cond.privateMethod ({ cls := "LinkHouseModel", name := "isWrongInFace", desc := "(I)Z" } : Jvm.MethodName)) ∈ lw_tbl := sorry
theorem q2972 : (Jvm.Cond.instanceMethod ({ cls := "LinkHouseModel", name := "isWrongInFace", desc := "(I)Z" } : Jvm.MethodName)) ∈ lw_all := sorry
theorem q2973 : (Jvm.Cond.code ({ cls := "LinkHouseModel", name := "isWrongInFace", desc := "(I)Z" } : Jvm.MethodName) prog_13_method_97_code (3 : Nat) (Option.some Jvm.ClassFile.FieldType.boolean)) ∈ lw_all := sorry
theorem q2974 : (Jvm.Cond.methodLink "LinkHouseModel" (661 : Nat) ({ cls := "LinkHouseModel", name := "isWrongInClass", desc := "(II)Z" } : Jvm.MethodName)) ∈ lw_all := sorry
theorem q2975 : (Jvm.Cond.privateMethod ({ cls := "LinkHouseModel", name := "isWrongInClass", desc := "(II)Z" } : Jvm.MethodName)) ∈ lw_tbl := sorry
theorem q2976 : (Jvm.Cond.instanceMethod ({ cls := "LinkHouseModel", name := "isWrongInClass", desc := "(II)Z" } : Jvm.MethodName)) ∈ lw_all := sorry
theorem q2977 : (Jvm.Cond.code ({ cls := "LinkHouseModel", name := "isWrongInClass", desc := "(II)Z" } : Jvm.MethodName) prog_13_method_98_code (4 : Nat) (Option.some Jvm.ClassFile.FieldType.boolean)) ∈ lw_all := sorry
theorem q2978 : (Jvm.Cond.methodLink "LinkHouseModel" (664 : Nat) ({ cls := "LinkHouseModel", name := "type", desc := "(JII)V" } : Jvm.MethodName)) ∈ lw_all := sorry
theorem q2979 : (Jvm.Cond.privateMethod ({ cls := "LinkHouseModel", name := "type", desc := "(JII)V" } : Jvm.MethodName)) ∈ lw_tbl := sorry
theorem q2980 : (Jvm.Cond.instanceMethod ({ cls := "LinkHouseModel", name := "type", desc := "(JII)V" } : Jvm.MethodName)) ∈ lw_all := sorry
theorem q2981 : (Jvm.Cond.code ({ cls := "LinkHouseModel", name := "type", desc := "(JII)V" } : Jvm.MethodName) prog_13_method_99_code (6 : Nat) (Option.none : Option Jvm.ClassFile.FieldType)) ∈ lw_all := sorry
theorem q2982 : (Jvm.Cond.methodLink "LinkHouseModel" (37 : Nat) ({ cls := "LinkHouseModel", name := "isC", desc := "(J)Z" } : Jvm.MethodName)) ∈ lw_all := sorry
theorem q2983 : (Jvm.Cond.static ({ cls := "LinkHouseModel", name := "isC", desc := "(J)Z" } : Jvm.MethodName)) ∈ lw_all := sorry
theorem q2984 : (Jvm.Cond.code ({ cls := "LinkHouseModel", name := "isC", desc := "(J)Z" } : Jvm.MethodName) prog_13_method_3_code (2 : Nat) (Option.some Jvm.ClassFile.FieldType.boolean)) ∈ lw_all := sorry
theorem q2985 : (Jvm.Cond.methodLink "LinkHouseModel" (618 : Nat) ({ cls := "LinkHouseModel", name := "sameParams", desc := "(II)Z" } : Jvm.MethodName)) ∈ lw_all := sorry
theorem q2986 : (Jvm.Cond.privateMethod ({ cls := "LinkHouseModel", name := "sameParams", desc := "(II)Z" } : Jvm.MethodName)) ∈ lw_tbl := sorry
theorem q2987 : (Jvm.Cond.instanceMethod ({ cls := "LinkHouseModel", name := "sameParams", desc := "(II)Z" } : Jvm.MethodName)) ∈ lw_all := sorry
theorem q2988 : (Jvm.Cond.code ({ cls := "LinkHouseModel", name := "sameParams", desc := "(II)Z" } : Jvm.MethodName) prog_13_method_86_code (5 : Nat) (Option.some Jvm.ClassFile.FieldType.boolean)) ∈ lw_all := sorry
theorem q2989 : (Jvm.Cond.methodLink "LinkHouseModel" (974 : Nat) ({ cls := "LinkHouseModel", name := "againstAbove", desc := "()V" } : Jvm.MethodName)) ∈ lw_all := sorry
theorem q2990 : (Jvm.Cond.privateMethod ({ cls := "LinkHouseModel", name := "againstAbove", desc := "()V" } : Jvm.MethodName)) ∈ lw_tbl := sorry
theorem q2991 : (Jvm.Cond.instanceMethod ({ cls := "LinkHouseModel", name := "againstAbove", desc := "()V" } : Jvm.MethodName)) ∈ lw_all := sorry
theorem q2992 : (Jvm.Cond.code ({ cls := "LinkHouseModel", name := "againstAbove", desc := "()V" } : Jvm.MethodName) prog_13_method_102_code (6 : Nat) (Option.none : Option Jvm.ClassFile.FieldType)) ∈ lw_all := sorry
theorem q2993 : (Jvm.Cond.methodLink "LinkHouseModel" (684 : Nat) ({ cls := "LinkHouseModel", name := "findAbove", desc := "(I)V" } : Jvm.MethodName)) ∈ lw_all := sorry
theorem q2994 : (Jvm.Cond.privateMethod ({ cls := "LinkHouseModel", name := "findAbove", desc := "(I)V" } : Jvm.MethodName)) ∈ lw_tbl := sorry
theorem q2995 : (Jvm.Cond.instanceMethod ({ cls := "LinkHouseModel", name := "findAbove", desc := "(I)V" } : Jvm.MethodName)) ∈ lw_all := sorry
theorem q2996 : (Jvm.Cond.code ({ cls := "LinkHouseModel", name := "findAbove", desc := "(I)V" } : Jvm.MethodName) prog_13_method_101_code (6 : Nat) (Option.none : Option Jvm.ClassFile.FieldType)) ∈ lw_all := sorry
theorem q2997 : (Jvm.Cond.methodLink "LinkHouseModel" (599 : Nat) ({ cls := "LinkHouseModel", name := "classOfMember", desc := "(I)I" } : Jvm.MethodName)) ∈ lw_all := sorry
theorem q2998 : (Jvm.Cond.privateMethod ({ cls := "LinkHouseModel", name := "classOfMember", desc := "(I)I" } : Jvm.MethodName)) ∈ lw_tbl := sorry
theorem q2999 : (Jvm.Cond.instanceMethod ({ cls := "LinkHouseModel", name := "classOfMember", desc := "(I)I" } : Jvm.MethodName)) ∈ lw_all := sorry
theorem q3000 : (Jvm.Cond.code ({ cls := "LinkHouseModel", name := "classOfMember", desc := "(I)I" } : Jvm.MethodName) prog_13_method_69_code (2 : Nat) (Option.some Jvm.ClassFile.FieldType.int)) ∈ lw_all := sorry
theorem q3001 : (Jvm.Cond.methodLink "LinkHouseModel" (677 : Nat) ({ cls := "LinkHouseModel", name := "parents", desc := "(I[I)I" } : Jvm.MethodName)) ∈ lw_all := sorry
theorem q3002 : (Jvm.Cond.privateMethod ({ cls := "LinkHouseModel", name := "parents", desc := "(I[I)I" } : Jvm.MethodName)) ∈ lw_tbl := sorry
theorem q3003 : (Jvm.Cond.instanceMethod ({ cls := "LinkHouseModel", name := "parents", desc := "(I[I)I" } : Jvm.MethodName)) ∈ lw_all := sorry
theorem q3004 : (Jvm.Cond.code ({ cls := "LinkHouseModel", name := "parents", desc := "(I[I)I" } : Jvm.MethodName) prog_13_method_74_code (5 : Nat) (Option.some Jvm.ClassFile.FieldType.int)) ∈ lw_all := sorry
theorem q3005 : (Jvm.Cond.methodLink "LinkHouseModel" (554 : Nat) ({ cls := "LinkHouseModel", name := "stoodBefore", desc := "([III)Z" } : Jvm.MethodName)) ∈ lw_all := sorry
theorem q3006 : (Jvm.Cond.static ({ cls := "LinkHouseModel", name := "stoodBefore", desc := "([III)Z" } : Jvm.MethodName)) ∈ lw_all := sorry
theorem q3007 : (Jvm.Cond.code ({ cls := "LinkHouseModel", name := "stoodBefore", desc := "([III)Z" } : Jvm.MethodName) prog_13_method_73_code (5 : Nat) (Option.some Jvm.ClassFile.FieldType.boolean)) ∈ lw_all := sorry
theorem q3008 : (Jvm.Cond.methodLink "LinkHouseModel" (680 : Nat) ({ cls := "LinkHouseModel", name := "aboveIn", desc := "(III)V" } : Jvm.MethodName)) ∈ lw_all := sorry
theorem q3009 : (Jvm.Cond.privateMethod ({ cls := "LinkHouseModel", name := "aboveIn", desc := "(III)V" } : Jvm.MethodName)) ∈ lw_tbl := sorry
theorem q3010 : (Jvm.Cond.instanceMethod ({ cls := "LinkHouseModel", name := "aboveIn", desc := "(III)V" } : Jvm.MethodName)) ∈ lw_all := sorry
theorem q3011 : (Jvm.Cond.code ({ cls := "LinkHouseModel", name := "aboveIn", desc := "(III)V" } : Jvm.MethodName) prog_13_method_100_code (7 : Nat) (Option.none : Option Jvm.ClassFile.FieldType)) ∈ lw_all := sorry
theorem q3012 : (Jvm.Cond.methodLink "LinkHouseModel" (633 : Nat) ({ cls := "LinkHouseModel", name := "allFaces", desc := "(I[I)I" } : Jvm.MethodName)) ∈ lw_all := sorry
theorem q3013 : (Jvm.Cond.privateMethod ({ cls := "LinkHouseModel", name := "allFaces", desc := "(I[I)I" } : Jvm.MethodName)) ∈ lw_tbl := sorry
theorem q3014 : (Jvm.Cond.instanceMethod ({ cls := "LinkHouseModel", name := "allFaces", desc := "(I[I)I" } : Jvm.MethodName)) ∈ lw_all := sorry
theorem q3015 : (Jvm.Cond.code ({ cls := "LinkHouseModel", name := "allFaces", desc := "(I[I)I" } : Jvm.MethodName) prog_13_method_76_code (9 : Nat) (Option.some Jvm.ClassFile.FieldType.int)) ∈ lw_all := sorry
theorem q3016 : (Jvm.Cond.methodLink "LinkHouseModel" (687 : Nat) ({ cls := "LinkHouseModel", name := "isAgainst", desc := "(II)Z" } : Jvm.MethodName)) ∈ lw_all := sorry
theorem q3017 : (Jvm.Cond.privateMethod ({ cls := "LinkHouseModel", name := "isAgainst", desc := "(II)Z" } : Jvm.MethodName)) ∈ lw_tbl := sorry
theorem q3018 : (Jvm.Cond.instanceMethod ({ cls := "LinkHouseModel", name := "isAgainst", desc := "(II)Z" } : Jvm.MethodName)) ∈ lw_all := sorry
theorem q3019 : (Jvm.Cond.code ({ cls := "LinkHouseModel", name := "isAgainst", desc := "(II)Z" } : Jvm.MethodName) prog_13_method_103_code (3 : Nat) (Option.some Jvm.ClassFile.FieldType.boolean)) ∈ lw_all := sorry
theorem q3020 : (Jvm.Cond.methodLink "LinkHouseModel" (690 : Nat) ({ cls := "LinkHouseModel", name := "fits", desc := "(JJ)Z" } : Jvm.MethodName)) ∈ lw_all := sorry
theorem q3021 : (Jvm.Cond.privateMethod ({ cls := "LinkHouseModel", name := "fits", desc := "(JJ)Z" } : Jvm.MethodName)) ∈ lw_tbl := sorry
theorem q3022 : (Jvm.Cond.instanceMethod ({ cls := "LinkHouseModel", name := "fits", desc := "(JJ)Z" } : Jvm.MethodName)) ∈ lw_all := sorry
theorem q3023 : (Jvm.Cond.code ({ cls := "LinkHouseModel", name := "fits", desc := "(JJ)Z" } : Jvm.MethodName) prog_13_method_78_code (7 : Nat) (Option.some Jvm.ClassFile.FieldType.boolean)) ∈ lw_all := sorry
theorem q3024 : (Jvm.Cond.constantLong "LinkHouseModel" (579 : Nat) (3 : Int64)) ∈ lw_all := sorry
theorem q3025 : (Jvm.Cond.methodLink "LinkHouseModel" (977 : Nat) ({ cls := "LinkHouseModel", name := "makersAndBridges", desc := "()V" } : Jvm.MethodName)) ∈ lw_all := sorry
theorem q3026 : (Jvm.Cond.privateMethod ({ cls := "LinkHouseModel", name := "makersAndBridges", desc := "()V" } : Jvm.MethodName)) ∈ lw_tbl := sorry
theorem q3027 : (Jvm.Cond.instanceMethod ({ cls := "LinkHouseModel", name := "makersAndBridges", desc := "()V" } : Jvm.MethodName)) ∈ lw_all := sorry
theorem q3028 : (Jvm.Cond.code ({ cls := "LinkHouseModel", name := "makersAndBridges", desc := "()V" } : Jvm.MethodName) prog_13_method_104_code (5 : Nat) (Option.none : Option Jvm.ClassFile.FieldType)) ∈ lw_all := sorry
theorem q3029 : (Jvm.Cond.methodLink "LinkHouseModel" (694 : Nat) ({ cls := "LinkHouseModel", name := "bridges", desc := "(I)V" } : Jvm.MethodName)) ∈ lw_all := sorry
theorem q3030 : (Jvm.Cond.privateMethod ({ cls := "LinkHouseModel", name := "bridges", desc := "(I)V" } : Jvm.MethodName)) ∈ lw_tbl := sorry
theorem q3031 : (Jvm.Cond.instanceMethod ({ cls := "LinkHouseModel", name := "bridges", desc := "(I)V" } : Jvm.MethodName)) ∈ lw_all := sorry
theorem q3032 : (Jvm.Cond.code ({ cls := "LinkHouseModel", name := "bridges", desc := "(I)V" } : Jvm.MethodName) prog_13_method_105_code (9 : Nat) (Option.none : Option Jvm.ClassFile.FieldType)) ∈ lw_all := sorry
theorem q3033 : (Jvm.Cond.methodLink "LinkHouseModel" (624 : Nat) ({ cls := "LinkHouseModel", name := "isFree", desc := "(I)Z" } : Jvm.MethodName)) ∈ lw_all := sorry
theorem q3034 : (Jvm.Cond.privateMethod ({ cls := "LinkHouseModel", name := "isFree", desc := "(I)Z" } : Jvm.MethodName)) ∈ lw_tbl := sorry
theorem q3035 : (Jvm.Cond.instanceMethod ({ cls := "LinkHouseModel", name := "isFree", desc := "(I)Z" } : Jvm.MethodName)) ∈ lw_all := sorry
theorem q3036 : (Jvm.Cond.code ({ cls := "LinkHouseModel", name := "isFree", desc := "(I)Z" } : Jvm.MethodName) prog_13_method_89_code (2 : Nat) (Option.some Jvm.ClassFile.FieldType.boolean)) ∈ lw_all := sorry
theorem q3037 : (Jvm.Cond.methodLink "LinkHouseModel" (697 : Nat) ({ cls := "LinkHouseModel", name := "hasBridge", desc := "(III)Z" } : Jvm.MethodName)) ∈ lw_all := sorry
theorem q3038 : (Jvm.Cond.privateMethod ({ cls := "LinkHouseModel", name := "hasBridge", desc := "(III)Z" } : Jvm.MethodName)) ∈ lw_tbl := sorry
theorem q3039 : (Jvm.Cond.instanceMethod ({ cls := "LinkHouseModel", name := "hasBridge", desc := "(III)Z" } : Jvm.MethodName)) ∈ lw_all := sorry
theorem q3040 : (Jvm.Cond.code ({ cls := "LinkHouseModel", name := "hasBridge", desc := "(III)Z" } : Jvm.MethodName) prog_13_method_106_code (6 : Nat) (Option.some Jvm.ClassFile.FieldType.boolean)) ∈ lw_all := sorry
theorem q3041 : (Jvm.Cond.methodLink "LinkHouseModel" (621 : Nat) ({ cls := "LinkHouseModel", name := "sameSign", desc := "(II)Z" } : Jvm.MethodName)) ∈ lw_all := sorry
theorem q3042 : (Jvm.Cond.privateMethod ({ cls := "LinkHouseModel", name := "sameSign", desc := "(II)Z" } : Jvm.MethodName)) ∈ lw_tbl := sorry
theorem q3043 : (Jvm.Cond.instanceMethod ({ cls := "LinkHouseModel", name := "sameSign", desc := "(II)Z" } : Jvm.MethodName)) ∈ lw_all := sorry
theorem q3044 : (Jvm.Cond.code ({ cls := "LinkHouseModel", name := "sameSign", desc := "(II)Z" } : Jvm.MethodName) prog_13_method_87_code (3 : Nat) (Option.some Jvm.ClassFile.FieldType.boolean)) ∈ lw_all := sorry
theorem q3045 : (Jvm.Cond.methodLink "LinkHouseModel" (701 : Nat) ({ cls := "LinkHouseModel", name := "bridge", desc := "(IIJ)I" } : Jvm.MethodName)) ∈ lw_all := sorry
theorem q3046 : (Jvm.Cond.privateMethod ({ cls := "LinkHouseModel", name := "bridge", desc := "(IIJ)I" } : Jvm.MethodName)) ∈ lw_tbl := sorry
theorem q3047 : (Jvm.Cond.instanceMethod ({ cls := "LinkHouseModel", name := "bridge", desc := "(IIJ)I" } : Jvm.MethodName)) ∈ lw_all := sorry
theorem q3048 : (Jvm.Cond.code ({ cls := "LinkHouseModel", name := "bridge", desc := "(IIJ)I" } : Jvm.MethodName) prog_13_method_107_code (7 : Nat) (Option.some Jvm.ClassFile.FieldType.int)) ∈ lw_all := sorry
theorem q3049 : (Jvm.Cond.methodLink "LinkHouseModel" (980 : Nat) ({ cls := "LinkHouseModel", name := "lacking", desc := "()V" } : Jvm.MethodName)) ∈ lw_all := sorry
theorem q3050 : (Jvm.Cond.privateMethod ({ cls := "LinkHouseModel", name := "lacking", desc := "()V" } : Jvm.MethodName)) ∈ lw_tbl := sorry
theorem q3051 : (Jvm.Cond.instanceMethod ({ cls := "LinkHouseModel", name := "lacking", desc := "()V" } : Jvm.MethodName)) ∈ lw_all := sorry
theorem q3052 : (Jvm.Cond.code ({ cls := "LinkHouseModel", name := "lacking", desc := "()V" } : Jvm.MethodName) prog_13_method_108_code (6 : Nat) (Option.none : Option Jvm.ClassFile.FieldType)) ∈ lw_all := sorry
theorem q3053 : (Jvm.Cond.methodLink "LinkHouseModel" (708 : Nat) ({ cls := "LinkHouseModel", name := "lackingOf", desc := "(II)V" } : Jvm.MethodName)) ∈ lw_all := sorry
theorem q3054 : (Jvm.Cond.privateMethod ({ cls := "LinkHouseModel", name := "lackingOf", desc := "(II)V" } : Jvm.MethodName)) ∈ lw_tbl := sorry
theorem q3055 : (Jvm.Cond.instanceMethod ({ cls := "LinkHouseModel", name := "lackingOf", desc := "(II)V" } : Jvm.MethodName)) ∈ lw_all := sorry
theorem q3056 : (Jvm.Cond.code ({ cls := "LinkHouseModel", name := "lackingOf", desc := "(II)V" } : Jvm.MethodName) prog_13_method_109_code (5 : Nat) (Option.none : Option Jvm.ClassFile.FieldType)) ∈ lw_all := sorry
theorem q3057 : (Jvm.Cond.methodLink "LinkHouseModel" (711 : Nat) ({ cls := "LinkHouseModel", name := "selected", desc := "(II)I" } : Jvm.MethodName)) ∈ lw_all := sorry
theorem q3058 : (Jvm.Cond.privateMethod ({ cls := "LinkHouseModel", name := "selected", desc := "(II)I" } : Jvm.MethodName)) ∈ lw_tbl := sorry
theorem q3059 : (Jvm.Cond.instanceMethod ({ cls := "LinkHouseModel", name := "selected", desc := "(II)I" } : Jvm.MethodName)) ∈ lw_all := sorry
theorem q3060 : (Jvm.Cond.code ({ cls := "LinkHouseModel", name := "selected", desc := "(II)I" } : Jvm.MethodName) prog_13_method_92_code (7 : Nat) (Option.some Jvm.ClassFile.FieldType.int)) ∈ lw_all := sorry
theorem q3061 : (Jvm.Cond.methodLink "LinkHouseModel" (627 : Nat) ({ cls := "LinkHouseModel", name := "ownMethod", desc := "(II)I" } : Jvm.MethodName)) ∈ lw_all := sorry
theorem q3062 : (Jvm.Cond.privateMethod ({ cls := "LinkHouseModel", name := "ownMethod", desc := "(II)I" } : Jvm.MethodName)) ∈ lw_tbl := sorry
theorem q3063 : (Jvm.Cond.instanceMethod ({ cls := "LinkHouseModel", name := "ownMethod", desc := "(II)I" } : Jvm.MethodName)) ∈ lw_all := sorry
theorem q3064 : (Jvm.Cond.code ({ cls := "LinkHouseModel", name := "ownMethod", desc := "(II)I" } : Jvm.MethodName) prog_13_method_88_code (5 : Nat) (Option.some Jvm.ClassFile.FieldType.int)) ∈ lw_all := sorry
theorem q3065 : (Jvm.Cond.methodLink "LinkHouseModel" (643 : Nat) ({ cls := "LinkHouseModel", name := "overrides", desc := "(II)Z" } : Jvm.MethodName)) ∈ lw_all := sorry
theorem q3066 : (Jvm.Cond.privateMethod ({ cls := "LinkHouseModel", name := "overrides", desc := "(II)Z" } : Jvm.MethodName)) ∈ lw_tbl := sorry
theorem q3067 : (Jvm.Cond.instanceMethod ({ cls := "LinkHouseModel", name := "overrides", desc := "(II)Z" } : Jvm.MethodName)) ∈ lw_all := sorry
theorem q3068 : (Jvm.Cond.code ({ cls := "LinkHouseModel", name := "overrides", desc := "(II)Z" } : Jvm.MethodName) prog_13_method_90_code (9 : Nat) (Option.some Jvm.ClassFile.FieldType.boolean)) ∈ lw_all := sorry
theorem q3069 : (Jvm.Cond.methodLink "LinkHouseModel" (646 : Nat) ({ cls := "LinkHouseModel", name := "mostSpecial", desc := "(II)I" } : Jvm.MethodName)) ∈ lw_all := sorry
theorem q3070 : (Jvm.Cond.privateMethod ({ cls := "LinkHouseModel", name := "mostSpecial", desc := "(II)I" } : Jvm.MethodName)) ∈ lw_tbl := sorry
theorem q3071 : (Jvm.Cond.instanceMethod ({ cls := "LinkHouseModel", name := "mostSpecial", desc := "(II)I" } : Jvm.MethodName)) ∈ lw_all := sorry
theorem q3072 : (Jvm.Cond.code ({ cls := "LinkHouseModel", name := "mostSpecial", desc := "(II)I" } : Jvm.MethodName) prog_13_method_91_code (9 : Nat) (Option.some Jvm.ClassFile.FieldType.int)) ∈ lw_all := sorry
theorem q3073 : (Jvm.Cond.methodLink "LinkHouseModel" (983 : Nat) ({ cls := "LinkHouseModel", name := "constants", desc := "()V" } : Jvm.MethodName)) ∈ lw_all := sorry
theorem q3074 : (Jvm.Cond.privateMethod ({ cls := "LinkHouseModel", name := "constants", desc := "()V" } : Jvm.MethodName)) ∈ lw_tbl := sorry
theorem q3075 : (Jvm.Cond.instanceMethod ({ cls := "LinkHouseModel", name := "constants", desc := "()V" } : Jvm.MethodName)) ∈ lw_all := sorry
theorem q3076 : (Jvm.Cond.code ({ cls := "LinkHouseModel", name := "constants", desc := "()V" } : Jvm.MethodName) prog_13_method_112_code (7 : Nat) (Option.none : Option Jvm.ClassFile.FieldType)) ∈ lw_all := sorry
theorem q3077 : (Jvm.Cond.methodLink "LinkHouseModel" (717 : Nat) ({ cls := "LinkHouseModel", name := "folded", desc := "(II)J" } : Jvm.MethodName)) ∈ lw_all := sorry
theorem q3078 : (Jvm.Cond.privateMethod ({ cls := "LinkHouseModel", name := "folded", desc := "(II)J" } : Jvm.MethodName)) ∈ lw_tbl := sorry
theorem q3079 : (Jvm.Cond.instanceMethod ({ cls := "LinkHouseModel", name := "folded", desc := "(II)J" } : Jvm.MethodName)) ∈ lw_all := sorry
theorem q3080 : (Jvm.Cond.code ({ cls := "LinkHouseModel", name := "folded", desc := "(II)J" } : Jvm.MethodName) prog_13_method_113_code (9 : Nat) (Option.some Jvm.ClassFile.FieldType.long)) ∈ lw_all := sorry
theorem q3081 : (Jvm.Cond.methodLink "LinkHouseModel" (723 : Nat) ({ cls := "LinkHouseModel", name := "isTwo", desc := "(I)Z" } : Jvm.MethodName)) ∈ lw_all := sorry
theorem q3082 : (Jvm.Cond.static ({ cls := "LinkHouseModel", name := "isTwo", desc := "(I)Z" } : Jvm.MethodName)) ∈ lw_all := sorry
theorem q3083 : (Jvm.Cond.code ({ cls := "LinkHouseModel", name := "isTwo", desc := "(I)Z" } : Jvm.MethodName) prog_13_method_110_code (1 : Nat) (Option.some Jvm.ClassFile.FieldType.boolean)) ∈ lw_all := sorry
theorem q3084 : (Jvm.Cond.methodLink "LinkHouseModel" (729 : Nat) ({ cls := "LinkHouseModel", name := "knownConstant", desc := "(II)J" } : Jvm.MethodName)) ∈ lw_all := sorry
theorem q3085 : (Jvm.Cond.privateMethod ({ cls := "LinkHouseModel", name := "knownConstant", desc := "(II)J" } : Jvm.MethodName)) ∈ lw_tbl := sorry
theorem q3086 : (Jvm.Cond.instanceMethod ({ cls := "LinkHouseModel", name := "knownConstant", desc := "(II)J" } : Jvm.MethodName)) ∈ lw_all := sorry
theorem q3087 : (Jvm.Cond.code ({ cls := "LinkHouseModel", name := "knownConstant", desc := "(II)J" } : Jvm.MethodName) prog_13_method_114_code (5 : Nat) (Option.some Jvm.ClassFile.FieldType.long)) ∈ lw_all := sorry
theorem q3088 : (Jvm.Cond.constantLong "LinkHouseModel" (721 : Nat) (-9223372036854775808 : Int64)) ∈ lw_all := sorry
theorem q3089 : (Jvm.Cond.methodLink "LinkHouseModel" (736 : Nat) ({ cls := "LinkHouseModel", name := "theField", desc := "(IJJ)I" } : Jvm.MethodName)) ∈ lw_all := sorry
theorem q3090 : (Jvm.Cond.privateMethod ({ cls := "LinkHouseModel", name := "theField", desc := "(IJJ)I" } : Jvm.MethodName)) ∈ lw_tbl := sorry
theorem q3091 : (Jvm.Cond.instanceMethod ({ cls := "LinkHouseModel", name := "theField", desc := "(IJJ)I" } : Jvm.MethodName)) ∈ lw_all := sorry
theorem q3092 : (Jvm.Cond.code ({ cls := "LinkHouseModel", name := "theField", desc := "(IJJ)I" } : Jvm.MethodName) prog_13_method_85_code (12 : Nat) (Option.some Jvm.ClassFile.FieldType.int)) ∈ lw_all := sorry
theorem q3093 : (Jvm.Cond.methodLink "LinkHouseModel" (614 : Nat) ({ cls := "LinkHouseModel", name := "ownField", desc := "(IJJ)I" } : Jvm.MethodName)) ∈ lw_all := sorry
theorem q3094 : (Jvm.Cond.privateMethod ({ cls := "LinkHouseModel", name := "ownField", desc := "(IJJ)I" } : Jvm.MethodName)) ∈ lw_tbl := sorry
theorem q3095 : (Jvm.Cond.instanceMethod ({ cls := "LinkHouseModel", name := "ownField", desc := "(IJJ)I" } : Jvm.MethodName)) ∈ lw_all := sorry
theorem q3096 : (Jvm.Cond.code ({ cls := "LinkHouseModel", name := "ownField", desc := "(IJJ)I" } : Jvm.MethodName) prog_13_method_84_code (8 : Nat) (Option.some Jvm.ClassFile.FieldType.int)) ∈ lw_all := sorry
theorem q3097 : (Jvm.Cond.methodLink "LinkHouseModel" (739 : Nat) ({ cls := "LinkHouseModel", name := "isLetMember", desc := "(III)Z" } : Jvm.MethodName)) ∈ lw_all := sorry
theorem q3098 : (Jvm.Cond.privateMethod ({ cls := "LinkHouseModel", name := "isLetMember", desc := "(III)Z" } : Jvm.MethodName)) ∈ lw_tbl := sorry
theorem q3099 : (Jvm.Cond.instanceMethod ({ cls := "LinkHouseModel", name := "isLetMember", desc := "(III)Z" } : Jvm.MethodName)) ∈ lw_all := sorry
theorem q3100 : (Jvm.Cond.code ({ cls := "LinkHouseModel", name := "isLetMember", desc := "(III)Z" } : Jvm.MethodName) prog_13_method_82_code (6 : Nat) (Option.some Jvm.ClassFile.FieldType.boolean)) ∈ lw_all := sorry
theorem q3101 : (Jvm.Cond.methodLink "LinkHouseModel" (602 : Nat) ({ cls := "LinkHouseModel", name := "nestsAreOne", desc := "(II)Z" } : Jvm.MethodName)) ∈ lw_all := sorry
theorem q3102 : (Jvm.Cond.privateMethod ({ cls := "LinkHouseModel", name := "nestsAreOne", desc := "(II)Z" } : Jvm.MethodName)) ∈ lw_tbl := sorry
theorem q3103 : (Jvm.Cond.instanceMethod ({ cls := "LinkHouseModel", name := "nestsAreOne", desc := "(II)Z" } : Jvm.MethodName)) ∈ lw_all := sorry
theorem q3104 : (Jvm.Cond.code ({ cls := "LinkHouseModel", name := "nestsAreOne", desc := "(II)Z" } : Jvm.MethodName) prog_13_method_83_code (4 : Nat) (Option.some Jvm.ClassFile.FieldType.boolean)) ∈ lw_all := sorry
theorem q3105 : (Jvm.Cond.methodLink "LinkHouseModel" (605 : Nat) ({ cls := "LinkHouseModel", name := "nest", desc := "(I)I" } : Jvm.MethodName)) ∈ lw_all := sorry
theorem q3106 : (Jvm.Cond.privateMethod ({ cls := "LinkHouseModel", name := "nest", desc := "(I)I" } : Jvm.MethodName)) ∈ lw_tbl := sorry
theorem q3107 : (Jvm.Cond.instanceMethod ({ cls := "LinkHouseModel", name := "nest", desc := "(I)I" } : Jvm.MethodName)) ∈ lw_all := sorry
theorem q3108 : (Jvm.Cond.code ({ cls := "LinkHouseModel", name := "nest", desc := "(I)I" } : Jvm.MethodName) prog_13_method_81_code (3 : Nat) (Option.some Jvm.ClassFile.FieldType.int)) ∈ lw_all := sorry
theorem q3109 : (Jvm.Cond.methodLink "LinkHouseModel" (592 : Nat) ({ cls := "LinkHouseModel", name := "load", desc := "(I)I" } : Jvm.MethodName)) ∈ lw_all := sorry
theorem q3110 : (Jvm.Cond.privateMethod ({ cls := "LinkHouseModel", name := "load", desc := "(I)I" } : Jvm.MethodName)) ∈ lw_tbl := sorry
theorem q3111 : (Jvm.Cond.instanceMethod ({ cls := "LinkHouseModel", name := "load", desc := "(I)I" } : Jvm.MethodName)) ∈ lw_all := sorry
theorem q3112 : (Jvm.Cond.code ({ cls := "LinkHouseModel", name := "load", desc := "(I)I" } : Jvm.MethodName) prog_13_method_190_code (4 : Nat) (Option.some Jvm.ClassFile.FieldType.int)) ∈ lw_all := sorry
theorem q3113 : (Jvm.Cond.methodLink "LinkHouseModel" (1098 : Nat) ({ cls := "LinkHouseModel", name := "stateOf", desc := "(I)I" } : Jvm.MethodName)) ∈ lw_all := sorry
theorem q3114 : (Jvm.Cond.privateMethod ({ cls := "LinkHouseModel", name := "stateOf", desc := "(I)I" } : Jvm.MethodName)) ∈ lw_tbl := sorry
theorem q3115 : (Jvm.Cond.instanceMethod ({ cls := "LinkHouseModel", name := "stateOf", desc := "(I)I" } : Jvm.MethodName)) ∈ lw_all := sorry
theorem q3116 : (Jvm.Cond.code ({ cls := "LinkHouseModel", name := "stateOf", desc := "(I)I" } : Jvm.MethodName) prog_13_method_189_code (2 : Nat) (Option.some Jvm.ClassFile.FieldType.int)) ∈ lw_all := sorry
theorem q3117 : (Jvm.Cond.methodLink "LinkHouseModel" (1101 : Nat) ({ cls := "LinkHouseModel", name := "becomes", desc := "(III)V" } : Jvm.MethodName)) ∈ lw_all := sorry
theorem q3118 : (Jvm.Cond.privateMethod ({ cls := "LinkHouseModel", name := "becomes", desc := "(III)V" } : Jvm.MethodName)) ∈ lw_tbl := sorry
theorem q3119 : (Jvm.Cond.instanceMethod ({ cls := "LinkHouseModel", name := "becomes", desc := "(III)V" } : Jvm.MethodName)) ∈ lw_all := sorry
theorem q3120 : (Jvm.Cond.code ({ cls := "LinkHouseModel", name := "becomes", desc := "(III)V" } : Jvm.MethodName) prog_13_method_187_code (4 : Nat) (Option.none : Option Jvm.ClassFile.FieldType)) ∈ lw_all := sorry
theorem q3121 : (Jvm.Cond.methodLink "LinkHouseModel" (1095 : Nat) ({ cls := "LinkHouseModel", name := "event", desc := "(II)V" } : Jvm.MethodName)) ∈ lw_all := sorry
theorem q3122 : (Jvm.Cond.privateMethod ({ cls := "LinkHouseModel", name := "event", desc := "(II)V" } : Jvm.MethodName)) ∈ lw_tbl := sorry
theorem q3123 : (Jvm.Cond.instanceMethod ({ cls := "LinkHouseModel", name := "event", desc := "(II)V" } : Jvm.MethodName)) ∈ lw_all := sorry
theorem q3124 : (Jvm.Cond.code ({ cls := "LinkHouseModel", name := "event", desc := "(II)V" } : Jvm.MethodName) prog_13_method_186_code (3 : Nat) (Option.none : Option Jvm.ClassFile.FieldType)) ∈ lw_all := sorry
theorem q3125 : (Jvm.Cond.methodLink "LinkHouseModel" (1104 : Nat) ({ cls := "LinkHouseModel", name := "loadAbove", desc := "(I)I" } : Jvm.MethodName)) ∈ lw_all := sorry
theorem q3126 : (Jvm.Cond.privateMethod ({ cls := "LinkHouseModel", name := "loadAbove", desc := "(I)I" } : Jvm.MethodName)) ∈ lw_tbl := sorry
theorem q3127 : (Jvm.Cond.instanceMethod ({ cls := "LinkHouseModel", name := "loadAbove", desc := "(I)I" } : Jvm.MethodName)) ∈ lw_all := sorry
theorem q3128 : (Jvm.Cond.code ({ cls := "LinkHouseModel", name := "loadAbove", desc := "(I)I" } : Jvm.MethodName) prog_13_method_191_code (5 : Nat) (Option.some Jvm.ClassFile.FieldType.int)) ∈ lw_all := sorry
theorem q3129 : (Jvm.Cond.methodLink "LinkHouseModel" (732 : Nat) ({ cls := "LinkHouseModel", name := "act", desc := "(III)I" } : Jvm.MethodName)) ∈ lw_all := sorry
theorem q3130 : (Jvm.Cond.static ({ cls := "LinkHouseModel", name := "act", desc := "(III)I" } : Jvm.MethodName)) ∈ lw_all := sorry
theorem q3131 : (Jvm.Cond.code ({ cls := "LinkHouseModel", name := "act", desc := "(III)I" } : Jvm.MethodName) prog_13_method_111_code (3 : Nat) (Option.some Jvm.ClassFile.FieldType.int)) ∈ lw_all := sorry
theorem q3132 : (Jvm.Cond.methodLink "LinkHouseModel" (986 : Nat) ({ cls := "LinkHouseModel", name := "bodies", desc := "()V" } : Jvm.MethodName)) ∈ lw_all := sorry
theorem q3133 : (Jvm.Cond.privateMethod ({ cls := "LinkHouseModel", name := "bodies", desc := "()V" } : Jvm.MethodName)) ∈ lw_tbl := sorry
theorem q3134 : (Jvm.Cond.instanceMethod ({ cls := "LinkHouseModel", name := "bodies", desc := "()V" } : Jvm.MethodName)) ∈ lw_all := sorry
theorem q3135 : (Jvm.Cond.code ({ cls := "LinkHouseModel", name := "bodies", desc := "()V" } : Jvm.MethodName) prog_13_method_115_code (4 : Nat) (Option.none : Option Jvm.ClassFile.FieldType)) ∈ lw_all := sorry
theorem q3136 : (Jvm.Cond.methodLink "LinkHouseModel" (742 : Nat) ({ cls := "LinkHouseModel", name := "bodyOf", desc := "(II)V" } : Jvm.MethodName)) ∈ lw_all := sorry
theorem q3137 : (Jvm.Cond.privateMethod ({ cls := "LinkHouseModel", name := "bodyOf", desc := "(II)V" } : Jvm.MethodName)) ∈ lw_tbl := sorry
theorem q3138 : (Jvm.Cond.instanceMethod ({ cls := "LinkHouseModel", name := "bodyOf", desc := "(II)V" } : Jvm.MethodName)) ∈ lw_all := sorry
theorem q3139 : (Jvm.Cond.code ({ cls := "LinkHouseModel", name := "bodyOf", desc := "(II)V" } : Jvm.MethodName) prog_13_method_116_code (4 : Nat) (Option.none : Option Jvm.ClassFile.FieldType)) ∈ lw_all := sorry
theorem q3140 : (Jvm.Cond.methodLink "LinkHouseModel" (757 : Nat) ({ cls := "LinkHouseModel", name := "judge", desc := "(I)J" } : Jvm.MethodName)) ∈ lw_all := sorry
theorem q3141 : (Jvm.Cond.privateMethod ({ cls := "LinkHouseModel", name := "judge", desc := "(I)J" } : Jvm.MethodName)) ∈ lw_tbl := sorry
theorem q3142 : (Jvm.Cond.instanceMethod ({ cls := "LinkHouseModel", name := "judge", desc := "(I)J" } : Jvm.MethodName)) ∈ lw_all := sorry
theorem q3143 : (Jvm.Cond.code ({ cls := "LinkHouseModel", name := "judge", desc := "(I)J" } : Jvm.MethodName) prog_13_method_121_code (5 : Nat) (Option.some Jvm.ClassFile.FieldType.long)) ∈ lw_all := sorry
theorem q3144 : (Jvm.Cond.methodLink "LinkHouseModel" (786 : Nat) ({ cls := "LinkHouseModel", name := "leaf", desc := "(I)J" } : Jvm.MethodName)) ∈ lw_all := sorry
theorem q3145 : (Jvm.Cond.privateMethod ({ cls := "LinkHouseModel", name := "leaf", desc := "(I)J" } : Jvm.MethodName)) ∈ lw_tbl := sorry
theorem q3146 : (Jvm.Cond.instanceMethod ({ cls := "LinkHouseModel", name := "leaf", desc := "(I)J" } : Jvm.MethodName)) ∈ lw_all := sorry
theorem q3147 : (Jvm.Cond.code ({ cls := "LinkHouseModel", name := "leaf", desc := "(I)J" } : Jvm.MethodName) prog_13_method_127_code (2 : Nat) (Option.some Jvm.ClassFile.FieldType.long)) ∈ lw_all := sorry
theorem q3148 : (Jvm.Cond.methodLink "LinkHouseModel" (812 : Nat) ({ cls := "LinkHouseModel", name := "nameAlone", desc := "(I)J" } : Jvm.MethodName)) ∈ lw_all := sorry
theorem q3149 : (Jvm.Cond.privateMethod ({ cls := "LinkHouseModel", name := "nameAlone", desc := "(I)J" } : Jvm.MethodName)) ∈ lw_tbl := sorry
theorem q3150 : (Jvm.Cond.instanceMethod ({ cls := "LinkHouseModel", name := "nameAlone", desc := "(I)J" } : Jvm.MethodName)) ∈ lw_all := sorry
theorem q3151 : (Jvm.Cond.code ({ cls := "LinkHouseModel", name := "nameAlone", desc := "(I)J" } : Jvm.MethodName) prog_13_method_129_code (3 : Nat) (Option.some Jvm.ClassFile.FieldType.long)) ∈ lw_all := sorry
theorem q3152 : (Jvm.Cond.methodLink "LinkHouseModel" (809 : Nat) ({ cls := "LinkHouseModel", name := "field", desc := "(IIJZ)J" } : Jvm.MethodName)) ∈ lw_all := sorry
theorem q3153 : (Jvm.Cond.privateMethod ({ cls := "LinkHouseModel", name := "field", desc := "(IIJZ)J" } : Jvm.MethodName)) ∈ lw_tbl := sorry
theorem q3154 : (Jvm.Cond.instanceMethod ({ cls := "LinkHouseModel", name := "field", desc := "(IIJZ)J" } : Jvm.MethodName)) ∈ lw_all := sorry
theorem q3155 : (Jvm.Cond.code ({ cls := "LinkHouseModel", name := "field", desc := "(IIJZ)J" } : Jvm.MethodName) prog_13_method_125_code (8 : Nat) (Option.some Jvm.ClassFile.FieldType.long)) ∈ lw_all := sorry
theorem q3156 : (Jvm.Cond.methodLink "LinkHouseModel" (796 : Nat) ({ cls := "LinkHouseModel", name := "args", desc := "(I)V" } : Jvm.MethodName)) ∈ lw_all := sorry
theorem q3157 : (Jvm.Cond.privateMethod ({ cls := "LinkHouseModel", name := "args", desc := "(I)V" } : Jvm.MethodName)) ∈ lw_tbl := sorry
theorem q3158 : (Jvm.Cond.instanceMethod ({ cls := "LinkHouseModel", name := "args", desc := "(I)V" } : Jvm.MethodName)) ∈ lw_all := sorry
theorem q3159 : (Jvm.Cond.code ({ cls := "LinkHouseModel", name := "args", desc := "(I)V" } : Jvm.MethodName) prog_13_method_126_code (3 : Nat) (Option.none : Option Jvm.ClassFile.FieldType)) ∈ lw_all := sorry
theorem q3160 : (Jvm.Cond.methodLink "LinkHouseModel" (799 : Nat) ({ cls := "LinkHouseModel", name := "call", desc := "(IIJZ)J" } : Jvm.MethodName)) ∈ lw_all := sorry
theorem q3161 : (Jvm.Cond.privateMethod ({ cls := "LinkHouseModel", name := "call", desc := "(IIJZ)J" } : Jvm.MethodName)) ∈ lw_tbl := sorry
theorem q3162 : (Jvm.Cond.instanceMethod ({ cls := "LinkHouseModel", name := "call", desc := "(IIJZ)J" } : Jvm.MethodName)) ∈ lw_all := sorry
theorem q3163 : (Jvm.Cond.code ({ cls := "LinkHouseModel", name := "call", desc := "(IIJZ)J" } : Jvm.MethodName) prog_13_method_131_code (7 : Nat) (Option.some Jvm.ClassFile.FieldType.long)) ∈ lw_all := sorry
theorem q3164 : (Jvm.Cond.methodLink "LinkHouseModel" (828 : Nat) ({ cls := "LinkHouseModel", name := "meant", desc := "(IJI)I" } : Jvm.MethodName)) ∈ lw_all := sorry
theorem q3165 : (Jvm.Cond.privateMethod ({ cls := "LinkHouseModel", name := "meant", desc := "(IJI)I" } : Jvm.MethodName)) ∈ lw_tbl := sorry
theorem q3166 : (Jvm.Cond.instanceMethod ({ cls := "LinkHouseModel", name := "meant", desc := "(IJI)I" } : Jvm.MethodName)) ∈ lw_all := sorry
theorem q3167 : (Jvm.Cond.code ({ cls := "LinkHouseModel", name := "meant", desc := "(IJI)I" } : Jvm.MethodName) prog_13_method_136_code (8 : Nat) (Option.some Jvm.ClassFile.FieldType.int)) ∈ lw_all := sorry
theorem q3168 : (Jvm.Cond.methodLink "LinkHouseModel" (847 : Nat) ({ cls := "LinkHouseModel", name := "candidatesIn", desc := "(IIJI)V" } : Jvm.MethodName)) ∈ lw_all := sorry
theorem q3169 : (Jvm.Cond.privateMethod ({ cls := "LinkHouseModel", name := "candidatesIn", desc := "(IIJI)V" } : Jvm.MethodName)) ∈ lw_tbl := sorry
theorem q3170 : (Jvm.Cond.instanceMethod ({ cls := "LinkHouseModel", name := "candidatesIn", desc := "(IIJI)V" } : Jvm.MethodName)) ∈ lw_all := sorry
theorem q3171 : (Jvm.Cond.code ({ cls := "LinkHouseModel", name := "candidatesIn", desc := "(IIJI)V" } : Jvm.MethodName) prog_13_method_135_code (11 : Nat) (Option.none : Option Jvm.ClassFile.FieldType)) ∈ lw_all := sorry
theorem q3172 : (Jvm.Cond.methodLink "LinkHouseModel" (835 : Nat) ({ cls := "LinkHouseModel", name := "takesArgs", desc := "(II)Z" } : Jvm.MethodName)) ∈ lw_all := sorry
theorem q3173 : (Jvm.Cond.privateMethod ({ cls := "LinkHouseModel", name := "takesArgs", desc := "(II)Z" } : Jvm.MethodName)) ∈ lw_tbl := sorry
theorem q3174 : (Jvm.Cond.instanceMethod ({ cls := "LinkHouseModel", name := "takesArgs", desc := "(II)Z" } : Jvm.MethodName)) ∈ lw_all := sorry
theorem q3175 : (Jvm.Cond.code ({ cls := "LinkHouseModel", name := "takesArgs", desc := "(II)Z" } : Jvm.MethodName) prog_13_method_134_code (6 : Nat) (Option.some Jvm.ClassFile.FieldType.boolean)) ∈ lw_all := sorry
theorem q3176 : (Jvm.Cond.methodLink "LinkHouseModel" (851 : Nat) ({ cls := "LinkHouseModel", name := "best", desc := "()I" } : Jvm.MethodName)) ∈ lw_all := sorry
theorem q3177 : (Jvm.Cond.privateMethod ({ cls := "LinkHouseModel", name := "best", desc := "()I" } : Jvm.MethodName)) ∈ lw_tbl := sorry
theorem q3178 : (Jvm.Cond.instanceMethod ({ cls := "LinkHouseModel", name := "best", desc := "()I" } : Jvm.MethodName)) ∈ lw_all := sorry
theorem q3179 : (Jvm.Cond.code ({ cls := "LinkHouseModel", name := "best", desc := "()I" } : Jvm.MethodName) prog_13_method_138_code (5 : Nat) (Option.some Jvm.ClassFile.FieldType.int)) ∈ lw_all := sorry
theorem q3180 : (Jvm.Cond.methodLink "LinkHouseModel" (832 : Nat) ({ cls := "LinkHouseModel", name := "means", desc := "(IIJ)J" } : Jvm.MethodName)) ∈ lw_all := sorry
theorem q3181 : (Jvm.Cond.privateMethod ({ cls := "LinkHouseModel", name := "means", desc := "(IIJ)J" } : Jvm.MethodName)) ∈ lw_tbl := sorry
theorem q3182 : (Jvm.Cond.instanceMethod ({ cls := "LinkHouseModel", name := "means", desc := "(IIJ)J" } : Jvm.MethodName)) ∈ lw_all := sorry
theorem q3183 : (Jvm.Cond.code ({ cls := "LinkHouseModel", name := "means", desc := "(IIJ)J" } : Jvm.MethodName) prog_13_method_132_code (5 : Nat) (Option.some Jvm.ClassFile.FieldType.long)) ∈ lw_all := sorry
theorem q3184 : (Jvm.Cond.methodLink "LinkHouseModel" (822 : Nat) ({ cls := "LinkHouseModel", name := "keepParams", desc := "(II)V" } : Jvm.MethodName)) ∈ lw_all := sorry
theorem q3185 : (Jvm.Cond.privateMethod ({ cls := "LinkHouseModel", name := "keepParams", desc := "(II)V" } : Jvm.MethodName)) ∈ lw_tbl := sorry
theorem q3186 : (Jvm.Cond.instanceMethod ({ cls := "LinkHouseModel", name := "keepParams", desc := "(II)V" } : Jvm.MethodName)) ∈ lw_all := sorry
theorem q3187 : (Jvm.Cond.code ({ cls := "LinkHouseModel", name := "keepParams", desc := "(II)V" } : Jvm.MethodName) prog_13_method_130_code (4 : Nat) (Option.none : Option Jvm.ClassFile.FieldType)) ∈ lw_all := sorry
theorem q3188 : (Jvm.Cond.methodLink "LinkHouseModel" (815 : Nat) ({ cls := "LinkHouseModel", name := "leafOfMore", desc := "(I)J" } : Jvm.MethodName)) ∈ lw_all := sorry
theorem q3189 : (Jvm.Cond.privateMethod ({ cls := "LinkHouseModel", name := "leafOfMore", desc := "(I)J" } : Jvm.MethodName)) ∈ lw_tbl := sorry
theorem q3190 : (Jvm.Cond.instanceMethod ({ cls := "LinkHouseModel", name := "leafOfMore", desc := "(I)J" } : Jvm.MethodName)) ∈ lw_all := sorry
theorem q3191 : (Jvm.Cond.code ({ cls := "LinkHouseModel", name := "leafOfMore", desc := "(I)J" } : Jvm.MethodName) prog_13_method_128_code (5 : Nat) (Option.some Jvm.ClassFile.FieldType.long)) ∈ lw_all := sorry
theorem q3192 : (Jvm.Cond.methodLink "LinkHouseModel" (818 : Nat) ({ cls := "LinkHouseModel", name := "superCall", desc := "(III)J" } : Jvm.MethodName)) ∈ lw_all := sorry
theorem q3193 : (Jvm.Cond.privateMethod ({ cls := "LinkHouseModel", name := "superCall", desc := "(III)J" } : Jvm.MethodName)) ∈ lw_tbl := sorry
theorem q3194 : (Jvm.Cond.instanceMethod ({ cls := "LinkHouseModel", name := "superCall", desc := "(III)J" } : Jvm.MethodName)) ∈ lw_all := sorry
theorem q3195 : (Jvm.Cond.code ({ cls := "LinkHouseModel", name := "superCall", desc := "(III)J" } : Jvm.MethodName) prog_13_method_133_code (5 : Nat) (Option.some Jvm.ClassFile.FieldType.long)) ∈ lw_all := sorry
theorem q3196 : (Jvm.Cond.methodLink "LinkHouseModel" (771 : Nat) ({ cls := "LinkHouseModel", name := "meantMaker", desc := "(II)I" } : Jvm.MethodName)) ∈ lw_all := sorry
theorem q3197 : (Jvm.Cond.privateMethod ({ cls := "LinkHouseModel", name := "meantMaker", desc := "(II)I" } : Jvm.MethodName)) ∈ lw_tbl := sorry
theorem q3198 : (Jvm.Cond.instanceMethod ({ cls := "LinkHouseModel", name := "meantMaker", desc := "(II)I" } : Jvm.MethodName)) ∈ lw_all := sorry
theorem q3199 : (Jvm.Cond.code ({ cls := "LinkHouseModel", name := "meantMaker", desc := "(II)I" } : Jvm.MethodName) prog_13_method_137_code (3 : Nat) (Option.some Jvm.ClassFile.FieldType.int)) ∈ lw_all := sorry
theorem q3200 : (Jvm.Cond.methodLink "LinkHouseModel" (803 : Nat) ({ cls := "LinkHouseModel", name := "isObject", desc := "(J)Z" } : Jvm.MethodName)) ∈ lw_all := sorry
theorem q3201 : (Jvm.Cond.static ({ cls := "LinkHouseModel", name := "isObject", desc := "(J)Z" } : Jvm.MethodName)) ∈ lw_all := sorry
theorem q3202 : (Jvm.Cond.code ({ cls := "LinkHouseModel", name := "isObject", desc := "(J)Z" } : Jvm.MethodName) prog_13_method_120_code (2 : Nat) (Option.some Jvm.ClassFile.FieldType.boolean)) ∈ lw_all := sorry
theorem q3203 : (Jvm.Cond.methodLink "LinkHouseModel" (789 : Nat) ({ cls := "LinkHouseModel", name := "overLeft", desc := "(IIJ)J" } : Jvm.MethodName)) ∈ lw_all := sorry
theorem q3204 : (Jvm.Cond.privateMethod ({ cls := "LinkHouseModel", name := "overLeft", desc := "(IIJ)J" } : Jvm.MethodName)) ∈ lw_tbl := sorry
theorem q3205 : (Jvm.Cond.instanceMethod ({ cls := "LinkHouseModel", name := "overLeft", desc := "(IIJ)J" } : Jvm.MethodName)) ∈ lw_all := sorry
theorem q3206 : (Jvm.Cond.code ({ cls := "LinkHouseModel", name := "overLeft", desc := "(IIJ)J" } : Jvm.MethodName) prog_13_method_122_code (5 : Nat) (Option.some Jvm.ClassFile.FieldType.long)) ∈ lw_all := sorry
theorem q3207 : (Jvm.Cond.methodLink "LinkHouseModel" (793 : Nat) ({ cls := "LinkHouseModel", name := "dot", desc := "(IIJ)J" } : Jvm.MethodName)) ∈ lw_all := sorry
theorem q3208 : (Jvm.Cond.privateMethod ({ cls := "LinkHouseModel", name := "dot", desc := "(IIJ)J" } : Jvm.MethodName)) ∈ lw_tbl := sorry
theorem q3209 : (Jvm.Cond.instanceMethod ({ cls := "LinkHouseModel", name := "dot", desc := "(IIJ)J" } : Jvm.MethodName)) ∈ lw_all := sorry
theorem q3210 : (Jvm.Cond.code ({ cls := "LinkHouseModel", name := "dot", desc := "(IIJ)J" } : Jvm.MethodName) prog_13_method_124_code (5 : Nat) (Option.some Jvm.ClassFile.FieldType.long)) ∈ lw_all := sorry
theorem q3211 : (Jvm.Cond.methodLink "LinkHouseModel" (806 : Nat) ({ cls := "LinkHouseModel", name := "two", desc := "(IIJ)J" } : Jvm.MethodName)) ∈ lw_all := sorry
theorem q3212 : (Jvm.Cond.privateMethod ({ cls := "LinkHouseModel", name := "two", desc := "(IIJ)J" } : Jvm.MethodName)) ∈ lw_tbl := sorry
theorem q3213 : (Jvm.Cond.instanceMethod ({ cls := "LinkHouseModel", name := "two", desc := "(IIJ)J" } : Jvm.MethodName)) ∈ lw_all := sorry
theorem q3214 : (Jvm.Cond.code ({ cls := "LinkHouseModel", name := "two", desc := "(IIJ)J" } : Jvm.MethodName) prog_13_method_123_code (8 : Nat) (Option.some Jvm.ClassFile.FieldType.long)) ∈ lw_all := sorry
theorem q3215 : (Jvm.Cond.methodLink "LinkHouseModel" (760 : Nat) ({ cls := "LinkHouseModel", name := "wanted", desc := "(IJJ)V" } : Jvm.MethodName)) ∈ lw_all := sorry
theorem q3216 : (Jvm.Cond.privateMethod ({ cls := "LinkHouseModel", name := "wanted", desc := "(IJJ)V" } : Jvm.MethodName)) ∈ lw_tbl := sorry
theorem q3217 : (Jvm.Cond.instanceMethod ({ cls := "LinkHouseModel", name := "wanted", desc := "(IJJ)V" } : Jvm.MethodName)) ∈ lw_all := sorry
theorem q3218 : (Jvm.Cond.code ({ cls := "LinkHouseModel", name := "wanted", desc := "(IJJ)V" } : Jvm.MethodName) prog_13_method_119_code (6 : Nat) (Option.none : Option Jvm.ClassFile.FieldType)) ∈ lw_all := sorry
theorem q3219 : (Jvm.Cond.methodLink "LinkHouseModel" (764 : Nat) ({ cls := "LinkHouseModel", name := "local", desc := "(JJI)V" } : Jvm.MethodName)) ∈ lw_all := sorry
theorem q3220 : (Jvm.Cond.privateMethod ({ cls := "LinkHouseModel", name := "local", desc := "(JJI)V" } : Jvm.MethodName)) ∈ lw_tbl := sorry
theorem q3221 : (Jvm.Cond.instanceMethod ({ cls := "LinkHouseModel", name := "local", desc := "(JJI)V" } : Jvm.MethodName)) ∈ lw_all := sorry
theorem q3222 : (Jvm.Cond.code ({ cls := "LinkHouseModel", name := "local", desc := "(JJI)V" } : Jvm.MethodName) prog_13_method_118_code (7 : Nat) (Option.none : Option Jvm.ClassFile.FieldType)) ∈ lw_all := sorry
theorem q3223 : (Jvm.Cond.methodLink "LinkHouseModel" (768 : Nat) ({ cls := "LinkHouseModel", name := "beginsBySuper", desc := "(I)Z" } : Jvm.MethodName)) ∈ lw_all := sorry
theorem q3224 : (Jvm.Cond.privateMethod ({ cls := "LinkHouseModel", name := "beginsBySuper", desc := "(I)Z" } : Jvm.MethodName)) ∈ lw_tbl := sorry
theorem q3225 : (Jvm.Cond.instanceMethod ({ cls := "LinkHouseModel", name := "beginsBySuper", desc := "(I)Z" } : Jvm.MethodName)) ∈ lw_all := sorry
theorem q3226 : (Jvm.Cond.code ({ cls := "LinkHouseModel", name := "beginsBySuper", desc := "(I)Z" } : Jvm.MethodName) prog_13_method_117_code (3 : Nat) (Option.some Jvm.ClassFile.FieldType.boolean)) ∈ lw_all := sorry
theorem q3227 : (Jvm.Cond.methodLink "LinkHouseModel" (774 : Nat) ({ cls := "LinkHouseModel", name := "judgeS", desc := "(I)V" } : Jvm.MethodName)) ∈ lw_all := sorry
theorem q3228 : (Jvm.Cond.privateMethod ({ cls := "LinkHouseModel", name := "judgeS", desc := "(I)V" } : Jvm.MethodName)) ∈ lw_tbl := sorry
theorem q3229 : (Jvm.Cond.instanceMethod ({ cls := "LinkHouseModel", name := "judgeS", desc := "(I)V" } : Jvm.MethodName)) ∈ lw_all := sorry
theorem q3230 : (Jvm.Cond.code ({ cls := "LinkHouseModel", name := "judgeS", desc := "(I)V" } : Jvm.MethodName) prog_13_method_139_code (4 : Nat) (Option.none : Option Jvm.ClassFile.FieldType)) ∈ lw_all := sorry
theorem q3231 : (Jvm.Cond.methodLink "LinkHouseModel" (854 : Nat) ({ cls := "LinkHouseModel", name := "judgeOther", desc := "(I)V" } : Jvm.MethodName)) ∈ lw_all := sorry
theorem q3232 : (Jvm.Cond.privateMethod ({ cls := "LinkHouseModel", name := "judgeOther", desc := "(I)V" } : Jvm.MethodName)) ∈ lw_tbl := sorry
theorem q3233 : (Jvm.Cond.instanceMethod ({ cls := "LinkHouseModel", name := "judgeOther", desc := "(I)V" } : Jvm.MethodName)) ∈ lw_all := sorry
theorem q3234 : (Jvm.Cond.code ({ cls := "LinkHouseModel", name := "judgeOther", desc := "(I)V" } : Jvm.MethodName) prog_13_method_140_code (4 : Nat) (Option.none : Option Jvm.ClassFile.FieldType)) ∈ lw_all := sorry
theorem q3235 : (Jvm.Cond.methodLink "LinkHouseModel" (857 : Nat) ({ cls := "LinkHouseModel", name := "judgeReturn", desc := "(I)V" } : Jvm.MethodName)) ∈ lw_all := sorry
theorem q3236 : (Jvm.Cond.privateMethod ({ cls := "LinkHouseModel", name := "judgeReturn", desc := "(I)V" } : Jvm.MethodName)) ∈ lw_tbl := sorry
theorem q3237 : (Jvm.Cond.instanceMethod ({ cls := "LinkHouseModel", name := "judgeReturn", desc := "(I)V" } : Jvm.MethodName)) ∈ lw_all := sorry
theorem q3238 : (Jvm.Cond.code ({ cls := "LinkHouseModel", name := "judgeReturn", desc := "(I)V" } : Jvm.MethodName) prog_13_method_141_code (5 : Nat) (Option.none : Option Jvm.ClassFile.FieldType)) ∈ lw_all := sorry
theorem q3239 : (Jvm.Cond.methodLink "LinkHouseModel" (860 : Nat) ({ cls := "LinkHouseModel", name := "judgePut", desc := "(I)V" } : Jvm.MethodName)) ∈ lw_all := sorry
theorem q3240 : (Jvm.Cond.privateMethod ({ cls := "LinkHouseModel", name := "judgePut", desc := "(I)V" } : Jvm.MethodName)) ∈ lw_tbl := sorry
theorem q3241 : (Jvm.Cond.instanceMethod ({ cls := "LinkHouseModel", name := "judgePut", desc := "(I)V" } : Jvm.MethodName)) ∈ lw_all := sorry
theorem q3242 : (Jvm.Cond.code ({ cls := "LinkHouseModel", name := "judgePut", desc := "(I)V" } : Jvm.MethodName) prog_13_method_142_code (10 : Nat) (Option.none : Option Jvm.ClassFile.FieldType)) ∈ lw_all := sorry
theorem q3243 : (Jvm.Cond.methodLink "LinkHouseModel" (777 : Nat) ({ cls := "LinkHouseModel", name := "canEnd", desc := "(I)Z" } : Jvm.MethodName)) ∈ lw_all := sorry
theorem q3244 : (Jvm.Cond.privateMethod ({ cls := "LinkHouseModel", name := "canEnd", desc := "(I)Z" } : Jvm.MethodName)) ∈ lw_tbl := sorry
theorem q3245 : (Jvm.Cond.instanceMethod ({ cls := "LinkHouseModel", name := "canEnd", desc := "(I)Z" } : Jvm.MethodName)) ∈ lw_all := sorry
theorem q3246 : (Jvm.Cond.code ({ cls := "LinkHouseModel", name := "canEnd", desc := "(I)Z" } : Jvm.MethodName) prog_13_method_143_code (3 : Nat) (Option.some Jvm.ClassFile.FieldType.boolean)) ∈ lw_all := sorry
theorem q3247 : (Jvm.Cond.methodLink "LinkHouseModel" (989 : Nat) ({ cls := "LinkHouseModel", name := "usesOfAll", desc := "()V" } : Jvm.MethodName)) ∈ lw_all := sorry
theorem q3248 : (Jvm.Cond.privateMethod ({ cls := "LinkHouseModel", name := "usesOfAll", desc := "()V" } : Jvm.MethodName)) ∈ lw_tbl := sorry
theorem q3249 : (Jvm.Cond.instanceMethod ({ cls := "LinkHouseModel", name := "usesOfAll", desc := "()V" } : Jvm.MethodName)) ∈ lw_all := sorry
theorem q3250 : (Jvm.Cond.code ({ cls := "LinkHouseModel", name := "usesOfAll", desc := "()V" } : Jvm.MethodName) prog_13_method_150_code (2 : Nat) (Option.none : Option Jvm.ClassFile.FieldType)) ∈ lw_all := sorry
theorem q3251 : (Jvm.Cond.methodLink "LinkHouseModel" (900 : Nat) ({ cls := "LinkHouseModel", name := "usesOf", desc := "(I)V" } : Jvm.MethodName)) ∈ lw_all := sorry
theorem q3252 : (Jvm.Cond.privateMethod ({ cls := "LinkHouseModel", name := "usesOf", desc := "(I)V" } : Jvm.MethodName)) ∈ lw_tbl := sorry
theorem q3253 : (Jvm.Cond.instanceMethod ({ cls := "LinkHouseModel", name := "usesOf", desc := "(I)V" } : Jvm.MethodName)) ∈ lw_all := sorry
theorem q3254 : (Jvm.Cond.code ({ cls := "LinkHouseModel", name := "usesOf", desc := "(I)V" } : Jvm.MethodName) prog_13_method_151_code (4 : Nat) (Option.none : Option Jvm.ClassFile.FieldType)) ∈ lw_all := sorry
theorem q3255 : (Jvm.Cond.methodLink "LinkHouseModel" (903 : Nat) ({ cls := "LinkHouseModel", name := "useFor", desc := "(IJJJ)I" } : Jvm.MethodName)) ∈ lw_all := sorry
theorem q3256 : (Jvm.Cond.privateMethod ({ cls := "LinkHouseModel", name := "useFor", desc := "(IJJJ)I" } : Jvm.MethodName)) ∈ lw_tbl := sorry
theorem q3257 : (Jvm.Cond.instanceMethod ({ cls := "LinkHouseModel", name := "useFor", desc := "(IJJJ)I" } : Jvm.MethodName)) ∈ lw_all := sorry
theorem q3258 : (Jvm.Cond.code ({ cls := "LinkHouseModel", name := "useFor", desc := "(IJJJ)I" } : Jvm.MethodName) prog_13_method_146_code (8 : Nat) (Option.some Jvm.ClassFile.FieldType.int)) ∈ lw_all := sorry
theorem q3259 : (Jvm.Cond.methodLink "LinkHouseModel" (893 : Nat) ({ cls := "LinkHouseModel", name := "nextUse", desc := "(IJJJ)I" } : Jvm.MethodName)) ∈ lw_all := sorry
theorem q3260 : (Jvm.Cond.privateMethod ({ cls := "LinkHouseModel", name := "nextUse", desc := "(IJJJ)I" } : Jvm.MethodName)) ∈ lw_tbl := sorry
theorem q3261 : (Jvm.Cond.instanceMethod ({ cls := "LinkHouseModel", name := "nextUse", desc := "(IJJJ)I" } : Jvm.MethodName)) ∈ lw_all := sorry
theorem q3262 : (Jvm.Cond.code ({ cls := "LinkHouseModel", name := "nextUse", desc := "(IJJJ)I" } : Jvm.MethodName) prog_13_method_144_code (9 : Nat) (Option.some Jvm.ClassFile.FieldType.int)) ∈ lw_all := sorry
theorem q3263 : (Jvm.Cond.methodLink "LinkHouseModel" (897 : Nat) ({ cls := "LinkHouseModel", name := "keepUse", desc := "(I)I" } : Jvm.MethodName)) ∈ lw_all := sorry
theorem q3264 : (Jvm.Cond.privateMethod ({ cls := "LinkHouseModel", name := "keepUse", desc := "(I)I" } : Jvm.MethodName)) ∈ lw_tbl := sorry
theorem q3265 : (Jvm.Cond.instanceMethod ({ cls := "LinkHouseModel", name := "keepUse", desc := "(I)I" } : Jvm.MethodName)) ∈ lw_all := sorry
theorem q3266 : (Jvm.Cond.code ({ cls := "LinkHouseModel", name := "keepUse", desc := "(I)I" } : Jvm.MethodName) prog_13_method_145_code (5 : Nat) (Option.some Jvm.ClassFile.FieldType.int)) ∈ lw_all := sorry
theorem q3267 : (Jvm.Cond.methodLink "LinkHouseModel" (906 : Nat) ({ cls := "LinkHouseModel", name := "bridgeUse", desc := "(II)I" } : Jvm.MethodName)) ∈ lw_all := sorry
theorem q3268 : (Jvm.Cond.privateMethod ({ cls := "LinkHouseModel", name := "bridgeUse", desc := "(II)I" } : Jvm.MethodName)) ∈ lw_tbl := sorry
theorem q3269 : (Jvm.Cond.instanceMethod ({ cls := "LinkHouseModel", name := "bridgeUse", desc := "(II)I" } : Jvm.MethodName)) ∈ lw_all := sorry
theorem q3270 : (Jvm.Cond.code ({ cls := "LinkHouseModel", name := "bridgeUse", desc := "(II)I" } : Jvm.MethodName) prog_13_method_152_code (6 : Nat) (Option.some Jvm.ClassFile.FieldType.int)) ∈ lw_all := sorry
theorem q3271 : (Jvm.Cond.methodLink "LinkHouseModel" (909 : Nat) ({ cls := "LinkHouseModel", name := "copies", desc := "(I)V" } : Jvm.MethodName)) ∈ lw_all := sorry
theorem q3272 : (Jvm.Cond.privateMethod ({ cls := "LinkHouseModel", name := "copies", desc := "(I)V" } : Jvm.MethodName)) ∈ lw_tbl := sorry
theorem q3273 : (Jvm.Cond.instanceMethod ({ cls := "LinkHouseModel", name := "copies", desc := "(I)V" } : Jvm.MethodName)) ∈ lw_all := sorry
theorem q3274 : (Jvm.Cond.code ({ cls := "LinkHouseModel", name := "copies", desc := "(I)V" } : Jvm.MethodName) prog_13_method_153_code (4 : Nat) (Option.none : Option Jvm.ClassFile.FieldType)) ∈ lw_all := sorry
theorem q3275 : (Jvm.Cond.methodLink "LinkHouseModel" (922 : Nat) ({ cls := "LinkHouseModel", name := "copyOf", desc := "(I)I" } : Jvm.MethodName)) ∈ lw_all := sorry
theorem q3276 : (Jvm.Cond.privateMethod ({ cls := "LinkHouseModel", name := "copyOf", desc := "(I)I" } : Jvm.MethodName)) ∈ lw_tbl := sorry
theorem q3277 : (Jvm.Cond.instanceMethod ({ cls := "LinkHouseModel", name := "copyOf", desc := "(I)I" } : Jvm.MethodName)) ∈ lw_all := sorry
theorem q3278 : (Jvm.Cond.code ({ cls := "LinkHouseModel", name := "copyOf", desc := "(I)I" } : Jvm.MethodName) prog_13_method_148_code (3 : Nat) (Option.some Jvm.ClassFile.FieldType.int)) ∈ lw_all := sorry
theorem q3279 : (Jvm.Cond.methodLink "LinkHouseModel" (912 : Nat) ({ cls := "LinkHouseModel", name := "usesE", desc := "(I)V" } : Jvm.MethodName)) ∈ lw_all := sorry
theorem q3280 : (Jvm.Cond.privateMethod ({ cls := "LinkHouseModel", name := "usesE", desc := "(I)V" } : Jvm.MethodName)) ∈ lw_tbl := sorry
theorem q3281 : (Jvm.Cond.instanceMethod ({ cls := "LinkHouseModel", name := "usesE", desc := "(I)V" } : Jvm.MethodName)) ∈ lw_all := sorry
theorem q3282 : (Jvm.Cond.code ({ cls := "LinkHouseModel", name := "usesE", desc := "(I)V" } : Jvm.MethodName) prog_13_method_154_code (4 : Nat) (Option.none : Option Jvm.ClassFile.FieldType)) ∈ lw_all := sorry
theorem q3283 : (Jvm.Cond.methodLink "LinkHouseModel" (925 : Nat) ({ cls := "LinkHouseModel", name := "usesLeaf", desc := "(I)V" } : Jvm.MethodName)) ∈ lw_all := sorry
theorem q3284 : (Jvm.Cond.privateMethod ({ cls := "LinkHouseModel", name := "usesLeaf", desc := "(I)V" } : Jvm.MethodName)) ∈ lw_tbl := sorry
theorem q3285 : (Jvm.Cond.instanceMethod ({ cls := "LinkHouseModel", name := "usesLeaf", desc := "(I)V" } : Jvm.MethodName)) ∈ lw_all := sorry
theorem q3286 : (Jvm.Cond.code ({ cls := "LinkHouseModel", name := "usesLeaf", desc := "(I)V" } : Jvm.MethodName) prog_13_method_158_code (2 : Nat) (Option.none : Option Jvm.ClassFile.FieldType)) ∈ lw_all := sorry
theorem q3287 : (Jvm.Cond.methodLink "LinkHouseModel" (928 : Nat) ({ cls := "LinkHouseModel", name := "fieldUse", desc := "(II)I" } : Jvm.MethodName)) ∈ lw_all := sorry
theorem q3288 : (Jvm.Cond.privateMethod ({ cls := "LinkHouseModel", name := "fieldUse", desc := "(II)I" } : Jvm.MethodName)) ∈ lw_tbl := sorry
theorem q3289 : (Jvm.Cond.instanceMethod ({ cls := "LinkHouseModel", name := "fieldUse", desc := "(II)I" } : Jvm.MethodName)) ∈ lw_all := sorry
theorem q3290 : (Jvm.Cond.code ({ cls := "LinkHouseModel", name := "fieldUse", desc := "(II)I" } : Jvm.MethodName) prog_13_method_155_code (3 : Nat) (Option.some Jvm.ClassFile.FieldType.int)) ∈ lw_all := sorry
theorem q3291 : (Jvm.Cond.methodLink "LinkHouseModel" (931 : Nat) ({ cls := "LinkHouseModel", name := "usesArgs", desc := "(II)V" } : Jvm.MethodName)) ∈ lw_all := sorry
theorem q3292 : (Jvm.Cond.privateMethod ({ cls := "LinkHouseModel", name := "usesArgs", desc := "(II)V" } : Jvm.MethodName)) ∈ lw_tbl := sorry
theorem q3293 : (Jvm.Cond.instanceMethod ({ cls := "LinkHouseModel", name := "usesArgs", desc := "(II)V" } : Jvm.MethodName)) ∈ lw_all := sorry
theorem q3294 : (Jvm.Cond.code ({ cls := "LinkHouseModel", name := "usesArgs", desc := "(II)V" } : Jvm.MethodName) prog_13_method_156_code (5 : Nat) (Option.none : Option Jvm.ClassFile.FieldType)) ∈ lw_all := sorry
theorem q3295 : (Jvm.Cond.methodLink "LinkHouseModel" (915 : Nat) ({ cls := "LinkHouseModel", name := "fit", desc := "(IJ)V" } : Jvm.MethodName)) ∈ lw_all := sorry
theorem q3296 : (Jvm.Cond.privateMethod ({ cls := "LinkHouseModel", name := "fit", desc := "(IJ)V" } : Jvm.MethodName)) ∈ lw_tbl := sorry
theorem q3297 : (Jvm.Cond.instanceMethod ({ cls := "LinkHouseModel", name := "fit", desc := "(IJ)V" } : Jvm.MethodName)) ∈ lw_all := sorry
theorem q3298 : (Jvm.Cond.code ({ cls := "LinkHouseModel", name := "fit", desc := "(IJ)V" } : Jvm.MethodName) prog_13_method_149_code (7 : Nat) (Option.none : Option Jvm.ClassFile.FieldType)) ∈ lw_all := sorry
theorem q3299 : (Jvm.Cond.methodLink "LinkHouseModel" (934 : Nat) ({ cls := "LinkHouseModel", name := "callUse", desc := "(I)I" } : Jvm.MethodName)) ∈ lw_all := sorry
theorem q3300 : (Jvm.Cond.privateMethod ({ cls := "LinkHouseModel", name := "callUse", desc := "(I)I" } : Jvm.MethodName)) ∈ lw_tbl := sorry
theorem q3301 : (Jvm.Cond.instanceMethod ({ cls := "LinkHouseModel", name := "callUse", desc := "(I)I" } : Jvm.MethodName)) ∈ lw_all := sorry
theorem q3302 : (Jvm.Cond.code ({ cls := "LinkHouseModel", name := "callUse", desc := "(I)I" } : Jvm.MethodName) prog_13_method_157_code (5 : Nat) (Option.some Jvm.ClassFile.FieldType.int)) ∈ lw_all := sorry
theorem q3303 : (Jvm.Cond.methodLink "LinkHouseModel" (937 : Nat) ({ cls := "LinkHouseModel", name := "useOf", desc := "(IIJJJ)I" } : Jvm.MethodName)) ∈ lw_all := sorry
theorem q3304 : (Jvm.Cond.privateMethod ({ cls := "LinkHouseModel", name := "useOf", desc := "(IIJJJ)I" } : Jvm.MethodName)) ∈ lw_tbl := sorry
theorem q3305 : (Jvm.Cond.instanceMethod ({ cls := "LinkHouseModel", name := "useOf", desc := "(IIJJJ)I" } : Jvm.MethodName)) ∈ lw_all := sorry
theorem q3306 : (Jvm.Cond.code ({ cls := "LinkHouseModel", name := "useOf", desc := "(IIJJJ)I" } : Jvm.MethodName) prog_13_method_147_code (11 : Nat) (Option.some Jvm.ClassFile.FieldType.int)) ∈ lw_all := sorry
theorem q3307 : (Jvm.Cond.methodLink "LinkHouseModel" (919 : Nat) ({ cls := "LinkHouseModel", name := "usesS", desc := "(I)V" } : Jvm.MethodName)) ∈ lw_all := sorry
theorem q3308 : (Jvm.Cond.privateMethod ({ cls := "LinkHouseModel", name := "usesS", desc := "(I)V" } : Jvm.MethodName)) ∈ lw_tbl := sorry
theorem q3309 : (Jvm.Cond.instanceMethod ({ cls := "LinkHouseModel", name := "usesS", desc := "(I)V" } : Jvm.MethodName)) ∈ lw_all := sorry
theorem q3310 : (Jvm.Cond.code ({ cls := "LinkHouseModel", name := "usesS", desc := "(I)V" } : Jvm.MethodName) prog_13_method_159_code (3 : Nat) (Option.none : Option Jvm.ClassFile.FieldType)) ∈ lw_all := sorry
theorem q3311 : (Jvm.Cond.methodLink "LinkHouseModel" (941 : Nat) ({ cls := "LinkHouseModel", name := "usesPut", desc := "(I)V" } : Jvm.MethodName)) ∈ lw_all := sorry
theorem q3312 : (Jvm.Cond.privateMethod ({ cls := "LinkHouseModel", name := "usesPut", desc := "(I)V" } : Jvm.MethodName)) ∈ lw_tbl := sorry
theorem q3313 : (Jvm.Cond.instanceMethod ({ cls := "LinkHouseModel", name := "usesPut", desc := "(I)V" } : Jvm.MethodName)) ∈ lw_all := sorry
theorem q3314 : (Jvm.Cond.code ({ cls := "LinkHouseModel", name := "usesPut", desc := "(I)V" } : Jvm.MethodName) prog_13_method_160_code (3 : Nat) (Option.none : Option Jvm.ClassFile.FieldType)) ∈ lw_all := sorry
theorem q3316 : (Jvm.Cond.instanceMethod ({ cls := "LinkHouseModel", name := "place", desc := "()I" } : Jvm.MethodName)) ∈ lw_all := sorry
theorem q3317 : (Jvm.Cond.selects "LinkHouseModel" ({ cls := "LinkHouseModel", name := "place", desc := "()I" } : Jvm.MethodName) ({ cls := "LinkHouseModel", name := "place", desc := "()I" } : Jvm.MethodName)) ∈ lw_all := sorry
theorem q3318 : (Jvm.Cond.code ({ cls := "LinkHouseModel", name := "place", desc := "()I" } : Jvm.MethodName) prog_13_method_165_code (1 : Nat) (Option.some Jvm.ClassFile.FieldType.int)) ∈ lw_all := sorry
theorem q3320 : (Jvm.Cond.instanceMethod ({ cls := "LinkHouseModel", name := "builds", desc := "(I)I" } : Jvm.MethodName)) ∈ lw_all := sorry
theorem q3321 : (Jvm.Cond.selects "LinkHouseModel" ({ cls := "LinkHouseModel", name := "builds", desc := "(I)I" } : Jvm.MethodName) ({ cls := "LinkHouseModel", name := "builds", desc := "(I)I" } : Jvm.MethodName)) ∈ lw_all := sorry
theorem q3322 : (Jvm.Cond.code ({ cls := "LinkHouseModel", name := "builds", desc := "(I)I" } : Jvm.MethodName) prog_13_method_166_code (2 : Nat) (Option.some Jvm.ClassFile.FieldType.int)) ∈ lw_all := sorry
theorem q3324 : (Jvm.Cond.instanceMethod ({ cls := "LinkHouseModel", name := "text", desc := "(II)I" } : Jvm.MethodName)) ∈ lw_all := sorry
theorem q3325 : (Jvm.Cond.selects "LinkHouseModel" ({ cls := "LinkHouseModel", name := "text", desc := "(II)I" } : Jvm.MethodName) ({ cls := "LinkHouseModel", name := "text", desc := "(II)I" } : Jvm.MethodName)) ∈ lw_all := sorry
theorem q3326 : (Jvm.Cond.code ({ cls := "LinkHouseModel", name := "text", desc := "(II)I" } : Jvm.MethodName) prog_13_method_167_code (5 : Nat) (Option.some Jvm.ClassFile.FieldType.int)) ∈ lw_all := sorry
theorem q3327 : (Jvm.Cond.methodLink "LinkHouseModel" (992 : Nat) ({ cls := "LinkHouseModel", name := "slotAt", desc := "(II)I" } : Jvm.MethodName)) ∈ lw_all := sorry
theorem q3328 : (Jvm.Cond.privateMethod ({ cls := "LinkHouseModel", name := "slotAt", desc := "(II)I" } : Jvm.MethodName)) ∈ lw_tbl := sorry
theorem q3329 : (Jvm.Cond.instanceMethod ({ cls := "LinkHouseModel", name := "slotAt", desc := "(II)I" } : Jvm.MethodName)) ∈ lw_all := sorry
theorem q3330 : (Jvm.Cond.code ({ cls := "LinkHouseModel", name := "slotAt", desc := "(II)I" } : Jvm.MethodName) prog_13_method_164_code (3 : Nat) (Option.some Jvm.ClassFile.FieldType.int)) ∈ lw_all := sorry
theorem q3332 : (Jvm.Cond.instanceMethod ({ cls := "LinkHouseModel", name := "pick", desc := "(II)I" } : Jvm.MethodName)) ∈ lw_all := sorry
theorem q3333 : (Jvm.Cond.selects "LinkHouseModel" ({ cls := "LinkHouseModel", name := "pick", desc := "(II)I" } : Jvm.MethodName) ({ cls := "LinkHouseModel", name := "pick", desc := "(II)I" } : Jvm.MethodName)) ∈ lw_all := sorry
theorem q3334 : (Jvm.Cond.code ({ cls := "LinkHouseModel", name := "pick", desc := "(II)I" } : Jvm.MethodName) prog_13_method_168_code (4 : Nat) (Option.some Jvm.ClassFile.FieldType.int)) ∈ lw_all := sorry
theorem q3335 : (Jvm.Cond.methodLink "LinkHouseModel" (995 : Nat) ({ cls := "LinkHouseModel", name := "picked", desc := "(I)I" } : Jvm.MethodName)) ∈ lw_all := sorry
theorem q3336 : (Jvm.Cond.instanceMethod ({ cls := "LinkHouseModel", name := "picked", desc := "(I)I" } : Jvm.MethodName)) ∈ lw_all := sorry
theorem q3337 : (Jvm.Cond.selects "LinkHouseModel" ({ cls := "LinkHouseModel", name := "picked", desc := "(I)I" } : Jvm.MethodName) ({ cls := "LinkHouseModel", name := "picked", desc := "(I)I" } : Jvm.MethodName)) ∈ lw_all := sorry
theorem q3338 : (Jvm.Cond.code ({ cls := "LinkHouseModel", name := "picked", desc := "(I)I" } : Jvm.MethodName) prog_13_method_169_code (2 : Nat) (Option.some Jvm.ClassFile.FieldType.int)) ∈ lw_all := sorry
theorem q3339 : (Jvm.Cond.methodLink "LinkHouseModel" (1001 : Nat) ({ cls := "LinkHouseModel", name := "buildOf", desc := "(I)I" } : Jvm.MethodName)) ∈ lw_all := sorry
theorem q3340 : (Jvm.Cond.privateMethod ({ cls := "LinkHouseModel", name := "buildOf", desc := "(I)I" } : Jvm.MethodName)) ∈ lw_tbl := sorry
theorem q3341 : (Jvm.Cond.instanceMethod ({ cls := "LinkHouseModel", name := "buildOf", desc := "(I)I" } : Jvm.MethodName)) ∈ lw_all := sorry
theorem q3342 : (Jvm.Cond.code ({ cls := "LinkHouseModel", name := "buildOf", desc := "(I)I" } : Jvm.MethodName) prog_13_method_170_code (3 : Nat) (Option.some Jvm.ClassFile.FieldType.int)) ∈ lw_all := sorry
theorem q3343 : (Jvm.Cond.methodLink "LinkHouseModel" (998 : Nat) ({ cls := "LinkHouseModel", name := "settle", desc := "()V" } : Jvm.MethodName)) ∈ lw_all := sorry
theorem q3344 : (Jvm.Cond.privateMethod ({ cls := "LinkHouseModel", name := "settle", desc := "()V" } : Jvm.MethodName)) ∈ lw_tbl := sorry
theorem q3345 : (Jvm.Cond.instanceMethod ({ cls := "LinkHouseModel", name := "settle", desc := "()V" } : Jvm.MethodName)) ∈ lw_all := sorry
theorem q3346 : (Jvm.Cond.code ({ cls := "LinkHouseModel", name := "settle", desc := "()V" } : Jvm.MethodName) prog_13_method_217_code (2 : Nat) (Option.none : Option Jvm.ClassFile.FieldType)) ∈ lw_all := sorry
theorem q3347 : (Jvm.Cond.methodLink "LinkHouseModel" (1192 : Nat) ({ cls := "LinkHouseModel", name := "numberWorld", desc := "()V" } : Jvm.MethodName)) ∈ lw_all := sorry
theorem q3348 : (Jvm.Cond.privateMethod ({ cls := "LinkHouseModel", name := "numberWorld", desc := "()V" } : Jvm.MethodName)) ∈ lw_tbl := sorry
theorem q3349 : (Jvm.Cond.instanceMethod ({ cls := "LinkHouseModel", name := "numberWorld", desc := "()V" } : Jvm.MethodName)) ∈ lw_all := sorry
theorem q3350 : (Jvm.Cond.code ({ cls := "LinkHouseModel", name := "numberWorld", desc := "()V" } : Jvm.MethodName) prog_13_method_184_code (4 : Nat) (Option.none : Option Jvm.ClassFile.FieldType)) ∈ lw_all := sorry
theorem q3351 : (Jvm.Cond.methodLink "LinkHouseModel" (1074 : Nat) ({ cls := "LinkHouseModel", name := "intoWorld", desc := "(I)V" } : Jvm.MethodName)) ∈ lw_all := sorry
theorem q3352 : (Jvm.Cond.privateMethod ({ cls := "LinkHouseModel", name := "intoWorld", desc := "(I)V" } : Jvm.MethodName)) ∈ lw_tbl := sorry
theorem q3353 : (Jvm.Cond.instanceMethod ({ cls := "LinkHouseModel", name := "intoWorld", desc := "(I)V" } : Jvm.MethodName)) ∈ lw_all := sorry
theorem q3354 : (Jvm.Cond.code ({ cls := "LinkHouseModel", name := "intoWorld", desc := "(I)V" } : Jvm.MethodName) prog_13_method_185_code (2 : Nat) (Option.none : Option Jvm.ClassFile.FieldType)) ∈ lw_all := sorry
theorem q3355 : (Jvm.Cond.methodLink "LinkHouseModel" (1163 : Nat) ({ cls := "LinkHouseModel", name := "clearSet", desc := "(I)V" } : Jvm.MethodName)) ∈ lw_all := sorry
theorem q3356 : (Jvm.Cond.privateMethod ({ cls := "LinkHouseModel", name := "clearSet", desc := "(I)V" } : Jvm.MethodName)) ∈ lw_tbl := sorry
theorem q3357 : (Jvm.Cond.instanceMethod ({ cls := "LinkHouseModel", name := "clearSet", desc := "(I)V" } : Jvm.MethodName)) ∈ lw_all := sorry
theorem q3358 : (Jvm.Cond.code ({ cls := "LinkHouseModel", name := "clearSet", desc := "(I)V" } : Jvm.MethodName) prog_13_method_188_code (3 : Nat) (Option.none : Option Jvm.ClassFile.FieldType)) ∈ lw_all := sorry
theorem q3361 : (Jvm.Cond.instanceMethod ({ cls := "LinkHouseModel", name := "classes", desc := "(II)I" } : Jvm.MethodName)) ∈ lw_all := sorry
theorem q3362 : (Jvm.Cond.selects "LinkHouseModel" ({ cls := "LinkHouseModel", name := "classes", desc := "(II)I" } : Jvm.MethodName) ({ cls := "LinkHouseModel", name := "classes", desc := "(II)I" } : Jvm.MethodName)) ∈ lw_all := sorry
theorem q3363 : (Jvm.Cond.code ({ cls := "LinkHouseModel", name := "classes", desc := "(II)I" } : Jvm.MethodName) prog_13_method_171_code (4 : Nat) (Option.some Jvm.ClassFile.FieldType.int)) ∈ lw_all := sorry
theorem q3365 : (Jvm.Cond.instanceMethod ({ cls := "LinkHouseModel", name := "members", desc := "(III)I" } : Jvm.MethodName)) ∈ lw_all := sorry
theorem q3366 : (Jvm.Cond.selects "LinkHouseModel" ({ cls := "LinkHouseModel", name := "members", desc := "(III)I" } : Jvm.MethodName) ({ cls := "LinkHouseModel", name := "members", desc := "(III)I" } : Jvm.MethodName)) ∈ lw_all := sorry
theorem q3367 : (Jvm.Cond.code ({ cls := "LinkHouseModel", name := "members", desc := "(III)I" } : Jvm.MethodName) prog_13_method_175_code (5 : Nat) (Option.some Jvm.ClassFile.FieldType.int)) ∈ lw_all := sorry
theorem q3368 : (Jvm.Cond.methodLink "LinkHouseModel" (1004 : Nat) ({ cls := "LinkHouseModel", name := "classAt", desc := "(III)I" } : Jvm.MethodName)) ∈ lw_all := sorry
theorem q3369 : (Jvm.Cond.privateMethod ({ cls := "LinkHouseModel", name := "classAt", desc := "(III)I" } : Jvm.MethodName)) ∈ lw_tbl := sorry
theorem q3370 : (Jvm.Cond.instanceMethod ({ cls := "LinkHouseModel", name := "classAt", desc := "(III)I" } : Jvm.MethodName)) ∈ lw_all := sorry
theorem q3371 : (Jvm.Cond.code ({ cls := "LinkHouseModel", name := "classAt", desc := "(III)I" } : Jvm.MethodName) prog_13_method_172_code (5 : Nat) (Option.some Jvm.ClassFile.FieldType.int)) ∈ lw_all := sorry
theorem q3372 : (Jvm.Cond.methodLink "LinkHouseModel" (1007 : Nat) ({ cls := "LinkHouseModel", name := "memberMany", desc := "(I)I" } : Jvm.MethodName)) ∈ lw_all := sorry
theorem q3373 : (Jvm.Cond.privateMethod ({ cls := "LinkHouseModel", name := "memberMany", desc := "(I)I" } : Jvm.MethodName)) ∈ lw_tbl := sorry
theorem q3374 : (Jvm.Cond.instanceMethod ({ cls := "LinkHouseModel", name := "memberMany", desc := "(I)I" } : Jvm.MethodName)) ∈ lw_all := sorry
theorem q3375 : (Jvm.Cond.code ({ cls := "LinkHouseModel", name := "memberMany", desc := "(I)I" } : Jvm.MethodName) prog_13_method_174_code (4 : Nat) (Option.some Jvm.ClassFile.FieldType.int)) ∈ lw_all := sorry
theorem q3377 : (Jvm.Cond.instanceMethod ({ cls := "LinkHouseModel", name := "shape", desc := "(IIII)I" } : Jvm.MethodName)) ∈ lw_all := sorry
theorem q3378 : (Jvm.Cond.selects "LinkHouseModel" ({ cls := "LinkHouseModel", name := "shape", desc := "(IIII)I" } : Jvm.MethodName) ({ cls := "LinkHouseModel", name := "shape", desc := "(IIII)I" } : Jvm.MethodName)) ∈ lw_all := sorry
theorem q3379 : (Jvm.Cond.code ({ cls := "LinkHouseModel", name := "shape", desc := "(IIII)I" } : Jvm.MethodName) prog_13_method_178_code (7 : Nat) (Option.some Jvm.ClassFile.FieldType.int)) ∈ lw_all := sorry
theorem q3380 : (Jvm.Cond.methodLink "LinkHouseModel" (1015 : Nat) ({ cls := "LinkHouseModel", name := "memberAt", desc := "(II)I" } : Jvm.MethodName)) ∈ lw_all := sorry
theorem q3381 : (Jvm.Cond.privateMethod ({ cls := "LinkHouseModel", name := "memberAt", desc := "(II)I" } : Jvm.MethodName)) ∈ lw_tbl := sorry
theorem q3382 : (Jvm.Cond.instanceMethod ({ cls := "LinkHouseModel", name := "memberAt", desc := "(II)I" } : Jvm.MethodName)) ∈ lw_all := sorry
theorem q3383 : (Jvm.Cond.code ({ cls := "LinkHouseModel", name := "memberAt", desc := "(II)I" } : Jvm.MethodName) prog_13_method_173_code (5 : Nat) (Option.some Jvm.ClassFile.FieldType.int)) ∈ lw_all := sorry
theorem q3384 : (Jvm.Cond.stringRef "LinkHouseModel" (1018 : Nat) "open ") ∈ lw_tbl := sorry
theorem q3385 : (Jvm.Cond.stringRef "LinkHouseModel" (1020 : Nat) "") ∈ lw_tbl := sorry
theorem q3386 : (Jvm.Cond.methodLink "LinkHouseModel" (47 : Nat) ({ cls := "LinkHouseModel", name := "outWord", desc := "(Ljava/lang/String;)V" } : Jvm.MethodName)) ∈ lw_all := sorry
theorem q3387 : (Jvm.Cond.privateMethod ({ cls := "LinkHouseModel", name := "outWord", desc := "(Ljava/lang/String;)V" } : Jvm.MethodName)) ∈ lw_tbl := sorry
theorem q3388 : (Jvm.Cond.instanceMethod ({ cls := "LinkHouseModel", name := "outWord", desc := "(Ljava/lang/String;)V" } : Jvm.MethodName)) ∈ lw_all := sorry
theorem q3389 : (Jvm.Cond.code ({ cls := "LinkHouseModel", name := "outWord", desc := "(Ljava/lang/String;)V" } : Jvm.MethodName) prog_13_method_6_code (3 : Nat) (Option.none : Option Jvm.ClassFile.FieldType)) ∈ lw_all := sorry
theorem q3390 : (Jvm.Cond.methodLink "LinkHouseModel" (29 : Nat) ({ cls := "LinkHouseModel", name := "outByte", desc := "(I)V" } : Jvm.MethodName)) ∈ lw_all := sorry
theorem q3391 : (Jvm.Cond.privateMethod ({ cls := "LinkHouseModel", name := "outByte", desc := "(I)V" } : Jvm.MethodName)) ∈ lw_tbl := sorry
theorem q3392 : (Jvm.Cond.instanceMethod ({ cls := "LinkHouseModel", name := "outByte", desc := "(I)V" } : Jvm.MethodName)) ∈ lw_all := sorry
theorem q3393 : (Jvm.Cond.code ({ cls := "LinkHouseModel", name := "outByte", desc := "(I)V" } : Jvm.MethodName) prog_13_method_5_code (2 : Nat) (Option.none : Option Jvm.ClassFile.FieldType)) ∈ lw_all := sorry
theorem q3394 : (Jvm.Cond.stringRef "LinkHouseModel" (1022 : Nat) "final class ") ∈ lw_tbl := sorry
theorem q3395 : (Jvm.Cond.stringRef "LinkHouseModel" (1024 : Nat) "bare class ") ∈ lw_tbl := sorry
theorem q3396 : (Jvm.Cond.stringRef "LinkHouseModel" (1026 : Nat) "face ") ∈ lw_tbl := sorry
theorem q3397 : (Jvm.Cond.stringRef "LinkHouseModel" (1028 : Nat) "class ") ∈ lw_tbl := sorry
theorem q3398 : (Jvm.Cond.methodLink "LinkHouseModel" (53 : Nat) ({ cls := "LinkHouseModel", name := "outName", desc := "(J)V" } : Jvm.MethodName)) ∈ lw_all := sorry
theorem q3399 : (Jvm.Cond.privateMethod ({ cls := "LinkHouseModel", name := "outName", desc := "(J)V" } : Jvm.MethodName)) ∈ lw_tbl := sorry
theorem q3400 : (Jvm.Cond.instanceMethod ({ cls := "LinkHouseModel", name := "outName", desc := "(J)V" } : Jvm.MethodName)) ∈ lw_all := sorry
theorem q3401 : (Jvm.Cond.code ({ cls := "LinkHouseModel", name := "outName", desc := "(J)V" } : Jvm.MethodName) prog_13_method_7_code (7 : Nat) (Option.none : Option Jvm.ClassFile.FieldType)) ∈ lw_all := sorry
theorem q3402 : (Jvm.Cond.methodLink "LinkHouseModel" (33 : Nat) ({ cls := "LinkHouseModel", name := "letter", desc := "(I)I" } : Jvm.MethodName)) ∈ lw_all := sorry
theorem q3403 : (Jvm.Cond.static ({ cls := "LinkHouseModel", name := "letter", desc := "(I)I" } : Jvm.MethodName)) ∈ lw_all := sorry
theorem q3404 : (Jvm.Cond.code ({ cls := "LinkHouseModel", name := "letter", desc := "(I)I" } : Jvm.MethodName) prog_13_method_2_code (1 : Nat) (Option.some Jvm.ClassFile.FieldType.int)) ∈ lw_all := sorry
theorem q3405 : (Jvm.Cond.stringRef "LinkHouseModel" (1030 : Nat) " is ") ∈ lw_tbl := sorry
theorem q3406 : (Jvm.Cond.stringRef "LinkHouseModel" (1032 : Nat) " as ") ∈ lw_tbl := sorry
theorem q3407 : (Jvm.Cond.methodLink "LinkHouseModel" (1034 : Nat) ({ cls := "LinkHouseModel", name := "outList", desc := "(Ljava/lang/String;[JII)V" } : Jvm.MethodName)) ∈ lw_all := sorry
theorem q3408 : (Jvm.Cond.privateMethod ({ cls := "LinkHouseModel", name := "outList", desc := "(Ljava/lang/String;[JII)V" } : Jvm.MethodName)) ∈ lw_tbl := sorry
theorem q3409 : (Jvm.Cond.instanceMethod ({ cls := "LinkHouseModel", name := "outList", desc := "(Ljava/lang/String;[JII)V" } : Jvm.MethodName)) ∈ lw_all := sorry
theorem q3410 : (Jvm.Cond.code ({ cls := "LinkHouseModel", name := "outList", desc := "(Ljava/lang/String;[JII)V" } : Jvm.MethodName) prog_13_method_177_code (6 : Nat) (Option.none : Option Jvm.ClassFile.FieldType)) ∈ lw_all := sorry
theorem q3411 : (Jvm.Cond.stringRef "LinkHouseModel" (1013 : Nat) ",") ∈ lw_tbl := sorry
theorem q3412 : (Jvm.Cond.stringRef "LinkHouseModel" (1038 : Nat) " in ") ∈ lw_tbl := sorry
theorem q3413 : (Jvm.Cond.stringRef "LinkHouseModel" (1040 : Nat) " with ") ∈ lw_tbl := sorry
theorem q3414 : (Jvm.Cond.stringRef "LinkHouseModel" (1042 : Nat) " only ") ∈ lw_tbl := sorry
theorem q3415 : (Jvm.Cond.stringRef "LinkHouseModel" (1044 : Nat) "bridge ") ∈ lw_tbl := sorry
theorem q3416 : (Jvm.Cond.stringRef "LinkHouseModel" (1046 : Nat) "kin ") ∈ lw_tbl := sorry
theorem q3417 : (Jvm.Cond.stringRef "LinkHouseModel" (1048 : Nat) "own ") ∈ lw_tbl := sorry
theorem q3418 : (Jvm.Cond.stringRef "LinkHouseModel" (1050 : Nat) "static ") ∈ lw_tbl := sorry
theorem q3419 : (Jvm.Cond.stringRef "LinkHouseModel" (1052 : Nat) "final ") ∈ lw_tbl := sorry
theorem q3420 : (Jvm.Cond.stringRef "LinkHouseModel" (1054 : Nat) "bare ") ∈ lw_tbl := sorry
theorem q3421 : (Jvm.Cond.methodLink "LinkHouseModel" (1010 : Nat) ({ cls := "LinkHouseModel", name := "outType", desc := "(J)V" } : Jvm.MethodName)) ∈ lw_all := sorry
theorem q3422 : (Jvm.Cond.privateMethod ({ cls := "LinkHouseModel", name := "outType", desc := "(J)V" } : Jvm.MethodName)) ∈ lw_tbl := sorry
theorem q3423 : (Jvm.Cond.instanceMethod ({ cls := "LinkHouseModel", name := "outType", desc := "(J)V" } : Jvm.MethodName)) ∈ lw_all := sorry
theorem q3424 : (Jvm.Cond.code ({ cls := "LinkHouseModel", name := "outType", desc := "(J)V" } : Jvm.MethodName) prog_13_method_9_code (3 : Nat) (Option.none : Option Jvm.ClassFile.FieldType)) ∈ lw_all := sorry
theorem q3425 : (Jvm.Cond.methodLink "LinkHouseModel" (1056 : Nat) ({ cls := "LinkHouseModel", name := "outParams", desc := "(I)V" } : Jvm.MethodName)) ∈ lw_all := sorry
theorem q3426 : (Jvm.Cond.privateMethod ({ cls := "LinkHouseModel", name := "outParams", desc := "(I)V" } : Jvm.MethodName)) ∈ lw_tbl := sorry
theorem q3427 : (Jvm.Cond.instanceMethod ({ cls := "LinkHouseModel", name := "outParams", desc := "(I)V" } : Jvm.MethodName)) ∈ lw_all := sorry
theorem q3428 : (Jvm.Cond.code ({ cls := "LinkHouseModel", name := "outParams", desc := "(I)V" } : Jvm.MethodName) prog_13_method_176_code (3 : Nat) (Option.none : Option Jvm.ClassFile.FieldType)) ∈ lw_all := sorry
theorem q3429 : (Jvm.Cond.methodLink "LinkHouseModel" (1059 : Nat) ({ cls := "LinkHouseModel", name := "outInt", desc := "(J)V" } : Jvm.MethodName)) ∈ lw_all := sorry
theorem q3430 : (Jvm.Cond.privateMethod ({ cls := "LinkHouseModel", name := "outInt", desc := "(J)V" } : Jvm.MethodName)) ∈ lw_tbl := sorry
theorem q3431 : (Jvm.Cond.instanceMethod ({ cls := "LinkHouseModel", name := "outInt", desc := "(J)V" } : Jvm.MethodName)) ∈ lw_all := sorry
theorem q3432 : (Jvm.Cond.code ({ cls := "LinkHouseModel", name := "outInt", desc := "(J)V" } : Jvm.MethodName) prog_13_method_8_code (7 : Nat) (Option.none : Option Jvm.ClassFile.FieldType)) ∈ lw_all := sorry
theorem q3433 : (Jvm.Cond.constantLong "LinkHouseModel" (41 : Nat) (10 : Int64)) ∈ lw_all := sorry
theorem q3435 : (Jvm.Cond.instanceMethod ({ cls := "LinkHouseModel", name := "uses", desc := "(II)I" } : Jvm.MethodName)) ∈ lw_all := sorry
theorem q3436 : (Jvm.Cond.selects "LinkHouseModel" ({ cls := "LinkHouseModel", name := "uses", desc := "(II)I" } : Jvm.MethodName) ({ cls := "LinkHouseModel", name := "uses", desc := "(II)I" } : Jvm.MethodName)) ∈ lw_all := sorry
theorem q3437 : (Jvm.Cond.code ({ cls := "LinkHouseModel", name := "uses", desc := "(II)I" } : Jvm.MethodName) prog_13_method_179_code (4 : Nat) (Option.some Jvm.ClassFile.FieldType.int)) ∈ lw_all := sorry
theorem q3439 : (Jvm.Cond.instanceMethod ({ cls := "LinkHouseModel", name := "use", desc := "(IIII)I" } : Jvm.MethodName)) ∈ lw_all := sorry
theorem q3440 : (Jvm.Cond.selects "LinkHouseModel" ({ cls := "LinkHouseModel", name := "use", desc := "(IIII)I" } : Jvm.MethodName) ({ cls := "LinkHouseModel", name := "use", desc := "(IIII)I" } : Jvm.MethodName)) ∈ lw_all := sorry
theorem q3441 : (Jvm.Cond.code ({ cls := "LinkHouseModel", name := "use", desc := "(IIII)I" } : Jvm.MethodName) prog_13_method_181_code (6 : Nat) (Option.some Jvm.ClassFile.FieldType.int)) ∈ lw_all := sorry
theorem q3442 : (Jvm.Cond.methodLink "LinkHouseModel" (1062 : Nat) ({ cls := "LinkHouseModel", name := "useAt", desc := "(III)I" } : Jvm.MethodName)) ∈ lw_all := sorry
theorem q3443 : (Jvm.Cond.privateMethod ({ cls := "LinkHouseModel", name := "useAt", desc := "(III)I" } : Jvm.MethodName)) ∈ lw_tbl := sorry
theorem q3444 : (Jvm.Cond.instanceMethod ({ cls := "LinkHouseModel", name := "useAt", desc := "(III)I" } : Jvm.MethodName)) ∈ lw_all := sorry
theorem q3445 : (Jvm.Cond.code ({ cls := "LinkHouseModel", name := "useAt", desc := "(III)I" } : Jvm.MethodName) prog_13_method_180_code (5 : Nat) (Option.some Jvm.ClassFile.FieldType.int)) ∈ lw_all := sorry
theorem q3447 : (Jvm.Cond.instanceMethod ({ cls := "LinkHouseModel", name := "tell", desc := "(III)I" } : Jvm.MethodName)) ∈ lw_all := sorry
theorem q3448 : (Jvm.Cond.selects "LinkHouseModel" ({ cls := "LinkHouseModel", name := "tell", desc := "(III)I" } : Jvm.MethodName) ({ cls := "LinkHouseModel", name := "tell", desc := "(III)I" } : Jvm.MethodName)) ∈ lw_all := sorry
theorem q3449 : (Jvm.Cond.code ({ cls := "LinkHouseModel", name := "tell", desc := "(III)I" } : Jvm.MethodName) prog_13_method_182_code (6 : Nat) (Option.some Jvm.ClassFile.FieldType.int)) ∈ lw_all := sorry
theorem q3450 : (Jvm.Cond.methodLink "LinkHouseModel" (1065 : Nat) ({ cls := "LinkHouseModel", name := "outMember", desc := "(II)V" } : Jvm.MethodName)) ∈ lw_all := sorry
theorem q3451 : (Jvm.Cond.privateMethod ({ cls := "LinkHouseModel", name := "outMember", desc := "(II)V" } : Jvm.MethodName)) ∈ lw_tbl := sorry
theorem q3452 : (Jvm.Cond.instanceMethod ({ cls := "LinkHouseModel", name := "outMember", desc := "(II)V" } : Jvm.MethodName)) ∈ lw_all := sorry
theorem q3453 : (Jvm.Cond.code ({ cls := "LinkHouseModel", name := "outMember", desc := "(II)V" } : Jvm.MethodName) prog_13_method_183_code (4 : Nat) (Option.none : Option Jvm.ClassFile.FieldType)) ∈ lw_all := sorry
theorem q3455 : (Jvm.Cond.instanceMethod ({ cls := "LinkHouseModel", name := "meet", desc := "(III)I" } : Jvm.MethodName)) ∈ lw_all := sorry
theorem q3456 : (Jvm.Cond.selects "LinkHouseModel" ({ cls := "LinkHouseModel", name := "meet", desc := "(III)I" } : Jvm.MethodName) ({ cls := "LinkHouseModel", name := "meet", desc := "(III)I" } : Jvm.MethodName)) ∈ lw_all := sorry
theorem q3457 : (Jvm.Cond.code ({ cls := "LinkHouseModel", name := "meet", desc := "(III)I" } : Jvm.MethodName) prog_13_method_209_code (7 : Nat) (Option.some Jvm.ClassFile.FieldType.int)) ∈ lw_all := sorry
theorem q3458 : (Jvm.Cond.methodLink "LinkHouseModel" (1166 : Nat) ({ cls := "LinkHouseModel", name := "stands", desc := "(I)Z" } : Jvm.MethodName)) ∈ lw_all := sorry
theorem q3459 : (Jvm.Cond.privateMethod ({ cls := "LinkHouseModel", name := "stands", desc := "(I)Z" } : Jvm.MethodName)) ∈ lw_tbl := sorry
theorem q3460 : (Jvm.Cond.instanceMethod ({ cls := "LinkHouseModel", name := "stands", desc := "(I)Z" } : Jvm.MethodName)) ∈ lw_all := sorry
theorem q3461 : (Jvm.Cond.code ({ cls := "LinkHouseModel", name := "stands", desc := "(I)Z" } : Jvm.MethodName) prog_13_method_207_code (3 : Nat) (Option.some Jvm.ClassFile.FieldType.boolean)) ∈ lw_all := sorry
theorem q3462 : (Jvm.Cond.methodLink "LinkHouseModel" (1168 : Nat) ({ cls := "LinkHouseModel", name := "foretell", desc := "(I)I" } : Jvm.MethodName)) ∈ lw_all := sorry
theorem q3463 : (Jvm.Cond.privateMethod ({ cls := "LinkHouseModel", name := "foretell", desc := "(I)I" } : Jvm.MethodName)) ∈ lw_tbl := sorry
theorem q3464 : (Jvm.Cond.instanceMethod ({ cls := "LinkHouseModel", name := "foretell", desc := "(I)I" } : Jvm.MethodName)) ∈ lw_all := sorry
theorem q3465 : (Jvm.Cond.code ({ cls := "LinkHouseModel", name := "foretell", desc := "(I)I" } : Jvm.MethodName) prog_13_method_208_code (4 : Nat) (Option.some Jvm.ClassFile.FieldType.int)) ∈ lw_all := sorry
theorem q3466 : (Jvm.Cond.methodLink "LinkHouseModel" (1116 : Nat) ({ cls := "LinkHouseModel", name := "ask", desc := "(IZ)I" } : Jvm.MethodName)) ∈ lw_all := sorry
theorem q3467 : (Jvm.Cond.privateMethod ({ cls := "LinkHouseModel", name := "ask", desc := "(IZ)I" } : Jvm.MethodName)) ∈ lw_tbl := sorry
theorem q3468 : (Jvm.Cond.instanceMethod ({ cls := "LinkHouseModel", name := "ask", desc := "(IZ)I" } : Jvm.MethodName)) ∈ lw_all := sorry
theorem q3469 : (Jvm.Cond.code ({ cls := "LinkHouseModel", name := "ask", desc := "(IZ)I" } : Jvm.MethodName) prog_13_method_196_code (6 : Nat) (Option.some Jvm.ClassFile.FieldType.int)) ∈ lw_all := sorry
theorem q3470 : (Jvm.Cond.methodLink "LinkHouseModel" (1127 : Nat) ({ cls := "LinkHouseModel", name := "isStale", desc := "(I)Z" } : Jvm.MethodName)) ∈ lw_all := sorry
theorem q3471 : (Jvm.Cond.privateMethod ({ cls := "LinkHouseModel", name := "isStale", desc := "(I)Z" } : Jvm.MethodName)) ∈ lw_tbl := sorry
theorem q3472 : (Jvm.Cond.instanceMethod ({ cls := "LinkHouseModel", name := "isStale", desc := "(I)Z" } : Jvm.MethodName)) ∈ lw_all := sorry
theorem q3473 : (Jvm.Cond.code ({ cls := "LinkHouseModel", name := "isStale", desc := "(I)Z" } : Jvm.MethodName) prog_13_method_197_code (4 : Nat) (Option.some Jvm.ClassFile.FieldType.boolean)) ∈ lw_all := sorry
theorem q3474 : (Jvm.Cond.methodLink "LinkHouseModel" (1130 : Nat) ({ cls := "LinkHouseModel", name := "askFit", desc := "(I)I" } : Jvm.MethodName)) ∈ lw_all := sorry
theorem q3475 : (Jvm.Cond.privateMethod ({ cls := "LinkHouseModel", name := "askFit", desc := "(I)I" } : Jvm.MethodName)) ∈ lw_tbl := sorry
theorem q3476 : (Jvm.Cond.instanceMethod ({ cls := "LinkHouseModel", name := "askFit", desc := "(I)I" } : Jvm.MethodName)) ∈ lw_all := sorry
theorem q3477 : (Jvm.Cond.code ({ cls := "LinkHouseModel", name := "askFit", desc := "(I)I" } : Jvm.MethodName) prog_13_method_198_code (5 : Nat) (Option.some Jvm.ClassFile.FieldType.int)) ∈ lw_all := sorry
theorem q3478 : (Jvm.Cond.methodLink "LinkHouseModel" (1133 : Nat) ({ cls := "LinkHouseModel", name := "askClass", desc := "(IZ)I" } : Jvm.MethodName)) ∈ lw_all := sorry
theorem q3479 : (Jvm.Cond.privateMethod ({ cls := "LinkHouseModel", name := "askClass", desc := "(IZ)I" } : Jvm.MethodName)) ∈ lw_tbl := sorry
theorem q3480 : (Jvm.Cond.instanceMethod ({ cls := "LinkHouseModel", name := "askClass", desc := "(IZ)I" } : Jvm.MethodName)) ∈ lw_all := sorry
theorem q3481 : (Jvm.Cond.code ({ cls := "LinkHouseModel", name := "askClass", desc := "(IZ)I" } : Jvm.MethodName) prog_13_method_199_code (8 : Nat) (Option.some Jvm.ClassFile.FieldType.int)) ∈ lw_all := sorry
theorem q3482 : (Jvm.Cond.methodLink "LinkHouseModel" (1136 : Nat) ({ cls := "LinkHouseModel", name := "askMaker", desc := "(II)I" } : Jvm.MethodName)) ∈ lw_all := sorry
theorem q3483 : (Jvm.Cond.privateMethod ({ cls := "LinkHouseModel", name := "askMaker", desc := "(II)I" } : Jvm.MethodName)) ∈ lw_tbl := sorry
theorem q3484 : (Jvm.Cond.instanceMethod ({ cls := "LinkHouseModel", name := "askMaker", desc := "(II)I" } : Jvm.MethodName)) ∈ lw_all := sorry
theorem q3485 : (Jvm.Cond.code ({ cls := "LinkHouseModel", name := "askMaker", desc := "(II)I" } : Jvm.MethodName) prog_13_method_200_code (5 : Nat) (Option.some Jvm.ClassFile.FieldType.int)) ∈ lw_all := sorry
theorem q3486 : (Jvm.Cond.methodLink "LinkHouseModel" (1145 : Nat) ({ cls := "LinkHouseModel", name := "see", desc := "(I)V" } : Jvm.MethodName)) ∈ lw_all := sorry
theorem q3487 : (Jvm.Cond.privateMethod ({ cls := "LinkHouseModel", name := "see", desc := "(I)V" } : Jvm.MethodName)) ∈ lw_tbl := sorry
theorem q3488 : (Jvm.Cond.instanceMethod ({ cls := "LinkHouseModel", name := "see", desc := "(I)V" } : Jvm.MethodName)) ∈ lw_all := sorry
theorem q3489 : (Jvm.Cond.code ({ cls := "LinkHouseModel", name := "see", desc := "(I)V" } : Jvm.MethodName) prog_13_method_195_code (2 : Nat) (Option.none : Option Jvm.ClassFile.FieldType)) ∈ lw_all := sorry
theorem q3490 : (Jvm.Cond.methodLink "LinkHouseModel" (1139 : Nat) ({ cls := "LinkHouseModel", name := "askField", desc := "(III)I" } : Jvm.MethodName)) ∈ lw_all := sorry
theorem q3491 : (Jvm.Cond.privateMethod ({ cls := "LinkHouseModel", name := "askField", desc := "(III)I" } : Jvm.MethodName)) ∈ lw_tbl := sorry
theorem q3492 : (Jvm.Cond.instanceMethod ({ cls := "LinkHouseModel", name := "askField", desc := "(III)I" } : Jvm.MethodName)) ∈ lw_all := sorry
theorem q3493 : (Jvm.Cond.code ({ cls := "LinkHouseModel", name := "askField", desc := "(III)I" } : Jvm.MethodName) prog_13_method_201_code (7 : Nat) (Option.some Jvm.ClassFile.FieldType.int)) ∈ lw_all := sorry
theorem q3494 : (Jvm.Cond.methodLink "LinkHouseModel" (1142 : Nat) ({ cls := "LinkHouseModel", name := "askMethod", desc := "(III)I" } : Jvm.MethodName)) ∈ lw_all := sorry
theorem q3495 : (Jvm.Cond.privateMethod ({ cls := "LinkHouseModel", name := "askMethod", desc := "(III)I" } : Jvm.MethodName)) ∈ lw_tbl := sorry
theorem q3496 : (Jvm.Cond.instanceMethod ({ cls := "LinkHouseModel", name := "askMethod", desc := "(III)I" } : Jvm.MethodName)) ∈ lw_all := sorry
theorem q3497 : (Jvm.Cond.code ({ cls := "LinkHouseModel", name := "askMethod", desc := "(III)I" } : Jvm.MethodName) prog_13_method_203_code (7 : Nat) (Option.some Jvm.ClassFile.FieldType.int)) ∈ lw_all := sorry
theorem q3498 : (Jvm.Cond.methodLink "LinkHouseModel" (1151 : Nat) ({ cls := "LinkHouseModel", name := "methodOf", desc := "(I)I" } : Jvm.MethodName)) ∈ lw_all := sorry
theorem q3499 : (Jvm.Cond.privateMethod ({ cls := "LinkHouseModel", name := "methodOf", desc := "(I)I" } : Jvm.MethodName)) ∈ lw_tbl := sorry
theorem q3500 : (Jvm.Cond.instanceMethod ({ cls := "LinkHouseModel", name := "methodOf", desc := "(I)I" } : Jvm.MethodName)) ∈ lw_all := sorry
theorem q3501 : (Jvm.Cond.code ({ cls := "LinkHouseModel", name := "methodOf", desc := "(I)I" } : Jvm.MethodName) prog_13_method_202_code (7 : Nat) (Option.some Jvm.ClassFile.FieldType.int)) ∈ lw_all := sorry
theorem q3502 : (Jvm.Cond.methodLink "LinkHouseModel" (1154 : Nat) ({ cls := "LinkHouseModel", name := "askSuper", desc := "(I)I" } : Jvm.MethodName)) ∈ lw_all := sorry
theorem q3503 : (Jvm.Cond.privateMethod ({ cls := "LinkHouseModel", name := "askSuper", desc := "(I)I" } : Jvm.MethodName)) ∈ lw_tbl := sorry
theorem q3504 : (Jvm.Cond.instanceMethod ({ cls := "LinkHouseModel", name := "askSuper", desc := "(I)I" } : Jvm.MethodName)) ∈ lw_all := sorry
theorem q3505 : (Jvm.Cond.code ({ cls := "LinkHouseModel", name := "askSuper", desc := "(I)I" } : Jvm.MethodName) prog_13_method_204_code (5 : Nat) (Option.some Jvm.ClassFile.FieldType.int)) ∈ lw_all := sorry
theorem q3506 : (Jvm.Cond.methodLink "LinkHouseModel" (1160 : Nat) ({ cls := "LinkHouseModel", name := "askCalled", desc := "(II)I" } : Jvm.MethodName)) ∈ lw_all := sorry
theorem q3507 : (Jvm.Cond.privateMethod ({ cls := "LinkHouseModel", name := "askCalled", desc := "(II)I" } : Jvm.MethodName)) ∈ lw_tbl := sorry
theorem q3508 : (Jvm.Cond.instanceMethod ({ cls := "LinkHouseModel", name := "askCalled", desc := "(II)I" } : Jvm.MethodName)) ∈ lw_all := sorry
theorem q3509 : (Jvm.Cond.code ({ cls := "LinkHouseModel", name := "askCalled", desc := "(II)I" } : Jvm.MethodName) prog_13_method_206_code (5 : Nat) (Option.some Jvm.ClassFile.FieldType.int)) ∈ lw_all := sorry
theorem q3510 : (Jvm.Cond.methodLink "LinkHouseModel" (1157 : Nat) ({ cls := "LinkHouseModel", name := "askFaceSuper", desc := "(I)I" } : Jvm.MethodName)) ∈ lw_all := sorry
theorem q3511 : (Jvm.Cond.privateMethod ({ cls := "LinkHouseModel", name := "askFaceSuper", desc := "(I)I" } : Jvm.MethodName)) ∈ lw_tbl := sorry
theorem q3512 : (Jvm.Cond.instanceMethod ({ cls := "LinkHouseModel", name := "askFaceSuper", desc := "(I)I" } : Jvm.MethodName)) ∈ lw_all := sorry
theorem q3513 : (Jvm.Cond.code ({ cls := "LinkHouseModel", name := "askFaceSuper", desc := "(I)I" } : Jvm.MethodName) prog_13_method_205_code (3 : Nat) (Option.some Jvm.ClassFile.FieldType.int)) ∈ lw_all := sorry
theorem q3515 : (Jvm.Cond.instanceMethod ({ cls := "LinkHouseModel", name := "met", desc := "()I" } : Jvm.MethodName)) ∈ lw_all := sorry
theorem q3516 : (Jvm.Cond.selects "LinkHouseModel" ({ cls := "LinkHouseModel", name := "met", desc := "()I" } : Jvm.MethodName) ({ cls := "LinkHouseModel", name := "met", desc := "()I" } : Jvm.MethodName)) ∈ lw_all := sorry
theorem q3517 : (Jvm.Cond.code ({ cls := "LinkHouseModel", name := "met", desc := "()I" } : Jvm.MethodName) prog_13_method_210_code (2 : Nat) (Option.some Jvm.ClassFile.FieldType.int)) ∈ lw_all := sorry
theorem q3519 : (Jvm.Cond.instanceMethod ({ cls := "LinkHouseModel", name := "looked", desc := "(I)I" } : Jvm.MethodName)) ∈ lw_all := sorry
theorem q3520 : (Jvm.Cond.selects "LinkHouseModel" ({ cls := "LinkHouseModel", name := "looked", desc := "(I)I" } : Jvm.MethodName) ({ cls := "LinkHouseModel", name := "looked", desc := "(I)I" } : Jvm.MethodName)) ∈ lw_all := sorry
theorem q3521 : (Jvm.Cond.code ({ cls := "LinkHouseModel", name := "looked", desc := "(I)I" } : Jvm.MethodName) prog_13_method_211_code (2 : Nat) (Option.some Jvm.ClassFile.FieldType.int)) ∈ lw_all := sorry
theorem q3523 : (Jvm.Cond.instanceMethod ({ cls := "LinkHouseModel", name := "broken", desc := "()I" } : Jvm.MethodName)) ∈ lw_all := sorry
theorem q3524 : (Jvm.Cond.selects "LinkHouseModel" ({ cls := "LinkHouseModel", name := "broken", desc := "()I" } : Jvm.MethodName) ({ cls := "LinkHouseModel", name := "broken", desc := "()I" } : Jvm.MethodName)) ∈ lw_all := sorry
theorem q3525 : (Jvm.Cond.code ({ cls := "LinkHouseModel", name := "broken", desc := "()I" } : Jvm.MethodName) prog_13_method_212_code (6 : Nat) (Option.some Jvm.ClassFile.FieldType.int)) ∈ lw_all := sorry
theorem q3527 : (Jvm.Cond.instanceMethod ({ cls := "LinkHouseModel", name := "brokenAt", desc := "(II)I" } : Jvm.MethodName)) ∈ lw_all := sorry
theorem q3528 : (Jvm.Cond.selects "LinkHouseModel" ({ cls := "LinkHouseModel", name := "brokenAt", desc := "(II)I" } : Jvm.MethodName) ({ cls := "LinkHouseModel", name := "brokenAt", desc := "(II)I" } : Jvm.MethodName)) ∈ lw_all := sorry
theorem q3529 : (Jvm.Cond.code ({ cls := "LinkHouseModel", name := "brokenAt", desc := "(II)I" } : Jvm.MethodName) prog_13_method_214_code (3 : Nat) (Option.some Jvm.ClassFile.FieldType.int)) ∈ lw_all := sorry
theorem q3531 : (Jvm.Cond.instanceMethod ({ cls := "LinkHouseModel", name := "stale", desc := "()I" } : Jvm.MethodName)) ∈ lw_all := sorry
theorem q3532 : (Jvm.Cond.selects "LinkHouseModel" ({ cls := "LinkHouseModel", name := "stale", desc := "()I" } : Jvm.MethodName) ({ cls := "LinkHouseModel", name := "stale", desc := "()I" } : Jvm.MethodName)) ∈ lw_all := sorry
theorem q3533 : (Jvm.Cond.code ({ cls := "LinkHouseModel", name := "stale", desc := "()I" } : Jvm.MethodName) prog_13_method_215_code (6 : Nat) (Option.some Jvm.ClassFile.FieldType.int)) ∈ lw_all := sorry
theorem q3535 : (Jvm.Cond.instanceMethod ({ cls := "LinkHouseModel", name := "choose", desc := "()I" } : Jvm.MethodName)) ∈ lw_all := sorry
theorem q3536 : (Jvm.Cond.selects "LinkHouseModel" ({ cls := "LinkHouseModel", name := "choose", desc := "()I" } : Jvm.MethodName) ({ cls := "LinkHouseModel", name := "choose", desc := "()I" } : Jvm.MethodName)) ∈ lw_all := sorry
theorem q3537 : (Jvm.Cond.code ({ cls := "LinkHouseModel", name := "choose", desc := "()I" } : Jvm.MethodName) prog_13_method_216_code (4 : Nat) (Option.some Jvm.ClassFile.FieldType.int)) ∈ lw_all := sorry
theorem q3538 : (Jvm.Cond.methodLink "LinkHouseModel" (1195 : Nat) ({ cls := "LinkHouseModel", name := "isBroken", desc := "()Z" } : Jvm.MethodName)) ∈ lw_all := sorry
theorem q3539 : (Jvm.Cond.privateMethod ({ cls := "LinkHouseModel", name := "isBroken", desc := "()Z" } : Jvm.MethodName)) ∈ lw_tbl := sorry
theorem q3540 : (Jvm.Cond.instanceMethod ({ cls := "LinkHouseModel", name := "isBroken", desc := "()Z" } : Jvm.MethodName)) ∈ lw_all := sorry
theorem q3541 : (Jvm.Cond.code ({ cls := "LinkHouseModel", name := "isBroken", desc := "()Z" } : Jvm.MethodName) prog_13_method_213_code (5 : Nat) (Option.some Jvm.ClassFile.FieldType.boolean)) ∈ lw_all := sorry
theorem q3543 : (Jvm.Cond.instanceMethod ({ cls := "LinkHouseModel", name := "fresh", desc := "()I" } : Jvm.MethodName)) ∈ lw_all := sorry
theorem q3544 : (Jvm.Cond.selects "LinkHouseModel" ({ cls := "LinkHouseModel", name := "fresh", desc := "()I" } : Jvm.MethodName) ({ cls := "LinkHouseModel", name := "fresh", desc := "()I" } : Jvm.MethodName)) ∈ lw_all := sorry
theorem q3545 : (Jvm.Cond.code ({ cls := "LinkHouseModel", name := "fresh", desc := "()I" } : Jvm.MethodName) prog_13_method_218_code (4 : Nat) (Option.some Jvm.ClassFile.FieldType.int)) ∈ lw_all := sorry
theorem q3547 : (Jvm.Cond.instanceMethod ({ cls := "LinkHouseModel", name := "touch", desc := "(III)I" } : Jvm.MethodName)) ∈ lw_all := sorry
theorem q3548 : (Jvm.Cond.selects "LinkHouseModel" ({ cls := "LinkHouseModel", name := "touch", desc := "(III)I" } : Jvm.MethodName) ({ cls := "LinkHouseModel", name := "touch", desc := "(III)I" } : Jvm.MethodName)) ∈ lw_all := sorry
theorem q3549 : (Jvm.Cond.code ({ cls := "LinkHouseModel", name := "touch", desc := "(III)I" } : Jvm.MethodName) prog_13_method_219_code (5 : Nat) (Option.some Jvm.ClassFile.FieldType.int)) ∈ lw_all := sorry
theorem q3551 : (Jvm.Cond.instanceMethod ({ cls := "LinkHouseModel", name := "run", desc := "()I" } : Jvm.MethodName)) ∈ lw_all := sorry
theorem q3552 : (Jvm.Cond.selects "LinkHouseModel" ({ cls := "LinkHouseModel", name := "run", desc := "()I" } : Jvm.MethodName) ({ cls := "LinkHouseModel", name := "run", desc := "()I" } : Jvm.MethodName)) ∈ lw_all := sorry
theorem q3553 : (Jvm.Cond.code ({ cls := "LinkHouseModel", name := "run", desc := "()I" } : Jvm.MethodName) prog_13_method_253_code (3 : Nat) (Option.some Jvm.ClassFile.FieldType.int)) ∈ lw_all := sorry
theorem q3554 : (Jvm.Cond.methodLink "LinkHouseModel" (1370 : Nat) ({ cls := "LinkHouseModel", name := "named", desc := "()I" } : Jvm.MethodName)) ∈ lw_all := sorry
theorem q3555 : (Jvm.Cond.privateMethod ({ cls := "LinkHouseModel", name := "named", desc := "()I" } : Jvm.MethodName)) ∈ lw_tbl := sorry
theorem q3556 : (Jvm.Cond.instanceMethod ({ cls := "LinkHouseModel", name := "named", desc := "()I" } : Jvm.MethodName)) ∈ lw_all := sorry
theorem q3557 : (Jvm.Cond.code ({ cls := "LinkHouseModel", name := "named", desc := "()I" } : Jvm.MethodName) prog_13_method_252_code (10 : Nat) (Option.some Jvm.ClassFile.FieldType.int)) ∈ lw_all := sorry
theorem q3558 : (Jvm.Cond.methodLink "LinkHouseModel" (1222 : Nat) ({ cls := "LinkHouseModel", name := "start", desc := "(I)V" } : Jvm.MethodName)) ∈ lw_all := sorry
theorem q3559 : (Jvm.Cond.privateMethod ({ cls := "LinkHouseModel", name := "start", desc := "(I)V" } : Jvm.MethodName)) ∈ lw_tbl := sorry
theorem q3560 : (Jvm.Cond.instanceMethod ({ cls := "LinkHouseModel", name := "start", desc := "(I)V" } : Jvm.MethodName)) ∈ lw_all := sorry
theorem q3561 : (Jvm.Cond.code ({ cls := "LinkHouseModel", name := "start", desc := "(I)V" } : Jvm.MethodName) prog_13_method_224_code (4 : Nat) (Option.none : Option Jvm.ClassFile.FieldType)) ∈ lw_all := sorry
theorem q3562 : (Jvm.Cond.methodLink "LinkHouseModel" (1213 : Nat) ({ cls := "LinkHouseModel", name := "fail", desc := "(I)I" } : Jvm.MethodName)) ∈ lw_all := sorry
theorem q3563 : (Jvm.Cond.privateMethod ({ cls := "LinkHouseModel", name := "fail", desc := "(I)I" } : Jvm.MethodName)) ∈ lw_tbl := sorry
theorem q3564 : (Jvm.Cond.instanceMethod ({ cls := "LinkHouseModel", name := "fail", desc := "(I)I" } : Jvm.MethodName)) ∈ lw_all := sorry
theorem q3565 : (Jvm.Cond.code ({ cls := "LinkHouseModel", name := "fail", desc := "(I)I" } : Jvm.MethodName) prog_13_method_220_code (2 : Nat) (Option.some Jvm.ClassFile.FieldType.int)) ∈ lw_all := sorry
theorem q3566 : (Jvm.Cond.methodLink "LinkHouseModel" (1110 : Nat) ({ cls := "LinkHouseModel", name := "link", desc := "(I)I" } : Jvm.MethodName)) ∈ lw_all := sorry
theorem q3567 : (Jvm.Cond.privateMethod ({ cls := "LinkHouseModel", name := "link", desc := "(I)I" } : Jvm.MethodName)) ∈ lw_tbl := sorry
theorem q3568 : (Jvm.Cond.instanceMethod ({ cls := "LinkHouseModel", name := "link", desc := "(I)I" } : Jvm.MethodName)) ∈ lw_all := sorry
theorem q3569 : (Jvm.Cond.code ({ cls := "LinkHouseModel", name := "link", desc := "(I)I" } : Jvm.MethodName) prog_13_method_192_code (4 : Nat) (Option.some Jvm.ClassFile.FieldType.int)) ∈ lw_all := sorry
theorem q3570 : (Jvm.Cond.methodLink "LinkHouseModel" (1107 : Nat) ({ cls := "LinkHouseModel", name := "linkWith", desc := "(I)I" } : Jvm.MethodName)) ∈ lw_all := sorry
theorem q3571 : (Jvm.Cond.privateMethod ({ cls := "LinkHouseModel", name := "linkWith", desc := "(I)I" } : Jvm.MethodName)) ∈ lw_tbl := sorry
theorem q3572 : (Jvm.Cond.instanceMethod ({ cls := "LinkHouseModel", name := "linkWith", desc := "(I)I" } : Jvm.MethodName)) ∈ lw_all := sorry
theorem q3573 : (Jvm.Cond.code ({ cls := "LinkHouseModel", name := "linkWith", desc := "(I)I" } : Jvm.MethodName) prog_13_method_193_code (6 : Nat) (Option.some Jvm.ClassFile.FieldType.int)) ∈ lw_all := sorry
theorem q3574 : (Jvm.Cond.methodLink "LinkHouseModel" (1113 : Nat) ({ cls := "LinkHouseModel", name := "overridesFinal", desc := "(I)Z" } : Jvm.MethodName)) ∈ lw_all := sorry
theorem q3575 : (Jvm.Cond.privateMethod ({ cls := "LinkHouseModel", name := "overridesFinal", desc := "(I)Z" } : Jvm.MethodName)) ∈ lw_tbl := sorry
theorem q3576 : (Jvm.Cond.instanceMethod ({ cls := "LinkHouseModel", name := "overridesFinal", desc := "(I)Z" } : Jvm.MethodName)) ∈ lw_all := sorry
theorem q3577 : (Jvm.Cond.code ({ cls := "LinkHouseModel", name := "overridesFinal", desc := "(I)Z" } : Jvm.MethodName) prog_13_method_194_code (7 : Nat) (Option.some Jvm.ClassFile.FieldType.boolean)) ∈ lw_all := sorry
theorem q3578 : (Jvm.Cond.methodLink "LinkHouseModel" (1224 : Nat) ({ cls := "LinkHouseModel", name := "startFaces", desc := "(I)V" } : Jvm.MethodName)) ∈ lw_all := sorry
theorem q3579 : (Jvm.Cond.privateMethod ({ cls := "LinkHouseModel", name := "startFaces", desc := "(I)V" } : Jvm.MethodName)) ∈ lw_tbl := sorry
theorem q3580 : (Jvm.Cond.instanceMethod ({ cls := "LinkHouseModel", name := "startFaces", desc := "(I)V" } : Jvm.MethodName)) ∈ lw_all := sorry
theorem q3581 : (Jvm.Cond.code ({ cls := "LinkHouseModel", name := "startFaces", desc := "(I)V" } : Jvm.MethodName) prog_13_method_225_code (6 : Nat) (Option.none : Option Jvm.ClassFile.FieldType)) ∈ lw_all := sorry
theorem q3582 : (Jvm.Cond.methodLink "LinkHouseModel" (1236 : Nat) ({ cls := "LinkHouseModel", name := "pushFaces", desc := "(I)V" } : Jvm.MethodName)) ∈ lw_all := sorry
theorem q3583 : (Jvm.Cond.privateMethod ({ cls := "LinkHouseModel", name := "pushFaces", desc := "(I)V" } : Jvm.MethodName)) ∈ lw_tbl := sorry
theorem q3584 : (Jvm.Cond.instanceMethod ({ cls := "LinkHouseModel", name := "pushFaces", desc := "(I)V" } : Jvm.MethodName)) ∈ lw_all := sorry
theorem q3585 : (Jvm.Cond.code ({ cls := "LinkHouseModel", name := "pushFaces", desc := "(I)V" } : Jvm.MethodName) prog_13_method_226_code (3 : Nat) (Option.none : Option Jvm.ClassFile.FieldType)) ∈ lw_all := sorry
theorem q3586 : (Jvm.Cond.methodLink "LinkHouseModel" (1242 : Nat) ({ cls := "LinkHouseModel", name := "hasBody", desc := "(I)Z" } : Jvm.MethodName)) ∈ lw_all := sorry
theorem q3587 : (Jvm.Cond.privateMethod ({ cls := "LinkHouseModel", name := "hasBody", desc := "(I)Z" } : Jvm.MethodName)) ∈ lw_tbl := sorry
theorem q3588 : (Jvm.Cond.instanceMethod ({ cls := "LinkHouseModel", name := "hasBody", desc := "(I)Z" } : Jvm.MethodName)) ∈ lw_all := sorry
theorem q3589 : (Jvm.Cond.code ({ cls := "LinkHouseModel", name := "hasBody", desc := "(I)Z" } : Jvm.MethodName) prog_13_method_223_code (4 : Nat) (Option.some Jvm.ClassFile.FieldType.boolean)) ∈ lw_all := sorry
theorem q3590 : (Jvm.Cond.methodLink "LinkHouseModel" (1227 : Nat) ({ cls := "LinkHouseModel", name := "startSelf", desc := "(I)V" } : Jvm.MethodName)) ∈ lw_all := sorry
theorem q3591 : (Jvm.Cond.privateMethod ({ cls := "LinkHouseModel", name := "startSelf", desc := "(I)V" } : Jvm.MethodName)) ∈ lw_tbl := sorry
theorem q3592 : (Jvm.Cond.instanceMethod ({ cls := "LinkHouseModel", name := "startSelf", desc := "(I)V" } : Jvm.MethodName)) ∈ lw_all := sorry
theorem q3593 : (Jvm.Cond.code ({ cls := "LinkHouseModel", name := "startSelf", desc := "(I)V" } : Jvm.MethodName) prog_13_method_227_code (6 : Nat) (Option.none : Option Jvm.ClassFile.FieldType)) ∈ lw_all := sorry
theorem q3594 : (Jvm.Cond.methodLink "LinkHouseModel" (1251 : Nat) ({ cls := "LinkHouseModel", name := "eval", desc := "(IIII)I" } : Jvm.MethodName)) ∈ lw_all := sorry
theorem q3595 : (Jvm.Cond.privateMethod ({ cls := "LinkHouseModel", name := "eval", desc := "(IIII)I" } : Jvm.MethodName)) ∈ lw_tbl := sorry
theorem q3596 : (Jvm.Cond.instanceMethod ({ cls := "LinkHouseModel", name := "eval", desc := "(IIII)I" } : Jvm.MethodName)) ∈ lw_all := sorry
theorem q3597 : (Jvm.Cond.code ({ cls := "LinkHouseModel", name := "eval", desc := "(IIII)I" } : Jvm.MethodName) prog_13_method_237_code (8 : Nat) (Option.some Jvm.ClassFile.FieldType.int)) ∈ lw_all := sorry
theorem q3598 : (Jvm.Cond.methodLink "LinkHouseModel" (1309 : Nat) ({ cls := "LinkHouseModel", name := "push", desc := "(I)V" } : Jvm.MethodName)) ∈ lw_all := sorry
theorem q3599 : (Jvm.Cond.privateMethod ({ cls := "LinkHouseModel", name := "push", desc := "(I)V" } : Jvm.MethodName)) ∈ lw_tbl := sorry
theorem q3600 : (Jvm.Cond.instanceMethod ({ cls := "LinkHouseModel", name := "push", desc := "(I)V" } : Jvm.MethodName)) ∈ lw_all := sorry
theorem q3601 : (Jvm.Cond.code ({ cls := "LinkHouseModel", name := "push", desc := "(I)V" } : Jvm.MethodName) prog_13_method_236_code (2 : Nat) (Option.none : Option Jvm.ClassFile.FieldType)) ∈ lw_all := sorry
theorem q3602 : (Jvm.Cond.methodLink "LinkHouseModel" (1312 : Nat) ({ cls := "LinkHouseModel", name := "evalNode", desc := "(IIIIII)I" } : Jvm.MethodName)) ∈ lw_all := sorry
theorem q3603 : (Jvm.Cond.privateMethod ({ cls := "LinkHouseModel", name := "evalNode", desc := "(IIIIII)I" } : Jvm.MethodName)) ∈ lw_tbl := sorry
theorem q3604 : (Jvm.Cond.instanceMethod ({ cls := "LinkHouseModel", name := "evalNode", desc := "(IIIIII)I" } : Jvm.MethodName)) ∈ lw_all := sorry
theorem q3605 : (Jvm.Cond.code ({ cls := "LinkHouseModel", name := "evalNode", desc := "(IIIIII)I" } : Jvm.MethodName) prog_13_method_238_code (8 : Nat) (Option.some Jvm.ClassFile.FieldType.int)) ∈ lw_all := sorry
theorem q3606 : (Jvm.Cond.methodLink "LinkHouseModel" (1316 : Nat) ({ cls := "LinkHouseModel", name := "getStatic", desc := "(I)I" } : Jvm.MethodName)) ∈ lw_all := sorry
theorem q3607 : (Jvm.Cond.privateMethod ({ cls := "LinkHouseModel", name := "getStatic", desc := "(I)I" } : Jvm.MethodName)) ∈ lw_tbl := sorry
theorem q3608 : (Jvm.Cond.instanceMethod ({ cls := "LinkHouseModel", name := "getStatic", desc := "(I)I" } : Jvm.MethodName)) ∈ lw_all := sorry
theorem q3609 : (Jvm.Cond.code ({ cls := "LinkHouseModel", name := "getStatic", desc := "(I)I" } : Jvm.MethodName) prog_13_method_247_code (3 : Nat) (Option.some Jvm.ClassFile.FieldType.int)) ∈ lw_all := sorry
theorem q3610 : (Jvm.Cond.methodLink "LinkHouseModel" (1288 : Nat) ({ cls := "LinkHouseModel", name := "asks", desc := "(I)Z" } : Jvm.MethodName)) ∈ lw_all := sorry
theorem q3611 : (Jvm.Cond.privateMethod ({ cls := "LinkHouseModel", name := "asks", desc := "(I)Z" } : Jvm.MethodName)) ∈ lw_tbl := sorry
theorem q3612 : (Jvm.Cond.instanceMethod ({ cls := "LinkHouseModel", name := "asks", desc := "(I)Z" } : Jvm.MethodName)) ∈ lw_all := sorry
theorem q3613 : (Jvm.Cond.code ({ cls := "LinkHouseModel", name := "asks", desc := "(I)Z" } : Jvm.MethodName) prog_13_method_221_code (3 : Nat) (Option.some Jvm.ClassFile.FieldType.boolean)) ∈ lw_all := sorry
theorem q3614 : (Jvm.Cond.methodLink "LinkHouseModel" (1319 : Nat) ({ cls := "LinkHouseModel", name := "getOf", desc := "(II)I" } : Jvm.MethodName)) ∈ lw_all := sorry
theorem q3615 : (Jvm.Cond.privateMethod ({ cls := "LinkHouseModel", name := "getOf", desc := "(II)I" } : Jvm.MethodName)) ∈ lw_tbl := sorry
theorem q3616 : (Jvm.Cond.instanceMethod ({ cls := "LinkHouseModel", name := "getOf", desc := "(II)I" } : Jvm.MethodName)) ∈ lw_all := sorry
theorem q3617 : (Jvm.Cond.code ({ cls := "LinkHouseModel", name := "getOf", desc := "(II)I" } : Jvm.MethodName) prog_13_method_246_code (4 : Nat) (Option.some Jvm.ClassFile.FieldType.int)) ∈ lw_all := sorry
theorem q3618 : (Jvm.Cond.methodLink "LinkHouseModel" (1294 : Nat) ({ cls := "LinkHouseModel", name := "cellOf", desc := "(II)I" } : Jvm.MethodName)) ∈ lw_all := sorry
theorem q3619 : (Jvm.Cond.privateMethod ({ cls := "LinkHouseModel", name := "cellOf", desc := "(II)I" } : Jvm.MethodName)) ∈ lw_tbl := sorry
theorem q3620 : (Jvm.Cond.instanceMethod ({ cls := "LinkHouseModel", name := "cellOf", desc := "(II)I" } : Jvm.MethodName)) ∈ lw_all := sorry
theorem q3621 : (Jvm.Cond.code ({ cls := "LinkHouseModel", name := "cellOf", desc := "(II)I" } : Jvm.MethodName) prog_13_method_229_code (6 : Nat) (Option.some Jvm.ClassFile.FieldType.int)) ∈ lw_all := sorry
theorem q3622 : (Jvm.Cond.methodLink "LinkHouseModel" (1259 : Nat) ({ cls := "LinkHouseModel", name := "fieldsOf", desc := "(I)I" } : Jvm.MethodName)) ∈ lw_all := sorry
theorem q3623 : (Jvm.Cond.privateMethod ({ cls := "LinkHouseModel", name := "fieldsOf", desc := "(I)I" } : Jvm.MethodName)) ∈ lw_tbl := sorry
theorem q3624 : (Jvm.Cond.instanceMethod ({ cls := "LinkHouseModel", name := "fieldsOf", desc := "(I)I" } : Jvm.MethodName)) ∈ lw_all := sorry
theorem q3625 : (Jvm.Cond.code ({ cls := "LinkHouseModel", name := "fieldsOf", desc := "(I)I" } : Jvm.MethodName) prog_13_method_228_code (5 : Nat) (Option.some Jvm.ClassFile.FieldType.int)) ∈ lw_all := sorry
theorem q3626 : (Jvm.Cond.methodLink "LinkHouseModel" (1322 : Nat) ({ cls := "LinkHouseModel", name := "asked", desc := "(II)I" } : Jvm.MethodName)) ∈ lw_all := sorry
theorem q3627 : (Jvm.Cond.privateMethod ({ cls := "LinkHouseModel", name := "asked", desc := "(II)I" } : Jvm.MethodName)) ∈ lw_tbl := sorry
theorem q3628 : (Jvm.Cond.instanceMethod ({ cls := "LinkHouseModel", name := "asked", desc := "(II)I" } : Jvm.MethodName)) ∈ lw_all := sorry
theorem q3629 : (Jvm.Cond.code ({ cls := "LinkHouseModel", name := "asked", desc := "(II)I" } : Jvm.MethodName) prog_13_method_240_code (3 : Nat) (Option.some Jvm.ClassFile.FieldType.int)) ∈ lw_all := sorry
theorem q3630 : (Jvm.Cond.methodLink "LinkHouseModel" (1343 : Nat) ({ cls := "LinkHouseModel", name := "isMade", desc := "(II)Z" } : Jvm.MethodName)) ∈ lw_all := sorry
theorem q3631 : (Jvm.Cond.privateMethod ({ cls := "LinkHouseModel", name := "isMade", desc := "(II)Z" } : Jvm.MethodName)) ∈ lw_tbl := sorry
theorem q3632 : (Jvm.Cond.instanceMethod ({ cls := "LinkHouseModel", name := "isMade", desc := "(II)Z" } : Jvm.MethodName)) ∈ lw_all := sorry
theorem q3633 : (Jvm.Cond.code ({ cls := "LinkHouseModel", name := "isMade", desc := "(II)Z" } : Jvm.MethodName) prog_13_method_222_code (3 : Nat) (Option.some Jvm.ClassFile.FieldType.boolean)) ∈ lw_all := sorry
theorem q3634 : (Jvm.Cond.methodLink "LinkHouseModel" (1325 : Nat) ({ cls := "LinkHouseModel", name := "cast", desc := "(II)I" } : Jvm.MethodName)) ∈ lw_all := sorry
theorem q3635 : (Jvm.Cond.privateMethod ({ cls := "LinkHouseModel", name := "cast", desc := "(II)I" } : Jvm.MethodName)) ∈ lw_tbl := sorry
theorem q3636 : (Jvm.Cond.instanceMethod ({ cls := "LinkHouseModel", name := "cast", desc := "(II)I" } : Jvm.MethodName)) ∈ lw_all := sorry
theorem q3637 : (Jvm.Cond.code ({ cls := "LinkHouseModel", name := "cast", desc := "(II)I" } : Jvm.MethodName) prog_13_method_241_code (3 : Nat) (Option.some Jvm.ClassFile.FieldType.int)) ∈ lw_all := sorry
theorem q3638 : (Jvm.Cond.methodLink "LinkHouseModel" (1331 : Nat) ({ cls := "LinkHouseModel", name := "beginArgs", desc := "(II)V" } : Jvm.MethodName)) ∈ lw_all := sorry
theorem q3639 : (Jvm.Cond.privateMethod ({ cls := "LinkHouseModel", name := "beginArgs", desc := "(II)V" } : Jvm.MethodName)) ∈ lw_tbl := sorry
theorem q3640 : (Jvm.Cond.instanceMethod ({ cls := "LinkHouseModel", name := "beginArgs", desc := "(II)V" } : Jvm.MethodName)) ∈ lw_all := sorry
theorem q3641 : (Jvm.Cond.code ({ cls := "LinkHouseModel", name := "beginArgs", desc := "(II)V" } : Jvm.MethodName) prog_13_method_243_code (3 : Nat) (Option.none : Option Jvm.ClassFile.FieldType)) ∈ lw_all := sorry
theorem q3642 : (Jvm.Cond.methodLink "LinkHouseModel" (1334 : Nat) ({ cls := "LinkHouseModel", name := "evalCall", desc := "(IIII)I" } : Jvm.MethodName)) ∈ lw_all := sorry
theorem q3643 : (Jvm.Cond.privateMethod ({ cls := "LinkHouseModel", name := "evalCall", desc := "(IIII)I" } : Jvm.MethodName)) ∈ lw_tbl := sorry
theorem q3644 : (Jvm.Cond.instanceMethod ({ cls := "LinkHouseModel", name := "evalCall", desc := "(IIII)I" } : Jvm.MethodName)) ∈ lw_all := sorry
theorem q3645 : (Jvm.Cond.code ({ cls := "LinkHouseModel", name := "evalCall", desc := "(IIII)I" } : Jvm.MethodName) prog_13_method_244_code (7 : Nat) (Option.some Jvm.ClassFile.FieldType.int)) ∈ lw_all := sorry
theorem q3646 : (Jvm.Cond.methodLink "LinkHouseModel" (1291 : Nat) ({ cls := "LinkHouseModel", name := "invoke", desc := "(III)I" } : Jvm.MethodName)) ∈ lw_all := sorry
theorem q3647 : (Jvm.Cond.privateMethod ({ cls := "LinkHouseModel", name := "invoke", desc := "(III)I" } : Jvm.MethodName)) ∈ lw_tbl := sorry
theorem q3648 : (Jvm.Cond.instanceMethod ({ cls := "LinkHouseModel", name := "invoke", desc := "(III)I" } : Jvm.MethodName)) ∈ lw_all := sorry
theorem q3649 : (Jvm.Cond.code ({ cls := "LinkHouseModel", name := "invoke", desc := "(III)I" } : Jvm.MethodName) prog_13_method_232_code (7 : Nat) (Option.some Jvm.ClassFile.FieldType.int)) ∈ lw_all := sorry
theorem q3650 : (Jvm.Cond.methodLink "LinkHouseModel" (1271 : Nat) ({ cls := "LinkHouseModel", name := "steps", desc := "()Z" } : Jvm.MethodName)) ∈ lw_all := sorry
theorem q3651 : (Jvm.Cond.privateMethod ({ cls := "LinkHouseModel", name := "steps", desc := "()Z" } : Jvm.MethodName)) ∈ lw_tbl := sorry
theorem q3652 : (Jvm.Cond.instanceMethod ({ cls := "LinkHouseModel", name := "steps", desc := "()Z" } : Jvm.MethodName)) ∈ lw_all := sorry
theorem q3653 : (Jvm.Cond.code ({ cls := "LinkHouseModel", name := "steps", desc := "()Z" } : Jvm.MethodName) prog_13_method_231_code (1 : Nat) (Option.some Jvm.ClassFile.FieldType.boolean)) ∈ lw_all := sorry
theorem q3654 : (Jvm.Cond.methodLink "LinkHouseModel" (1273 : Nat) ({ cls := "LinkHouseModel", name := "alongBridge", desc := "(III)I" } : Jvm.MethodName)) ∈ lw_all := sorry
theorem q3655 : (Jvm.Cond.privateMethod ({ cls := "LinkHouseModel", name := "alongBridge", desc := "(III)I" } : Jvm.MethodName)) ∈ lw_tbl := sorry
theorem q3656 : (Jvm.Cond.instanceMethod ({ cls := "LinkHouseModel", name := "alongBridge", desc := "(III)I" } : Jvm.MethodName)) ∈ lw_all := sorry
theorem q3657 : (Jvm.Cond.code ({ cls := "LinkHouseModel", name := "alongBridge", desc := "(III)I" } : Jvm.MethodName) prog_13_method_233_code (6 : Nat) (Option.some Jvm.ClassFile.FieldType.int)) ∈ lw_all := sorry
theorem q3658 : (Jvm.Cond.methodLink "LinkHouseModel" (1285 : Nat) ({ cls := "LinkHouseModel", name := "callBy", desc := "(III)I" } : Jvm.MethodName)) ∈ lw_all := sorry
theorem q3659 : (Jvm.Cond.privateMethod ({ cls := "LinkHouseModel", name := "callBy", desc := "(III)I" } : Jvm.MethodName)) ∈ lw_tbl := sorry
theorem q3660 : (Jvm.Cond.instanceMethod ({ cls := "LinkHouseModel", name := "callBy", desc := "(III)I" } : Jvm.MethodName)) ∈ lw_all := sorry
theorem q3661 : (Jvm.Cond.code ({ cls := "LinkHouseModel", name := "callBy", desc := "(III)I" } : Jvm.MethodName) prog_13_method_234_code (9 : Nat) (Option.some Jvm.ClassFile.FieldType.int)) ∈ lw_all := sorry
theorem q3662 : (Jvm.Cond.methodLink "LinkHouseModel" (1276 : Nat) ({ cls := "LinkHouseModel", name := "runMaker", desc := "(III)V" } : Jvm.MethodName)) ∈ lw_all := sorry
theorem q3663 : (Jvm.Cond.privateMethod ({ cls := "LinkHouseModel", name := "runMaker", desc := "(III)V" } : Jvm.MethodName)) ∈ lw_tbl := sorry
theorem q3664 : (Jvm.Cond.instanceMethod ({ cls := "LinkHouseModel", name := "runMaker", desc := "(III)V" } : Jvm.MethodName)) ∈ lw_all := sorry
theorem q3665 : (Jvm.Cond.code ({ cls := "LinkHouseModel", name := "runMaker", desc := "(III)V" } : Jvm.MethodName) prog_13_method_235_code (9 : Nat) (Option.none : Option Jvm.ClassFile.FieldType)) ∈ lw_all := sorry
theorem q3666 : (Jvm.Cond.methodLink "LinkHouseModel" (1255 : Nat) ({ cls := "LinkHouseModel", name := "exec", desc := "(IIII)V" } : Jvm.MethodName)) ∈ lw_all := sorry
theorem q3667 : (Jvm.Cond.privateMethod ({ cls := "LinkHouseModel", name := "exec", desc := "(IIII)V" } : Jvm.MethodName)) ∈ lw_tbl := sorry
theorem q3668 : (Jvm.Cond.instanceMethod ({ cls := "LinkHouseModel", name := "exec", desc := "(IIII)V" } : Jvm.MethodName)) ∈ lw_all := sorry
theorem q3669 : (Jvm.Cond.code ({ cls := "LinkHouseModel", name := "exec", desc := "(IIII)V" } : Jvm.MethodName) prog_13_method_248_code (7 : Nat) (Option.none : Option Jvm.ClassFile.FieldType)) ∈ lw_all := sorry
theorem q3670 : (Jvm.Cond.methodLink "LinkHouseModel" (1352 : Nat) ({ cls := "LinkHouseModel", name := "caught", desc := "(IIII)V" } : Jvm.MethodName)) ∈ lw_all := sorry
theorem q3671 : (Jvm.Cond.privateMethod ({ cls := "LinkHouseModel", name := "caught", desc := "(IIII)V" } : Jvm.MethodName)) ∈ lw_tbl := sorry
theorem q3672 : (Jvm.Cond.instanceMethod ({ cls := "LinkHouseModel", name := "caught", desc := "(IIII)V" } : Jvm.MethodName)) ∈ lw_all := sorry
theorem q3673 : (Jvm.Cond.code ({ cls := "LinkHouseModel", name := "caught", desc := "(IIII)V" } : Jvm.MethodName) prog_13_method_249_code (6 : Nat) (Option.none : Option Jvm.ClassFile.FieldType)) ∈ lw_all := sorry
theorem q3674 : (Jvm.Cond.methodLink "LinkHouseModel" (1355 : Nat) ({ cls := "LinkHouseModel", name := "execOther", desc := "(IIII)V" } : Jvm.MethodName)) ∈ lw_all := sorry
theorem q3675 : (Jvm.Cond.privateMethod ({ cls := "LinkHouseModel", name := "execOther", desc := "(IIII)V" } : Jvm.MethodName)) ∈ lw_tbl := sorry
theorem q3676 : (Jvm.Cond.instanceMethod ({ cls := "LinkHouseModel", name := "execOther", desc := "(IIII)V" } : Jvm.MethodName)) ∈ lw_all := sorry
theorem q3677 : (Jvm.Cond.code ({ cls := "LinkHouseModel", name := "execOther", desc := "(IIII)V" } : Jvm.MethodName) prog_13_method_250_code (6 : Nat) (Option.none : Option Jvm.ClassFile.FieldType)) ∈ lw_all := sorry
theorem q3678 : (Jvm.Cond.methodLink "LinkHouseModel" (1364 : Nat) ({ cls := "LinkHouseModel", name := "evalArgs", desc := "(IIII)I" } : Jvm.MethodName)) ∈ lw_all := sorry
theorem q3679 : (Jvm.Cond.privateMethod ({ cls := "LinkHouseModel", name := "evalArgs", desc := "(IIII)I" } : Jvm.MethodName)) ∈ lw_tbl := sorry
theorem q3680 : (Jvm.Cond.instanceMethod ({ cls := "LinkHouseModel", name := "evalArgs", desc := "(IIII)I" } : Jvm.MethodName)) ∈ lw_all := sorry
theorem q3681 : (Jvm.Cond.code ({ cls := "LinkHouseModel", name := "evalArgs", desc := "(IIII)I" } : Jvm.MethodName) prog_13_method_245_code (8 : Nat) (Option.some Jvm.ClassFile.FieldType.int)) ∈ lw_all := sorry
theorem q3682 : (Jvm.Cond.methodLink "LinkHouseModel" (1367 : Nat) ({ cls := "LinkHouseModel", name := "execPut", desc := "(IIII)V" } : Jvm.MethodName)) ∈ lw_all := sorry
theorem q3683 : (Jvm.Cond.privateMethod ({ cls := "LinkHouseModel", name := "execPut", desc := "(IIII)V" } : Jvm.MethodName)) ∈ lw_tbl := sorry
theorem q3684 : (Jvm.Cond.instanceMethod ({ cls := "LinkHouseModel", name := "execPut", desc := "(IIII)V" } : Jvm.MethodName)) ∈ lw_all := sorry
theorem q3685 : (Jvm.Cond.code ({ cls := "LinkHouseModel", name := "execPut", desc := "(IIII)V" } : Jvm.MethodName) prog_13_method_251_code (10 : Nat) (Option.none : Option Jvm.ClassFile.FieldType)) ∈ lw_all := sorry
theorem q3686 : (Jvm.Cond.methodLink "LinkHouseModel" (1337 : Nat) ({ cls := "LinkHouseModel", name := "evalNew", desc := "(II)I" } : Jvm.MethodName)) ∈ lw_all := sorry
theorem q3687 : (Jvm.Cond.privateMethod ({ cls := "LinkHouseModel", name := "evalNew", desc := "(II)I" } : Jvm.MethodName)) ∈ lw_tbl := sorry
theorem q3688 : (Jvm.Cond.instanceMethod ({ cls := "LinkHouseModel", name := "evalNew", desc := "(II)I" } : Jvm.MethodName)) ∈ lw_all := sorry
theorem q3689 : (Jvm.Cond.code ({ cls := "LinkHouseModel", name := "evalNew", desc := "(II)I" } : Jvm.MethodName) prog_13_method_242_code (5 : Nat) (Option.some Jvm.ClassFile.FieldType.int)) ∈ lw_all := sorry
theorem q3690 : (Jvm.Cond.methodLink "LinkHouseModel" (1346 : Nat) ({ cls := "LinkHouseModel", name := "newObject", desc := "(I)I" } : Jvm.MethodName)) ∈ lw_all := sorry
theorem q3691 : (Jvm.Cond.privateMethod ({ cls := "LinkHouseModel", name := "newObject", desc := "(I)I" } : Jvm.MethodName)) ∈ lw_tbl := sorry
theorem q3692 : (Jvm.Cond.instanceMethod ({ cls := "LinkHouseModel", name := "newObject", desc := "(I)I" } : Jvm.MethodName)) ∈ lw_all := sorry
theorem q3693 : (Jvm.Cond.code ({ cls := "LinkHouseModel", name := "newObject", desc := "(I)I" } : Jvm.MethodName) prog_13_method_230_code (4 : Nat) (Option.some Jvm.ClassFile.FieldType.int)) ∈ lw_all := sorry
theorem q3694 : (Jvm.Cond.methodLink "LinkHouseModel" (1340 : Nat) ({ cls := "LinkHouseModel", name := "evalTwo", desc := "(III)I" } : Jvm.MethodName)) ∈ lw_all := sorry
theorem q3695 : (Jvm.Cond.privateMethod ({ cls := "LinkHouseModel", name := "evalTwo", desc := "(III)I" } : Jvm.MethodName)) ∈ lw_tbl := sorry
theorem q3696 : (Jvm.Cond.instanceMethod ({ cls := "LinkHouseModel", name := "evalTwo", desc := "(III)I" } : Jvm.MethodName)) ∈ lw_all := sorry
theorem q3697 : (Jvm.Cond.code ({ cls := "LinkHouseModel", name := "evalTwo", desc := "(III)I" } : Jvm.MethodName) prog_13_method_239_code (4 : Nat) (Option.some Jvm.ClassFile.FieldType.int)) ∈ lw_all := sorry
theorem q3699 : (Jvm.Cond.instanceMethod ({ cls := "LinkHouseModel", name := "value", desc := "()I" } : Jvm.MethodName)) ∈ lw_all := sorry
theorem q3700 : (Jvm.Cond.selects "LinkHouseModel" ({ cls := "LinkHouseModel", name := "value", desc := "()I" } : Jvm.MethodName) ({ cls := "LinkHouseModel", name := "value", desc := "()I" } : Jvm.MethodName)) ∈ lw_all := sorry
theorem q3701 : (Jvm.Cond.code ({ cls := "LinkHouseModel", name := "value", desc := "()I" } : Jvm.MethodName) prog_13_method_254_code (1 : Nat) (Option.some Jvm.ClassFile.FieldType.int)) ∈ lw_all := sorry
theorem q3703 : (Jvm.Cond.instanceMethod ({ cls := "LinkHouseModel", name := "told", desc := "(I)I" } : Jvm.MethodName)) ∈ lw_all := sorry
theorem q3704 : (Jvm.Cond.selects "LinkHouseModel" ({ cls := "LinkHouseModel", name := "told", desc := "(I)I" } : Jvm.MethodName) ({ cls := "LinkHouseModel", name := "told", desc := "(I)I" } : Jvm.MethodName)) ∈ lw_all := sorry
theorem q3705 : (Jvm.Cond.code ({ cls := "LinkHouseModel", name := "told", desc := "(I)I" } : Jvm.MethodName) prog_13_method_255_code (2 : Nat) (Option.some Jvm.ClassFile.FieldType.int)) ∈ lw_all := sorry
theorem q3707 : (Jvm.Cond.instanceMethod ({ cls := "LinkHouseModel", name := "number", desc := "(I)I" } : Jvm.MethodName)) ∈ lw_all := sorry
theorem q3708 : (Jvm.Cond.selects "LinkHouseModel" ({ cls := "LinkHouseModel", name := "number", desc := "(I)I" } : Jvm.MethodName) ({ cls := "LinkHouseModel", name := "number", desc := "(I)I" } : Jvm.MethodName)) ∈ lw_all := sorry
theorem q3709 : (Jvm.Cond.code ({ cls := "LinkHouseModel", name := "number", desc := "(I)I" } : Jvm.MethodName) prog_13_method_256_code (2 : Nat) (Option.some Jvm.ClassFile.FieldType.int)) ∈ lw_all := sorry
theorem q3711 : (Jvm.Cond.instanceMethod ({ cls := "LinkHouseModel", name := "event", desc := "(I)I" } : Jvm.MethodName)) ∈ lw_all := sorry
theorem q3712 : (Jvm.Cond.selects "LinkHouseModel" ({ cls := "LinkHouseModel", name := "event", desc := "(I)I" } : Jvm.MethodName) ({ cls := "LinkHouseModel", name := "event", desc := "(I)I" } : Jvm.MethodName)) ∈ lw_all := sorry
theorem q3713 : (Jvm.Cond.code ({ cls := "LinkHouseModel", name := "event", desc := "(I)I" } : Jvm.MethodName) prog_13_method_257_code (2 : Nat) (Option.some Jvm.ClassFile.FieldType.int)) ∈ lw_all := sorry
theorem q3715 : (Jvm.Cond.instanceMethod ({ cls := "LinkHouseModel", name := "name", desc := "(I)I" } : Jvm.MethodName)) ∈ lw_all := sorry
theorem q3716 : (Jvm.Cond.selects "LinkHouseModel" ({ cls := "LinkHouseModel", name := "name", desc := "(I)I" } : Jvm.MethodName) ({ cls := "LinkHouseModel", name := "name", desc := "(I)I" } : Jvm.MethodName)) ∈ lw_all := sorry
theorem q3717 : (Jvm.Cond.code ({ cls := "LinkHouseModel", name := "name", desc := "(I)I" } : Jvm.MethodName) prog_13_method_258_code (2 : Nat) (Option.some Jvm.ClassFile.FieldType.int)) ∈ lw_all := sorry
theorem q3719 : (Jvm.Cond.instanceMethod ({ cls := "LinkHouseModel", name := "state", desc := "(I)I" } : Jvm.MethodName)) ∈ lw_all := sorry
theorem q3720 : (Jvm.Cond.selects "LinkHouseModel" ({ cls := "LinkHouseModel", name := "state", desc := "(I)I" } : Jvm.MethodName) ({ cls := "LinkHouseModel", name := "state", desc := "(I)I" } : Jvm.MethodName)) ∈ lw_all := sorry
theorem q3721 : (Jvm.Cond.code ({ cls := "LinkHouseModel", name := "state", desc := "(I)I" } : Jvm.MethodName) prog_13_method_259_code (2 : Nat) (Option.some Jvm.ClassFile.FieldType.int)) ∈ lw_all := sorry
theorem q3723 : (Jvm.Cond.instanceMethod ({ cls := "LinkHouseModel", name := "classOf", desc := "(I)I" } : Jvm.MethodName)) ∈ lw_all := sorry
theorem q3724 : (Jvm.Cond.selects "LinkHouseModel" ({ cls := "LinkHouseModel", name := "classOf", desc := "(I)I" } : Jvm.MethodName) ({ cls := "LinkHouseModel", name := "classOf", desc := "(I)I" } : Jvm.MethodName)) ∈ lw_all := sorry
theorem q3725 : (Jvm.Cond.code ({ cls := "LinkHouseModel", name := "classOf", desc := "(I)I" } : Jvm.MethodName) prog_13_method_260_code (2 : Nat) (Option.some Jvm.ClassFile.FieldType.int)) ∈ lw_all := sorry
theorem q3727 : (Jvm.Cond.instanceMethod ({ cls := "LinkHouseModel", name := "fieldOf", desc := "(II)I" } : Jvm.MethodName)) ∈ lw_all := sorry
theorem q3728 : (Jvm.Cond.selects "LinkHouseModel" ({ cls := "LinkHouseModel", name := "fieldOf", desc := "(II)I" } : Jvm.MethodName) ({ cls := "LinkHouseModel", name := "fieldOf", desc := "(II)I" } : Jvm.MethodName)) ∈ lw_all := sorry
theorem q3729 : (Jvm.Cond.code ({ cls := "LinkHouseModel", name := "fieldOf", desc := "(II)I" } : Jvm.MethodName) prog_13_method_261_code (4 : Nat) (Option.some Jvm.ClassFile.FieldType.int)) ∈ lw_all := sorry
theorem q3731 : (Jvm.Cond.instanceMethod ({ cls := "LinkHouseModel", name := "differ", desc := "(III)I" } : Jvm.MethodName)) ∈ lw_all := sorry
theorem q3732 : (Jvm.Cond.selects "LinkHouseModel" ({ cls := "LinkHouseModel", name := "differ", desc := "(III)I" } : Jvm.MethodName) ({ cls := "LinkHouseModel", name := "differ", desc := "(III)I" } : Jvm.MethodName)) ∈ lw_all := sorry
theorem q3733 : (Jvm.Cond.code ({ cls := "LinkHouseModel", name := "differ", desc := "(III)I" } : Jvm.MethodName) prog_13_method_264_code (6 : Nat) (Option.some Jvm.ClassFile.FieldType.int)) ∈ lw_all := sorry
theorem q3734 : (Jvm.Cond.methodLink "LinkHouseModel" (1385 : Nat) ({ cls := "LinkHouseModel", name := "compare", desc := "(II)V" } : Jvm.MethodName)) ∈ lw_all := sorry
theorem q3735 : (Jvm.Cond.privateMethod ({ cls := "LinkHouseModel", name := "compare", desc := "(II)V" } : Jvm.MethodName)) ∈ lw_tbl := sorry
theorem q3736 : (Jvm.Cond.instanceMethod ({ cls := "LinkHouseModel", name := "compare", desc := "(II)V" } : Jvm.MethodName)) ∈ lw_all := sorry
theorem q3737 : (Jvm.Cond.code ({ cls := "LinkHouseModel", name := "compare", desc := "(II)V" } : Jvm.MethodName) prog_13_method_265_code (6 : Nat) (Option.none : Option Jvm.ClassFile.FieldType)) ∈ lw_all := sorry
theorem q3738 : (Jvm.Cond.methodLink "LinkHouseModel" (1388 : Nat) ({ cls := "LinkHouseModel", name := "differs", desc := "(IIIII)V" } : Jvm.MethodName)) ∈ lw_all := sorry
theorem q3739 : (Jvm.Cond.privateMethod ({ cls := "LinkHouseModel", name := "differs", desc := "(IIIII)V" } : Jvm.MethodName)) ∈ lw_tbl := sorry
theorem q3740 : (Jvm.Cond.instanceMethod ({ cls := "LinkHouseModel", name := "differs", desc := "(IIIII)V" } : Jvm.MethodName)) ∈ lw_all := sorry
theorem q3741 : (Jvm.Cond.code ({ cls := "LinkHouseModel", name := "differs", desc := "(IIIII)V" } : Jvm.MethodName) prog_13_method_262_code (7 : Nat) (Option.none : Option Jvm.ClassFile.FieldType)) ∈ lw_all := sorry
theorem q3742 : (Jvm.Cond.methodLink "LinkHouseModel" (1382 : Nat) ({ cls := "LinkHouseModel", name := "toldPlace", desc := "(I)I" } : Jvm.MethodName)) ∈ lw_all := sorry
theorem q3743 : (Jvm.Cond.privateMethod ({ cls := "LinkHouseModel", name := "toldPlace", desc := "(I)I" } : Jvm.MethodName)) ∈ lw_tbl := sorry
theorem q3744 : (Jvm.Cond.instanceMethod ({ cls := "LinkHouseModel", name := "toldPlace", desc := "(I)I" } : Jvm.MethodName)) ∈ lw_all := sorry
theorem q3745 : (Jvm.Cond.code ({ cls := "LinkHouseModel", name := "toldPlace", desc := "(I)I" } : Jvm.MethodName) prog_13_method_263_code (5 : Nat) (Option.some Jvm.ClassFile.FieldType.int)) ∈ lw_all := sorry
theorem q3746 : (Jvm.Cond.methodLink "LinkHouseModel" (1392 : Nat) ({ cls := "LinkHouseModel", name := "compareHeads", desc := "(II)V" } : Jvm.MethodName)) ∈ lw_all := sorry
theorem q3747 : (Jvm.Cond.privateMethod ({ cls := "LinkHouseModel", name := "compareHeads", desc := "(II)V" } : Jvm.MethodName)) ∈ lw_tbl := sorry
theorem q3748 : (Jvm.Cond.instanceMethod ({ cls := "LinkHouseModel", name := "compareHeads", desc := "(II)V" } : Jvm.MethodName)) ∈ lw_all := sorry
theorem q3749 : (Jvm.Cond.code ({ cls := "LinkHouseModel", name := "compareHeads", desc := "(II)V" } : Jvm.MethodName) prog_13_method_267_code (10 : Nat) (Option.none : Option Jvm.ClassFile.FieldType)) ∈ lw_all := sorry
theorem q3750 : (Jvm.Cond.methodLink "LinkHouseModel" (1407 : Nat) ({ cls := "LinkHouseModel", name := "either", desc := "(IZZII)V" } : Jvm.MethodName)) ∈ lw_all := sorry
theorem q3751 : (Jvm.Cond.privateMethod ({ cls := "LinkHouseModel", name := "either", desc := "(IZZII)V" } : Jvm.MethodName)) ∈ lw_tbl := sorry
theorem q3752 : (Jvm.Cond.instanceMethod ({ cls := "LinkHouseModel", name := "either", desc := "(IZZII)V" } : Jvm.MethodName)) ∈ lw_all := sorry
theorem q3753 : (Jvm.Cond.code ({ cls := "LinkHouseModel", name := "either", desc := "(IZZII)V" } : Jvm.MethodName) prog_13_method_266_code (6 : Nat) (Option.none : Option Jvm.ClassFile.FieldType)) ∈ lw_all := sorry
theorem q3754 : (Jvm.Cond.methodLink "LinkHouseModel" (1395 : Nat) ({ cls := "LinkHouseModel", name := "compareFields", desc := "(II)V" } : Jvm.MethodName)) ∈ lw_all := sorry
theorem q3755 : (Jvm.Cond.privateMethod ({ cls := "LinkHouseModel", name := "compareFields", desc := "(II)V" } : Jvm.MethodName)) ∈ lw_tbl := sorry
theorem q3756 : (Jvm.Cond.instanceMethod ({ cls := "LinkHouseModel", name := "compareFields", desc := "(II)V" } : Jvm.MethodName)) ∈ lw_all := sorry
theorem q3757 : (Jvm.Cond.code ({ cls := "LinkHouseModel", name := "compareFields", desc := "(II)V" } : Jvm.MethodName) prog_13_method_270_code (6 : Nat) (Option.none : Option Jvm.ClassFile.FieldType)) ∈ lw_all := sorry
theorem q3758 : (Jvm.Cond.methodLink "LinkHouseModel" (1411 : Nat) ({ cls := "LinkHouseModel", name := "eitherOf", desc := "(IZZII)V" } : Jvm.MethodName)) ∈ lw_all := sorry
theorem q3759 : (Jvm.Cond.privateMethod ({ cls := "LinkHouseModel", name := "eitherOf", desc := "(IZZII)V" } : Jvm.MethodName)) ∈ lw_tbl := sorry
theorem q3760 : (Jvm.Cond.instanceMethod ({ cls := "LinkHouseModel", name := "eitherOf", desc := "(IZZII)V" } : Jvm.MethodName)) ∈ lw_all := sorry
theorem q3761 : (Jvm.Cond.code ({ cls := "LinkHouseModel", name := "eitherOf", desc := "(IZZII)V" } : Jvm.MethodName) prog_13_method_268_code (6 : Nat) (Option.none : Option Jvm.ClassFile.FieldType)) ∈ lw_all := sorry
theorem q3762 : (Jvm.Cond.methodLink "LinkHouseModel" (1414 : Nat) ({ cls := "LinkHouseModel", name := "accessOf", desc := "(III)V" } : Jvm.MethodName)) ∈ lw_all := sorry
theorem q3763 : (Jvm.Cond.privateMethod ({ cls := "LinkHouseModel", name := "accessOf", desc := "(III)V" } : Jvm.MethodName)) ∈ lw_tbl := sorry
theorem q3764 : (Jvm.Cond.instanceMethod ({ cls := "LinkHouseModel", name := "accessOf", desc := "(III)V" } : Jvm.MethodName)) ∈ lw_all := sorry
theorem q3765 : (Jvm.Cond.code ({ cls := "LinkHouseModel", name := "accessOf", desc := "(III)V" } : Jvm.MethodName) prog_13_method_269_code (4 : Nat) (Option.none : Option Jvm.ClassFile.FieldType)) ∈ lw_all := sorry
theorem q3766 : (Jvm.Cond.methodLink "LinkHouseModel" (1398 : Nat) ({ cls := "LinkHouseModel", name := "compareMethods", desc := "(II)V" } : Jvm.MethodName)) ∈ lw_all := sorry
theorem q3767 : (Jvm.Cond.privateMethod ({ cls := "LinkHouseModel", name := "compareMethods", desc := "(II)V" } : Jvm.MethodName)) ∈ lw_tbl := sorry
theorem q3768 : (Jvm.Cond.instanceMethod ({ cls := "LinkHouseModel", name := "compareMethods", desc := "(II)V" } : Jvm.MethodName)) ∈ lw_all := sorry
theorem q3769 : (Jvm.Cond.code ({ cls := "LinkHouseModel", name := "compareMethods", desc := "(II)V" } : Jvm.MethodName) prog_13_method_272_code (6 : Nat) (Option.none : Option Jvm.ClassFile.FieldType)) ∈ lw_all := sorry
theorem q3770 : (Jvm.Cond.methodLink "LinkHouseModel" (1417 : Nat) ({ cls := "LinkHouseModel", name := "alike", desc := "(II)I" } : Jvm.MethodName)) ∈ lw_all := sorry
theorem q3771 : (Jvm.Cond.privateMethod ({ cls := "LinkHouseModel", name := "alike", desc := "(II)I" } : Jvm.MethodName)) ∈ lw_tbl := sorry
theorem q3772 : (Jvm.Cond.instanceMethod ({ cls := "LinkHouseModel", name := "alike", desc := "(II)I" } : Jvm.MethodName)) ∈ lw_all := sorry
theorem q3773 : (Jvm.Cond.code ({ cls := "LinkHouseModel", name := "alike", desc := "(II)I" } : Jvm.MethodName) prog_13_method_271_code (5 : Nat) (Option.some Jvm.ClassFile.FieldType.int)) ∈ lw_all := sorry
theorem q3774 : (Jvm.Cond.methodLink "LinkHouseModel" (1420 : Nat) ({ cls := "LinkHouseModel", name := "sameTokens", desc := "(II)Z" } : Jvm.MethodName)) ∈ lw_all := sorry
theorem q3775 : (Jvm.Cond.privateMethod ({ cls := "LinkHouseModel", name := "sameTokens", desc := "(II)Z" } : Jvm.MethodName)) ∈ lw_tbl := sorry
theorem q3776 : (Jvm.Cond.instanceMethod ({ cls := "LinkHouseModel", name := "sameTokens", desc := "(II)Z" } : Jvm.MethodName)) ∈ lw_all := sorry
theorem q3777 : (Jvm.Cond.code ({ cls := "LinkHouseModel", name := "sameTokens", desc := "(II)Z" } : Jvm.MethodName) prog_13_method_275_code (9 : Nat) (Option.some Jvm.ClassFile.FieldType.boolean)) ∈ lw_all := sorry
theorem q3778 : (Jvm.Cond.methodLink "LinkHouseModel" (1423 : Nat) ({ cls := "LinkHouseModel", name := "sameToken", desc := "(II)Z" } : Jvm.MethodName)) ∈ lw_all := sorry
theorem q3779 : (Jvm.Cond.privateMethod ({ cls := "LinkHouseModel", name := "sameToken", desc := "(II)Z" } : Jvm.MethodName)) ∈ lw_tbl := sorry
theorem q3780 : (Jvm.Cond.instanceMethod ({ cls := "LinkHouseModel", name := "sameToken", desc := "(II)Z" } : Jvm.MethodName)) ∈ lw_all := sorry
theorem q3781 : (Jvm.Cond.code ({ cls := "LinkHouseModel", name := "sameToken", desc := "(II)Z" } : Jvm.MethodName) prog_13_method_274_code (3 : Nat) (Option.some Jvm.ClassFile.FieldType.boolean)) ∈ lw_all := sorry
theorem q3782 : (Jvm.Cond.methodLink "LinkHouseModel" (1401 : Nat) ({ cls := "LinkHouseModel", name := "compareMakers", desc := "(II)V" } : Jvm.MethodName)) ∈ lw_all := sorry
theorem q3783 : (Jvm.Cond.privateMethod ({ cls := "LinkHouseModel", name := "compareMakers", desc := "(II)V" } : Jvm.MethodName)) ∈ lw_tbl := sorry
theorem q3784 : (Jvm.Cond.instanceMethod ({ cls := "LinkHouseModel", name := "compareMakers", desc := "(II)V" } : Jvm.MethodName)) ∈ lw_all := sorry
theorem q3785 : (Jvm.Cond.code ({ cls := "LinkHouseModel", name := "compareMakers", desc := "(II)V" } : Jvm.MethodName) prog_13_method_273_code (6 : Nat) (Option.none : Option Jvm.ClassFile.FieldType)) ∈ lw_all := sorry
theorem q3786 : (Jvm.Cond.methodLink "LinkHouseModel" (1404 : Nat) ({ cls := "LinkHouseModel", name := "sameRest", desc := "(II)Z" } : Jvm.MethodName)) ∈ lw_all := sorry
theorem q3787 : (Jvm.Cond.privateMethod ({ cls := "LinkHouseModel", name := "sameRest", desc := "(II)Z" } : Jvm.MethodName)) ∈ lw_tbl := sorry
theorem q3788 : (Jvm.Cond.instanceMethod ({ cls := "LinkHouseModel", name := "sameRest", desc := "(II)Z" } : Jvm.MethodName)) ∈ lw_all := sorry
theorem q3789 : (Jvm.Cond.code ({ cls := "LinkHouseModel", name := "sameRest", desc := "(II)Z" } : Jvm.MethodName) prog_13_method_278_code (6 : Nat) (Option.some Jvm.ClassFile.FieldType.boolean)) ∈ lw_all := sorry
theorem q3790 : (Jvm.Cond.methodLink "LinkHouseModel" (1432 : Nat) ({ cls := "LinkHouseModel", name := "rest", desc := "(I[I)I" } : Jvm.MethodName)) ∈ lw_all := sorry
theorem q3791 : (Jvm.Cond.privateMethod ({ cls := "LinkHouseModel", name := "rest", desc := "(I[I)I" } : Jvm.MethodName)) ∈ lw_tbl := sorry
theorem q3792 : (Jvm.Cond.instanceMethod ({ cls := "LinkHouseModel", name := "rest", desc := "(I[I)I" } : Jvm.MethodName)) ∈ lw_all := sorry
theorem q3793 : (Jvm.Cond.code ({ cls := "LinkHouseModel", name := "rest", desc := "(I[I)I" } : Jvm.MethodName) prog_13_method_277_code (7 : Nat) (Option.some Jvm.ClassFile.FieldType.int)) ∈ lw_all := sorry
theorem q3794 : (Jvm.Cond.methodLink "LinkHouseModel" (1426 : Nat) ({ cls := "LinkHouseModel", name := "isRest", desc := "(I)Z" } : Jvm.MethodName)) ∈ lw_all := sorry
theorem q3795 : (Jvm.Cond.privateMethod ({ cls := "LinkHouseModel", name := "isRest", desc := "(I)Z" } : Jvm.MethodName)) ∈ lw_tbl := sorry
theorem q3796 : (Jvm.Cond.instanceMethod ({ cls := "LinkHouseModel", name := "isRest", desc := "(I)Z" } : Jvm.MethodName)) ∈ lw_all := sorry
theorem q3797 : (Jvm.Cond.code ({ cls := "LinkHouseModel", name := "isRest", desc := "(I)Z" } : Jvm.MethodName) prog_13_method_276_code (2 : Nat) (Option.some Jvm.ClassFile.FieldType.boolean)) ∈ lw_all := sorry
theorem q3799 : (Jvm.Cond.instanceMethod ({ cls := "LinkHouseModel", name := "change", desc := "(II)I" } : Jvm.MethodName)) ∈ lw_all := sorry
theorem q3800 : (Jvm.Cond.selects "LinkHouseModel" ({ cls := "LinkHouseModel", name := "change", desc := "(II)I" } : Jvm.MethodName) ({ cls := "LinkHouseModel", name := "change", desc := "(II)I" } : Jvm.MethodName)) ∈ lw_all := sorry
theorem q3801 : (Jvm.Cond.code ({ cls := "LinkHouseModel", name := "change", desc := "(II)I" } : Jvm.MethodName) prog_13_method_279_code (3 : Nat) (Option.some Jvm.ClassFile.FieldType.int)) ∈ lw_all := sorry
theorem q3803 : (Jvm.Cond.instanceMethod ({ cls := "LinkHouseModel", name := "word", desc := "(III)I" } : Jvm.MethodName)) ∈ lw_all := sorry
theorem q3804 : (Jvm.Cond.selects "LinkHouseModel" ({ cls := "LinkHouseModel", name := "word", desc := "(III)I" } : Jvm.MethodName) ({ cls := "LinkHouseModel", name := "word", desc := "(III)I" } : Jvm.MethodName)) ∈ lw_all := sorry
theorem q3805 : (Jvm.Cond.code ({ cls := "LinkHouseModel", name := "word", desc := "(III)I" } : Jvm.MethodName) prog_13_method_281_code (10 : Nat) (Option.some Jvm.ClassFile.FieldType.int)) ∈ lw_all := sorry
theorem q3806 : (Jvm.Cond.methodLink "LinkHouseModel" (1444 : Nat) ({ cls := "java/lang/System", name := "arraycopy", desc := "(Ljava/lang/Object;ILjava/lang/Object;II)V" } : Jvm.MethodName)) ∈ lw_all := sorry
theorem q3807 : (Jvm.Cond.methodLink "LinkHouseModel" (1450 : Nat) ({ cls := "LinkHouseModel", name := "weight", desc := "(I)I" } : Jvm.MethodName)) ∈ lw_all := sorry
theorem q3808 : (Jvm.Cond.static ({ cls := "LinkHouseModel", name := "weight", desc := "(I)I" } : Jvm.MethodName)) ∈ lw_all := sorry
theorem q3809 : (Jvm.Cond.code ({ cls := "LinkHouseModel", name := "weight", desc := "(I)I" } : Jvm.MethodName) prog_13_method_280_code (2 : Nat) (Option.some Jvm.ClassFile.FieldType.int)) ∈ lw_all := sorry
theorem q3810 : (Jvm.Cond.fieldLink "LinkHouseModel" (1438 : Nat) "LinkHouseModel" "GREAT" "[I") ∈ lw_all := sorry
theorem q3811 : (Jvm.Cond.laysStatic "LinkHouseModel" "GREAT" "[I") ∈ lw_tbl := sorry
theorem q3813 : (Jvm.Cond.instanceMethod ({ cls := "LinkHouseModel", name := "weave", desc := "(III)I" } : Jvm.MethodName)) ∈ lw_all := sorry
theorem q3814 : (Jvm.Cond.selects "LinkHouseModel" ({ cls := "LinkHouseModel", name := "weave", desc := "(III)I" } : Jvm.MethodName) ({ cls := "LinkHouseModel", name := "weave", desc := "(III)I" } : Jvm.MethodName)) ∈ lw_all := sorry
theorem q3815 : (Jvm.Cond.code ({ cls := "LinkHouseModel", name := "weave", desc := "(III)I" } : Jvm.MethodName) prog_13_method_282_code (11 : Nat) (Option.some Jvm.ClassFile.FieldType.int)) ∈ lw_all := sorry
theorem q3816 : (Jvm.Cond.methodLink "LinkHouseModel" (1453 : Nat) ({ cls := "LinkHouseModel", name := "heal", desc := "(III)I" } : Jvm.MethodName)) ∈ lw_all := sorry
theorem q3817 : (Jvm.Cond.privateMethod ({ cls := "LinkHouseModel", name := "heal", desc := "(III)I" } : Jvm.MethodName)) ∈ lw_tbl := sorry
theorem q3818 : (Jvm.Cond.instanceMethod ({ cls := "LinkHouseModel", name := "heal", desc := "(III)I" } : Jvm.MethodName)) ∈ lw_all := sorry
theorem q3819 : (Jvm.Cond.code ({ cls := "LinkHouseModel", name := "heal", desc := "(III)I" } : Jvm.MethodName) prog_13_method_284_code (9 : Nat) (Option.some Jvm.ClassFile.FieldType.int)) ∈ lw_all := sorry
theorem q3820 : (Jvm.Cond.methodLink "LinkHouseModel" (1456 : Nat) ({ cls := "LinkHouseModel", name := "bridgesOf", desc := "(I)I" } : Jvm.MethodName)) ∈ lw_all := sorry
theorem q3821 : (Jvm.Cond.privateMethod ({ cls := "LinkHouseModel", name := "bridgesOf", desc := "(I)I" } : Jvm.MethodName)) ∈ lw_tbl := sorry
theorem q3822 : (Jvm.Cond.instanceMethod ({ cls := "LinkHouseModel", name := "bridgesOf", desc := "(I)I" } : Jvm.MethodName)) ∈ lw_all := sorry
theorem q3823 : (Jvm.Cond.code ({ cls := "LinkHouseModel", name := "bridgesOf", desc := "(I)I" } : Jvm.MethodName) prog_13_method_283_code (4 : Nat) (Option.some Jvm.ClassFile.FieldType.int)) ∈ lw_all := sorry
theorem q3824 : (Jvm.Cond.methodLink "LinkHouseModel" (1459 : Nat) ({ cls := "LinkHouseModel", name := "copyBuild", desc := "(II)V" } : Jvm.MethodName)) ∈ lw_all := sorry
theorem q3825 : (Jvm.Cond.privateMethod ({ cls := "LinkHouseModel", name := "copyBuild", desc := "(II)V" } : Jvm.MethodName)) ∈ lw_tbl := sorry
theorem q3826 : (Jvm.Cond.instanceMethod ({ cls := "LinkHouseModel", name := "copyBuild", desc := "(II)V" } : Jvm.MethodName)) ∈ lw_all := sorry
theorem q3827 : (Jvm.Cond.code ({ cls := "LinkHouseModel", name := "copyBuild", desc := "(II)V" } : Jvm.MethodName) prog_13_method_285_code (3 : Nat) (Option.none : Option Jvm.ClassFile.FieldType)) ∈ lw_all := sorry
theorem q3828 : (Jvm.Cond.methodLink "LinkHouseModel" (1465 : Nat) ({ cls := "LinkHouseModel", name := "copyClasses", desc := "(II)V" } : Jvm.MethodName)) ∈ lw_all := sorry
theorem q3829 : (Jvm.Cond.privateMethod ({ cls := "LinkHouseModel", name := "copyClasses", desc := "(II)V" } : Jvm.MethodName)) ∈ lw_tbl := sorry
theorem q3830 : (Jvm.Cond.instanceMethod ({ cls := "LinkHouseModel", name := "copyClasses", desc := "(II)V" } : Jvm.MethodName)) ∈ lw_all := sorry
theorem q3831 : (Jvm.Cond.code ({ cls := "LinkHouseModel", name := "copyClasses", desc := "(II)V" } : Jvm.MethodName) prog_13_method_286_code (3 : Nat) (Option.none : Option Jvm.ClassFile.FieldType)) ∈ lw_all := sorry
theorem q3832 : (Jvm.Cond.methodLink "LinkHouseModel" (1468 : Nat) ({ cls := "LinkHouseModel", name := "copyMembers", desc := "(II)V" } : Jvm.MethodName)) ∈ lw_all := sorry
theorem q3833 : (Jvm.Cond.privateMethod ({ cls := "LinkHouseModel", name := "copyMembers", desc := "(II)V" } : Jvm.MethodName)) ∈ lw_tbl := sorry
theorem q3834 : (Jvm.Cond.instanceMethod ({ cls := "LinkHouseModel", name := "copyMembers", desc := "(II)V" } : Jvm.MethodName)) ∈ lw_all := sorry
theorem q3835 : (Jvm.Cond.code ({ cls := "LinkHouseModel", name := "copyMembers", desc := "(II)V" } : Jvm.MethodName) prog_13_method_287_code (6 : Nat) (Option.none : Option Jvm.ClassFile.FieldType)) ∈ lw_all := sorry
theorem q3836 : (Jvm.Cond.methodLink "LinkHouseModel" (1471 : Nat) ({ cls := "LinkHouseModel", name := "copyNodes", desc := "(II)V" } : Jvm.MethodName)) ∈ lw_all := sorry
theorem q3837 : (Jvm.Cond.privateMethod ({ cls := "LinkHouseModel", name := "copyNodes", desc := "(II)V" } : Jvm.MethodName)) ∈ lw_tbl := sorry
theorem q3838 : (Jvm.Cond.instanceMethod ({ cls := "LinkHouseModel", name := "copyNodes", desc := "(II)V" } : Jvm.MethodName)) ∈ lw_all := sorry
theorem q3839 : (Jvm.Cond.code ({ cls := "LinkHouseModel", name := "copyNodes", desc := "(II)V" } : Jvm.MethodName) prog_13_method_288_code (5 : Nat) (Option.none : Option Jvm.ClassFile.FieldType)) ∈ lw_all := sorry
theorem q3840 : (Jvm.Cond.methodLink "LinkHouseModel" (1462 : Nat) ({ cls := "LinkHouseModel", name := "weaveUses", desc := "(I)V" } : Jvm.MethodName)) ∈ lw_all := sorry
theorem q3841 : (Jvm.Cond.privateMethod ({ cls := "LinkHouseModel", name := "weaveUses", desc := "(I)V" } : Jvm.MethodName)) ∈ lw_tbl := sorry
theorem q3842 : (Jvm.Cond.instanceMethod ({ cls := "LinkHouseModel", name := "weaveUses", desc := "(I)V" } : Jvm.MethodName)) ∈ lw_all := sorry
theorem q3843 : (Jvm.Cond.code ({ cls := "LinkHouseModel", name := "weaveUses", desc := "(I)V" } : Jvm.MethodName) prog_13_method_289_code (6 : Nat) (Option.none : Option Jvm.ClassFile.FieldType)) ∈ lw_all := sorry
theorem q3844 : (Jvm.Cond.methodLink "LinkHouseModel" (1477 : Nat) ({ cls := "LinkHouseModel", name := "copyUse", desc := "(I)I" } : Jvm.MethodName)) ∈ lw_all := sorry
theorem q3845 : (Jvm.Cond.privateMethod ({ cls := "LinkHouseModel", name := "copyUse", desc := "(I)I" } : Jvm.MethodName)) ∈ lw_tbl := sorry
theorem q3846 : (Jvm.Cond.instanceMethod ({ cls := "LinkHouseModel", name := "copyUse", desc := "(I)I" } : Jvm.MethodName)) ∈ lw_all := sorry
theorem q3847 : (Jvm.Cond.code ({ cls := "LinkHouseModel", name := "copyUse", desc := "(I)I" } : Jvm.MethodName) prog_13_method_290_code (4 : Nat) (Option.some Jvm.ClassFile.FieldType.int)) ∈ lw_all := sorry
theorem q3850 : (Jvm.Cond.instanceMethod ({ cls := "LinkHouseModel", name := "<init>", desc := "()V" } : Jvm.MethodName)) ∈ lw_all := sorry
theorem q3851 : (Jvm.Cond.code ({ cls := "LinkHouseModel", name := "<init>", desc := "()V" } : Jvm.MethodName) prog_13_method_291_code (2 : Nat) (Option.none : Option Jvm.ClassFile.FieldType)) ∈ lw_all := sorry
theorem q3852 : (Jvm.Cond.methodLink "LinkHouseModel" (1480 : Nat) ({ cls := "java/lang/Object", name := "<init>", desc := "()V" } : Jvm.MethodName)) ∈ lw_all := sorry
theorem q3853 : (Jvm.Cond.constant "LinkHouseModel" (1485 : Nat) (64000 : Int32)) ∈ lw_all := sorry
theorem q3854 : (Jvm.Cond.constant "LinkHouseModel" (1486 : Nat) (122400 : Int32)) ∈ lw_all := sorry
theorem q3855 : (Jvm.Cond.methodLink "LinkHouseModel" (1487 : Nat) ({ cls := "LinkHouseModel", name := "wordTable", desc := "()V" } : Jvm.MethodName)) ∈ lw_all := sorry
theorem q3856 : (Jvm.Cond.privateMethod ({ cls := "LinkHouseModel", name := "wordTable", desc := "()V" } : Jvm.MethodName)) ∈ lw_tbl := sorry
theorem q3857 : (Jvm.Cond.instanceMethod ({ cls := "LinkHouseModel", name := "wordTable", desc := "()V" } : Jvm.MethodName)) ∈ lw_all := sorry
theorem q3858 : (Jvm.Cond.code ({ cls := "LinkHouseModel", name := "wordTable", desc := "()V" } : Jvm.MethodName) prog_13_method_16_code (4 : Nat) (Option.none : Option Jvm.ClassFile.FieldType)) ∈ lw_all := sorry
theorem q3859 : (Jvm.Cond.stringRef "LinkHouseModel" (69 : Nat) " class face is as in with only open kin own final bare static start void new int let if else while return throw try catch out null this super ask ") ∈ lw_tbl := sorry
theorem q3860 : (Jvm.Cond.methodLink "LinkHouseModel" (1490 : Nat) ({ cls := "LinkHouseModel", name := "given", desc := "()V" } : Jvm.MethodName)) ∈ lw_all := sorry
theorem q3861 : (Jvm.Cond.privateMethod ({ cls := "LinkHouseModel", name := "given", desc := "()V" } : Jvm.MethodName)) ∈ lw_tbl := sorry
theorem q3862 : (Jvm.Cond.instanceMethod ({ cls := "LinkHouseModel", name := "given", desc := "()V" } : Jvm.MethodName)) ∈ lw_all := sorry
theorem q3863 : (Jvm.Cond.code ({ cls := "LinkHouseModel", name := "given", desc := "()V" } : Jvm.MethodName) prog_13_method_65_code (4 : Nat) (Option.none : Option Jvm.ClassFile.FieldType)) ∈ lw_all := sorry
theorem q3864 : (Jvm.Cond.stringRef "LinkHouseModel" (526 : Nat) "code") ∈ lw_tbl := sorry
theorem q3865 : (Jvm.Cond.fieldLink "LinkHouseModel" (63 : Nat) "LinkHouseModel" "tape" "[I") ∈ lw_all := sorry
theorem q3866 : (Jvm.Cond.fieldLink "LinkHouseModel" (57 : Nat) "LinkHouseModel" "size" "I") ∈ lw_all := sorry
theorem q3867 : (Jvm.Cond.fieldLink "LinkHouseModel" (11 : Nat) "LinkHouseModel" "outRow" "[I") ∈ lw_all := sorry
theorem q3868 : (Jvm.Cond.fieldLink "LinkHouseModel" (15 : Nat) "LinkHouseModel" "outSize" "I") ∈ lw_all := sorry
theorem q3869 : (Jvm.Cond.fieldLink "LinkHouseModel" (66 : Nat) "LinkHouseModel" "spliceRow" "[I") ∈ lw_all := sorry
theorem q3870 : (Jvm.Cond.fieldLink "LinkHouseModel" (87 : Nat) "LinkHouseModel" "text" "[B") ∈ lw_all := sorry
theorem q3871 : (Jvm.Cond.fieldLink "LinkHouseModel" (81 : Nat) "LinkHouseModel" "textSize" "[I") ∈ lw_all := sorry
theorem q3872 : (Jvm.Cond.fieldLink "LinkHouseModel" (538 : Nat) "LinkHouseModel" "libOf" "[I") ∈ lw_all := sorry
theorem q3873 : (Jvm.Cond.fieldLink "LinkHouseModel" (965 : Nat) "LinkHouseModel" "slotOf" "[I") ∈ lw_all := sorry
theorem q3874 : (Jvm.Cond.fieldLink "LinkHouseModel" (947 : Nat) "LinkHouseModel" "buildMany" "[I") ∈ lw_all := sorry
theorem q3875 : (Jvm.Cond.fieldLink "LinkHouseModel" (950 : Nat) "LinkHouseModel" "slots" "I") ∈ lw_all := sorry
theorem q3876 : (Jvm.Cond.fieldLink "LinkHouseModel" (103 : Nat) "LinkHouseModel" "tKind" "[I") ∈ lw_all := sorry
theorem q3877 : (Jvm.Cond.fieldLink "LinkHouseModel" (94 : Nat) "LinkHouseModel" "tAt" "[I") ∈ lw_all := sorry
theorem q3878 : (Jvm.Cond.fieldLink "LinkHouseModel" (110 : Nat) "LinkHouseModel" "tEnd" "[I") ∈ lw_all := sorry
theorem q3879 : (Jvm.Cond.fieldLink "LinkHouseModel" (97 : Nat) "LinkHouseModel" "tName" "[J") ∈ lw_all := sorry
theorem q3880 : (Jvm.Cond.fieldLink "LinkHouseModel" (100 : Nat) "LinkHouseModel" "tValue" "[I") ∈ lw_all := sorry
theorem q3881 : (Jvm.Cond.fieldLink "LinkHouseModel" (113 : Nat) "LinkHouseModel" "tokens" "[I") ∈ lw_all := sorry
theorem q3882 : (Jvm.Cond.fieldLink "LinkHouseModel" (71 : Nat) "LinkHouseModel" "words" "[J") ∈ lw_all := sorry
theorem q3883 : (Jvm.Cond.fieldLink "LinkHouseModel" (75 : Nat) "LinkHouseModel" "wordMany" "I") ∈ lw_all := sorry
theorem q3884 : (Jvm.Cond.fieldLink "LinkHouseModel" (84 : Nat) "LinkHouseModel" "slot" "I") ∈ lw_all := sorry
theorem q3885 : (Jvm.Cond.fieldLink "LinkHouseModel" (129 : Nat) "LinkHouseModel" "flaw" "I") ∈ lw_all := sorry
theorem q3886 : (Jvm.Cond.fieldLink "LinkHouseModel" (132 : Nat) "LinkHouseModel" "flawAt" "I") ∈ lw_all := sorry
theorem q3887 : (Jvm.Cond.fieldLink "LinkHouseModel" (135 : Nat) "LinkHouseModel" "p" "I") ∈ lw_all := sorry
theorem q3888 : (Jvm.Cond.fieldLink "LinkHouseModel" (230 : Nat) "LinkHouseModel" "clsMany" "[I") ∈ lw_all := sorry
theorem q3889 : (Jvm.Cond.fieldLink "LinkHouseModel" (256 : Nat) "LinkHouseModel" "cName" "[J") ∈ lw_all := sorry
theorem q3890 : (Jvm.Cond.fieldLink "LinkHouseModel" (259 : Nat) "LinkHouseModel" "cAt" "[I") ∈ lw_all := sorry
theorem q3891 : (Jvm.Cond.fieldLink "LinkHouseModel" (262 : Nat) "LinkHouseModel" "cOpen" "[Z") ∈ lw_all := sorry
theorem q3892 : (Jvm.Cond.fieldLink "LinkHouseModel" (266 : Nat) "LinkHouseModel" "cSort" "[I") ∈ lw_all := sorry
theorem q3893 : (Jvm.Cond.fieldLink "LinkHouseModel" (269 : Nat) "LinkHouseModel" "cParent" "[J") ∈ lw_all := sorry
theorem q3894 : (Jvm.Cond.fieldLink "LinkHouseModel" (280 : Nat) "LinkHouseModel" "cParentAt" "[I") ∈ lw_all := sorry
theorem q3895 : (Jvm.Cond.fieldLink "LinkHouseModel" (288 : Nat) "LinkHouseModel" "cFace" "[J") ∈ lw_all := sorry
theorem q3896 : (Jvm.Cond.fieldLink "LinkHouseModel" (291 : Nat) "LinkHouseModel" "cFaceAt" "[I") ∈ lw_all := sorry
theorem q3897 : (Jvm.Cond.fieldLink "LinkHouseModel" (283 : Nat) "LinkHouseModel" "cFaces" "[I") ∈ lw_all := sorry
theorem q3898 : (Jvm.Cond.fieldLink "LinkHouseModel" (272 : Nat) "LinkHouseModel" "cIn" "[J") ∈ lw_all := sorry
theorem q3899 : (Jvm.Cond.fieldLink "LinkHouseModel" (300 : Nat) "LinkHouseModel" "cInAt" "[I") ∈ lw_all := sorry
theorem q3900 : (Jvm.Cond.fieldLink "LinkHouseModel" (308 : Nat) "LinkHouseModel" "cWith" "[J") ∈ lw_all := sorry
theorem q3901 : (Jvm.Cond.fieldLink "LinkHouseModel" (311 : Nat) "LinkHouseModel" "cWithAt" "[I") ∈ lw_all := sorry
theorem q3902 : (Jvm.Cond.fieldLink "LinkHouseModel" (303 : Nat) "LinkHouseModel" "cWiths" "[I") ∈ lw_all := sorry
theorem q3903 : (Jvm.Cond.fieldLink "LinkHouseModel" (319 : Nat) "LinkHouseModel" "cOnly" "[J") ∈ lw_all := sorry
theorem q3904 : (Jvm.Cond.fieldLink "LinkHouseModel" (322 : Nat) "LinkHouseModel" "cOnlyAt" "[I") ∈ lw_all := sorry
theorem q3905 : (Jvm.Cond.fieldLink "LinkHouseModel" (314 : Nat) "LinkHouseModel" "cOnlys" "[I") ∈ lw_all := sorry
theorem q3906 : (Jvm.Cond.fieldLink "LinkHouseModel" (275 : Nat) "LinkHouseModel" "mMany" "[I") ∈ lw_all := sorry
theorem q3907 : (Jvm.Cond.fieldLink "LinkHouseModel" (402 : Nat) "LinkHouseModel" "mKind" "[I") ∈ lw_all := sorry
theorem q3908 : (Jvm.Cond.fieldLink "LinkHouseModel" (399 : Nat) "LinkHouseModel" "mTold" "[I") ∈ lw_all := sorry
theorem q3909 : (Jvm.Cond.fieldLink "LinkHouseModel" (433 : Nat) "LinkHouseModel" "mAccess" "[I") ∈ lw_all := sorry
theorem q3910 : (Jvm.Cond.fieldLink "LinkHouseModel" (341 : Nat) "LinkHouseModel" "mStatic" "[Z") ∈ lw_all := sorry
theorem q3911 : (Jvm.Cond.fieldLink "LinkHouseModel" (344 : Nat) "LinkHouseModel" "mFinal" "[Z") ∈ lw_all := sorry
theorem q3912 : (Jvm.Cond.fieldLink "LinkHouseModel" (436 : Nat) "LinkHouseModel" "mBare" "[Z") ∈ lw_all := sorry
theorem q3913 : (Jvm.Cond.fieldLink "LinkHouseModel" (347 : Nat) "LinkHouseModel" "mBareTold" "[Z") ∈ lw_all := sorry
theorem q3914 : (Jvm.Cond.fieldLink "LinkHouseModel" (350 : Nat) "LinkHouseModel" "mBridge" "[Z") ∈ lw_all := sorry
theorem q3915 : (Jvm.Cond.fieldLink "LinkHouseModel" (353 : Nat) "LinkHouseModel" "mGiven" "[Z") ∈ lw_all := sorry
theorem q3916 : (Jvm.Cond.fieldLink "LinkHouseModel" (356 : Nat) "LinkHouseModel" "mName" "[J") ∈ lw_all := sorry
theorem q3917 : (Jvm.Cond.fieldLink "LinkHouseModel" (405 : Nat) "LinkHouseModel" "mAt" "[I") ∈ lw_all := sorry
theorem q3918 : (Jvm.Cond.fieldLink "LinkHouseModel" (359 : Nat) "LinkHouseModel" "mType" "[J") ∈ lw_all := sorry
theorem q3919 : (Jvm.Cond.fieldLink "LinkHouseModel" (420 : Nat) "LinkHouseModel" "mTypeAt" "[I") ∈ lw_all := sorry
theorem q3920 : (Jvm.Cond.fieldLink "LinkHouseModel" (362 : Nat) "LinkHouseModel" "mParams" "[I") ∈ lw_all := sorry
theorem q3921 : (Jvm.Cond.fieldLink "LinkHouseModel" (442 : Nat) "LinkHouseModel" "mParam" "[J") ∈ lw_all := sorry
theorem q3922 : (Jvm.Cond.fieldLink "LinkHouseModel" (439 : Nat) "LinkHouseModel" "mParamAt" "[I") ∈ lw_all := sorry
theorem q3923 : (Jvm.Cond.fieldLink "LinkHouseModel" (445 : Nat) "LinkHouseModel" "mParamName" "[J") ∈ lw_all := sorry
theorem q3924 : (Jvm.Cond.fieldLink "LinkHouseModel" (448 : Nat) "LinkHouseModel" "mParamNameAt" "[I") ∈ lw_all := sorry
theorem q3925 : (Jvm.Cond.fieldLink "LinkHouseModel" (365 : Nat) "LinkHouseModel" "mExpr" "[I") ∈ lw_all := sorry
theorem q3926 : (Jvm.Cond.fieldLink "LinkHouseModel" (368 : Nat) "LinkHouseModel" "mBlock" "[I") ∈ lw_all := sorry
theorem q3927 : (Jvm.Cond.fieldLink "LinkHouseModel" (371 : Nat) "LinkHouseModel" "mTokFrom" "[I") ∈ lw_all := sorry
theorem q3928 : (Jvm.Cond.fieldLink "LinkHouseModel" (374 : Nat) "LinkHouseModel" "mTokTo" "[I") ∈ lw_all := sorry
theorem q3929 : (Jvm.Cond.fieldLink "LinkHouseModel" (377 : Nat) "LinkHouseModel" "mConst" "[Z") ∈ lw_all := sorry
theorem q3930 : (Jvm.Cond.fieldLink "LinkHouseModel" (380 : Nat) "LinkHouseModel" "mValue" "[I") ∈ lw_all := sorry
theorem q3931 : (Jvm.Cond.fieldLink "LinkHouseModel" (383 : Nat) "LinkHouseModel" "mTarget" "[J") ∈ lw_all := sorry
theorem q3932 : (Jvm.Cond.fieldLink "LinkHouseModel" (386 : Nat) "LinkHouseModel" "mUse" "[I") ∈ lw_all := sorry
theorem q3933 : (Jvm.Cond.fieldLink "LinkHouseModel" (389 : Nat) "LinkHouseModel" "mLocals" "[I") ∈ lw_all := sorry
theorem q3934 : (Jvm.Cond.fieldLink "LinkHouseModel" (170 : Nat) "LinkHouseModel" "nodeMany" "[I") ∈ lw_all := sorry
theorem q3935 : (Jvm.Cond.fieldLink "LinkHouseModel" (173 : Nat) "LinkHouseModel" "nKind" "[I") ∈ lw_all := sorry
theorem q3936 : (Jvm.Cond.fieldLink "LinkHouseModel" (176 : Nat) "LinkHouseModel" "nAt" "[I") ∈ lw_all := sorry
theorem q3937 : (Jvm.Cond.fieldLink "LinkHouseModel" (179 : Nat) "LinkHouseModel" "nNameAt" "[I") ∈ lw_all := sorry
theorem q3938 : (Jvm.Cond.fieldLink "LinkHouseModel" (182 : Nat) "LinkHouseModel" "nCAt" "[I") ∈ lw_all := sorry
theorem q3939 : (Jvm.Cond.fieldLink "LinkHouseModel" (185 : Nat) "LinkHouseModel" "nName" "[J") ∈ lw_all := sorry
theorem q3940 : (Jvm.Cond.fieldLink "LinkHouseModel" (188 : Nat) "LinkHouseModel" "nC" "[J") ∈ lw_all := sorry
theorem q3941 : (Jvm.Cond.fieldLink "LinkHouseModel" (191 : Nat) "LinkHouseModel" "nT" "[J") ∈ lw_all := sorry
theorem q3942 : (Jvm.Cond.fieldLink "LinkHouseModel" (194 : Nat) "LinkHouseModel" "nA" "[I") ∈ lw_all := sorry
theorem q3943 : (Jvm.Cond.fieldLink "LinkHouseModel" (197 : Nat) "LinkHouseModel" "nB" "[I") ∈ lw_all := sorry
theorem q3944 : (Jvm.Cond.fieldLink "LinkHouseModel" (200 : Nat) "LinkHouseModel" "nD" "[I") ∈ lw_all := sorry
theorem q3945 : (Jvm.Cond.fieldLink "LinkHouseModel" (203 : Nat) "LinkHouseModel" "nNext" "[I") ∈ lw_all := sorry
theorem q3946 : (Jvm.Cond.fieldLink "LinkHouseModel" (206 : Nat) "LinkHouseModel" "nValue" "[I") ∈ lw_all := sorry
theorem q3947 : (Jvm.Cond.fieldLink "LinkHouseModel" (209 : Nat) "LinkHouseModel" "nMean" "[I") ∈ lw_all := sorry
theorem q3948 : (Jvm.Cond.fieldLink "LinkHouseModel" (212 : Nat) "LinkHouseModel" "nX" "[J") ∈ lw_all := sorry
theorem q3949 : (Jvm.Cond.fieldLink "LinkHouseModel" (215 : Nat) "LinkHouseModel" "nRes" "[J") ∈ lw_all := sorry
theorem q3950 : (Jvm.Cond.fieldLink "LinkHouseModel" (218 : Nat) "LinkHouseModel" "nParams" "[I") ∈ lw_all := sorry
theorem q3951 : (Jvm.Cond.fieldLink "LinkHouseModel" (825 : Nat) "LinkHouseModel" "nParam" "[J") ∈ lw_all := sorry
theorem q3952 : (Jvm.Cond.fieldLink "LinkHouseModel" (221 : Nat) "LinkHouseModel" "nUse" "[I") ∈ lw_all := sorry
theorem q3953 : (Jvm.Cond.fieldLink "LinkHouseModel" (224 : Nat) "LinkHouseModel" "nUse2" "[I") ∈ lw_all := sorry
theorem q3954 : (Jvm.Cond.fieldLink "LinkHouseModel" (227 : Nat) "LinkHouseModel" "depth" "I") ∈ lw_all := sorry
theorem q3955 : (Jvm.Cond.fieldLink "LinkHouseModel" (535 : Nat) "LinkHouseModel" "world" "[I") ∈ lw_all := sorry
theorem q3956 : (Jvm.Cond.fieldLink "LinkHouseModel" (528 : Nat) "LinkHouseModel" "judged" "I") ∈ lw_all := sorry
theorem q3957 : (Jvm.Cond.fieldLink "LinkHouseModel" (588 : Nat) "LinkHouseModel" "linking" "Z") ∈ lw_all := sorry
theorem q3958 : (Jvm.Cond.fieldLink "LinkHouseModel" (567 : Nat) "LinkHouseModel" "added" "[I") ∈ lw_all := sorry
theorem q3959 : (Jvm.Cond.fieldLink "LinkHouseModel" (570 : Nat) "LinkHouseModel" "opened" "[I") ∈ lw_all := sorry
theorem q3960 : (Jvm.Cond.fieldLink "LinkHouseModel" (561 : Nat) "LinkHouseModel" "stamp" "I") ∈ lw_all := sorry
theorem q3961 : (Jvm.Cond.fieldLink "LinkHouseModel" (576 : Nat) "LinkHouseModel" "pile" "[I") ∈ lw_all := sorry
theorem q3962 : (Jvm.Cond.fieldLink "LinkHouseModel" (611 : Nat) "LinkHouseModel" "lookedRow" "[I") ∈ lw_all := sorry
theorem q3963 : (Jvm.Cond.fieldLink "LinkHouseModel" (608 : Nat) "LinkHouseModel" "lookedMany" "I") ∈ lw_all := sorry
theorem q3964 : (Jvm.Cond.fieldLink "LinkHouseModel" (637 : Nat) "LinkHouseModel" "special" "[I") ∈ lw_all := sorry
theorem q3965 : (Jvm.Cond.fieldLink "LinkHouseModel" (630 : Nat) "LinkHouseModel" "specialFaces" "[I") ∈ lw_all := sorry
theorem q3966 : (Jvm.Cond.fieldLink "LinkHouseModel" (640 : Nat) "LinkHouseModel" "unbare" "I") ∈ lw_all := sorry
theorem q3967 : (Jvm.Cond.fieldLink "LinkHouseModel" (668 : Nat) "LinkHouseModel" "above" "[I") ∈ lw_all := sorry
theorem q3968 : (Jvm.Cond.fieldLink "LinkHouseModel" (671 : Nat) "LinkHouseModel" "aboveMany" "I") ∈ lw_all := sorry
theorem q3969 : (Jvm.Cond.fieldLink "LinkHouseModel" (674 : Nat) "LinkHouseModel" "aboveFaces" "[I") ∈ lw_all := sorry
theorem q3970 : (Jvm.Cond.fieldLink "LinkHouseModel" (705 : Nat) "LinkHouseModel" "wholeFaces" "[I") ∈ lw_all := sorry
theorem q3971 : (Jvm.Cond.fieldLink "LinkHouseModel" (726 : Nat) "LinkHouseModel" "path" "[I") ∈ lw_all := sorry
theorem q3972 : (Jvm.Cond.fieldLink "LinkHouseModel" (714 : Nat) "LinkHouseModel" "pathTop" "I") ∈ lw_all := sorry
theorem q3973 : (Jvm.Cond.fieldLink "LinkHouseModel" (745 : Nat) "LinkHouseModel" "atClass" "I") ∈ lw_all := sorry
theorem q3974 : (Jvm.Cond.fieldLink "LinkHouseModel" (748 : Nat) "LinkHouseModel" "atMember" "I") ∈ lw_all := sorry
theorem q3975 : (Jvm.Cond.fieldLink "LinkHouseModel" (751 : Nat) "LinkHouseModel" "inStatic" "Z") ∈ lw_all := sorry
theorem q3976 : (Jvm.Cond.fieldLink "LinkHouseModel" (780 : Nat) "LinkHouseModel" "localName" "[J") ∈ lw_all := sorry
theorem q3977 : (Jvm.Cond.fieldLink "LinkHouseModel" (783 : Nat) "LinkHouseModel" "localType" "[J") ∈ lw_all := sorry
theorem q3978 : (Jvm.Cond.fieldLink "LinkHouseModel" (754 : Nat) "LinkHouseModel" "locals" "I") ∈ lw_all := sorry
theorem q3979 : (Jvm.Cond.fieldLink "LinkHouseModel" (841 : Nat) "LinkHouseModel" "candidates" "[I") ∈ lw_all := sorry
theorem q3980 : (Jvm.Cond.fieldLink "LinkHouseModel" (838 : Nat) "LinkHouseModel" "candidateMany" "I") ∈ lw_all := sorry
theorem q3981 : (Jvm.Cond.fieldLink "LinkHouseModel" (844 : Nat) "LinkHouseModel" "candidateFaces" "[I") ∈ lw_all := sorry
theorem q3982 : (Jvm.Cond.fieldLink "LinkHouseModel" (863 : Nat) "LinkHouseModel" "uMany" "[I") ∈ lw_all := sorry
theorem q3983 : (Jvm.Cond.fieldLink "LinkHouseModel" (866 : Nat) "LinkHouseModel" "uSort" "[I") ∈ lw_all := sorry
theorem q3984 : (Jvm.Cond.fieldLink "LinkHouseModel" (869 : Nat) "LinkHouseModel" "uClass" "[I") ∈ lw_all := sorry
theorem q3985 : (Jvm.Cond.fieldLink "LinkHouseModel" (872 : Nat) "LinkHouseModel" "uC" "[J") ∈ lw_all := sorry
theorem q3986 : (Jvm.Cond.fieldLink "LinkHouseModel" (875 : Nat) "LinkHouseModel" "uName" "[J") ∈ lw_all := sorry
theorem q3987 : (Jvm.Cond.fieldLink "LinkHouseModel" (878 : Nat) "LinkHouseModel" "uType" "[J") ∈ lw_all := sorry
theorem q3988 : (Jvm.Cond.fieldLink "LinkHouseModel" (881 : Nat) "LinkHouseModel" "uParams" "[I") ∈ lw_all := sorry
theorem q3989 : (Jvm.Cond.fieldLink "LinkHouseModel" (890 : Nat) "LinkHouseModel" "uParam" "[J") ∈ lw_all := sorry
theorem q3990 : (Jvm.Cond.fieldLink "LinkHouseModel" (884 : Nat) "LinkHouseModel" "uSecond" "[J") ∈ lw_all := sorry
theorem q3991 : (Jvm.Cond.fieldLink "LinkHouseModel" (887 : Nat) "LinkHouseModel" "uValue" "[I") ∈ lw_all := sorry
theorem q3992 : (Jvm.Cond.fieldLink "LinkHouseModel" (962 : Nat) "LinkHouseModel" "placed" "I") ∈ lw_all := sorry
theorem q3993 : (Jvm.Cond.fieldLink "LinkHouseModel" (1071 : Nat) "LinkHouseModel" "worldMany" "I") ∈ lw_all := sorry
theorem q3994 : (Jvm.Cond.fieldLink "LinkHouseModel" (1077 : Nat) "LinkHouseModel" "worldClass" "[I") ∈ lw_all := sorry
theorem q3995 : (Jvm.Cond.fieldLink "LinkHouseModel" (1068 : Nat) "LinkHouseModel" "worldNumber" "[I") ∈ lw_all := sorry
theorem q3996 : (Jvm.Cond.fieldLink "LinkHouseModel" (1089 : Nat) "LinkHouseModel" "state" "[I") ∈ lw_all := sorry
theorem q3997 : (Jvm.Cond.fieldLink "LinkHouseModel" (1092 : Nat) "LinkHouseModel" "failure" "[I") ∈ lw_all := sorry
theorem q3998 : (Jvm.Cond.fieldLink "LinkHouseModel" (1080 : Nat) "LinkHouseModel" "set" "I") ∈ lw_all := sorry
theorem q3999 : (Jvm.Cond.fieldLink "LinkHouseModel" (1083 : Nat) "LinkHouseModel" "events" "[I") ∈ lw_all := sorry
theorem q4000 : (Jvm.Cond.fieldLink "LinkHouseModel" (1086 : Nat) "LinkHouseModel" "eventMany" "I") ∈ lw_all := sorry
theorem q4001 : (Jvm.Cond.fieldLink "LinkHouseModel" (1171 : Nat) "LinkHouseModel" "metMember" "I") ∈ lw_all := sorry
theorem q4002 : (Jvm.Cond.fieldLink "LinkHouseModel" (1177 : Nat) "LinkHouseModel" "seenRow" "[I") ∈ lw_all := sorry
theorem q4003 : (Jvm.Cond.fieldLink "LinkHouseModel" (1174 : Nat) "LinkHouseModel" "seenMany" "I") ∈ lw_all := sorry
theorem q4004 : (Jvm.Cond.fieldLink "LinkHouseModel" (1124 : Nat) "LinkHouseModel" "metNow" "I") ∈ lw_all := sorry
theorem q4005 : (Jvm.Cond.fieldLink "LinkHouseModel" (1118 : Nat) "LinkHouseModel" "seenNow" "[I") ∈ lw_all := sorry
theorem q4006 : (Jvm.Cond.fieldLink "LinkHouseModel" (1121 : Nat) "LinkHouseModel" "seenNowMany" "I") ∈ lw_all := sorry
theorem q4007 : (Jvm.Cond.fieldLink "LinkHouseModel" (1148 : Nat) "LinkHouseModel" "askedFaces" "[I") ∈ lw_all := sorry
theorem q4008 : (Jvm.Cond.fieldLink "LinkHouseModel" (1183 : Nat) "LinkHouseModel" "brokenRow" "[I") ∈ lw_all := sorry
theorem q4009 : (Jvm.Cond.fieldLink "LinkHouseModel" (1180 : Nat) "LinkHouseModel" "brokenMany" "I") ∈ lw_all := sorry
theorem q4010 : (Jvm.Cond.fieldLink "LinkHouseModel" (1189 : Nat) "LinkHouseModel" "chosen" "[I") ∈ lw_all := sorry
theorem q4011 : (Jvm.Cond.fieldLink "LinkHouseModel" (1186 : Nat) "LinkHouseModel" "stood" "[I") ∈ lw_all := sorry
theorem q4012 : (Jvm.Cond.fieldLink "LinkHouseModel" (1204 : Nat) "LinkHouseModel" "statics" "[I") ∈ lw_all := sorry
theorem q4013 : (Jvm.Cond.fieldLink "LinkHouseModel" (1216 : Nat) "LinkHouseModel" "objectClass" "[I") ∈ lw_all := sorry
theorem q4014 : (Jvm.Cond.fieldLink "LinkHouseModel" (1262 : Nat) "LinkHouseModel" "objectFrom" "[I") ∈ lw_all := sorry
theorem q4015 : (Jvm.Cond.fieldLink "LinkHouseModel" (1198 : Nat) "LinkHouseModel" "objects" "I") ∈ lw_all := sorry
theorem q4016 : (Jvm.Cond.fieldLink "LinkHouseModel" (1265 : Nat) "LinkHouseModel" "fields" "[I") ∈ lw_all := sorry
theorem q4017 : (Jvm.Cond.fieldLink "LinkHouseModel" (1201 : Nat) "LinkHouseModel" "fieldMany" "I") ∈ lw_all := sorry
theorem q4018 : (Jvm.Cond.fieldLink "LinkHouseModel" (1282 : Nat) "LinkHouseModel" "cells" "[I") ∈ lw_all := sorry
theorem q4019 : (Jvm.Cond.fieldLink "LinkHouseModel" (1248 : Nat) "LinkHouseModel" "cellTop" "I") ∈ lw_all := sorry
theorem q4020 : (Jvm.Cond.fieldLink "LinkHouseModel" (1297 : Nat) "LinkHouseModel" "taskNode" "[I") ∈ lw_all := sorry
theorem q4021 : (Jvm.Cond.fieldLink "LinkHouseModel" (1303 : Nat) "LinkHouseModel" "taskState" "[I") ∈ lw_all := sorry
theorem q4022 : (Jvm.Cond.fieldLink "LinkHouseModel" (1328 : Nat) "LinkHouseModel" "taskValue" "[I") ∈ lw_all := sorry
theorem q4023 : (Jvm.Cond.fieldLink "LinkHouseModel" (1306 : Nat) "LinkHouseModel" "taskTo" "[I") ∈ lw_all := sorry
theorem q4024 : (Jvm.Cond.fieldLink "LinkHouseModel" (1349 : Nat) "LinkHouseModel" "taskArg" "[I") ∈ lw_all := sorry
theorem q4025 : (Jvm.Cond.fieldLink "LinkHouseModel" (1300 : Nat) "LinkHouseModel" "taskTop" "I") ∈ lw_all := sorry
theorem q4026 : (Jvm.Cond.fieldLink "LinkHouseModel" (1219 : Nat) "LinkHouseModel" "level" "I") ∈ lw_all := sorry
theorem q4027 : (Jvm.Cond.fieldLink "LinkHouseModel" (1268 : Nat) "LinkHouseModel" "steps" "I") ∈ lw_all := sorry
theorem q4028 : (Jvm.Cond.fieldLink "LinkHouseModel" (1207 : Nat) "LinkHouseModel" "stop" "I") ∈ lw_all := sorry
theorem q4029 : (Jvm.Cond.fieldLink "LinkHouseModel" (1210 : Nat) "LinkHouseModel" "failed" "I") ∈ lw_all := sorry
theorem q4030 : (Jvm.Cond.fieldLink "LinkHouseModel" (1279 : Nat) "LinkHouseModel" "given" "I") ∈ lw_all := sorry
theorem q4031 : (Jvm.Cond.fieldLink "LinkHouseModel" (1373 : Nat) "LinkHouseModel" "runValue" "I") ∈ lw_all := sorry
theorem q4032 : (Jvm.Cond.fieldLink "LinkHouseModel" (1361 : Nat) "LinkHouseModel" "outs" "[I") ∈ lw_all := sorry
theorem q4033 : (Jvm.Cond.fieldLink "LinkHouseModel" (1358 : Nat) "LinkHouseModel" "toldMany" "I") ∈ lw_all := sorry
theorem q4034 : (Jvm.Cond.fieldLink "LinkHouseModel" (1245 : Nat) "LinkHouseModel" "faceSeen" "[I") ∈ lw_all := sorry
theorem q4035 : (Jvm.Cond.fieldLink "LinkHouseModel" (1233 : Nat) "LinkHouseModel" "faceStamp" "I") ∈ lw_all := sorry
theorem q4036 : (Jvm.Cond.fieldLink "LinkHouseModel" (1239 : Nat) "LinkHouseModel" "facePile" "[I") ∈ lw_all := sorry
theorem q4037 : (Jvm.Cond.fieldLink "LinkHouseModel" (1230 : Nat) "LinkHouseModel" "faceTop" "I") ∈ lw_all := sorry
theorem q4038 : (Jvm.Cond.fieldLink "LinkHouseModel" (1379 : Nat) "LinkHouseModel" "changes" "[I") ∈ lw_all := sorry
theorem q4039 : (Jvm.Cond.fieldLink "LinkHouseModel" (1376 : Nat) "LinkHouseModel" "changeMany" "I") ∈ lw_all := sorry
theorem q4040 : (Jvm.Cond.fieldLink "LinkHouseModel" (1429 : Nat) "LinkHouseModel" "restA" "[I") ∈ lw_all := sorry
theorem q4041 : (Jvm.Cond.fieldLink "LinkHouseModel" (1435 : Nat) "LinkHouseModel" "restB" "[I") ∈ lw_all := sorry
theorem q4042 : (Jvm.Cond.fieldLink "LinkHouseModel" (1441 : Nat) "LinkHouseModel" "keptChanges" "[I") ∈ lw_all := sorry
theorem q4043 : (Jvm.Cond.fieldLink "LinkHouseModel" (1474 : Nat) "LinkHouseModel" "useMap" "[I") ∈ lw_all := sorry
theorem q4044 : (Jvm.Cond.laysFinal "LinkHouseModel" "LinkHouseModel" "tape" "[I") ∈ lw_all := sorry
theorem q4045 : (Jvm.Cond.soleField "LinkHouseModel" "tape") ∈ lw_all := sorry
theorem q4046 : (Jvm.Cond.lays "LinkHouseModel" "LinkHouseModel" "size" "I") ∈ lw_all := sorry
theorem q4047 : (Jvm.Cond.soleField "LinkHouseModel" "size") ∈ lw_all := sorry
theorem q4048 : (Jvm.Cond.laysFinal "LinkHouseModel" "LinkHouseModel" "outRow" "[I") ∈ lw_all := sorry
theorem q4049 : (Jvm.Cond.soleField "LinkHouseModel" "outRow") ∈ lw_all := sorry
theorem q4050 : (Jvm.Cond.lays "LinkHouseModel" "LinkHouseModel" "outSize" "I") ∈ lw_all := sorry
theorem q4051 : (Jvm.Cond.soleField "LinkHouseModel" "outSize") ∈ lw_all := sorry
theorem q4052 : (Jvm.Cond.laysFinal "LinkHouseModel" "LinkHouseModel" "spliceRow" "[I") ∈ lw_all := sorry
theorem q4053 : (Jvm.Cond.soleField "LinkHouseModel" "spliceRow") ∈ lw_all := sorry
theorem q4054 : (Jvm.Cond.laysFinal "LinkHouseModel" "LinkHouseModel" "text" "[B") ∈ lw_all := sorry
theorem q4055 : (Jvm.Cond.soleField "LinkHouseModel" "text") ∈ lw_all := sorry
theorem q4056 : (Jvm.Cond.laysFinal "LinkHouseModel" "LinkHouseModel" "textSize" "[I") ∈ lw_all := sorry
theorem q4057 : (Jvm.Cond.soleField "LinkHouseModel" "textSize") ∈ lw_all := sorry
theorem q4058 : (Jvm.Cond.laysFinal "LinkHouseModel" "LinkHouseModel" "libOf" "[I") ∈ lw_all := sorry
theorem q4059 : (Jvm.Cond.soleField "LinkHouseModel" "libOf") ∈ lw_all := sorry
theorem q4060 : (Jvm.Cond.laysFinal "LinkHouseModel" "LinkHouseModel" "slotOf" "[I") ∈ lw_all := sorry
theorem q4061 : (Jvm.Cond.soleField "LinkHouseModel" "slotOf") ∈ lw_all := sorry
theorem q4062 : (Jvm.Cond.laysFinal "LinkHouseModel" "LinkHouseModel" "buildMany" "[I") ∈ lw_all := sorry
theorem q4063 : (Jvm.Cond.soleField "LinkHouseModel" "buildMany") ∈ lw_all := sorry
theorem q4064 : (Jvm.Cond.lays "LinkHouseModel" "LinkHouseModel" "slots" "I") ∈ lw_all := sorry
theorem q4065 : (Jvm.Cond.soleField "LinkHouseModel" "slots") ∈ lw_all := sorry
theorem q4066 : (Jvm.Cond.laysFinal "LinkHouseModel" "LinkHouseModel" "tKind" "[I") ∈ lw_all := sorry
theorem q4067 : (Jvm.Cond.soleField "LinkHouseModel" "tKind") ∈ lw_all := sorry
theorem q4068 : (Jvm.Cond.laysFinal "LinkHouseModel" "LinkHouseModel" "tAt" "[I") ∈ lw_all := sorry
theorem q4069 : (Jvm.Cond.soleField "LinkHouseModel" "tAt") ∈ lw_all := sorry
theorem q4070 : (Jvm.Cond.laysFinal "LinkHouseModel" "LinkHouseModel" "tEnd" "[I") ∈ lw_all := sorry
theorem q4071 : (Jvm.Cond.soleField "LinkHouseModel" "tEnd") ∈ lw_all := sorry
theorem q4072 : (Jvm.Cond.laysFinal "LinkHouseModel" "LinkHouseModel" "tName" "[J") ∈ lw_all := sorry
theorem q4073 : (Jvm.Cond.soleField "LinkHouseModel" "tName") ∈ lw_all := sorry
theorem q4074 : (Jvm.Cond.laysFinal "LinkHouseModel" "LinkHouseModel" "tValue" "[I") ∈ lw_all := sorry
theorem q4075 : (Jvm.Cond.soleField "LinkHouseModel" "tValue") ∈ lw_all := sorry
theorem q4076 : (Jvm.Cond.laysFinal "LinkHouseModel" "LinkHouseModel" "tokens" "[I") ∈ lw_all := sorry
theorem q4077 : (Jvm.Cond.soleField "LinkHouseModel" "tokens") ∈ lw_all := sorry
theorem q4078 : (Jvm.Cond.laysFinal "LinkHouseModel" "LinkHouseModel" "words" "[J") ∈ lw_all := sorry
theorem q4079 : (Jvm.Cond.soleField "LinkHouseModel" "words") ∈ lw_all := sorry
theorem q4080 : (Jvm.Cond.lays "LinkHouseModel" "LinkHouseModel" "wordMany" "I") ∈ lw_all := sorry
theorem q4081 : (Jvm.Cond.soleField "LinkHouseModel" "wordMany") ∈ lw_all := sorry
theorem q4082 : (Jvm.Cond.lays "LinkHouseModel" "LinkHouseModel" "slot" "I") ∈ lw_all := sorry
theorem q4083 : (Jvm.Cond.soleField "LinkHouseModel" "slot") ∈ lw_all := sorry
theorem q4084 : (Jvm.Cond.lays "LinkHouseModel" "LinkHouseModel" "flaw" "I") ∈ lw_all := sorry
theorem q4085 : (Jvm.Cond.soleField "LinkHouseModel" "flaw") ∈ lw_all := sorry
theorem q4086 : (Jvm.Cond.lays "LinkHouseModel" "LinkHouseModel" "flawAt" "I") ∈ lw_all := sorry
theorem q4087 : (Jvm.Cond.soleField "LinkHouseModel" "flawAt") ∈ lw_all := sorry
theorem q4088 : (Jvm.Cond.lays "LinkHouseModel" "LinkHouseModel" "p" "I") ∈ lw_all := sorry
theorem q4089 : (Jvm.Cond.soleField "LinkHouseModel" "p") ∈ lw_all := sorry
theorem q4090 : (Jvm.Cond.laysFinal "LinkHouseModel" "LinkHouseModel" "clsMany" "[I") ∈ lw_all := sorry
theorem q4091 : (Jvm.Cond.soleField "LinkHouseModel" "clsMany") ∈ lw_all := sorry
theorem q4092 : (Jvm.Cond.laysFinal "LinkHouseModel" "LinkHouseModel" "cName" "[J") ∈ lw_all := sorry
theorem q4093 : (Jvm.Cond.soleField "LinkHouseModel" "cName") ∈ lw_all := sorry
theorem q4094 : (Jvm.Cond.laysFinal "LinkHouseModel" "LinkHouseModel" "cAt" "[I") ∈ lw_all := sorry
theorem q4095 : (Jvm.Cond.soleField "LinkHouseModel" "cAt") ∈ lw_all := sorry
theorem q4096 : (Jvm.Cond.laysFinal "LinkHouseModel" "LinkHouseModel" "cOpen" "[Z") ∈ lw_all := sorry
theorem q4097 : (Jvm.Cond.soleField "LinkHouseModel" "cOpen") ∈ lw_all := sorry
theorem q4098 : (Jvm.Cond.laysFinal "LinkHouseModel" "LinkHouseModel" "cSort" "[I") ∈ lw_all := sorry
theorem q4099 : (Jvm.Cond.soleField "LinkHouseModel" "cSort") ∈ lw_all := sorry
theorem q4100 : (Jvm.Cond.laysFinal "LinkHouseModel" "LinkHouseModel" "cParent" "[J") ∈ lw_all := sorry
theorem q4101 : (Jvm.Cond.soleField "LinkHouseModel" "cParent") ∈ lw_all := sorry
theorem q4102 : (Jvm.Cond.laysFinal "LinkHouseModel" "LinkHouseModel" "cParentAt" "[I") ∈ lw_all := sorry
theorem q4103 : (Jvm.Cond.soleField "LinkHouseModel" "cParentAt") ∈ lw_all := sorry
theorem q4104 : (Jvm.Cond.laysFinal "LinkHouseModel" "LinkHouseModel" "cFace" "[J") ∈ lw_all := sorry
theorem q4105 : (Jvm.Cond.soleField "LinkHouseModel" "cFace") ∈ lw_all := sorry
theorem q4106 : (Jvm.Cond.laysFinal "LinkHouseModel" "LinkHouseModel" "cFaceAt" "[I") ∈ lw_all := sorry
theorem q4107 : (Jvm.Cond.soleField "LinkHouseModel" "cFaceAt") ∈ lw_all := sorry
theorem q4108 : (Jvm.Cond.laysFinal "LinkHouseModel" "LinkHouseModel" "cFaces" "[I") ∈ lw_all := sorry
theorem q4109 : (Jvm.Cond.soleField "LinkHouseModel" "cFaces") ∈ lw_all := sorry
theorem q4110 : (Jvm.Cond.laysFinal "LinkHouseModel" "LinkHouseModel" "cIn" "[J") ∈ lw_all := sorry
theorem q4111 : (Jvm.Cond.soleField "LinkHouseModel" "cIn") ∈ lw_all := sorry
theorem q4112 : (Jvm.Cond.laysFinal "LinkHouseModel" "LinkHouseModel" "cInAt" "[I") ∈ lw_all := sorry
theorem q4113 : (Jvm.Cond.soleField "LinkHouseModel" "cInAt") ∈ lw_all := sorry
theorem q4114 : (Jvm.Cond.laysFinal "LinkHouseModel" "LinkHouseModel" "cWith" "[J") ∈ lw_all := sorry
theorem q4115 : (Jvm.Cond.soleField "LinkHouseModel" "cWith") ∈ lw_all := sorry
theorem q4116 : (Jvm.Cond.laysFinal "LinkHouseModel" "LinkHouseModel" "cWithAt" "[I") ∈ lw_all := sorry
theorem q4117 : (Jvm.Cond.soleField "LinkHouseModel" "cWithAt") ∈ lw_all := sorry
theorem q4118 : (Jvm.Cond.laysFinal "LinkHouseModel" "LinkHouseModel" "cWiths" "[I") ∈ lw_all := sorry
theorem q4119 : (Jvm.Cond.soleField "LinkHouseModel" "cWiths") ∈ lw_all := sorry
theorem q4120 : (Jvm.Cond.laysFinal "LinkHouseModel" "LinkHouseModel" "cOnly" "[J") ∈ lw_all := sorry
theorem q4121 : (Jvm.Cond.soleField "LinkHouseModel" "cOnly") ∈ lw_all := sorry
theorem q4122 : (Jvm.Cond.laysFinal "LinkHouseModel" "LinkHouseModel" "cOnlyAt" "[I") ∈ lw_all := sorry
theorem q4123 : (Jvm.Cond.soleField "LinkHouseModel" "cOnlyAt") ∈ lw_all := sorry
theorem q4124 : (Jvm.Cond.laysFinal "LinkHouseModel" "LinkHouseModel" "cOnlys" "[I") ∈ lw_all := sorry
theorem q4125 : (Jvm.Cond.soleField "LinkHouseModel" "cOnlys") ∈ lw_all := sorry
theorem q4126 : (Jvm.Cond.laysFinal "LinkHouseModel" "LinkHouseModel" "mMany" "[I") ∈ lw_all := sorry
theorem q4127 : (Jvm.Cond.soleField "LinkHouseModel" "mMany") ∈ lw_all := sorry
theorem q4128 : (Jvm.Cond.laysFinal "LinkHouseModel" "LinkHouseModel" "mKind" "[I") ∈ lw_all := sorry
theorem q4129 : (Jvm.Cond.soleField "LinkHouseModel" "mKind") ∈ lw_all := sorry
theorem q4130 : (Jvm.Cond.laysFinal "LinkHouseModel" "LinkHouseModel" "mTold" "[I") ∈ lw_all := sorry
theorem q4131 : (Jvm.Cond.soleField "LinkHouseModel" "mTold") ∈ lw_all := sorry
theorem q4132 : (Jvm.Cond.laysFinal "LinkHouseModel" "LinkHouseModel" "mAccess" "[I") ∈ lw_all := sorry
theorem q4133 : (Jvm.Cond.soleField "LinkHouseModel" "mAccess") ∈ lw_all := sorry
theorem q4134 : (Jvm.Cond.laysFinal "LinkHouseModel" "LinkHouseModel" "mStatic" "[Z") ∈ lw_all := sorry
theorem q4135 : (Jvm.Cond.soleField "LinkHouseModel" "mStatic") ∈ lw_all := sorry
theorem q4136 : (Jvm.Cond.laysFinal "LinkHouseModel" "LinkHouseModel" "mFinal" "[Z") ∈ lw_all := sorry
theorem q4137 : (Jvm.Cond.soleField "LinkHouseModel" "mFinal") ∈ lw_all := sorry
theorem q4138 : (Jvm.Cond.laysFinal "LinkHouseModel" "LinkHouseModel" "mBare" "[Z") ∈ lw_all := sorry
theorem q4139 : (Jvm.Cond.soleField "LinkHouseModel" "mBare") ∈ lw_all := sorry
theorem q4140 : (Jvm.Cond.laysFinal "LinkHouseModel" "LinkHouseModel" "mBareTold" "[Z") ∈ lw_all := sorry
theorem q4141 : (Jvm.Cond.soleField "LinkHouseModel" "mBareTold") ∈ lw_all := sorry
theorem q4142 : (Jvm.Cond.laysFinal "LinkHouseModel" "LinkHouseModel" "mBridge" "[Z") ∈ lw_all := sorry
theorem q4143 : (Jvm.Cond.soleField "LinkHouseModel" "mBridge") ∈ lw_all := sorry
theorem q4144 : (Jvm.Cond.laysFinal "LinkHouseModel" "LinkHouseModel" "mGiven" "[Z") ∈ lw_all := sorry
theorem q4145 : (Jvm.Cond.soleField "LinkHouseModel" "mGiven") ∈ lw_all := sorry
theorem q4146 : (Jvm.Cond.laysFinal "LinkHouseModel" "LinkHouseModel" "mName" "[J") ∈ lw_all := sorry
theorem q4147 : (Jvm.Cond.soleField "LinkHouseModel" "mName") ∈ lw_all := sorry
theorem q4148 : (Jvm.Cond.laysFinal "LinkHouseModel" "LinkHouseModel" "mAt" "[I") ∈ lw_all := sorry
theorem q4149 : (Jvm.Cond.soleField "LinkHouseModel" "mAt") ∈ lw_all := sorry
theorem q4150 : (Jvm.Cond.laysFinal "LinkHouseModel" "LinkHouseModel" "mType" "[J") ∈ lw_all := sorry
theorem q4151 : (Jvm.Cond.soleField "LinkHouseModel" "mType") ∈ lw_all := sorry
theorem q4152 : (Jvm.Cond.laysFinal "LinkHouseModel" "LinkHouseModel" "mTypeAt" "[I") ∈ lw_all := sorry
theorem q4153 : (Jvm.Cond.soleField "LinkHouseModel" "mTypeAt") ∈ lw_all := sorry
theorem q4154 : (Jvm.Cond.laysFinal "LinkHouseModel" "LinkHouseModel" "mParams" "[I") ∈ lw_all := sorry
theorem q4155 : (Jvm.Cond.soleField "LinkHouseModel" "mParams") ∈ lw_all := sorry
theorem q4156 : (Jvm.Cond.laysFinal "LinkHouseModel" "LinkHouseModel" "mParam" "[J") ∈ lw_all := sorry
theorem q4157 : (Jvm.Cond.soleField "LinkHouseModel" "mParam") ∈ lw_all := sorry
theorem q4158 : (Jvm.Cond.laysFinal "LinkHouseModel" "LinkHouseModel" "mParamAt" "[I") ∈ lw_all := sorry
theorem q4159 : (Jvm.Cond.soleField "LinkHouseModel" "mParamAt") ∈ lw_all := sorry
theorem q4160 : (Jvm.Cond.laysFinal "LinkHouseModel" "LinkHouseModel" "mParamName" "[J") ∈ lw_all := sorry
theorem q4161 : (Jvm.Cond.soleField "LinkHouseModel" "mParamName") ∈ lw_all := sorry
theorem q4162 : (Jvm.Cond.laysFinal "LinkHouseModel" "LinkHouseModel" "mParamNameAt" "[I") ∈ lw_all := sorry
theorem q4163 : (Jvm.Cond.soleField "LinkHouseModel" "mParamNameAt") ∈ lw_all := sorry
theorem q4164 : (Jvm.Cond.laysFinal "LinkHouseModel" "LinkHouseModel" "mExpr" "[I") ∈ lw_all := sorry
theorem q4165 : (Jvm.Cond.soleField "LinkHouseModel" "mExpr") ∈ lw_all := sorry
theorem q4166 : (Jvm.Cond.laysFinal "LinkHouseModel" "LinkHouseModel" "mBlock" "[I") ∈ lw_all := sorry
theorem q4167 : (Jvm.Cond.soleField "LinkHouseModel" "mBlock") ∈ lw_all := sorry
theorem q4168 : (Jvm.Cond.laysFinal "LinkHouseModel" "LinkHouseModel" "mTokFrom" "[I") ∈ lw_all := sorry
theorem q4169 : (Jvm.Cond.soleField "LinkHouseModel" "mTokFrom") ∈ lw_all := sorry
theorem q4170 : (Jvm.Cond.laysFinal "LinkHouseModel" "LinkHouseModel" "mTokTo" "[I") ∈ lw_all := sorry
theorem q4171 : (Jvm.Cond.soleField "LinkHouseModel" "mTokTo") ∈ lw_all := sorry
theorem q4172 : (Jvm.Cond.laysFinal "LinkHouseModel" "LinkHouseModel" "mConst" "[Z") ∈ lw_all := sorry
theorem q4173 : (Jvm.Cond.soleField "LinkHouseModel" "mConst") ∈ lw_all := sorry
theorem q4174 : (Jvm.Cond.laysFinal "LinkHouseModel" "LinkHouseModel" "mValue" "[I") ∈ lw_all := sorry
theorem q4175 : (Jvm.Cond.soleField "LinkHouseModel" "mValue") ∈ lw_all := sorry
theorem q4176 : (Jvm.Cond.laysFinal "LinkHouseModel" "LinkHouseModel" "mTarget" "[J") ∈ lw_all := sorry
theorem q4177 : (Jvm.Cond.soleField "LinkHouseModel" "mTarget") ∈ lw_all := sorry
theorem q4178 : (Jvm.Cond.laysFinal "LinkHouseModel" "LinkHouseModel" "mUse" "[I") ∈ lw_all := sorry
theorem q4179 : (Jvm.Cond.soleField "LinkHouseModel" "mUse") ∈ lw_all := sorry
theorem q4180 : (Jvm.Cond.laysFinal "LinkHouseModel" "LinkHouseModel" "mLocals" "[I") ∈ lw_all := sorry
theorem q4181 : (Jvm.Cond.soleField "LinkHouseModel" "mLocals") ∈ lw_all := sorry
theorem q4182 : (Jvm.Cond.laysFinal "LinkHouseModel" "LinkHouseModel" "nodeMany" "[I") ∈ lw_all := sorry
theorem q4183 : (Jvm.Cond.soleField "LinkHouseModel" "nodeMany") ∈ lw_all := sorry
theorem q4184 : (Jvm.Cond.laysFinal "LinkHouseModel" "LinkHouseModel" "nKind" "[I") ∈ lw_all := sorry
theorem q4185 : (Jvm.Cond.soleField "LinkHouseModel" "nKind") ∈ lw_all := sorry
theorem q4186 : (Jvm.Cond.laysFinal "LinkHouseModel" "LinkHouseModel" "nAt" "[I") ∈ lw_all := sorry
theorem q4187 : (Jvm.Cond.soleField "LinkHouseModel" "nAt") ∈ lw_all := sorry
theorem q4188 : (Jvm.Cond.laysFinal "LinkHouseModel" "LinkHouseModel" "nNameAt" "[I") ∈ lw_all := sorry
theorem q4189 : (Jvm.Cond.soleField "LinkHouseModel" "nNameAt") ∈ lw_all := sorry
theorem q4190 : (Jvm.Cond.laysFinal "LinkHouseModel" "LinkHouseModel" "nCAt" "[I") ∈ lw_all := sorry
theorem q4191 : (Jvm.Cond.soleField "LinkHouseModel" "nCAt") ∈ lw_all := sorry
theorem q4192 : (Jvm.Cond.laysFinal "LinkHouseModel" "LinkHouseModel" "nName" "[J") ∈ lw_all := sorry
theorem q4193 : (Jvm.Cond.soleField "LinkHouseModel" "nName") ∈ lw_all := sorry
theorem q4194 : (Jvm.Cond.laysFinal "LinkHouseModel" "LinkHouseModel" "nC" "[J") ∈ lw_all := sorry
theorem q4195 : (Jvm.Cond.soleField "LinkHouseModel" "nC") ∈ lw_all := sorry
theorem q4196 : (Jvm.Cond.laysFinal "LinkHouseModel" "LinkHouseModel" "nT" "[J") ∈ lw_all := sorry
theorem q4197 : (Jvm.Cond.soleField "LinkHouseModel" "nT") ∈ lw_all := sorry
theorem q4198 : (Jvm.Cond.laysFinal "LinkHouseModel" "LinkHouseModel" "nA" "[I") ∈ lw_all := sorry
theorem q4199 : (Jvm.Cond.soleField "LinkHouseModel" "nA") ∈ lw_all := sorry
theorem q4200 : (Jvm.Cond.laysFinal "LinkHouseModel" "LinkHouseModel" "nB" "[I") ∈ lw_all := sorry
theorem q4201 : (Jvm.Cond.soleField "LinkHouseModel" "nB") ∈ lw_all := sorry
theorem q4202 : (Jvm.Cond.laysFinal "LinkHouseModel" "LinkHouseModel" "nD" "[I") ∈ lw_all := sorry
theorem q4203 : (Jvm.Cond.soleField "LinkHouseModel" "nD") ∈ lw_all := sorry
theorem q4204 : (Jvm.Cond.laysFinal "LinkHouseModel" "LinkHouseModel" "nNext" "[I") ∈ lw_all := sorry
theorem q4205 : (Jvm.Cond.soleField "LinkHouseModel" "nNext") ∈ lw_all := sorry
theorem q4206 : (Jvm.Cond.laysFinal "LinkHouseModel" "LinkHouseModel" "nValue" "[I") ∈ lw_all := sorry
theorem q4207 : (Jvm.Cond.soleField "LinkHouseModel" "nValue") ∈ lw_all := sorry
theorem q4208 : (Jvm.Cond.laysFinal "LinkHouseModel" "LinkHouseModel" "nMean" "[I") ∈ lw_all := sorry
theorem q4209 : (Jvm.Cond.soleField "LinkHouseModel" "nMean") ∈ lw_all := sorry
theorem q4210 : (Jvm.Cond.laysFinal "LinkHouseModel" "LinkHouseModel" "nX" "[J") ∈ lw_all := sorry
theorem q4211 : (Jvm.Cond.soleField "LinkHouseModel" "nX") ∈ lw_all := sorry
theorem q4212 : (Jvm.Cond.laysFinal "LinkHouseModel" "LinkHouseModel" "nRes" "[J") ∈ lw_all := sorry
theorem q4213 : (Jvm.Cond.soleField "LinkHouseModel" "nRes") ∈ lw_all := sorry
theorem q4214 : (Jvm.Cond.laysFinal "LinkHouseModel" "LinkHouseModel" "nParams" "[I") ∈ lw_all := sorry
theorem q4215 : (Jvm.Cond.soleField "LinkHouseModel" "nParams") ∈ lw_all := sorry
theorem q4216 : (Jvm.Cond.laysFinal "LinkHouseModel" "LinkHouseModel" "nParam" "[J") ∈ lw_all := sorry
theorem q4217 : (Jvm.Cond.soleField "LinkHouseModel" "nParam") ∈ lw_all := sorry
theorem q4218 : (Jvm.Cond.laysFinal "LinkHouseModel" "LinkHouseModel" "nUse" "[I") ∈ lw_all := sorry
theorem q4219 : (Jvm.Cond.soleField "LinkHouseModel" "nUse") ∈ lw_all := sorry
theorem q4220 : (Jvm.Cond.laysFinal "LinkHouseModel" "LinkHouseModel" "nUse2" "[I") ∈ lw_all := sorry
theorem q4221 : (Jvm.Cond.soleField "LinkHouseModel" "nUse2") ∈ lw_all := sorry
theorem q4222 : (Jvm.Cond.lays "LinkHouseModel" "LinkHouseModel" "depth" "I") ∈ lw_all := sorry
theorem q4223 : (Jvm.Cond.soleField "LinkHouseModel" "depth") ∈ lw_all := sorry
theorem q4224 : (Jvm.Cond.laysFinal "LinkHouseModel" "LinkHouseModel" "world" "[I") ∈ lw_all := sorry
theorem q4225 : (Jvm.Cond.soleField "LinkHouseModel" "world") ∈ lw_all := sorry
theorem q4226 : (Jvm.Cond.lays "LinkHouseModel" "LinkHouseModel" "judged" "I") ∈ lw_all := sorry
theorem q4227 : (Jvm.Cond.soleField "LinkHouseModel" "judged") ∈ lw_all := sorry
theorem q4228 : (Jvm.Cond.lays "LinkHouseModel" "LinkHouseModel" "linking" "Z") ∈ lw_all := sorry
theorem q4229 : (Jvm.Cond.soleField "LinkHouseModel" "linking") ∈ lw_all := sorry
theorem q4230 : (Jvm.Cond.laysFinal "LinkHouseModel" "LinkHouseModel" "added" "[I") ∈ lw_all := sorry
theorem q4231 : (Jvm.Cond.soleField "LinkHouseModel" "added") ∈ lw_all := sorry
theorem q4232 : (Jvm.Cond.laysFinal "LinkHouseModel" "LinkHouseModel" "opened" "[I") ∈ lw_all := sorry
theorem q4233 : (Jvm.Cond.soleField "LinkHouseModel" "opened") ∈ lw_all := sorry
theorem q4234 : (Jvm.Cond.lays "LinkHouseModel" "LinkHouseModel" "stamp" "I") ∈ lw_all := sorry
theorem q4235 : (Jvm.Cond.soleField "LinkHouseModel" "stamp") ∈ lw_all := sorry
theorem q4236 : (Jvm.Cond.laysFinal "LinkHouseModel" "LinkHouseModel" "pile" "[I") ∈ lw_all := sorry
theorem q4237 : (Jvm.Cond.soleField "LinkHouseModel" "pile") ∈ lw_all := sorry
theorem q4238 : (Jvm.Cond.laysFinal "LinkHouseModel" "LinkHouseModel" "lookedRow" "[I") ∈ lw_all := sorry
theorem q4239 : (Jvm.Cond.soleField "LinkHouseModel" "lookedRow") ∈ lw_all := sorry
theorem q4240 : (Jvm.Cond.lays "LinkHouseModel" "LinkHouseModel" "lookedMany" "I") ∈ lw_all := sorry
theorem q4241 : (Jvm.Cond.soleField "LinkHouseModel" "lookedMany") ∈ lw_all := sorry
theorem q4242 : (Jvm.Cond.laysFinal "LinkHouseModel" "LinkHouseModel" "special" "[I") ∈ lw_all := sorry
theorem q4243 : (Jvm.Cond.soleField "LinkHouseModel" "special") ∈ lw_all := sorry
theorem q4244 : (Jvm.Cond.laysFinal "LinkHouseModel" "LinkHouseModel" "specialFaces" "[I") ∈ lw_all := sorry
theorem q4245 : (Jvm.Cond.soleField "LinkHouseModel" "specialFaces") ∈ lw_all := sorry
theorem q4246 : (Jvm.Cond.lays "LinkHouseModel" "LinkHouseModel" "specialMany" "I") ∈ lw_all := sorry
theorem q4247 : (Jvm.Cond.soleField "LinkHouseModel" "specialMany") ∈ lw_all := sorry
theorem q4248 : (Jvm.Cond.lays "LinkHouseModel" "LinkHouseModel" "unbare" "I") ∈ lw_all := sorry
theorem q4249 : (Jvm.Cond.soleField "LinkHouseModel" "unbare") ∈ lw_all := sorry
theorem q4250 : (Jvm.Cond.laysFinal "LinkHouseModel" "LinkHouseModel" "above" "[I") ∈ lw_all := sorry
theorem q4251 : (Jvm.Cond.soleField "LinkHouseModel" "above") ∈ lw_all := sorry
theorem q4252 : (Jvm.Cond.lays "LinkHouseModel" "LinkHouseModel" "aboveMany" "I") ∈ lw_all := sorry
theorem q4253 : (Jvm.Cond.soleField "LinkHouseModel" "aboveMany") ∈ lw_all := sorry
theorem q4254 : (Jvm.Cond.laysFinal "LinkHouseModel" "LinkHouseModel" "aboveFaces" "[I") ∈ lw_all := sorry
theorem q4255 : (Jvm.Cond.soleField "LinkHouseModel" "aboveFaces") ∈ lw_all := sorry
theorem q4256 : (Jvm.Cond.laysFinal "LinkHouseModel" "LinkHouseModel" "wholeFaces" "[I") ∈ lw_all := sorry
theorem q4257 : (Jvm.Cond.soleField "LinkHouseModel" "wholeFaces") ∈ lw_all := sorry
theorem q4258 : (Jvm.Cond.laysFinal "LinkHouseModel" "LinkHouseModel" "path" "[I") ∈ lw_all := sorry
theorem q4259 : (Jvm.Cond.soleField "LinkHouseModel" "path") ∈ lw_all := sorry
theorem q4260 : (Jvm.Cond.lays "LinkHouseModel" "LinkHouseModel" "pathTop" "I") ∈ lw_all := sorry
theorem q4261 : (Jvm.Cond.soleField "LinkHouseModel" "pathTop") ∈ lw_all := sorry
theorem q4262 : (Jvm.Cond.lays "LinkHouseModel" "LinkHouseModel" "atClass" "I") ∈ lw_all := sorry
theorem q4263 : (Jvm.Cond.soleField "LinkHouseModel" "atClass") ∈ lw_all := sorry
theorem q4264 : (Jvm.Cond.lays "LinkHouseModel" "LinkHouseModel" "atMember" "I") ∈ lw_all := sorry
theorem q4265 : (Jvm.Cond.soleField "LinkHouseModel" "atMember") ∈ lw_all := sorry
theorem q4266 : (Jvm.Cond.lays "LinkHouseModel" "LinkHouseModel" "inStatic" "Z") ∈ lw_all := sorry
theorem q4267 : (Jvm.Cond.soleField "LinkHouseModel" "inStatic") ∈ lw_all := sorry
theorem q4268 : (Jvm.Cond.laysFinal "LinkHouseModel" "LinkHouseModel" "localName" "[J") ∈ lw_all := sorry
theorem q4269 : (Jvm.Cond.soleField "LinkHouseModel" "localName") ∈ lw_all := sorry
theorem q4270 : (Jvm.Cond.laysFinal "LinkHouseModel" "LinkHouseModel" "localType" "[J") ∈ lw_all := sorry
theorem q4271 : (Jvm.Cond.soleField "LinkHouseModel" "localType") ∈ lw_all := sorry
theorem q4272 : (Jvm.Cond.lays "LinkHouseModel" "LinkHouseModel" "locals" "I") ∈ lw_all := sorry
theorem q4273 : (Jvm.Cond.soleField "LinkHouseModel" "locals") ∈ lw_all := sorry
theorem q4274 : (Jvm.Cond.laysFinal "LinkHouseModel" "LinkHouseModel" "candidates" "[I") ∈ lw_all := sorry
theorem q4275 : (Jvm.Cond.soleField "LinkHouseModel" "candidates") ∈ lw_all := sorry
theorem q4276 : (Jvm.Cond.lays "LinkHouseModel" "LinkHouseModel" "candidateMany" "I") ∈ lw_all := sorry
theorem q4277 : (Jvm.Cond.soleField "LinkHouseModel" "candidateMany") ∈ lw_all := sorry
theorem q4278 : (Jvm.Cond.laysFinal "LinkHouseModel" "LinkHouseModel" "candidateFaces" "[I") ∈ lw_all := sorry
theorem q4279 : (Jvm.Cond.soleField "LinkHouseModel" "candidateFaces") ∈ lw_all := sorry
theorem q4280 : (Jvm.Cond.laysFinal "LinkHouseModel" "LinkHouseModel" "uMany" "[I") ∈ lw_all := sorry
theorem q4281 : (Jvm.Cond.soleField "LinkHouseModel" "uMany") ∈ lw_all := sorry
theorem q4282 : (Jvm.Cond.laysFinal "LinkHouseModel" "LinkHouseModel" "uSort" "[I") ∈ lw_all := sorry
theorem q4283 : (Jvm.Cond.soleField "LinkHouseModel" "uSort") ∈ lw_all := sorry
theorem q4284 : (Jvm.Cond.laysFinal "LinkHouseModel" "LinkHouseModel" "uClass" "[I") ∈ lw_all := sorry
theorem q4285 : (Jvm.Cond.soleField "LinkHouseModel" "uClass") ∈ lw_all := sorry
theorem q4286 : (Jvm.Cond.laysFinal "LinkHouseModel" "LinkHouseModel" "uC" "[J") ∈ lw_all := sorry
theorem q4287 : (Jvm.Cond.soleField "LinkHouseModel" "uC") ∈ lw_all := sorry
theorem q4288 : (Jvm.Cond.laysFinal "LinkHouseModel" "LinkHouseModel" "uName" "[J") ∈ lw_all := sorry
theorem q4289 : (Jvm.Cond.soleField "LinkHouseModel" "uName") ∈ lw_all := sorry
theorem q4290 : (Jvm.Cond.laysFinal "LinkHouseModel" "LinkHouseModel" "uType" "[J") ∈ lw_all := sorry
theorem q4291 : (Jvm.Cond.soleField "LinkHouseModel" "uType") ∈ lw_all := sorry
theorem q4292 : (Jvm.Cond.laysFinal "LinkHouseModel" "LinkHouseModel" "uParams" "[I") ∈ lw_all := sorry
theorem q4293 : (Jvm.Cond.soleField "LinkHouseModel" "uParams") ∈ lw_all := sorry
theorem q4294 : (Jvm.Cond.laysFinal "LinkHouseModel" "LinkHouseModel" "uParam" "[J") ∈ lw_all := sorry
theorem q4295 : (Jvm.Cond.soleField "LinkHouseModel" "uParam") ∈ lw_all := sorry
theorem q4296 : (Jvm.Cond.laysFinal "LinkHouseModel" "LinkHouseModel" "uSecond" "[J") ∈ lw_all := sorry
theorem q4297 : (Jvm.Cond.soleField "LinkHouseModel" "uSecond") ∈ lw_all := sorry
theorem q4298 : (Jvm.Cond.laysFinal "LinkHouseModel" "LinkHouseModel" "uValue" "[I") ∈ lw_all := sorry
theorem q4299 : (Jvm.Cond.soleField "LinkHouseModel" "uValue") ∈ lw_all := sorry
theorem q4300 : (Jvm.Cond.lays "LinkHouseModel" "LinkHouseModel" "placed" "I") ∈ lw_all := sorry
theorem q4301 : (Jvm.Cond.soleField "LinkHouseModel" "placed") ∈ lw_all := sorry
theorem q4302 : (Jvm.Cond.lays "LinkHouseModel" "LinkHouseModel" "worldMany" "I") ∈ lw_all := sorry
theorem q4303 : (Jvm.Cond.soleField "LinkHouseModel" "worldMany") ∈ lw_all := sorry
theorem q4304 : (Jvm.Cond.laysFinal "LinkHouseModel" "LinkHouseModel" "worldClass" "[I") ∈ lw_all := sorry
theorem q4305 : (Jvm.Cond.soleField "LinkHouseModel" "worldClass") ∈ lw_all := sorry
theorem q4306 : (Jvm.Cond.laysFinal "LinkHouseModel" "LinkHouseModel" "worldNumber" "[I") ∈ lw_all := sorry
theorem q4307 : (Jvm.Cond.soleField "LinkHouseModel" "worldNumber") ∈ lw_all := sorry
theorem q4308 : (Jvm.Cond.laysFinal "LinkHouseModel" "LinkHouseModel" "state" "[I") ∈ lw_all := sorry
theorem q4309 : (Jvm.Cond.soleField "LinkHouseModel" "state") ∈ lw_all := sorry
theorem q4310 : (Jvm.Cond.laysFinal "LinkHouseModel" "LinkHouseModel" "failure" "[I") ∈ lw_all := sorry
theorem q4311 : (Jvm.Cond.soleField "LinkHouseModel" "failure") ∈ lw_all := sorry
theorem q4312 : (Jvm.Cond.lays "LinkHouseModel" "LinkHouseModel" "set" "I") ∈ lw_all := sorry
theorem q4313 : (Jvm.Cond.soleField "LinkHouseModel" "set") ∈ lw_all := sorry
theorem q4314 : (Jvm.Cond.laysFinal "LinkHouseModel" "LinkHouseModel" "events" "[I") ∈ lw_all := sorry
theorem q4315 : (Jvm.Cond.soleField "LinkHouseModel" "events") ∈ lw_all := sorry
theorem q4316 : (Jvm.Cond.lays "LinkHouseModel" "LinkHouseModel" "eventMany" "I") ∈ lw_all := sorry
theorem q4317 : (Jvm.Cond.soleField "LinkHouseModel" "eventMany") ∈ lw_all := sorry
theorem q4318 : (Jvm.Cond.lays "LinkHouseModel" "LinkHouseModel" "metMember" "I") ∈ lw_all := sorry
theorem q4319 : (Jvm.Cond.soleField "LinkHouseModel" "metMember") ∈ lw_all := sorry
theorem q4320 : (Jvm.Cond.laysFinal "LinkHouseModel" "LinkHouseModel" "seenRow" "[I") ∈ lw_all := sorry
theorem q4321 : (Jvm.Cond.soleField "LinkHouseModel" "seenRow") ∈ lw_all := sorry
theorem q4322 : (Jvm.Cond.lays "LinkHouseModel" "LinkHouseModel" "seenMany" "I") ∈ lw_all := sorry
theorem q4323 : (Jvm.Cond.soleField "LinkHouseModel" "seenMany") ∈ lw_all := sorry
theorem q4324 : (Jvm.Cond.lays "LinkHouseModel" "LinkHouseModel" "metNow" "I") ∈ lw_all := sorry
theorem q4325 : (Jvm.Cond.soleField "LinkHouseModel" "metNow") ∈ lw_all := sorry
theorem q4326 : (Jvm.Cond.laysFinal "LinkHouseModel" "LinkHouseModel" "seenNow" "[I") ∈ lw_all := sorry
theorem q4327 : (Jvm.Cond.soleField "LinkHouseModel" "seenNow") ∈ lw_all := sorry
theorem q4328 : (Jvm.Cond.lays "LinkHouseModel" "LinkHouseModel" "seenNowMany" "I") ∈ lw_all := sorry
theorem q4329 : (Jvm.Cond.soleField "LinkHouseModel" "seenNowMany") ∈ lw_all := sorry
theorem q4330 : (Jvm.Cond.laysFinal "LinkHouseModel" "LinkHouseModel" "askedFaces" "[I") ∈ lw_all := sorry
theorem q4331 : (Jvm.Cond.soleField "LinkHouseModel" "askedFaces") ∈ lw_all := sorry
theorem q4332 : (Jvm.Cond.laysFinal "LinkHouseModel" "LinkHouseModel" "brokenRow" "[I") ∈ lw_all := sorry
theorem q4333 : (Jvm.Cond.soleField "LinkHouseModel" "brokenRow") ∈ lw_all := sorry
theorem q4334 : (Jvm.Cond.lays "LinkHouseModel" "LinkHouseModel" "brokenMany" "I") ∈ lw_all := sorry
theorem q4335 : (Jvm.Cond.soleField "LinkHouseModel" "brokenMany") ∈ lw_all := sorry
theorem q4336 : (Jvm.Cond.laysFinal "LinkHouseModel" "LinkHouseModel" "chosen" "[I") ∈ lw_all := sorry
theorem q4337 : (Jvm.Cond.soleField "LinkHouseModel" "chosen") ∈ lw_all := sorry
theorem q4338 : (Jvm.Cond.laysFinal "LinkHouseModel" "LinkHouseModel" "stood" "[I") ∈ lw_all := sorry
theorem q4339 : (Jvm.Cond.soleField "LinkHouseModel" "stood") ∈ lw_all := sorry
theorem q4340 : (Jvm.Cond.laysFinal "LinkHouseModel" "LinkHouseModel" "statics" "[I") ∈ lw_all := sorry
theorem q4341 : (Jvm.Cond.soleField "LinkHouseModel" "statics") ∈ lw_all := sorry
theorem q4342 : (Jvm.Cond.laysFinal "LinkHouseModel" "LinkHouseModel" "objectClass" "[I") ∈ lw_all := sorry
theorem q4343 : (Jvm.Cond.soleField "LinkHouseModel" "objectClass") ∈ lw_all := sorry
theorem q4344 : (Jvm.Cond.laysFinal "LinkHouseModel" "LinkHouseModel" "objectFrom" "[I") ∈ lw_all := sorry
theorem q4345 : (Jvm.Cond.soleField "LinkHouseModel" "objectFrom") ∈ lw_all := sorry
theorem q4346 : (Jvm.Cond.lays "LinkHouseModel" "LinkHouseModel" "objects" "I") ∈ lw_all := sorry
theorem q4347 : (Jvm.Cond.soleField "LinkHouseModel" "objects") ∈ lw_all := sorry
theorem q4348 : (Jvm.Cond.laysFinal "LinkHouseModel" "LinkHouseModel" "fields" "[I") ∈ lw_all := sorry
theorem q4349 : (Jvm.Cond.soleField "LinkHouseModel" "fields") ∈ lw_all := sorry
theorem q4350 : (Jvm.Cond.lays "LinkHouseModel" "LinkHouseModel" "fieldMany" "I") ∈ lw_all := sorry
theorem q4351 : (Jvm.Cond.soleField "LinkHouseModel" "fieldMany") ∈ lw_all := sorry
theorem q4352 : (Jvm.Cond.laysFinal "LinkHouseModel" "LinkHouseModel" "cells" "[I") ∈ lw_all := sorry
theorem q4353 : (Jvm.Cond.soleField "LinkHouseModel" "cells") ∈ lw_all := sorry
theorem q4354 : (Jvm.Cond.lays "LinkHouseModel" "LinkHouseModel" "cellTop" "I") ∈ lw_all := sorry
theorem q4355 : (Jvm.Cond.soleField "LinkHouseModel" "cellTop") ∈ lw_all := sorry
theorem q4356 : (Jvm.Cond.laysFinal "LinkHouseModel" "LinkHouseModel" "taskNode" "[I") ∈ lw_all := sorry
theorem q4357 : (Jvm.Cond.soleField "LinkHouseModel" "taskNode") ∈ lw_all := sorry
theorem q4358 : (Jvm.Cond.laysFinal "LinkHouseModel" "LinkHouseModel" "taskState" "[I") ∈ lw_all := sorry
theorem q4359 : (Jvm.Cond.soleField "LinkHouseModel" "taskState") ∈ lw_all := sorry
theorem q4360 : (Jvm.Cond.laysFinal "LinkHouseModel" "LinkHouseModel" "taskValue" "[I") ∈ lw_all := sorry
theorem q4361 : (Jvm.Cond.soleField "LinkHouseModel" "taskValue") ∈ lw_all := sorry
theorem q4362 : (Jvm.Cond.laysFinal "LinkHouseModel" "LinkHouseModel" "taskTo" "[I") ∈ lw_all := sorry
theorem q4363 : (Jvm.Cond.soleField "LinkHouseModel" "taskTo") ∈ lw_all := sorry
theorem q4364 : (Jvm.Cond.laysFinal "LinkHouseModel" "LinkHouseModel" "taskArg" "[I") ∈ lw_all := sorry
theorem q4365 : (Jvm.Cond.soleField "LinkHouseModel" "taskArg") ∈ lw_all := sorry
theorem q4366 : (Jvm.Cond.lays "LinkHouseModel" "LinkHouseModel" "taskTop" "I") ∈ lw_all := sorry
theorem q4367 : (Jvm.Cond.soleField "LinkHouseModel" "taskTop") ∈ lw_all := sorry
theorem q4368 : (Jvm.Cond.lays "LinkHouseModel" "LinkHouseModel" "level" "I") ∈ lw_all := sorry
theorem q4369 : (Jvm.Cond.soleField "LinkHouseModel" "level") ∈ lw_all := sorry
theorem q4370 : (Jvm.Cond.lays "LinkHouseModel" "LinkHouseModel" "steps" "I") ∈ lw_all := sorry
theorem q4371 : (Jvm.Cond.soleField "LinkHouseModel" "steps") ∈ lw_all := sorry
theorem q4372 : (Jvm.Cond.lays "LinkHouseModel" "LinkHouseModel" "stop" "I") ∈ lw_all := sorry
theorem q4373 : (Jvm.Cond.soleField "LinkHouseModel" "stop") ∈ lw_all := sorry
theorem q4374 : (Jvm.Cond.lays "LinkHouseModel" "LinkHouseModel" "failed" "I") ∈ lw_all := sorry
theorem q4375 : (Jvm.Cond.soleField "LinkHouseModel" "failed") ∈ lw_all := sorry
theorem q4376 : (Jvm.Cond.lays "LinkHouseModel" "LinkHouseModel" "given" "I") ∈ lw_all := sorry
theorem q4377 : (Jvm.Cond.soleField "LinkHouseModel" "given") ∈ lw_all := sorry
theorem q4378 : (Jvm.Cond.lays "LinkHouseModel" "LinkHouseModel" "runValue" "I") ∈ lw_all := sorry
theorem q4379 : (Jvm.Cond.soleField "LinkHouseModel" "runValue") ∈ lw_all := sorry
theorem q4380 : (Jvm.Cond.laysFinal "LinkHouseModel" "LinkHouseModel" "outs" "[I") ∈ lw_all := sorry
theorem q4381 : (Jvm.Cond.soleField "LinkHouseModel" "outs") ∈ lw_all := sorry
theorem q4382 : (Jvm.Cond.lays "LinkHouseModel" "LinkHouseModel" "toldMany" "I") ∈ lw_all := sorry
theorem q4383 : (Jvm.Cond.soleField "LinkHouseModel" "toldMany") ∈ lw_all := sorry
theorem q4384 : (Jvm.Cond.laysFinal "LinkHouseModel" "LinkHouseModel" "faceSeen" "[I") ∈ lw_all := sorry
theorem q4385 : (Jvm.Cond.soleField "LinkHouseModel" "faceSeen") ∈ lw_all := sorry
theorem q4386 : (Jvm.Cond.lays "LinkHouseModel" "LinkHouseModel" "faceStamp" "I") ∈ lw_all := sorry
theorem q4387 : (Jvm.Cond.soleField "LinkHouseModel" "faceStamp") ∈ lw_all := sorry
theorem q4388 : (Jvm.Cond.laysFinal "LinkHouseModel" "LinkHouseModel" "facePile" "[I") ∈ lw_all := sorry
theorem q4389 : (Jvm.Cond.soleField "LinkHouseModel" "facePile") ∈ lw_all := sorry
theorem q4390 : (Jvm.Cond.lays "LinkHouseModel" "LinkHouseModel" "faceTop" "I") ∈ lw_all := sorry
theorem q4391 : (Jvm.Cond.soleField "LinkHouseModel" "faceTop") ∈ lw_all := sorry
theorem q4392 : (Jvm.Cond.laysFinal "LinkHouseModel" "LinkHouseModel" "changes" "[I") ∈ lw_all := sorry
theorem q4393 : (Jvm.Cond.soleField "LinkHouseModel" "changes") ∈ lw_all := sorry
theorem q4394 : (Jvm.Cond.lays "LinkHouseModel" "LinkHouseModel" "changeMany" "I") ∈ lw_all := sorry
theorem q4395 : (Jvm.Cond.soleField "LinkHouseModel" "changeMany") ∈ lw_all := sorry
theorem q4396 : (Jvm.Cond.laysFinal "LinkHouseModel" "LinkHouseModel" "restA" "[I") ∈ lw_all := sorry
theorem q4397 : (Jvm.Cond.soleField "LinkHouseModel" "restA") ∈ lw_all := sorry
theorem q4398 : (Jvm.Cond.laysFinal "LinkHouseModel" "LinkHouseModel" "restB" "[I") ∈ lw_all := sorry
theorem q4399 : (Jvm.Cond.soleField "LinkHouseModel" "restB") ∈ lw_all := sorry
theorem q4400 : (Jvm.Cond.laysFinal "LinkHouseModel" "LinkHouseModel" "keptChanges" "[I") ∈ lw_all := sorry
theorem q4401 : (Jvm.Cond.soleField "LinkHouseModel" "keptChanges") ∈ lw_all := sorry
theorem q4402 : (Jvm.Cond.laysFinal "LinkHouseModel" "LinkHouseModel" "useMap" "[I") ∈ lw_all := sorry
theorem q4403 : (Jvm.Cond.soleField "LinkHouseModel" "useMap") ∈ lw_all := sorry
theorem q4404 : (Jvm.Cond.superclass "LinkHouseModel" "java/lang/Object") ∈ lw_all := sorry
theorem in_X11 : ∀ w ∈ wsX110, w ∈ lw_all := sorry
