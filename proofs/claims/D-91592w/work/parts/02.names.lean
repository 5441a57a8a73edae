set_option maxRecDepth 100000
/-! java/util/AbstractCollection -/
def RJ0 : String := "java/util/AbstractCollection"
abbrev cJ0_init : ByteArray := prog_26_method_1_code
def yJ0_init : MethodName := ⟨RJ0, "<init>", "()V"⟩
theorem q69 : (Jvm.Cond.initialized "java/util/AbstractCollection") ∈ lw_all := lw_g (lw_at lw_m1 2 rfl) rfl
theorem q109 : (Jvm.Cond.instanceMethod ({ cls := "java/util/AbstractCollection", name := "<init>", desc := "()V" } : Jvm.MethodName)) ∈ lw_all := lw_g (lw_at lw_m1 42 rfl) rfl
theorem q110 : (Jvm.Cond.code ({ cls := "java/util/AbstractCollection", name := "<init>", desc := "()V" } : Jvm.MethodName) prog_26_method_1_code (1 : Nat) (Option.none : Option Jvm.ClassFile.FieldType)) ∈ lw_all := lw_g (lw_at lw_m1 43 rfl) rfl
theorem q111 : (Jvm.Cond.methodLink "java/util/AbstractCollection" (1 : Nat) ({ cls := "java/lang/Object", name := "<init>", desc := "()V" } : Jvm.MethodName)) ∈ lw_all := lw_g (lw_at lw_m1 44 rfl) rfl
/-! java/util/AbstractList -/
def RJ1 : String := "java/util/AbstractList"
abbrev cJ1_init : ByteArray := prog_27_method_1_code
def yJ1_init : MethodName := ⟨RJ1, "<init>", "()V"⟩
theorem q70 : (Jvm.Cond.initialized "java/util/AbstractList") ∈ lw_all := lw_g (lw_at lw_m1 3 rfl) rfl
theorem q106 : (Jvm.Cond.instanceMethod ({ cls := "java/util/AbstractList", name := "<init>", desc := "()V" } : Jvm.MethodName)) ∈ lw_all := lw_g (lw_at lw_m1 39 rfl) rfl
theorem q107 : (Jvm.Cond.code ({ cls := "java/util/AbstractList", name := "<init>", desc := "()V" } : Jvm.MethodName) prog_27_method_1_code (1 : Nat) (Option.none : Option Jvm.ClassFile.FieldType)) ∈ lw_all := lw_g (lw_at lw_m1 40 rfl) rfl
theorem q108 : (Jvm.Cond.methodLink "java/util/AbstractList" (1 : Nat) ({ cls := "java/util/AbstractCollection", name := "<init>", desc := "()V" } : Jvm.MethodName)) ∈ lw_all := lw_g (lw_at lw_m1 41 rfl) rfl
theorem q118 : (Jvm.Cond.fieldLink "java/util/AbstractList" (7 : Nat) "java/util/AbstractList" "modCount" "I") ∈ lw_all := lw_g (lw_at lw_m1 51 rfl) rfl
theorem q126 : (Jvm.Cond.soleField "java/util/AbstractList" "modCount") ∈ lw_all := lw_g (lw_at lw_m1 59 rfl) rfl
/-! java/lang/StringUTF16 -/
def RJ10 : String := "java/lang/StringUTF16"
abbrev cJ10_indexOf : ByteArray := prog_22_method_40_code
def yJ10_indexOf : MethodName := ⟨RJ10, "indexOf", "([BIII)I"⟩
abbrev cJ10_indexOfChar : ByteArray := prog_22_method_47_code
def yJ10_indexOfChar : MethodName := ⟨RJ10, "indexOfChar", "([BIII)I"⟩
abbrev cJ10_checkBoundsBeginEnd : ByteArray := prog_22_method_93_code
def yJ10_checkBoundsBeginEnd : MethodName := ⟨RJ10, "checkBoundsBeginEnd", "(II[B)V"⟩
abbrev cJ10_length : ByteArray := prog_22_method_6_code
def yJ10_length : MethodName := ⟨RJ10, "length", "([B)I"⟩
abbrev cJ10_indexOfCharUnsafe : ByteArray := prog_22_method_48_code
def yJ10_indexOfCharUnsafe : MethodName := ⟨RJ10, "indexOfCharUnsafe", "([BIII)I"⟩
abbrev cJ10_getChar : ByteArray := prog_22_method_5_code
def yJ10_getChar : MethodName := ⟨RJ10, "getChar", "([BI)C"⟩
abbrev cJ10_indexOfSupplementary : ByteArray := prog_22_method_49_code
def yJ10_indexOfSupplementary : MethodName := ⟨RJ10, "indexOfSupplementary", "([BIII)I"⟩
abbrev cJ10_charAt : ByteArray := prog_22_method_83_code
def yJ10_charAt : MethodName := ⟨RJ10, "charAt", "([BI)C"⟩
abbrev cJ10_checkIndex : ByteArray := prog_22_method_91_code
def yJ10_checkIndex : MethodName := ⟨RJ10, "checkIndex", "(I[B)V"⟩
theorem q89 : (Jvm.Cond.initialized "java/lang/StringUTF16") ∈ lw_all := lw_g (lw_at lw_m1 22 rfl) rfl
theorem q413 : (Jvm.Cond.static ({ cls := "java/lang/StringUTF16", name := "indexOf", desc := "([BIII)I" } : Jvm.MethodName)) ∈ lw_all := lw_g (lw_at lw_m2 106 rfl) rfl
theorem q414 : (Jvm.Cond.code ({ cls := "java/lang/StringUTF16", name := "indexOf", desc := "([BIII)I" } : Jvm.MethodName) prog_22_method_40_code (4 : Nat) (Option.some Jvm.ClassFile.FieldType.int)) ∈ lw_all := lw_g (lw_at lw_m2 107 rfl) rfl
theorem q415 : (Jvm.Cond.methodLink "java/lang/StringUTF16" (224 : Nat) ({ cls := "java/lang/Math", name := "max", desc := "(II)I" } : Jvm.MethodName)) ∈ lw_all := lw_g (lw_at lw_m2 108 rfl) rfl
theorem q416 : (Jvm.Cond.methodLink "java/lang/StringUTF16" (183 : Nat) ({ cls := "java/lang/Math", name := "min", desc := "(II)I" } : Jvm.MethodName)) ∈ lw_all := lw_g (lw_at lw_m2 109 rfl) rfl
theorem q417 : (Jvm.Cond.constant "java/lang/StringUTF16" (227 : Nat) (65536 : Int32)) ∈ lw_all := lw_g (lw_at lw_m2 110 rfl) rfl
theorem q418 : (Jvm.Cond.methodLink "java/lang/StringUTF16" (228 : Nat) ({ cls := "java/lang/StringUTF16", name := "indexOfChar", desc := "([BIII)I" } : Jvm.MethodName)) ∈ lw_all := lw_g (lw_at lw_m2 111 rfl) rfl
theorem q419 : (Jvm.Cond.static ({ cls := "java/lang/StringUTF16", name := "indexOfChar", desc := "([BIII)I" } : Jvm.MethodName)) ∈ lw_all := lw_g (lw_at lw_m2 112 rfl) rfl
theorem q420 : (Jvm.Cond.code ({ cls := "java/lang/StringUTF16", name := "indexOfChar", desc := "([BIII)I" } : Jvm.MethodName) prog_22_method_47_code (4 : Nat) (Option.some Jvm.ClassFile.FieldType.int)) ∈ lw_all := lw_g (lw_at lw_m2 113 rfl) rfl
theorem q421 : (Jvm.Cond.methodLink "java/lang/StringUTF16" (96 : Nat) ({ cls := "java/lang/StringUTF16", name := "checkBoundsBeginEnd", desc := "(II[B)V" } : Jvm.MethodName)) ∈ lw_all := lw_g (lw_at lw_m2 114 rfl) rfl
theorem q422 : (Jvm.Cond.static ({ cls := "java/lang/StringUTF16", name := "checkBoundsBeginEnd", desc := "(II[B)V" } : Jvm.MethodName)) ∈ lw_all := lw_g (lw_at lw_m2 115 rfl) rfl
theorem q423 : (Jvm.Cond.code ({ cls := "java/lang/StringUTF16", name := "checkBoundsBeginEnd", desc := "(II[B)V" } : Jvm.MethodName) prog_22_method_93_code (3 : Nat) (Option.none : Option Jvm.ClassFile.FieldType)) ∈ lw_all := lw_g (lw_at lw_m2 116 rfl) rfl
theorem q424 : (Jvm.Cond.methodLink "java/lang/StringUTF16" (48 : Nat) ({ cls := "java/lang/StringUTF16", name := "length", desc := "([B)I" } : Jvm.MethodName)) ∈ lw_all := lw_g (lw_at lw_m2 117 rfl) rfl
theorem q425 : (Jvm.Cond.static ({ cls := "java/lang/StringUTF16", name := "length", desc := "([B)I" } : Jvm.MethodName)) ∈ lw_all := lw_g (lw_at lw_m2 118 rfl) rfl
theorem q426 : (Jvm.Cond.code ({ cls := "java/lang/StringUTF16", name := "length", desc := "([B)I" } : Jvm.MethodName) prog_22_method_6_code (1 : Nat) (Option.some Jvm.ClassFile.FieldType.int)) ∈ lw_all := lw_g (lw_at lw_m2 119 rfl) rfl
theorem q427 : (Jvm.Cond.methodLink "java/lang/StringUTF16" (241 : Nat) ({ cls := "java/lang/String", name := "checkBoundsBeginEnd", desc := "(III)V" } : Jvm.MethodName)) ∈ lw_all := lw_g (lw_at lw_m2 120 rfl) rfl
theorem q435 : (Jvm.Cond.methodLink "java/lang/StringUTF16" (244 : Nat) ({ cls := "java/lang/StringUTF16", name := "indexOfCharUnsafe", desc := "([BIII)I" } : Jvm.MethodName)) ∈ lw_all := lw_g (lw_at lw_m2 128 rfl) rfl
theorem q436 : (Jvm.Cond.static ({ cls := "java/lang/StringUTF16", name := "indexOfCharUnsafe", desc := "([BIII)I" } : Jvm.MethodName)) ∈ lw_all := lw_g (lw_at lw_m2 129 rfl) rfl
theorem q437 : (Jvm.Cond.code ({ cls := "java/lang/StringUTF16", name := "indexOfCharUnsafe", desc := "([BIII)I" } : Jvm.MethodName) prog_22_method_48_code (5 : Nat) (Option.some Jvm.ClassFile.FieldType.int)) ∈ lw_all := lw_g (lw_at lw_m2 130 rfl) rfl
theorem q438 : (Jvm.Cond.methodLink "java/lang/StringUTF16" (71 : Nat) ({ cls := "java/lang/StringUTF16", name := "getChar", desc := "([BI)C" } : Jvm.MethodName)) ∈ lw_all := lw_g (lw_at lw_m2 131 rfl) rfl
theorem q439 : (Jvm.Cond.static ({ cls := "java/lang/StringUTF16", name := "getChar", desc := "([BI)C" } : Jvm.MethodName)) ∈ lw_all := lw_g (lw_at lw_m2 132 rfl) rfl
theorem q440 : (Jvm.Cond.code ({ cls := "java/lang/StringUTF16", name := "getChar", desc := "([BI)C" } : Jvm.MethodName) prog_22_method_5_code (2 : Nat) (Option.some Jvm.ClassFile.FieldType.char)) ∈ lw_all := lw_g (lw_at lw_m2 133 rfl) rfl
theorem q441 : (Jvm.Cond.fieldLink "java/lang/StringUTF16" (44 : Nat) "java/lang/StringUTF16" "$assertionsDisabled" "Z") ∈ lw_all := lw_g (lw_at lw_m2 134 rfl) rfl
theorem q442 : (Jvm.Cond.laysStatic "java/lang/StringUTF16" "$assertionsDisabled" "Z") ∈ lw_tbl := lw_at lw_m2 135 rfl
theorem q443 : (Jvm.Cond.fieldLink "java/lang/StringUTF16" (59 : Nat) "java/lang/StringUTF16" "HI_BYTE_SHIFT" "I") ∈ lw_all := lw_g (lw_at lw_m2 136 rfl) rfl
theorem q444 : (Jvm.Cond.laysStatic "java/lang/StringUTF16" "HI_BYTE_SHIFT" "I") ∈ lw_tbl := lw_at lw_m2 137 rfl
theorem q445 : (Jvm.Cond.fieldLink "java/lang/StringUTF16" (63 : Nat) "java/lang/StringUTF16" "LO_BYTE_SHIFT" "I") ∈ lw_all := lw_g (lw_at lw_m2 138 rfl) rfl
theorem q446 : (Jvm.Cond.laysStatic "java/lang/StringUTF16" "LO_BYTE_SHIFT" "I") ∈ lw_tbl := lw_at lw_m2 139 rfl
theorem q447 : (Jvm.Cond.methodLink "java/lang/StringUTF16" (232 : Nat) ({ cls := "java/lang/StringUTF16", name := "indexOfSupplementary", desc := "([BIII)I" } : Jvm.MethodName)) ∈ lw_all := lw_g (lw_at lw_m2 140 rfl) rfl
theorem q448 : (Jvm.Cond.static ({ cls := "java/lang/StringUTF16", name := "indexOfSupplementary", desc := "([BIII)I" } : Jvm.MethodName)) ∈ lw_all := lw_g (lw_at lw_m2 141 rfl) rfl
theorem q449 : (Jvm.Cond.code ({ cls := "java/lang/StringUTF16", name := "indexOfSupplementary", desc := "([BIII)I" } : Jvm.MethodName) prog_22_method_49_code (7 : Nat) (Option.some Jvm.ClassFile.FieldType.int)) ∈ lw_all := lw_g (lw_at lw_m2 142 rfl) rfl
theorem q450 : (Jvm.Cond.methodLink "java/lang/StringUTF16" (164 : Nat) ({ cls := "java/lang/Character", name := "isValidCodePoint", desc := "(I)Z" } : Jvm.MethodName)) ∈ lw_all := lw_g (lw_at lw_m2 143 rfl) rfl
theorem q453 : (Jvm.Cond.methodLink "java/lang/StringUTF16" (157 : Nat) ({ cls := "java/lang/Character", name := "highSurrogate", desc := "(I)C" } : Jvm.MethodName)) ∈ lw_all := lw_g (lw_at lw_m2 146 rfl) rfl
theorem q457 : (Jvm.Cond.methodLink "java/lang/StringUTF16" (161 : Nat) ({ cls := "java/lang/Character", name := "lowSurrogate", desc := "(I)C" } : Jvm.MethodName)) ∈ lw_all := lw_g (lw_at lw_m2 150 rfl) rfl
theorem q488 : (Jvm.Cond.static ({ cls := "java/lang/StringUTF16", name := "charAt", desc := "([BI)C" } : Jvm.MethodName)) ∈ lw_all := lw_g (lw_at lw_m2 181 rfl) rfl
theorem q489 : (Jvm.Cond.code ({ cls := "java/lang/StringUTF16", name := "charAt", desc := "([BI)C" } : Jvm.MethodName) prog_22_method_83_code (2 : Nat) (Option.some Jvm.ClassFile.FieldType.char)) ∈ lw_all := lw_g (lw_at lw_m2 182 rfl) rfl
theorem q490 : (Jvm.Cond.methodLink "java/lang/StringUTF16" (67 : Nat) ({ cls := "java/lang/StringUTF16", name := "checkIndex", desc := "(I[B)V" } : Jvm.MethodName)) ∈ lw_all := lw_g (lw_at lw_m2 183 rfl) rfl
theorem q491 : (Jvm.Cond.static ({ cls := "java/lang/StringUTF16", name := "checkIndex", desc := "(I[B)V" } : Jvm.MethodName)) ∈ lw_all := lw_g (lw_at lw_m2 184 rfl) rfl
theorem q492 : (Jvm.Cond.code ({ cls := "java/lang/StringUTF16", name := "checkIndex", desc := "(I[B)V" } : Jvm.MethodName) prog_22_method_91_code (2 : Nat) (Option.none : Option Jvm.ClassFile.FieldType)) ∈ lw_all := lw_g (lw_at lw_m2 185 rfl) rfl
theorem q493 : (Jvm.Cond.methodLink "java/lang/StringUTF16" (414 : Nat) ({ cls := "java/lang/String", name := "checkIndex", desc := "(II)V" } : Jvm.MethodName)) ∈ lw_all := lw_g (lw_at lw_m2 186 rfl) rfl
/-! java/lang/Character -/
def RJ11 : String := "java/lang/Character"
abbrev cJ11_isValidCodePoint : ByteArray := prog_15_method_11_code
def yJ11_isValidCodePoint : MethodName := ⟨RJ11, "isValidCodePoint", "(I)Z"⟩
abbrev cJ11_highSurrogate : ByteArray := prog_15_method_28_code
def yJ11_highSurrogate : MethodName := ⟨RJ11, "highSurrogate", "(I)C"⟩
abbrev cJ11_lowSurrogate : ByteArray := prog_15_method_29_code
def yJ11_lowSurrogate : MethodName := ⟨RJ11, "lowSurrogate", "(I)C"⟩
theorem q90 : (Jvm.Cond.initialized "java/lang/Character") ∈ lw_all := lw_g (lw_at lw_m1 23 rfl) rfl
theorem q451 : (Jvm.Cond.static ({ cls := "java/lang/Character", name := "isValidCodePoint", desc := "(I)Z" } : Jvm.MethodName)) ∈ lw_all := lw_g (lw_at lw_m2 144 rfl) rfl
theorem q452 : (Jvm.Cond.code ({ cls := "java/lang/Character", name := "isValidCodePoint", desc := "(I)Z" } : Jvm.MethodName) prog_15_method_11_code (2 : Nat) (Option.some Jvm.ClassFile.FieldType.boolean)) ∈ lw_all := lw_g (lw_at lw_m2 145 rfl) rfl
theorem q454 : (Jvm.Cond.static ({ cls := "java/lang/Character", name := "highSurrogate", desc := "(I)C" } : Jvm.MethodName)) ∈ lw_all := lw_g (lw_at lw_m2 147 rfl) rfl
theorem q455 : (Jvm.Cond.code ({ cls := "java/lang/Character", name := "highSurrogate", desc := "(I)C" } : Jvm.MethodName) prog_15_method_28_code (1 : Nat) (Option.some Jvm.ClassFile.FieldType.char)) ∈ lw_all := lw_g (lw_at lw_m2 148 rfl) rfl
theorem q456 : (Jvm.Cond.constant "java/lang/Character" (110 : Nat) (55232 : Int32)) ∈ lw_all := lw_g (lw_at lw_m2 149 rfl) rfl
theorem q458 : (Jvm.Cond.static ({ cls := "java/lang/Character", name := "lowSurrogate", desc := "(I)C" } : Jvm.MethodName)) ∈ lw_all := lw_g (lw_at lw_m2 151 rfl) rfl
theorem q459 : (Jvm.Cond.code ({ cls := "java/lang/Character", name := "lowSurrogate", desc := "(I)C" } : Jvm.MethodName) prog_15_method_29_code (1 : Nat) (Option.some Jvm.ClassFile.FieldType.char)) ∈ lw_all := lw_g (lw_at lw_m2 152 rfl) rfl
theorem q460 : (Jvm.Cond.constant "java/lang/Character" (76 : Nat) (56320 : Int32)) ∈ lw_all := lw_g (lw_at lw_m2 153 rfl) rfl
/-! java/lang/Object -/
def RJ12 : String := "java/lang/Object"
abbrev cJ12_init : ByteArray := object_method_1_code
def yJ12_init : MethodName := ⟨RJ12, "<init>", "()V"⟩
theorem q98 : (Jvm.Cond.instanceMethod ({ cls := "java/lang/Object", name := "<init>", desc := "()V" } : Jvm.MethodName)) ∈ lw_all := lw_g (lw_at lw_m1 31 rfl) rfl
theorem q99 : (Jvm.Cond.code ({ cls := "java/lang/Object", name := "<init>", desc := "()V" } : Jvm.MethodName) object_method_1_code (1 : Nat) (Option.none : Option Jvm.ClassFile.FieldType)) ∈ lw_all := lw_g (lw_at lw_m1 32 rfl) rfl
theorem q562 : (Jvm.Cond.instanceMethod ({ cls := "java/lang/Object", name := "getClass", desc := "()Ljava/lang/Class;" } : Jvm.MethodName)) ∈ lw_all := lw_g (lw_at lw_m3 15 rfl) rfl
theorem q563 : (Jvm.Cond.sameMethod "java/lang/Object" "java/lang/Object" "getClass" "()Ljava/lang/Class;") ∈ lw_all := lw_g (lw_at lw_m3 16 rfl) rfl
theorem q575 : (Jvm.Cond.native ({ cls := "java/lang/Object", name := "getClass", desc := "()Ljava/lang/Class;" } : Jvm.MethodName)) ∈ lw_all := lw_g (lw_at lw_m3 28 rfl) rfl
theorem q1557 : (Jvm.Cond.declares ({ cls := "java/lang/Object", name := "getClass", desc := "()Ljava/lang/Class;" } : Jvm.MethodName)) ∈ lw_tbl := lw_at lw_m7 50 rfl
/-! java/util/ArrayList -/
def RJ2 : String := "java/util/ArrayList"
def TJ2 : u_T := fun k => match k with
  | 0 => ("java/util/AbstractList", "modCount", "I", false)
  | 1 => ("java/util/ArrayList", "elementData", "[Ljava/lang/Object;", false)
  | _ => ("java/util/ArrayList", "size", "I", false)
def tyJ2 : Nat → FieldType := fun k => match k with
  | 0 => .int
  | 1 => .array (.object "java/lang/Object")
  | _ => .int
abbrev wsJ20 : List Cond := u_ws RJ2 TJ2 3
theorem nmJ2 : ∀ a, a < 3 → ∀ b, b < 3 → a ≠ b → (TJ2 a).2.1 ≠ (TJ2 b).2.1 := by decide +kernel
theorem tyJ2_ok : ∀ k, k < 3 → parseFieldDescriptor (TJ2 k).2.2.1 = some (tyJ2 k) := by decide +kernel
abbrev cJ2_init : ByteArray := prog_28_method_1_code
def yJ2_init : MethodName := ⟨RJ2, "<init>", "(I)V"⟩
abbrev cJ2_clear : ByteArray := prog_28_method_40_code
def yJ2_clear : MethodName := ⟨RJ2, "clear", "()V"⟩
abbrev cJ2_add : ByteArray := prog_28_method_25_code
def yJ2_add : MethodName := ⟨RJ2, "add", "(Ljava/lang/Object;)Z"⟩
abbrev cJ2_add_2 : ByteArray := prog_28_method_24_code
def yJ2_add_2 : MethodName := ⟨RJ2, "add", "(Ljava/lang/Object;[Ljava/lang/Object;I)V"⟩
abbrev cJ2_grow : ByteArray := prog_28_method_7_code
def yJ2_grow : MethodName := ⟨RJ2, "grow", "()[Ljava/lang/Object;"⟩
abbrev cJ2_grow_2 : ByteArray := prog_28_method_6_code
def yJ2_grow_2 : MethodName := ⟨RJ2, "grow", "(I)[Ljava/lang/Object;"⟩
abbrev cJ2_size : ByteArray := prog_28_method_8_code
def yJ2_size : MethodName := ⟨RJ2, "size", "()I"⟩
abbrev cJ2_get : ByteArray := prog_28_method_20_code
def yJ2_get : MethodName := ⟨RJ2, "get", "(I)Ljava/lang/Object;"⟩
abbrev cJ2_elementData : ByteArray := prog_28_method_18_code
def yJ2_elementData : MethodName := ⟨RJ2, "elementData", "(I)Ljava/lang/Object;"⟩
theorem q71 : (Jvm.Cond.initialized "java/util/ArrayList") ∈ lw_all := lw_g (lw_at lw_m1 4 rfl) rfl
theorem q101 : (Jvm.Cond.instantiable "java/util/ArrayList" (3 : Nat)) ∈ lw_all := lw_g (lw_at lw_m1 34 rfl) rfl
theorem q103 : (Jvm.Cond.instanceMethod ({ cls := "java/util/ArrayList", name := "<init>", desc := "(I)V" } : Jvm.MethodName)) ∈ lw_all := lw_g (lw_at lw_m1 36 rfl) rfl
theorem q104 : (Jvm.Cond.code ({ cls := "java/util/ArrayList", name := "<init>", desc := "(I)V" } : Jvm.MethodName) prog_28_method_1_code (2 : Nat) (Option.none : Option Jvm.ClassFile.FieldType)) ∈ lw_all := lw_g (lw_at lw_m1 37 rfl) rfl
theorem q105 : (Jvm.Cond.methodLink "java/util/ArrayList" (1 : Nat) ({ cls := "java/util/AbstractList", name := "<init>", desc := "()V" } : Jvm.MethodName)) ∈ lw_all := lw_g (lw_at lw_m1 38 rfl) rfl
theorem q112 : (Jvm.Cond.classLink "java/util/ArrayList" (7 : Nat) "java/lang/Object") ∈ lw_all := lw_g (lw_at lw_m1 45 rfl) rfl
theorem q114 : (Jvm.Cond.fieldLink "java/util/ArrayList" (15 : Nat) "java/util/ArrayList" "EMPTY_ELEMENTDATA" "[Ljava/lang/Object;") ∈ lw_all := lw_g (lw_at lw_m1 47 rfl) rfl
theorem q115 : (Jvm.Cond.laysStatic "java/util/ArrayList" "EMPTY_ELEMENTDATA" "[Ljava/lang/Object;") ∈ lw_tbl := lw_at lw_m1 48 rfl
theorem q116 : (Jvm.Cond.fieldLink "java/util/ArrayList" (9 : Nat) "java/util/ArrayList" "elementData" "[Ljava/lang/Object;") ∈ lw_all := lw_g (lw_at lw_m1 49 rfl) rfl
theorem q117 : (Jvm.Cond.fieldLink "java/util/ArrayList" (48 : Nat) "java/util/ArrayList" "size" "I") ∈ lw_all := lw_g (lw_at lw_m1 50 rfl) rfl
theorem q119 : (Jvm.Cond.fieldLink "java/util/ArrayList" (63 : Nat) "java/util/ArrayList" "modCount" "I") ∈ lw_all := lw_g (lw_at lw_m1 52 rfl) rfl
theorem q120 : (Jvm.Cond.sameField "java/util/ArrayList" "java/util/AbstractList" "modCount" "I") ∈ lw_all := lw_g (lw_at lw_m1 53 rfl) rfl
theorem q121 : (Jvm.Cond.lays "java/util/ArrayList" "java/util/ArrayList" "elementData" "[Ljava/lang/Object;") ∈ lw_all := lw_g (lw_at lw_m1 54 rfl) rfl
theorem q122 : (Jvm.Cond.soleField "java/util/ArrayList" "elementData") ∈ lw_all := lw_g (lw_at lw_m1 55 rfl) rfl
theorem q123 : (Jvm.Cond.lays "java/util/ArrayList" "java/util/ArrayList" "size" "I") ∈ lw_all := lw_g (lw_at lw_m1 56 rfl) rfl
theorem q124 : (Jvm.Cond.soleField "java/util/ArrayList" "size") ∈ lw_all := lw_g (lw_at lw_m1 57 rfl) rfl
theorem q125 : (Jvm.Cond.lays "java/util/ArrayList" "java/util/AbstractList" "modCount" "I") ∈ lw_all := lw_g (lw_at lw_m1 58 rfl) rfl
theorem q127 : (Jvm.Cond.superclass "java/util/ArrayList" "java/util/AbstractList") ∈ lw_all := lw_g (lw_at lw_m1 60 rfl) rfl
theorem q499 : (Jvm.Cond.instanceMethod ({ cls := "java/util/ArrayList", name := "clear", desc := "()V" } : Jvm.MethodName)) ∈ lw_all := lw_g (lw_at lw_m2 192 rfl) rfl
theorem q500 : (Jvm.Cond.selects "java/util/ArrayList" ({ cls := "java/util/ArrayList", name := "clear", desc := "()V" } : Jvm.MethodName) ({ cls := "java/util/ArrayList", name := "clear", desc := "()V" } : Jvm.MethodName)) ∈ lw_all := lw_g (lw_at lw_m2 193 rfl) rfl
theorem q501 : (Jvm.Cond.code ({ cls := "java/util/ArrayList", name := "clear", desc := "()V" } : Jvm.MethodName) prog_28_method_40_code (4 : Nat) (Option.none : Option Jvm.ClassFile.FieldType)) ∈ lw_all := lw_g (lw_at lw_m2 194 rfl) rfl
theorem q533 : (Jvm.Cond.instanceMethod ({ cls := "java/util/ArrayList", name := "add", desc := "(Ljava/lang/Object;)Z" } : Jvm.MethodName)) ∈ lw_all := lw_g (lw_at lw_m2 226 rfl) rfl
theorem q534 : (Jvm.Cond.selects "java/util/ArrayList" ({ cls := "java/util/ArrayList", name := "add", desc := "(Ljava/lang/Object;)Z" } : Jvm.MethodName) ({ cls := "java/util/ArrayList", name := "add", desc := "(Ljava/lang/Object;)Z" } : Jvm.MethodName)) ∈ lw_all := lw_g (lw_at lw_m2 227 rfl) rfl
theorem q535 : (Jvm.Cond.code ({ cls := "java/util/ArrayList", name := "add", desc := "(Ljava/lang/Object;)Z" } : Jvm.MethodName) prog_28_method_25_code (2 : Nat) (Option.some Jvm.ClassFile.FieldType.boolean)) ∈ lw_all := lw_g (lw_at lw_m2 228 rfl) rfl
theorem q536 : (Jvm.Cond.methodLink "java/util/ArrayList" (131 : Nat) ({ cls := "java/util/ArrayList", name := "add", desc := "(Ljava/lang/Object;[Ljava/lang/Object;I)V" } : Jvm.MethodName)) ∈ lw_all := lw_g (lw_at lw_m2 229 rfl) rfl
theorem q537 : (Jvm.Cond.privateMethod ({ cls := "java/util/ArrayList", name := "add", desc := "(Ljava/lang/Object;[Ljava/lang/Object;I)V" } : Jvm.MethodName)) ∈ lw_tbl := lw_at lw_m2 230 rfl
theorem q538 : (Jvm.Cond.instanceMethod ({ cls := "java/util/ArrayList", name := "add", desc := "(Ljava/lang/Object;[Ljava/lang/Object;I)V" } : Jvm.MethodName)) ∈ lw_all := lw_g (lw_at lw_m2 231 rfl) rfl
theorem q539 : (Jvm.Cond.code ({ cls := "java/util/ArrayList", name := "add", desc := "(Ljava/lang/Object;[Ljava/lang/Object;I)V" } : Jvm.MethodName) prog_28_method_24_code (4 : Nat) (Option.none : Option Jvm.ClassFile.FieldType)) ∈ lw_all := lw_g (lw_at lw_m2 232 rfl) rfl
theorem q540 : (Jvm.Cond.methodLink "java/util/ArrayList" (129 : Nat) ({ cls := "java/util/ArrayList", name := "grow", desc := "()[Ljava/lang/Object;" } : Jvm.MethodName)) ∈ lw_all := lw_g (lw_at lw_m2 233 rfl) rfl
theorem q541 : (Jvm.Cond.privateMethod ({ cls := "java/util/ArrayList", name := "grow", desc := "()[Ljava/lang/Object;" } : Jvm.MethodName)) ∈ lw_tbl := lw_at lw_m2 234 rfl
theorem q542 : (Jvm.Cond.instanceMethod ({ cls := "java/util/ArrayList", name := "grow", desc := "()[Ljava/lang/Object;" } : Jvm.MethodName)) ∈ lw_all := lw_g (lw_at lw_m2 235 rfl) rfl
theorem q543 : (Jvm.Cond.code ({ cls := "java/util/ArrayList", name := "grow", desc := "()[Ljava/lang/Object;" } : Jvm.MethodName) prog_28_method_7_code (1 : Nat) (Option.some (Jvm.ClassFile.FieldType.array (Jvm.ClassFile.FieldType.object "java/lang/Object")))) ∈ lw_all := lw_g (lw_at lw_m2 236 rfl) rfl
theorem q544 : (Jvm.Cond.methodLink "java/util/ArrayList" (69 : Nat) ({ cls := "java/util/ArrayList", name := "grow", desc := "(I)[Ljava/lang/Object;" } : Jvm.MethodName)) ∈ lw_all := lw_g (lw_at lw_m2 237 rfl) rfl
theorem q545 : (Jvm.Cond.privateMethod ({ cls := "java/util/ArrayList", name := "grow", desc := "(I)[Ljava/lang/Object;" } : Jvm.MethodName)) ∈ lw_tbl := lw_at lw_m2 238 rfl
theorem q546 : (Jvm.Cond.instanceMethod ({ cls := "java/util/ArrayList", name := "grow", desc := "(I)[Ljava/lang/Object;" } : Jvm.MethodName)) ∈ lw_all := lw_g (lw_at lw_m2 239 rfl) rfl
theorem q547 : (Jvm.Cond.code ({ cls := "java/util/ArrayList", name := "grow", desc := "(I)[Ljava/lang/Object;" } : Jvm.MethodName) prog_28_method_6_code (4 : Nat) (Option.some (Jvm.ClassFile.FieldType.array (Jvm.ClassFile.FieldType.object "java/lang/Object")))) ∈ lw_all := lw_g (lw_at lw_m3 0 rfl) rfl
theorem q548 : (Jvm.Cond.fieldLink "java/util/ArrayList" (39 : Nat) "java/util/ArrayList" "DEFAULTCAPACITY_EMPTY_ELEMENTDATA" "[Ljava/lang/Object;") ∈ lw_all := lw_g (lw_at lw_m3 1 rfl) rfl
theorem q549 : (Jvm.Cond.laysStatic "java/util/ArrayList" "DEFAULTCAPACITY_EMPTY_ELEMENTDATA" "[Ljava/lang/Object;") ∈ lw_tbl := lw_at lw_m3 2 rfl
theorem q550 : (Jvm.Cond.methodLink "java/util/ArrayList" (73 : Nat) ({ cls := "jdk/internal/util/ArraysSupport", name := "newLength", desc := "(III)I" } : Jvm.MethodName)) ∈ lw_all := lw_g (lw_at lw_m3 3 rfl) rfl
theorem q558 : (Jvm.Cond.methodLink "java/util/ArrayList" (66 : Nat) ({ cls := "java/util/Arrays", name := "copyOf", desc := "([Ljava/lang/Object;I)[Ljava/lang/Object;" } : Jvm.MethodName)) ∈ lw_all := lw_g (lw_at lw_m3 11 rfl) rfl
theorem q574 : (Jvm.Cond.selects "java/util/ArrayList" ({ cls := "java/lang/Object", name := "getClass", desc := "()Ljava/lang/Class;" } : Jvm.MethodName) ({ cls := "java/lang/Object", name := "getClass", desc := "()Ljava/lang/Class;" } : Jvm.MethodName)) ∈ lw_all := lw_g (lw_at lw_m3 27 rfl) rfl
theorem q585 : (Jvm.Cond.methodLink "java/util/ArrayList" (79 : Nat) ({ cls := "java/lang/Math", name := "max", desc := "(II)I" } : Jvm.MethodName)) ∈ lw_all := lw_g (lw_at lw_m3 38 rfl) rfl
theorem q614 : (Jvm.Cond.instanceMethod ({ cls := "java/util/ArrayList", name := "size", desc := "()I" } : Jvm.MethodName)) ∈ lw_all := lw_g (lw_at lw_m3 67 rfl) rfl
theorem q615 : (Jvm.Cond.selects "java/util/ArrayList" ({ cls := "java/util/ArrayList", name := "size", desc := "()I" } : Jvm.MethodName) ({ cls := "java/util/ArrayList", name := "size", desc := "()I" } : Jvm.MethodName)) ∈ lw_all := lw_g (lw_at lw_m3 68 rfl) rfl
theorem q616 : (Jvm.Cond.code ({ cls := "java/util/ArrayList", name := "size", desc := "()I" } : Jvm.MethodName) prog_28_method_8_code (1 : Nat) (Option.some Jvm.ClassFile.FieldType.int)) ∈ lw_all := lw_g (lw_at lw_m3 69 rfl) rfl
theorem q620 : (Jvm.Cond.instanceMethod ({ cls := "java/util/ArrayList", name := "get", desc := "(I)Ljava/lang/Object;" } : Jvm.MethodName)) ∈ lw_all := lw_g (lw_at lw_m3 73 rfl) rfl
theorem q621 : (Jvm.Cond.selects "java/util/ArrayList" ({ cls := "java/util/ArrayList", name := "get", desc := "(I)Ljava/lang/Object;" } : Jvm.MethodName) ({ cls := "java/util/ArrayList", name := "get", desc := "(I)Ljava/lang/Object;" } : Jvm.MethodName)) ∈ lw_all := lw_g (lw_at lw_m3 74 rfl) rfl
theorem q622 : (Jvm.Cond.code ({ cls := "java/util/ArrayList", name := "get", desc := "(I)Ljava/lang/Object;" } : Jvm.MethodName) prog_28_method_20_code (2 : Nat) (Option.some (Jvm.ClassFile.FieldType.object "java/lang/Object"))) ∈ lw_all := lw_g (lw_at lw_m3 75 rfl) rfl
theorem q623 : (Jvm.Cond.methodLink "java/util/ArrayList" (118 : Nat) ({ cls := "java/util/Objects", name := "checkIndex", desc := "(II)I" } : Jvm.MethodName)) ∈ lw_all := lw_g (lw_at lw_m3 76 rfl) rfl
theorem q627 : (Jvm.Cond.methodLink "java/util/ArrayList" (123 : Nat) ({ cls := "java/util/ArrayList", name := "elementData", desc := "(I)Ljava/lang/Object;" } : Jvm.MethodName)) ∈ lw_all := lw_g (lw_at lw_m3 80 rfl) rfl
theorem q628 : (Jvm.Cond.instanceMethod ({ cls := "java/util/ArrayList", name := "elementData", desc := "(I)Ljava/lang/Object;" } : Jvm.MethodName)) ∈ lw_all := lw_g (lw_at lw_m3 81 rfl) rfl
theorem q629 : (Jvm.Cond.selects "java/util/ArrayList" ({ cls := "java/util/ArrayList", name := "elementData", desc := "(I)Ljava/lang/Object;" } : Jvm.MethodName) ({ cls := "java/util/ArrayList", name := "elementData", desc := "(I)Ljava/lang/Object;" } : Jvm.MethodName)) ∈ lw_all := lw_g (lw_at lw_m3 82 rfl) rfl
theorem q630 : (Jvm.Cond.code ({ cls := "java/util/ArrayList", name := "elementData", desc := "(I)Ljava/lang/Object;" } : Jvm.MethodName) prog_28_method_18_code (2 : Nat) (Option.some (Jvm.ClassFile.FieldType.object "java/lang/Object"))) ∈ lw_all := lw_g (lw_at lw_m3 83 rfl) rfl
theorem q1545 : (Jvm.Cond.castable "java/util/ArrayList" "java/lang/Object") ∈ lw_tbl := lw_at lw_m7 38 rfl
theorem in_J2 : ∀ w ∈ wsJ20, w ∈ lw_all := lw_in wsJ20 [125, 121, 123] (by decide +kernel) (by decide +kernel)
/-! jdk/internal/util/ArraysSupport -/
def RJ3 : String := "jdk/internal/util/ArraysSupport"
abbrev cJ3_newLength : ByteArray := prog_35_method_27_code
def yJ3_newLength : MethodName := ⟨RJ3, "newLength", "(III)I"⟩
abbrev cJ3_hugeLength : ByteArray := prog_35_method_28_code
def yJ3_hugeLength : MethodName := ⟨RJ3, "hugeLength", "(II)I"⟩
theorem q75 : (Jvm.Cond.initialized "jdk/internal/util/ArraysSupport") ∈ lw_all := lw_g (lw_at lw_m1 8 rfl) rfl
theorem q551 : (Jvm.Cond.static ({ cls := "jdk/internal/util/ArraysSupport", name := "newLength", desc := "(III)I" } : Jvm.MethodName)) ∈ lw_all := lw_g (lw_at lw_m3 4 rfl) rfl
theorem q552 : (Jvm.Cond.code ({ cls := "jdk/internal/util/ArraysSupport", name := "newLength", desc := "(III)I" } : Jvm.MethodName) prog_35_method_27_code (4 : Nat) (Option.some Jvm.ClassFile.FieldType.int)) ∈ lw_all := lw_g (lw_at lw_m3 5 rfl) rfl
theorem q553 : (Jvm.Cond.methodLink "jdk/internal/util/ArraysSupport" (194 : Nat) ({ cls := "java/lang/Math", name := "max", desc := "(II)I" } : Jvm.MethodName)) ∈ lw_all := lw_g (lw_at lw_m3 6 rfl) rfl
theorem q554 : (Jvm.Cond.constant "jdk/internal/util/ArraysSupport" (200 : Nat) (2147483639 : Int32)) ∈ lw_all := lw_g (lw_at lw_m3 7 rfl) rfl
theorem q555 : (Jvm.Cond.methodLink "jdk/internal/util/ArraysSupport" (201 : Nat) ({ cls := "jdk/internal/util/ArraysSupport", name := "hugeLength", desc := "(II)I" } : Jvm.MethodName)) ∈ lw_all := lw_g (lw_at lw_m3 8 rfl) rfl
theorem q556 : (Jvm.Cond.static ({ cls := "jdk/internal/util/ArraysSupport", name := "hugeLength", desc := "(II)I" } : Jvm.MethodName)) ∈ lw_all := lw_g (lw_at lw_m3 9 rfl) rfl
theorem q557 : (Jvm.Cond.code ({ cls := "jdk/internal/util/ArraysSupport", name := "hugeLength", desc := "(II)I" } : Jvm.MethodName) prog_35_method_28_code (3 : Nat) (Option.some Jvm.ClassFile.FieldType.int)) ∈ lw_all := lw_g (lw_at lw_m3 10 rfl) rfl
/-! java/lang/Math -/
def RJ4 : String := "java/lang/Math"
abbrev cJ4_min : ByteArray := prog_19_method_69_code
def yJ4_min : MethodName := ⟨RJ4, "min", "(II)I"⟩
abbrev cJ4_max : ByteArray := prog_19_method_65_code
def yJ4_max : MethodName := ⟨RJ4, "max", "(II)I"⟩
abbrev cJ4_floorDiv : ByteArray := prog_19_method_47_code
def yJ4_floorDiv : MethodName := ⟨RJ4, "floorDiv", "(II)I"⟩
abbrev cJ4_floorDiv_2 : ByteArray := prog_19_method_49_code
def yJ4_floorDiv_2 : MethodName := ⟨RJ4, "floorDiv", "(JJ)J"⟩
abbrev cJ4_floorMod : ByteArray := prog_19_method_50_code
def yJ4_floorMod : MethodName := ⟨RJ4, "floorMod", "(II)I"⟩
abbrev cJ4_min_2 : ByteArray := prog_19_method_70_code
def yJ4_min_2 : MethodName := ⟨RJ4, "min", "(JJ)J"⟩
abbrev cJ4_max_2 : ByteArray := prog_19_method_66_code
def yJ4_max_2 : MethodName := ⟨RJ4, "max", "(JJ)J"⟩
abbrev cJ4_abs : ByteArray := prog_19_method_59_code
def yJ4_abs : MethodName := ⟨RJ4, "abs", "(I)I"⟩
theorem q76 : (Jvm.Cond.initialized "java/lang/Math") ∈ lw_all := lw_g (lw_at lw_m1 9 rfl) rfl
theorem q374 : (Jvm.Cond.static ({ cls := "java/lang/Math", name := "min", desc := "(II)I" } : Jvm.MethodName)) ∈ lw_all := lw_g (lw_at lw_m2 67 rfl) rfl
theorem q375 : (Jvm.Cond.code ({ cls := "java/lang/Math", name := "min", desc := "(II)I" } : Jvm.MethodName) prog_19_method_69_code (2 : Nat) (Option.some Jvm.ClassFile.FieldType.int)) ∈ lw_all := lw_g (lw_at lw_m2 68 rfl) rfl
theorem q406 : (Jvm.Cond.static ({ cls := "java/lang/Math", name := "max", desc := "(II)I" } : Jvm.MethodName)) ∈ lw_all := lw_g (lw_at lw_m2 99 rfl) rfl
theorem q407 : (Jvm.Cond.code ({ cls := "java/lang/Math", name := "max", desc := "(II)I" } : Jvm.MethodName) prog_19_method_65_code (2 : Nat) (Option.some Jvm.ClassFile.FieldType.int)) ∈ lw_all := lw_g (lw_at lw_m2 100 rfl) rfl
theorem q764 : (Jvm.Cond.static ({ cls := "java/lang/Math", name := "floorDiv", desc := "(II)I" } : Jvm.MethodName)) ∈ lw_all := lw_g (lw_at lw_m3 217 rfl) rfl
theorem q765 : (Jvm.Cond.code ({ cls := "java/lang/Math", name := "floorDiv", desc := "(II)I" } : Jvm.MethodName) prog_19_method_47_code (3 : Nat) (Option.some Jvm.ClassFile.FieldType.int)) ∈ lw_all := lw_g (lw_at lw_m3 218 rfl) rfl
theorem q775 : (Jvm.Cond.static ({ cls := "java/lang/Math", name := "floorDiv", desc := "(JJ)J" } : Jvm.MethodName)) ∈ lw_all := lw_g (lw_at lw_m3 228 rfl) rfl
theorem q776 : (Jvm.Cond.code ({ cls := "java/lang/Math", name := "floorDiv", desc := "(JJ)J" } : Jvm.MethodName) prog_19_method_49_code (6 : Nat) (Option.some Jvm.ClassFile.FieldType.long)) ∈ lw_all := lw_g (lw_at lw_m3 229 rfl) rfl
theorem q791 : (Jvm.Cond.static ({ cls := "java/lang/Math", name := "floorMod", desc := "(II)I" } : Jvm.MethodName)) ∈ lw_all := lw_g (lw_at lw_m4 4 rfl) rfl
theorem q792 : (Jvm.Cond.code ({ cls := "java/lang/Math", name := "floorMod", desc := "(II)I" } : Jvm.MethodName) prog_19_method_50_code (3 : Nat) (Option.some Jvm.ClassFile.FieldType.int)) ∈ lw_all := lw_g (lw_at lw_m4 5 rfl) rfl
theorem q892 : (Jvm.Cond.static ({ cls := "java/lang/Math", name := "min", desc := "(JJ)J" } : Jvm.MethodName)) ∈ lw_all := lw_g (lw_at lw_m4 105 rfl) rfl
theorem q893 : (Jvm.Cond.code ({ cls := "java/lang/Math", name := "min", desc := "(JJ)J" } : Jvm.MethodName) prog_19_method_70_code (4 : Nat) (Option.some Jvm.ClassFile.FieldType.long)) ∈ lw_all := lw_g (lw_at lw_m4 106 rfl) rfl
theorem q895 : (Jvm.Cond.static ({ cls := "java/lang/Math", name := "max", desc := "(JJ)J" } : Jvm.MethodName)) ∈ lw_all := lw_g (lw_at lw_m4 108 rfl) rfl
theorem q896 : (Jvm.Cond.code ({ cls := "java/lang/Math", name := "max", desc := "(JJ)J" } : Jvm.MethodName) prog_19_method_66_code (4 : Nat) (Option.some Jvm.ClassFile.FieldType.long)) ∈ lw_all := lw_g (lw_at lw_m4 109 rfl) rfl
theorem q910 : (Jvm.Cond.static ({ cls := "java/lang/Math", name := "abs", desc := "(I)I" } : Jvm.MethodName)) ∈ lw_all := lw_g (lw_at lw_m4 123 rfl) rfl
theorem q911 : (Jvm.Cond.code ({ cls := "java/lang/Math", name := "abs", desc := "(I)I" } : Jvm.MethodName) prog_19_method_59_code (1 : Nat) (Option.some Jvm.ClassFile.FieldType.int)) ∈ lw_all := lw_g (lw_at lw_m4 124 rfl) rfl
/-! java/util/Arrays -/
def RJ5 : String := "java/util/Arrays"
abbrev cJ5_copyOf : ByteArray := prog_29_method_119_code
def yJ5_copyOf : MethodName := ⟨RJ5, "copyOf", "([Ljava/lang/Object;I)[Ljava/lang/Object;"⟩
abbrev cJ5_copyOf_2 : ByteArray := prog_29_method_120_code
def yJ5_copyOf_2 : MethodName := ⟨RJ5, "copyOf", "([Ljava/lang/Object;ILjava/lang/Class;)[Ljava/lang/Object;"⟩
theorem q77 : (Jvm.Cond.initialized "java/util/Arrays") ∈ lw_all := lw_g (lw_at lw_m1 10 rfl) rfl
theorem q559 : (Jvm.Cond.static ({ cls := "java/util/Arrays", name := "copyOf", desc := "([Ljava/lang/Object;I)[Ljava/lang/Object;" } : Jvm.MethodName)) ∈ lw_all := lw_g (lw_at lw_m3 12 rfl) rfl
theorem q560 : (Jvm.Cond.code ({ cls := "java/util/Arrays", name := "copyOf", desc := "([Ljava/lang/Object;I)[Ljava/lang/Object;" } : Jvm.MethodName) prog_29_method_119_code (2 : Nat) (Option.some (Jvm.ClassFile.FieldType.array (Jvm.ClassFile.FieldType.object "java/lang/Object")))) ∈ lw_all := lw_g (lw_at lw_m3 13 rfl) rfl
theorem q561 : (Jvm.Cond.methodLink "java/util/Arrays" (86 : Nat) ({ cls := "java/lang/Object", name := "getClass", desc := "()Ljava/lang/Class;" } : Jvm.MethodName)) ∈ lw_all := lw_g (lw_at lw_m3 14 rfl) rfl
theorem q576 : (Jvm.Cond.methodLink "java/util/Arrays" (300 : Nat) ({ cls := "java/util/Arrays", name := "copyOf", desc := "([Ljava/lang/Object;ILjava/lang/Class;)[Ljava/lang/Object;" } : Jvm.MethodName)) ∈ lw_all := lw_g (lw_at lw_m3 29 rfl) rfl
theorem q577 : (Jvm.Cond.static ({ cls := "java/util/Arrays", name := "copyOf", desc := "([Ljava/lang/Object;ILjava/lang/Class;)[Ljava/lang/Object;" } : Jvm.MethodName)) ∈ lw_all := lw_g (lw_at lw_m3 30 rfl) rfl
theorem q578 : (Jvm.Cond.code ({ cls := "java/util/Arrays", name := "copyOf", desc := "([Ljava/lang/Object;ILjava/lang/Class;)[Ljava/lang/Object;" } : Jvm.MethodName) prog_29_method_120_code (4 : Nat) (Option.some (Jvm.ClassFile.FieldType.array (Jvm.ClassFile.FieldType.object "java/lang/Object")))) ∈ lw_all := lw_g (lw_at lw_m3 31 rfl) rfl
theorem q579 : (Jvm.Cond.classLink "java/util/Arrays" (110 : Nat) "[Ljava/lang/Object;") ∈ lw_all := lw_g (lw_at lw_m3 32 rfl) rfl
theorem q580 : (Jvm.Cond.classLink "java/util/Arrays" (2 : Nat) "java/lang/Object") ∈ lw_all := lw_g (lw_at lw_m3 33 rfl) rfl
theorem q581 : (Jvm.Cond.methodLink "java/util/Arrays" (304 : Nat) ({ cls := "java/lang/Math", name := "min", desc := "(II)I" } : Jvm.MethodName)) ∈ lw_all := lw_g (lw_at lw_m3 34 rfl) rfl
theorem q582 : (Jvm.Cond.methodLink "java/util/Arrays" (150 : Nat) ({ cls := "java/lang/System", name := "arraycopy", desc := "(Ljava/lang/Object;ILjava/lang/Object;II)V" } : Jvm.MethodName)) ∈ lw_all := lw_g (lw_at lw_m3 35 rfl) rfl
/-! java/util/Objects -/
def RJ6 : String := "java/util/Objects"
abbrev cJ6_checkIndex : ByteArray := prog_32_method_17_code
def yJ6_checkIndex : MethodName := ⟨RJ6, "checkIndex", "(II)I"⟩
theorem q80 : (Jvm.Cond.initialized "java/util/Objects") ∈ lw_all := lw_g (lw_at lw_m1 13 rfl) rfl
theorem q624 : (Jvm.Cond.static ({ cls := "java/util/Objects", name := "checkIndex", desc := "(II)I" } : Jvm.MethodName)) ∈ lw_all := lw_g (lw_at lw_m3 77 rfl) rfl
theorem q625 : (Jvm.Cond.code ({ cls := "java/util/Objects", name := "checkIndex", desc := "(II)I" } : Jvm.MethodName) prog_32_method_17_code (2 : Nat) (Option.some Jvm.ClassFile.FieldType.int)) ∈ lw_all := lw_g (lw_at lw_m3 78 rfl) rfl
theorem q626 : (Jvm.Cond.methodLink "java/util/Objects" (105 : Nat) ({ cls := "jdk/internal/util/Preconditions", name := "checkIndex", desc := "(IILjava/util/function/BiFunction;)I" } : Jvm.MethodName)) ∈ lw_all := lw_g (lw_at lw_m3 79 rfl) rfl
/-! jdk/internal/util/Preconditions -/
def RJ7 : String := "jdk/internal/util/Preconditions"
abbrev cJ7_checkFromToIndex : ByteArray := prog_36_method_12_code
def yJ7_checkFromToIndex : MethodName := ⟨RJ7, "checkFromToIndex", "(IIILjava/util/function/BiFunction;)I"⟩
abbrev cJ7_checkIndex : ByteArray := prog_36_method_11_code
def yJ7_checkIndex : MethodName := ⟨RJ7, "checkIndex", "(IILjava/util/function/BiFunction;)I"⟩
theorem q81 : (Jvm.Cond.initialized "jdk/internal/util/Preconditions") ∈ lw_all := lw_g (lw_at lw_m1 14 rfl) rfl
theorem q431 : (Jvm.Cond.laysStatic "jdk/internal/util/Preconditions" "SIOOBE_FORMATTER" "Ljava/util/function/BiFunction;") ∈ lw_tbl := lw_at lw_m2 124 rfl
theorem q433 : (Jvm.Cond.static ({ cls := "jdk/internal/util/Preconditions", name := "checkFromToIndex", desc := "(IIILjava/util/function/BiFunction;)I" } : Jvm.MethodName)) ∈ lw_all := lw_g (lw_at lw_m2 126 rfl) rfl
theorem q434 : (Jvm.Cond.code ({ cls := "jdk/internal/util/Preconditions", name := "checkFromToIndex", desc := "(IIILjava/util/function/BiFunction;)I" } : Jvm.MethodName) prog_36_method_12_code (4 : Nat) (Option.some Jvm.ClassFile.FieldType.int)) ∈ lw_all := lw_g (lw_at lw_m2 127 rfl) rfl
theorem q485 : (Jvm.Cond.static ({ cls := "jdk/internal/util/Preconditions", name := "checkIndex", desc := "(IILjava/util/function/BiFunction;)I" } : Jvm.MethodName)) ∈ lw_all := lw_g (lw_at lw_m2 178 rfl) rfl
theorem q486 : (Jvm.Cond.code ({ cls := "jdk/internal/util/Preconditions", name := "checkIndex", desc := "(IILjava/util/function/BiFunction;)I" } : Jvm.MethodName) prog_36_method_11_code (3 : Nat) (Option.some Jvm.ClassFile.FieldType.int)) ∈ lw_all := lw_g (lw_at lw_m2 179 rfl) rfl
/-! java/lang/String -/
def RJ8 : String := "java/lang/String"
abbrev cJ8_indexOf : ByteArray := prog_20_method_79_code
def yJ8_indexOf : MethodName := ⟨RJ8, "indexOf", "(I)I"⟩
abbrev cJ8_indexOf_2 : ByteArray := prog_20_method_80_code
def yJ8_indexOf_2 : MethodName := ⟨RJ8, "indexOf", "(II)I"⟩
abbrev cJ8_isLatin1 : ByteArray := prog_20_method_154_code
def yJ8_isLatin1 : MethodName := ⟨RJ8, "isLatin1", "()Z"⟩
abbrev cJ8_length : ByteArray := prog_20_method_54_code
def yJ8_length : MethodName := ⟨RJ8, "length", "()I"⟩
abbrev cJ8_coder : ByteArray := prog_20_method_152_code
def yJ8_coder : MethodName := ⟨RJ8, "coder", "()B"⟩
abbrev cJ8_checkBoundsBeginEnd : ByteArray := prog_20_method_158_code
def yJ8_checkBoundsBeginEnd : MethodName := ⟨RJ8, "checkBoundsBeginEnd", "(III)V"⟩
abbrev cJ8_charAt : ByteArray := prog_20_method_56_code
def yJ8_charAt : MethodName := ⟨RJ8, "charAt", "(I)C"⟩
abbrev cJ8_checkIndex : ByteArray := prog_20_method_155_code
def yJ8_checkIndex : MethodName := ⟨RJ8, "checkIndex", "(II)V"⟩
theorem q87 : (Jvm.Cond.initialized "java/lang/String") ∈ lw_all := lw_g (lw_at lw_m1 20 rfl) rfl
theorem q378 : (Jvm.Cond.instanceMethod ({ cls := "java/lang/String", name := "indexOf", desc := "(I)I" } : Jvm.MethodName)) ∈ lw_all := lw_g (lw_at lw_m2 71 rfl) rfl
theorem q379 : (Jvm.Cond.selects "java/lang/String" ({ cls := "java/lang/String", name := "indexOf", desc := "(I)I" } : Jvm.MethodName) ({ cls := "java/lang/String", name := "indexOf", desc := "(I)I" } : Jvm.MethodName)) ∈ lw_all := lw_g (lw_at lw_m2 72 rfl) rfl
theorem q380 : (Jvm.Cond.code ({ cls := "java/lang/String", name := "indexOf", desc := "(I)I" } : Jvm.MethodName) prog_20_method_79_code (2 : Nat) (Option.some Jvm.ClassFile.FieldType.int)) ∈ lw_all := lw_g (lw_at lw_m2 73 rfl) rfl
theorem q381 : (Jvm.Cond.methodLink "java/lang/String" (633 : Nat) ({ cls := "java/lang/String", name := "indexOf", desc := "(II)I" } : Jvm.MethodName)) ∈ lw_all := lw_g (lw_at lw_m2 74 rfl) rfl
theorem q382 : (Jvm.Cond.instanceMethod ({ cls := "java/lang/String", name := "indexOf", desc := "(II)I" } : Jvm.MethodName)) ∈ lw_all := lw_g (lw_at lw_m2 75 rfl) rfl
theorem q383 : (Jvm.Cond.selects "java/lang/String" ({ cls := "java/lang/String", name := "indexOf", desc := "(II)I" } : Jvm.MethodName) ({ cls := "java/lang/String", name := "indexOf", desc := "(II)I" } : Jvm.MethodName)) ∈ lw_all := lw_g (lw_at lw_m2 76 rfl) rfl
theorem q384 : (Jvm.Cond.code ({ cls := "java/lang/String", name := "indexOf", desc := "(II)I" } : Jvm.MethodName) prog_20_method_80_code (3 : Nat) (Option.some Jvm.ClassFile.FieldType.int)) ∈ lw_all := lw_g (lw_at lw_m2 77 rfl) rfl
theorem q385 : (Jvm.Cond.methodLink "java/lang/String" (492 : Nat) ({ cls := "java/lang/String", name := "isLatin1", desc := "()Z" } : Jvm.MethodName)) ∈ lw_all := lw_g (lw_at lw_m2 78 rfl) rfl
theorem q386 : (Jvm.Cond.instanceMethod ({ cls := "java/lang/String", name := "isLatin1", desc := "()Z" } : Jvm.MethodName)) ∈ lw_all := lw_g (lw_at lw_m2 79 rfl) rfl
theorem q387 : (Jvm.Cond.selects "java/lang/String" ({ cls := "java/lang/String", name := "isLatin1", desc := "()Z" } : Jvm.MethodName) ({ cls := "java/lang/String", name := "isLatin1", desc := "()Z" } : Jvm.MethodName)) ∈ lw_all := lw_g (lw_at lw_m2 80 rfl) rfl
theorem q388 : (Jvm.Cond.code ({ cls := "java/lang/String", name := "isLatin1", desc := "()Z" } : Jvm.MethodName) prog_20_method_154_code (1 : Nat) (Option.some Jvm.ClassFile.FieldType.boolean)) ∈ lw_all := lw_g (lw_at lw_m2 81 rfl) rfl
theorem q389 : (Jvm.Cond.fieldLink "java/lang/String" (38 : Nat) "java/lang/String" "COMPACT_STRINGS" "Z") ∈ lw_all := lw_g (lw_at lw_m2 82 rfl) rfl
theorem q390 : (Jvm.Cond.laysStatic "java/lang/String" "COMPACT_STRINGS" "Z") ∈ lw_tbl := lw_at lw_m2 83 rfl
theorem q391 : (Jvm.Cond.methodLink "java/lang/String" (505 : Nat) ({ cls := "java/lang/String", name := "length", desc := "()I" } : Jvm.MethodName)) ∈ lw_all := lw_g (lw_at lw_m2 84 rfl) rfl
theorem q392 : (Jvm.Cond.instanceMethod ({ cls := "java/lang/String", name := "length", desc := "()I" } : Jvm.MethodName)) ∈ lw_all := lw_g (lw_at lw_m2 85 rfl) rfl
theorem q393 : (Jvm.Cond.selects "java/lang/String" ({ cls := "java/lang/String", name := "length", desc := "()I" } : Jvm.MethodName) ({ cls := "java/lang/String", name := "length", desc := "()I" } : Jvm.MethodName)) ∈ lw_all := lw_g (lw_at lw_m2 86 rfl) rfl
theorem q394 : (Jvm.Cond.code ({ cls := "java/lang/String", name := "length", desc := "()I" } : Jvm.MethodName) prog_20_method_54_code (1 : Nat) (Option.some Jvm.ClassFile.FieldType.int)) ∈ lw_all := lw_g (lw_at lw_m2 87 rfl) rfl
theorem q395 : (Jvm.Cond.methodLink "java/lang/String" (335 : Nat) ({ cls := "java/lang/String", name := "coder", desc := "()B" } : Jvm.MethodName)) ∈ lw_all := lw_g (lw_at lw_m2 88 rfl) rfl
theorem q396 : (Jvm.Cond.instanceMethod ({ cls := "java/lang/String", name := "coder", desc := "()B" } : Jvm.MethodName)) ∈ lw_all := lw_g (lw_at lw_m2 89 rfl) rfl
theorem q397 : (Jvm.Cond.selects "java/lang/String" ({ cls := "java/lang/String", name := "coder", desc := "()B" } : Jvm.MethodName) ({ cls := "java/lang/String", name := "coder", desc := "()B" } : Jvm.MethodName)) ∈ lw_all := lw_g (lw_at lw_m2 90 rfl) rfl
theorem q398 : (Jvm.Cond.code ({ cls := "java/lang/String", name := "coder", desc := "()B" } : Jvm.MethodName) prog_20_method_152_code (1 : Nat) (Option.some Jvm.ClassFile.FieldType.byte)) ∈ lw_all := lw_g (lw_at lw_m2 91 rfl) rfl
theorem q399 : (Jvm.Cond.methodLink "java/lang/String" (637 : Nat) ({ cls := "java/lang/StringLatin1", name := "indexOf", desc := "([BIII)I" } : Jvm.MethodName)) ∈ lw_all := lw_g (lw_at lw_m2 92 rfl) rfl
theorem q412 : (Jvm.Cond.methodLink "java/lang/String" (640 : Nat) ({ cls := "java/lang/StringUTF16", name := "indexOf", desc := "([BIII)I" } : Jvm.MethodName)) ∈ lw_all := lw_g (lw_at lw_m2 105 rfl) rfl
theorem q428 : (Jvm.Cond.static ({ cls := "java/lang/String", name := "checkBoundsBeginEnd", desc := "(III)V" } : Jvm.MethodName)) ∈ lw_all := lw_g (lw_at lw_m2 121 rfl) rfl
theorem q429 : (Jvm.Cond.code ({ cls := "java/lang/String", name := "checkBoundsBeginEnd", desc := "(III)V" } : Jvm.MethodName) prog_20_method_158_code (3 : Nat) (Option.none : Option Jvm.ClassFile.FieldType)) ∈ lw_all := lw_g (lw_at lw_m2 122 rfl) rfl
theorem q430 : (Jvm.Cond.fieldLink "java/lang/String" (1053 : Nat) "jdk/internal/util/Preconditions" "SIOOBE_FORMATTER" "Ljava/util/function/BiFunction;") ∈ lw_all := lw_g (lw_at lw_m2 123 rfl) rfl
theorem q432 : (Jvm.Cond.methodLink "java/lang/String" (1062 : Nat) ({ cls := "jdk/internal/util/Preconditions", name := "checkFromToIndex", desc := "(IIILjava/util/function/BiFunction;)I" } : Jvm.MethodName)) ∈ lw_all := lw_g (lw_at lw_m2 125 rfl) rfl
theorem q475 : (Jvm.Cond.instanceMethod ({ cls := "java/lang/String", name := "charAt", desc := "(I)C" } : Jvm.MethodName)) ∈ lw_all := lw_g (lw_at lw_m2 168 rfl) rfl
theorem q476 : (Jvm.Cond.selects "java/lang/String" ({ cls := "java/lang/String", name := "charAt", desc := "(I)C" } : Jvm.MethodName) ({ cls := "java/lang/String", name := "charAt", desc := "(I)C" } : Jvm.MethodName)) ∈ lw_all := lw_g (lw_at lw_m2 169 rfl) rfl
theorem q477 : (Jvm.Cond.code ({ cls := "java/lang/String", name := "charAt", desc := "(I)C" } : Jvm.MethodName) prog_20_method_56_code (2 : Nat) (Option.some Jvm.ClassFile.FieldType.char)) ∈ lw_all := lw_g (lw_at lw_m2 170 rfl) rfl
theorem q478 : (Jvm.Cond.methodLink "java/lang/String" (495 : Nat) ({ cls := "java/lang/StringLatin1", name := "charAt", desc := "([BI)C" } : Jvm.MethodName)) ∈ lw_all := lw_g (lw_at lw_m2 171 rfl) rfl
theorem q482 : (Jvm.Cond.static ({ cls := "java/lang/String", name := "checkIndex", desc := "(II)V" } : Jvm.MethodName)) ∈ lw_all := lw_g (lw_at lw_m2 175 rfl) rfl
theorem q483 : (Jvm.Cond.code ({ cls := "java/lang/String", name := "checkIndex", desc := "(II)V" } : Jvm.MethodName) prog_20_method_155_code (2 : Nat) (Option.none : Option Jvm.ClassFile.FieldType)) ∈ lw_all := lw_g (lw_at lw_m2 176 rfl) rfl
theorem q484 : (Jvm.Cond.methodLink "java/lang/String" (1059 : Nat) ({ cls := "jdk/internal/util/Preconditions", name := "checkIndex", desc := "(IILjava/util/function/BiFunction;)I" } : Jvm.MethodName)) ∈ lw_all := lw_g (lw_at lw_m2 177 rfl) rfl
theorem q487 : (Jvm.Cond.methodLink "java/lang/String" (498 : Nat) ({ cls := "java/lang/StringUTF16", name := "charAt", desc := "([BI)C" } : Jvm.MethodName)) ∈ lw_all := lw_g (lw_at lw_m2 180 rfl) rfl
theorem q1542 : (Jvm.Cond.castable "java/lang/String" "java/lang/Object") ∈ lw_tbl := lw_at lw_m7 35 rfl
theorem q1567 : (Jvm.Cond.fieldLink "java/lang/String" (15 : Nat) "java/lang/String" "coder" "B") ∈ lw_all := lw_g (lw_at lw_m7 60 rfl) rfl
theorem q1568 : (Jvm.Cond.fieldLink "java/lang/String" (9 : Nat) "java/lang/String" "value" "[B") ∈ lw_all := lw_g (lw_at lw_m7 61 rfl) rfl
/-! java/lang/StringLatin1 -/
def RJ9 : String := "java/lang/StringLatin1"
abbrev cJ9_indexOf : ByteArray := prog_21_method_22_code
def yJ9_indexOf : MethodName := ⟨RJ9, "indexOf", "([BIII)I"⟩
abbrev cJ9_canEncode : ByteArray := prog_21_method_4_code
def yJ9_canEncode : MethodName := ⟨RJ9, "canEncode", "(I)Z"⟩
abbrev cJ9_indexOfChar : ByteArray := prog_21_method_23_code
def yJ9_indexOfChar : MethodName := ⟨RJ9, "indexOfChar", "([BIII)I"⟩
abbrev cJ9_charAt : ByteArray := prog_21_method_2_code
def yJ9_charAt : MethodName := ⟨RJ9, "charAt", "([BI)C"⟩
theorem q88 : (Jvm.Cond.initialized "java/lang/StringLatin1") ∈ lw_all := lw_g (lw_at lw_m1 21 rfl) rfl
theorem q400 : (Jvm.Cond.static ({ cls := "java/lang/StringLatin1", name := "indexOf", desc := "([BIII)I" } : Jvm.MethodName)) ∈ lw_all := lw_g (lw_at lw_m2 93 rfl) rfl
theorem q401 : (Jvm.Cond.code ({ cls := "java/lang/StringLatin1", name := "indexOf", desc := "([BIII)I" } : Jvm.MethodName) prog_21_method_22_code (4 : Nat) (Option.some Jvm.ClassFile.FieldType.int)) ∈ lw_all := lw_g (lw_at lw_m2 94 rfl) rfl
theorem q402 : (Jvm.Cond.methodLink "java/lang/StringLatin1" (88 : Nat) ({ cls := "java/lang/StringLatin1", name := "canEncode", desc := "(I)Z" } : Jvm.MethodName)) ∈ lw_all := lw_g (lw_at lw_m2 95 rfl) rfl
theorem q403 : (Jvm.Cond.static ({ cls := "java/lang/StringLatin1", name := "canEncode", desc := "(I)Z" } : Jvm.MethodName)) ∈ lw_all := lw_g (lw_at lw_m2 96 rfl) rfl
theorem q404 : (Jvm.Cond.code ({ cls := "java/lang/StringLatin1", name := "canEncode", desc := "(I)Z" } : Jvm.MethodName) prog_21_method_4_code (1 : Nat) (Option.some Jvm.ClassFile.FieldType.boolean)) ∈ lw_all := lw_g (lw_at lw_m2 97 rfl) rfl
theorem q405 : (Jvm.Cond.methodLink "java/lang/StringLatin1" (92 : Nat) ({ cls := "java/lang/Math", name := "max", desc := "(II)I" } : Jvm.MethodName)) ∈ lw_all := lw_g (lw_at lw_m2 98 rfl) rfl
theorem q408 : (Jvm.Cond.methodLink "java/lang/StringLatin1" (38 : Nat) ({ cls := "java/lang/Math", name := "min", desc := "(II)I" } : Jvm.MethodName)) ∈ lw_all := lw_g (lw_at lw_m2 101 rfl) rfl
theorem q409 : (Jvm.Cond.methodLink "java/lang/StringLatin1" (95 : Nat) ({ cls := "java/lang/StringLatin1", name := "indexOfChar", desc := "([BIII)I" } : Jvm.MethodName)) ∈ lw_all := lw_g (lw_at lw_m2 102 rfl) rfl
theorem q410 : (Jvm.Cond.static ({ cls := "java/lang/StringLatin1", name := "indexOfChar", desc := "([BIII)I" } : Jvm.MethodName)) ∈ lw_all := lw_g (lw_at lw_m2 103 rfl) rfl
theorem q411 : (Jvm.Cond.code ({ cls := "java/lang/StringLatin1", name := "indexOfChar", desc := "([BIII)I" } : Jvm.MethodName) prog_21_method_23_code (6 : Nat) (Option.some Jvm.ClassFile.FieldType.int)) ∈ lw_all := lw_g (lw_at lw_m2 104 rfl) rfl
theorem q479 : (Jvm.Cond.static ({ cls := "java/lang/StringLatin1", name := "charAt", desc := "([BI)C" } : Jvm.MethodName)) ∈ lw_all := lw_g (lw_at lw_m2 172 rfl) rfl
theorem q480 : (Jvm.Cond.code ({ cls := "java/lang/StringLatin1", name := "charAt", desc := "([BI)C" } : Jvm.MethodName) prog_21_method_2_code (2 : Nat) (Option.some Jvm.ClassFile.FieldType.char)) ∈ lw_all := lw_g (lw_at lw_m2 173 rfl) rfl
theorem q481 : (Jvm.Cond.methodLink "java/lang/StringLatin1" (9 : Nat) ({ cls := "java/lang/String", name := "checkIndex", desc := "(II)V" } : Jvm.MethodName)) ∈ lw_all := lw_g (lw_at lw_m2 174 rfl) rfl
/-! ShipSways -/
def RX0 : String := "ShipSways"
def TX0 : u_T := fun k => match k with
  | 0 => ("ShipSways", "text", "[B", true)
  | 1 => ("ShipSways", "textMany", "I", false)
  | 2 => ("ShipSways", "ruling", "[[LShipSways$Mark;", false)
  | 3 => ("ShipSways", "heap", "[I", true)
  | 4 => ("ShipSways", "names", "[I", true)
  | 5 => ("ShipSways", "slices", "Ljava/util/ArrayList;", true)
  | 6 => ("ShipSways", "weights", "Ljava/util/ArrayList;", true)
  | 7 => ("ShipSways", "tanks", "Ljava/util/ArrayList;", true)
  | 8 => ("ShipSways", "waves", "Ljava/util/ArrayList;", true)
  | 9 => ("ShipSways", "markPlace", "[I", true)
  | 10 => ("ShipSways", "markHeight", "[I", true)
  | 11 => ("ShipSways", "marks", "I", false)
  | 12 => ("ShipSways", "stiff", "I", false)
  | 13 => ("ShipSways", "slow", "I", false)
  | 14 => ("ShipSways", "inert", "I", false)
  | 15 => ("ShipSways", "fins", "I", false)
  | 16 => ("ShipSways", "live", "LShipSways$Ship;", true)
  | 17 => ("ShipSways", "trial", "LShipSways$Ship;", true)
  | 18 => ("ShipSways", "kept", "[[I", true)
  | 19 => ("ShipSways", "hourHeight", "[I", true)
  | 20 => ("ShipSways", "hourPeriod", "[I", true)
  | 21 => ("ShipSways", "queasyFrom", "[[I", true)
  | 22 => ("ShipSways", "hours", "I", false)
  | 23 => ("ShipSways", "own", "I", false)
  | 24 => ("ShipSways", "numbers", "[I", true)
  | _ => ("ShipSways", "many", "I", false)
def tyX0 : Nat → FieldType := fun k => match k with
  | 0 => .array .byte
  | 1 => .int
  | 2 => .array (.array (.object "ShipSways$Mark"))
  | 3 => .array .int
  | 4 => .array .int
  | 5 => .object "java/util/ArrayList"
  | 6 => .object "java/util/ArrayList"
  | 7 => .object "java/util/ArrayList"
  | 8 => .object "java/util/ArrayList"
  | 9 => .array .int
  | 10 => .array .int
  | 11 => .int
  | 12 => .int
  | 13 => .int
  | 14 => .int
  | 15 => .int
  | 16 => .object "ShipSways$Ship"
  | 17 => .object "ShipSways$Ship"
  | 18 => .array (.array .int)
  | 19 => .array .int
  | 20 => .array .int
  | 21 => .array (.array .int)
  | 22 => .int
  | 23 => .int
  | 24 => .array .int
  | _ => .int
abbrev wsX00 : List Cond := u_ws RX0 TX0 26
theorem nmX0 : ∀ a, a < 26 → ∀ b, b < 26 → a ≠ b → (TX0 a).2.1 ≠ (TX0 b).2.1 := by decide +kernel
theorem tyX0_ok : ∀ k, k < 26 → parseFieldDescriptor (TX0 k).2.2.1 = some (tyX0 k) := by decide +kernel
abbrev cX0_init : ByteArray := prog_1_method_3_code
def yX0_init : MethodName := ⟨RX0, "<init>", "()V"⟩
abbrev cX0_feed : ByteArray := prog_1_method_5_code
def yX0_feed : MethodName := ⟨RX0, "feed", "(IIIII)I"⟩
abbrev cX0_feeds : ByteArray := prog_1_method_4_code
def yX0_feeds : MethodName := ⟨RX0, "feeds", "(I)V"⟩
abbrev cX0_end : ByteArray := prog_1_method_6_code
def yX0_end : MethodName := ⟨RX0, "end", "(I)Z"⟩
abbrev cX0_in : ByteArray := prog_1_method_1_code
def yX0_in : MethodName := ⟨RX0, "in", "(JJJ)Z"⟩
abbrev cX0_fault : ByteArray := prog_1_method_7_code
def yX0_fault : MethodName := ⟨RX0, "fault", "()I"⟩
abbrev cX0_rules : ByteArray := prog_1_method_8_code
def yX0_rules : MethodName := ⟨RX0, "rules", "()Z"⟩
abbrev cX0_slice : ByteArray := prog_1_method_9_code
def yX0_slice : MethodName := ⟨RX0, "slice", "(III)I"⟩
abbrev cX0_weight : ByteArray := prog_1_method_10_code
def yX0_weight : MethodName := ⟨RX0, "weight", "(IIII)I"⟩
abbrev cX0_lose : ByteArray := prog_1_method_12_code
def yX0_lose : MethodName := ⟨RX0, "lose", "(I)Z"⟩
abbrev cX0_weightAt : ByteArray := prog_1_method_11_code
def yX0_weightAt : MethodName := ⟨RX0, "weightAt", "(I)LShipSways$Weight;"⟩
abbrev cX0_tank : ByteArray := prog_1_method_13_code
def yX0_tank : MethodName := ⟨RX0, "tank", "(III)I"⟩
abbrev cX0_fill : ByteArray := prog_1_method_14_code
def yX0_fill : MethodName := ⟨RX0, "fill", "(II)Z"⟩
abbrev cX0_mark : ByteArray := prog_1_method_15_code
def yX0_mark : MethodName := ⟨RX0, "mark", "(II)I"⟩
abbrev cX0_at : ByteArray := prog_1_method_20_code
def yX0_at : MethodName := ⟨RX0, "at", "(II)I"⟩
abbrev cX0_level : ByteArray := prog_1_method_18_code
def yX0_level : MethodName := ⟨RX0, "level", "(I)I"⟩
abbrev cX0_heavy : ByteArray := prog_1_method_16_code
def yX0_heavy : MethodName := ⟨RX0, "heavy", "()I"⟩
abbrev cX0_push : ByteArray := prog_1_method_17_code
def yX0_push : MethodName := ⟨RX0, "push", "(II)I"⟩
abbrev cX0_arm : ByteArray := prog_1_method_19_code
def yX0_arm : MethodName := ⟨RX0, "arm", "(II[I)I"⟩
abbrev cX0_rest : ByteArray := prog_1_method_22_code
def yX0_rest : MethodName := ⟨RX0, "rest", "(I)I"⟩
abbrev cX0_restAt : ByteArray := prog_1_method_21_code
def yX0_restAt : MethodName := ⟨RX0, "restAt", "(I)I"⟩
abbrev cX0_stays : ByteArray := prog_1_method_23_code
def yX0_stays : MethodName := ⟨RX0, "stays", "(I)I"⟩
abbrev cX0_wave : ByteArray := prog_1_method_24_code
def yX0_wave : MethodName := ⟨RX0, "wave", "(III)I"⟩
abbrev cX0_sea : ByteArray := prog_1_method_26_code
def yX0_sea : MethodName := ⟨RX0, "sea", "(I)I"⟩
abbrev cX0_seaAt : ByteArray := prog_1_method_25_code
def yX0_seaAt : MethodName := ⟨RX0, "seaAt", "(I)I"⟩
abbrev cX0_set : ByteArray := prog_1_method_27_code
def yX0_set : MethodName := ⟨RX0, "set", "(II)Z"⟩
abbrev cX0_go : ByteArray := prog_1_method_29_code
def yX0_go : MethodName := ⟨RX0, "go", "(I)I"⟩
abbrev cX0_brought : ByteArray := prog_1_method_2_code
def yX0_brought : MethodName := ⟨RX0, "brought", "(JI)I"⟩
abbrev cX0_faster : ByteArray := prog_1_method_28_code
def yX0_faster : MethodName := ⟨RX0, "faster", "(III)I"⟩
abbrev cX0_kept : ByteArray := prog_1_method_30_code
def yX0_kept : MethodName := ⟨RX0, "kept", "(II)I"⟩
abbrev cX0_lead : ByteArray := prog_1_method_31_code
def yX0_lead : MethodName := ⟨RX0, "lead", "(I)I"⟩
abbrev cX0_holds : ByteArray := prog_1_method_32_code
def yX0_holds : MethodName := ⟨RX0, "holds", "(I)I"⟩
abbrev cX0_tried : ByteArray := prog_1_method_34_code
def yX0_tried : MethodName := ⟨RX0, "tried", "(II)I"⟩
abbrev cX0_tries : ByteArray := prog_1_method_33_code
def yX0_tries : MethodName := ⟨RX0, "tries", "(I)V"⟩
abbrev cX0_still : ByteArray := prog_1_method_35_code
def yX0_still : MethodName := ⟨RX0, "still", "(I)I"⟩
abbrev cX0_hour : ByteArray := prog_1_method_36_code
def yX0_hour : MethodName := ⟨RX0, "hour", "(II)I"⟩
abbrev cX0_begin : ByteArray := prog_1_method_37_code
def yX0_begin : MethodName := ⟨RX0, "begin", "(I)I"⟩
abbrev cX0_best : ByteArray := prog_1_method_41_code
def yX0_best : MethodName := ⟨RX0, "best", "(II)I"⟩
abbrev cX0_ways : ByteArray := prog_1_method_39_code
def yX0_ways : MethodName := ⟨RX0, "ways", "(I)V"⟩
abbrev cX0_least : ByteArray := prog_1_method_40_code
def yX0_least : MethodName := ⟨RX0, "least", "(II)I"⟩
abbrev cX0_queasy : ByteArray := prog_1_method_38_code
def yX0_queasy : MethodName := ⟨RX0, "queasy", "(II)I"⟩
abbrev cX0_record : ByteArray := prog_1_method_42_code
def yX0_record : MethodName := ⟨RX0, "record", "(I)I"⟩
abbrev cX0_clear : ByteArray := prog_1_method_43_code
def yX0_clear : MethodName := ⟨RX0, "clear", "()I"⟩
abbrev cX0_goes : ByteArray := prog_1_method_45_code
def yX0_goes : MethodName := ⟨RX0, "goes", "(I)I"⟩
abbrev cX0_goesWith : ByteArray := prog_1_method_44_code
def yX0_goesWith : MethodName := ⟨RX0, "goesWith", "(LShipSways$Wave;)I"⟩
abbrev cX0_read : ByteArray := prog_1_method_47_code
def yX0_read : MethodName := ⟨RX0, "read", "(I)I"⟩
abbrev cX0_seen : ByteArray := prog_1_method_46_code
def yX0_seen : MethodName := ⟨RX0, "seen", "()I"⟩
abbrev cX0_check : ByteArray := prog_1_method_48_code
def yX0_check : MethodName := ⟨RX0, "check", "(III)I"⟩
abbrev cX0_count : ByteArray := prog_1_method_49_code
def yX0_count : MethodName := ⟨RX0, "count", "(I)I"⟩
abbrev cX0_place : ByteArray := prog_1_method_50_code
def yX0_place : MethodName := ⟨RX0, "place", "(I)I"⟩
abbrev cX0_wetted : ByteArray := prog_1_method_51_code
def yX0_wetted : MethodName := ⟨RX0, "wetted", "(I)I"⟩
theorem q68 : (Jvm.Cond.initialized "ShipSways") ∈ lw_all := lw_g (lw_at lw_m1 1 rfl) rfl
theorem q93 : (Jvm.Cond.instantiable "ShipSways" (26 : Nat)) ∈ lw_all := lw_g (lw_at lw_m1 26 rfl) rfl
theorem q95 : (Jvm.Cond.instanceMethod ({ cls := "ShipSways", name := "<init>", desc := "()V" } : Jvm.MethodName)) ∈ lw_all := lw_g (lw_at lw_m1 28 rfl) rfl
theorem q96 : (Jvm.Cond.code ({ cls := "ShipSways", name := "<init>", desc := "()V" } : Jvm.MethodName) prog_1_method_3_code (1 : Nat) (Option.none : Option Jvm.ClassFile.FieldType)) ∈ lw_all := lw_g (lw_at lw_m1 29 rfl) rfl
theorem q97 : (Jvm.Cond.methodLink "ShipSways" (10 : Nat) ({ cls := "java/lang/Object", name := "<init>", desc := "()V" } : Jvm.MethodName)) ∈ lw_all := lw_g (lw_at lw_m1 30 rfl) rfl
theorem q100 : (Jvm.Cond.classLink "ShipSways" (29 : Nat) "java/util/ArrayList") ∈ lw_all := lw_g (lw_at lw_m1 33 rfl) rfl
theorem q102 : (Jvm.Cond.methodLink "ShipSways" (31 : Nat) ({ cls := "java/util/ArrayList", name := "<init>", desc := "(I)V" } : Jvm.MethodName)) ∈ lw_all := lw_g (lw_at lw_m1 35 rfl) rfl
theorem q130 : (Jvm.Cond.classLink "ShipSways" (63 : Nat) "ShipSways$Ship") ∈ lw_all := lw_g (lw_at lw_m1 63 rfl) rfl
theorem q132 : (Jvm.Cond.methodLinkNest "ShipSways" (65 : Nat) ({ cls := "ShipSways$Ship", name := "<init>", desc := "(LShipSways;)V" } : Jvm.MethodName) "ShipSways") ∈ lw_tbl := lw_at lw_m1 65 rfl
theorem q137 : (Jvm.Cond.fieldLinkNest "ShipSways" (151 : Nat) "ShipSways$Ship" "places" "[I" "ShipSways") ∈ lw_tbl := lw_at lw_m1 70 rfl
theorem q139 : (Jvm.Cond.fieldLinkNest "ShipSways" (294 : Nat) "ShipSways$Ship" "parts" "[I" "ShipSways") ∈ lw_tbl := lw_at lw_m1 72 rfl
theorem q141 : (Jvm.Cond.fieldLinkNest "ShipSways" (351 : Nat) "ShipSways$Ship" "wetted" "[I" "ShipSways") ∈ lw_tbl := lw_at lw_m1 74 rfl
theorem q144 : (Jvm.Cond.fieldLinkNest "ShipSways" (280 : Nat) "ShipSways$Ship" "slope" "I" "ShipSways") ∈ lw_tbl := lw_at lw_m1 77 rfl
theorem q146 : (Jvm.Cond.fieldLinkNest "ShipSways" (283 : Nat) "ShipSways$Ship" "speed" "I" "ShipSways") ∈ lw_tbl := lw_at lw_m1 79 rfl
theorem q148 : (Jvm.Cond.fieldLinkNest "ShipSways" (286 : Nat) "ShipSways$Ship" "force" "I" "ShipSways") ∈ lw_tbl := lw_at lw_m1 81 rfl
theorem q150 : (Jvm.Cond.fieldLinkNest "ShipSways" (271 : Nat) "ShipSways$Ship" "tick" "I" "ShipSways") ∈ lw_tbl := lw_at lw_m1 83 rfl
theorem q152 : (Jvm.Cond.fieldLinkNest "ShipSways" (315 : Nat) "ShipSways$Ship" "sick" "I" "ShipSways") ∈ lw_tbl := lw_at lw_m1 85 rfl
theorem q154 : (Jvm.Cond.fieldLinkNest "ShipSways" (318 : Nat) "ShipSways$Ship" "worked" "I" "ShipSways") ∈ lw_tbl := lw_at lw_m1 87 rfl
theorem q156 : (Jvm.Cond.fieldLinkNest "ShipSways" (312 : Nat) "ShipSways$Ship" "greatest" "I" "ShipSways") ∈ lw_tbl := lw_at lw_m1 89 rfl
theorem q158 : (Jvm.Cond.fieldLinkNest "ShipSways" (274 : Nat) "ShipSways$Ship" "isOver" "Z" "ShipSways") ∈ lw_tbl := lw_at lw_m1 91 rfl
theorem q160 : (Jvm.Cond.fieldLinkNest "ShipSways" (289 : Nat) "ShipSways$Ship" "hadLevel" "Z" "ShipSways") ∈ lw_tbl := lw_at lw_m1 93 rfl
theorem q192 : (Jvm.Cond.classLink "ShipSways" (75 : Nat) "[[I") ∈ lw_all := lw_g (lw_at lw_m1 125 rfl) rfl
theorem q194 : (Jvm.Cond.fieldLink "ShipSways" (18 : Nat) "ShipSways" "text" "[B") ∈ lw_all := lw_g (lw_at lw_m1 127 rfl) rfl
theorem q195 : (Jvm.Cond.fieldLink "ShipSways" (95 : Nat) "ShipSways" "textMany" "I") ∈ lw_all := lw_g (lw_at lw_m1 128 rfl) rfl
theorem q197 : (Jvm.Cond.fieldLink "ShipSways" (117 : Nat) "ShipSways" "ruling" "[[LShipSways$Mark;") ∈ lw_all := lw_g (lw_at lw_m1 130 rfl) rfl
theorem q198 : (Jvm.Cond.fieldLink "ShipSways" (22 : Nat) "ShipSways" "heap" "[I") ∈ lw_all := lw_g (lw_at lw_m1 131 rfl) rfl
theorem q201 : (Jvm.Cond.fieldLink "ShipSways" (26 : Nat) "ShipSways" "names" "[I") ∈ lw_all := lw_g (lw_at lw_m1 134 rfl) rfl
theorem q202 : (Jvm.Cond.fieldLink "ShipSways" (34 : Nat) "ShipSways" "slices" "Ljava/util/ArrayList;") ∈ lw_all := lw_g (lw_at lw_m1 135 rfl) rfl
theorem q203 : (Jvm.Cond.fieldLink "ShipSways" (38 : Nat) "ShipSways" "weights" "Ljava/util/ArrayList;") ∈ lw_all := lw_g (lw_at lw_m1 136 rfl) rfl
theorem q205 : (Jvm.Cond.fieldLink "ShipSways" (41 : Nat) "ShipSways" "tanks" "Ljava/util/ArrayList;") ∈ lw_all := lw_g (lw_at lw_m1 138 rfl) rfl
theorem q206 : (Jvm.Cond.fieldLink "ShipSways" (44 : Nat) "ShipSways" "waves" "Ljava/util/ArrayList;") ∈ lw_all := lw_g (lw_at lw_m1 139 rfl) rfl
theorem q207 : (Jvm.Cond.fieldLink "ShipSways" (47 : Nat) "ShipSways" "markPlace" "[I") ∈ lw_all := lw_g (lw_at lw_m1 140 rfl) rfl
theorem q209 : (Jvm.Cond.fieldLink "ShipSways" (50 : Nat) "ShipSways" "markHeight" "[I") ∈ lw_all := lw_g (lw_at lw_m1 142 rfl) rfl
theorem q212 : (Jvm.Cond.fieldLink "ShipSways" (186 : Nat) "ShipSways" "marks" "I") ∈ lw_all := lw_g (lw_at lw_m1 145 rfl) rfl
theorem q213 : (Jvm.Cond.fieldLink "ShipSways" (53 : Nat) "ShipSways" "stiff" "I") ∈ lw_all := lw_g (lw_at lw_m1 146 rfl) rfl
theorem q215 : (Jvm.Cond.fieldLink "ShipSways" (57 : Nat) "ShipSways" "slow" "I") ∈ lw_all := lw_g (lw_at lw_m1 148 rfl) rfl
theorem q217 : (Jvm.Cond.fieldLink "ShipSways" (60 : Nat) "ShipSways" "inert" "I") ∈ lw_all := lw_g (lw_at lw_m1 150 rfl) rfl
theorem q220 : (Jvm.Cond.fieldLink "ShipSways" (262 : Nat) "ShipSways" "fins" "I") ∈ lw_all := lw_g (lw_at lw_m1 153 rfl) rfl
theorem q221 : (Jvm.Cond.fieldLink "ShipSways" (68 : Nat) "ShipSways" "live" "LShipSways$Ship;") ∈ lw_all := lw_g (lw_at lw_m1 154 rfl) rfl
theorem q222 : (Jvm.Cond.fieldLink "ShipSways" (72 : Nat) "ShipSways" "trial" "LShipSways$Ship;") ∈ lw_all := lw_g (lw_at lw_m1 155 rfl) rfl
theorem q223 : (Jvm.Cond.fieldLink "ShipSways" (77 : Nat) "ShipSways" "kept" "[[I") ∈ lw_all := lw_g (lw_at lw_m1 156 rfl) rfl
theorem q224 : (Jvm.Cond.fieldLink "ShipSways" (80 : Nat) "ShipSways" "hourHeight" "[I") ∈ lw_all := lw_g (lw_at lw_m1 157 rfl) rfl
theorem q225 : (Jvm.Cond.fieldLink "ShipSways" (83 : Nat) "ShipSways" "hourPeriod" "[I") ∈ lw_all := lw_g (lw_at lw_m1 158 rfl) rfl
theorem q226 : (Jvm.Cond.fieldLink "ShipSways" (86 : Nat) "ShipSways" "queasyFrom" "[[I") ∈ lw_all := lw_g (lw_at lw_m1 159 rfl) rfl
theorem q227 : (Jvm.Cond.fieldLink "ShipSways" (321 : Nat) "ShipSways" "hours" "I") ∈ lw_all := lw_g (lw_at lw_m1 160 rfl) rfl
theorem q228 : (Jvm.Cond.fieldLink "ShipSways" (89 : Nat) "ShipSways" "own" "I") ∈ lw_all := lw_g (lw_at lw_m1 161 rfl) rfl
theorem q229 : (Jvm.Cond.fieldLink "ShipSways" (92 : Nat) "ShipSways" "numbers" "[I") ∈ lw_all := lw_g (lw_at lw_m1 162 rfl) rfl
theorem q230 : (Jvm.Cond.fieldLink "ShipSways" (335 : Nat) "ShipSways" "many" "I") ∈ lw_all := lw_g (lw_at lw_m1 163 rfl) rfl
theorem q231 : (Jvm.Cond.laysFinal "ShipSways" "ShipSways" "text" "[B") ∈ lw_all := lw_g (lw_at lw_m1 164 rfl) rfl
theorem q232 : (Jvm.Cond.soleField "ShipSways" "text") ∈ lw_all := lw_g (lw_at lw_m1 165 rfl) rfl
theorem q233 : (Jvm.Cond.lays "ShipSways" "ShipSways" "textMany" "I") ∈ lw_all := lw_g (lw_at lw_m1 166 rfl) rfl
theorem q234 : (Jvm.Cond.soleField "ShipSways" "textMany") ∈ lw_all := lw_g (lw_at lw_m1 167 rfl) rfl
theorem q235 : (Jvm.Cond.lays "ShipSways" "ShipSways" "ruling" "[[LShipSways$Mark;") ∈ lw_all := lw_g (lw_at lw_m1 168 rfl) rfl
theorem q236 : (Jvm.Cond.soleField "ShipSways" "ruling") ∈ lw_all := lw_g (lw_at lw_m1 169 rfl) rfl
theorem q237 : (Jvm.Cond.laysFinal "ShipSways" "ShipSways" "heap" "[I") ∈ lw_all := lw_g (lw_at lw_m1 170 rfl) rfl
theorem q238 : (Jvm.Cond.soleField "ShipSways" "heap") ∈ lw_all := lw_g (lw_at lw_m1 171 rfl) rfl
theorem q239 : (Jvm.Cond.laysFinal "ShipSways" "ShipSways" "names" "[I") ∈ lw_all := lw_g (lw_at lw_m1 172 rfl) rfl
theorem q240 : (Jvm.Cond.soleField "ShipSways" "names") ∈ lw_all := lw_g (lw_at lw_m1 173 rfl) rfl
theorem q241 : (Jvm.Cond.laysFinal "ShipSways" "ShipSways" "slices" "Ljava/util/ArrayList;") ∈ lw_all := lw_g (lw_at lw_m1 174 rfl) rfl
theorem q242 : (Jvm.Cond.soleField "ShipSways" "slices") ∈ lw_all := lw_g (lw_at lw_m1 175 rfl) rfl
theorem q243 : (Jvm.Cond.laysFinal "ShipSways" "ShipSways" "weights" "Ljava/util/ArrayList;") ∈ lw_all := lw_g (lw_at lw_m1 176 rfl) rfl
theorem q244 : (Jvm.Cond.soleField "ShipSways" "weights") ∈ lw_all := lw_g (lw_at lw_m1 177 rfl) rfl
theorem q245 : (Jvm.Cond.laysFinal "ShipSways" "ShipSways" "tanks" "Ljava/util/ArrayList;") ∈ lw_all := lw_g (lw_at lw_m1 178 rfl) rfl
theorem q246 : (Jvm.Cond.soleField "ShipSways" "tanks") ∈ lw_all := lw_g (lw_at lw_m1 179 rfl) rfl
theorem q247 : (Jvm.Cond.laysFinal "ShipSways" "ShipSways" "waves" "Ljava/util/ArrayList;") ∈ lw_all := lw_g (lw_at lw_m1 180 rfl) rfl
theorem q248 : (Jvm.Cond.soleField "ShipSways" "waves") ∈ lw_all := lw_g (lw_at lw_m1 181 rfl) rfl
theorem q249 : (Jvm.Cond.laysFinal "ShipSways" "ShipSways" "markPlace" "[I") ∈ lw_all := lw_g (lw_at lw_m1 182 rfl) rfl
theorem q250 : (Jvm.Cond.soleField "ShipSways" "markPlace") ∈ lw_all := lw_g (lw_at lw_m1 183 rfl) rfl
theorem q251 : (Jvm.Cond.laysFinal "ShipSways" "ShipSways" "markHeight" "[I") ∈ lw_all := lw_g (lw_at lw_m1 184 rfl) rfl
theorem q252 : (Jvm.Cond.soleField "ShipSways" "markHeight") ∈ lw_all := lw_g (lw_at lw_m1 185 rfl) rfl
theorem q253 : (Jvm.Cond.lays "ShipSways" "ShipSways" "marks" "I") ∈ lw_all := lw_g (lw_at lw_m1 186 rfl) rfl
theorem q254 : (Jvm.Cond.soleField "ShipSways" "marks") ∈ lw_all := lw_g (lw_at lw_m1 187 rfl) rfl
theorem q255 : (Jvm.Cond.lays "ShipSways" "ShipSways" "stiff" "I") ∈ lw_all := lw_g (lw_at lw_m1 188 rfl) rfl
theorem q256 : (Jvm.Cond.soleField "ShipSways" "stiff") ∈ lw_all := lw_g (lw_at lw_m1 189 rfl) rfl
theorem q257 : (Jvm.Cond.lays "ShipSways" "ShipSways" "slow" "I") ∈ lw_all := lw_g (lw_at lw_m1 190 rfl) rfl
theorem q258 : (Jvm.Cond.soleField "ShipSways" "slow") ∈ lw_all := lw_g (lw_at lw_m1 191 rfl) rfl
theorem q259 : (Jvm.Cond.lays "ShipSways" "ShipSways" "inert" "I") ∈ lw_all := lw_g (lw_at lw_m1 192 rfl) rfl
theorem q260 : (Jvm.Cond.soleField "ShipSways" "inert") ∈ lw_all := lw_g (lw_at lw_m1 193 rfl) rfl
theorem q261 : (Jvm.Cond.lays "ShipSways" "ShipSways" "fins" "I") ∈ lw_all := lw_g (lw_at lw_m1 194 rfl) rfl
theorem q262 : (Jvm.Cond.soleField "ShipSways" "fins") ∈ lw_all := lw_g (lw_at lw_m1 195 rfl) rfl
theorem q263 : (Jvm.Cond.laysFinal "ShipSways" "ShipSways" "live" "LShipSways$Ship;") ∈ lw_all := lw_g (lw_at lw_m1 196 rfl) rfl
theorem q264 : (Jvm.Cond.soleField "ShipSways" "live") ∈ lw_all := lw_g (lw_at lw_m1 197 rfl) rfl
theorem q265 : (Jvm.Cond.laysFinal "ShipSways" "ShipSways" "trial" "LShipSways$Ship;") ∈ lw_all := lw_g (lw_at lw_m1 198 rfl) rfl
theorem q266 : (Jvm.Cond.soleField "ShipSways" "trial") ∈ lw_all := lw_g (lw_at lw_m1 199 rfl) rfl
theorem q267 : (Jvm.Cond.laysFinal "ShipSways" "ShipSways" "kept" "[[I") ∈ lw_all := lw_g (lw_at lw_m1 200 rfl) rfl
theorem q268 : (Jvm.Cond.soleField "ShipSways" "kept") ∈ lw_all := lw_g (lw_at lw_m1 201 rfl) rfl
theorem q269 : (Jvm.Cond.laysFinal "ShipSways" "ShipSways" "hourHeight" "[I") ∈ lw_all := lw_g (lw_at lw_m1 202 rfl) rfl
theorem q270 : (Jvm.Cond.soleField "ShipSways" "hourHeight") ∈ lw_all := lw_g (lw_at lw_m1 203 rfl) rfl
theorem q271 : (Jvm.Cond.laysFinal "ShipSways" "ShipSways" "hourPeriod" "[I") ∈ lw_all := lw_g (lw_at lw_m1 204 rfl) rfl
theorem q272 : (Jvm.Cond.soleField "ShipSways" "hourPeriod") ∈ lw_all := lw_g (lw_at lw_m1 205 rfl) rfl
theorem q273 : (Jvm.Cond.laysFinal "ShipSways" "ShipSways" "queasyFrom" "[[I") ∈ lw_all := lw_g (lw_at lw_m1 206 rfl) rfl
theorem q274 : (Jvm.Cond.soleField "ShipSways" "queasyFrom") ∈ lw_all := lw_g (lw_at lw_m1 207 rfl) rfl
theorem q275 : (Jvm.Cond.lays "ShipSways" "ShipSways" "hours" "I") ∈ lw_all := lw_g (lw_at lw_m1 208 rfl) rfl
theorem q276 : (Jvm.Cond.soleField "ShipSways" "hours") ∈ lw_all := lw_g (lw_at lw_m1 209 rfl) rfl
theorem q277 : (Jvm.Cond.lays "ShipSways" "ShipSways" "own" "I") ∈ lw_all := lw_g (lw_at lw_m1 210 rfl) rfl
theorem q278 : (Jvm.Cond.soleField "ShipSways" "own") ∈ lw_all := lw_g (lw_at lw_m1 211 rfl) rfl
theorem q279 : (Jvm.Cond.laysFinal "ShipSways" "ShipSways" "numbers" "[I") ∈ lw_all := lw_g (lw_at lw_m1 212 rfl) rfl
theorem q280 : (Jvm.Cond.soleField "ShipSways" "numbers") ∈ lw_all := lw_g (lw_at lw_m1 213 rfl) rfl
theorem q281 : (Jvm.Cond.lays "ShipSways" "ShipSways" "many" "I") ∈ lw_all := lw_g (lw_at lw_m1 214 rfl) rfl
theorem q282 : (Jvm.Cond.soleField "ShipSways" "many") ∈ lw_all := lw_g (lw_at lw_m1 215 rfl) rfl
theorem q283 : (Jvm.Cond.superclass "ShipSways" "java/lang/Object") ∈ lw_all := lw_g (lw_at lw_m1 216 rfl) rfl
theorem q285 : (Jvm.Cond.instanceMethod ({ cls := "ShipSways", name := "feed", desc := "(IIIII)I" } : Jvm.MethodName)) ∈ lw_all := lw_g (lw_at lw_m1 218 rfl) rfl
theorem q286 : (Jvm.Cond.selects "ShipSways" ({ cls := "ShipSways", name := "feed", desc := "(IIIII)I" } : Jvm.MethodName) ({ cls := "ShipSways", name := "feed", desc := "(IIIII)I" } : Jvm.MethodName)) ∈ lw_all := lw_g (lw_at lw_m1 219 rfl) rfl
theorem q287 : (Jvm.Cond.code ({ cls := "ShipSways", name := "feed", desc := "(IIIII)I" } : Jvm.MethodName) prog_1_method_5_code (6 : Nat) (Option.some Jvm.ClassFile.FieldType.int)) ∈ lw_all := lw_g (lw_at lw_m1 220 rfl) rfl
theorem q288 : (Jvm.Cond.methodLink "ShipSways" (98 : Nat) ({ cls := "ShipSways", name := "feeds", desc := "(I)V" } : Jvm.MethodName)) ∈ lw_all := lw_g (lw_at lw_m1 221 rfl) rfl
theorem q289 : (Jvm.Cond.privateMethod ({ cls := "ShipSways", name := "feeds", desc := "(I)V" } : Jvm.MethodName)) ∈ lw_tbl := lw_at lw_m1 222 rfl
theorem q290 : (Jvm.Cond.instanceMethod ({ cls := "ShipSways", name := "feeds", desc := "(I)V" } : Jvm.MethodName)) ∈ lw_all := lw_g (lw_at lw_m1 223 rfl) rfl
theorem q291 : (Jvm.Cond.code ({ cls := "ShipSways", name := "feeds", desc := "(I)V" } : Jvm.MethodName) prog_1_method_4_code (3 : Nat) (Option.none : Option Jvm.ClassFile.FieldType)) ∈ lw_all := lw_g (lw_at lw_m1 224 rfl) rfl
theorem q293 : (Jvm.Cond.instanceMethod ({ cls := "ShipSways", name := "end", desc := "(I)Z" } : Jvm.MethodName)) ∈ lw_all := lw_g (lw_at lw_m1 226 rfl) rfl
theorem q294 : (Jvm.Cond.selects "ShipSways" ({ cls := "ShipSways", name := "end", desc := "(I)Z" } : Jvm.MethodName) ({ cls := "ShipSways", name := "end", desc := "(I)Z" } : Jvm.MethodName)) ∈ lw_all := lw_g (lw_at lw_m1 227 rfl) rfl
theorem q295 : (Jvm.Cond.code ({ cls := "ShipSways", name := "end", desc := "(I)Z" } : Jvm.MethodName) prog_1_method_6_code (2 : Nat) (Option.some Jvm.ClassFile.FieldType.boolean)) ∈ lw_all := lw_g (lw_at lw_m1 228 rfl) rfl
theorem q296 : (Jvm.Cond.methodLink "ShipSways" (101 : Nat) ({ cls := "ShipSways", name := "in", desc := "(JJJ)Z" } : Jvm.MethodName)) ∈ lw_all := lw_g (lw_at lw_m1 229 rfl) rfl
theorem q297 : (Jvm.Cond.static ({ cls := "ShipSways", name := "in", desc := "(JJJ)Z" } : Jvm.MethodName)) ∈ lw_all := lw_g (lw_at lw_m1 230 rfl) rfl
theorem q298 : (Jvm.Cond.code ({ cls := "ShipSways", name := "in", desc := "(JJJ)Z" } : Jvm.MethodName) prog_1_method_1_code (6 : Nat) (Option.some Jvm.ClassFile.FieldType.boolean)) ∈ lw_all := lw_g (lw_at lw_m1 231 rfl) rfl
theorem q300 : (Jvm.Cond.instanceMethod ({ cls := "ShipSways", name := "fault", desc := "()I" } : Jvm.MethodName)) ∈ lw_all := lw_g (lw_at lw_m1 233 rfl) rfl
theorem q301 : (Jvm.Cond.selects "ShipSways" ({ cls := "ShipSways", name := "fault", desc := "()I" } : Jvm.MethodName) ({ cls := "ShipSways", name := "fault", desc := "()I" } : Jvm.MethodName)) ∈ lw_all := lw_g (lw_at lw_m1 234 rfl) rfl
theorem q302 : (Jvm.Cond.code ({ cls := "ShipSways", name := "fault", desc := "()I" } : Jvm.MethodName) prog_1_method_7_code (3 : Nat) (Option.some Jvm.ClassFile.FieldType.int)) ∈ lw_all := lw_g (lw_at lw_m1 235 rfl) rfl
theorem q303 : (Jvm.Cond.classLink "ShipSways" (105 : Nat) "ShipSways$Reader") ∈ lw_all := lw_g (lw_at lw_m1 236 rfl) rfl
theorem q305 : (Jvm.Cond.methodLink "ShipSways" (107 : Nat) ({ cls := "ShipSways$Reader", name := "<init>", desc := "([BI)V" } : Jvm.MethodName)) ∈ lw_all := lw_g (lw_at lw_m1 238 rfl) rfl
theorem q335 : (Jvm.Cond.fieldLinkNest "ShipSways" (114 : Nat) "ShipSways$Reader" "fault" "I" "ShipSways") ∈ lw_tbl := lw_at lw_m2 28 rfl
theorem q359 : (Jvm.Cond.methodLink "ShipSways" (110 : Nat) ({ cls := "ShipSways$Reader", name := "reads", desc := "()[[LShipSways$Mark;" } : Jvm.MethodName)) ∈ lw_all := lw_g (lw_at lw_m2 52 rfl) rfl
theorem q564 : (Jvm.Cond.selects "ShipSways" ({ cls := "java/lang/Object", name := "getClass", desc := "()Ljava/lang/Class;" } : Jvm.MethodName) ({ cls := "java/lang/Object", name := "getClass", desc := "()Ljava/lang/Class;" } : Jvm.MethodName)) ∈ lw_all := lw_g (lw_at lw_m3 17 rfl) rfl
theorem q632 : (Jvm.Cond.instanceMethod ({ cls := "ShipSways", name := "rules", desc := "()Z" } : Jvm.MethodName)) ∈ lw_all := lw_g (lw_at lw_m3 85 rfl) rfl
theorem q633 : (Jvm.Cond.selects "ShipSways" ({ cls := "ShipSways", name := "rules", desc := "()Z" } : Jvm.MethodName) ({ cls := "ShipSways", name := "rules", desc := "()Z" } : Jvm.MethodName)) ∈ lw_all := lw_g (lw_at lw_m3 86 rfl) rfl
theorem q634 : (Jvm.Cond.code ({ cls := "ShipSways", name := "rules", desc := "()Z" } : Jvm.MethodName) prog_1_method_8_code (2 : Nat) (Option.some Jvm.ClassFile.FieldType.boolean)) ∈ lw_all := lw_g (lw_at lw_m3 87 rfl) rfl
theorem q636 : (Jvm.Cond.instanceMethod ({ cls := "ShipSways", name := "slice", desc := "(III)I" } : Jvm.MethodName)) ∈ lw_all := lw_g (lw_at lw_m3 89 rfl) rfl
theorem q637 : (Jvm.Cond.selects "ShipSways" ({ cls := "ShipSways", name := "slice", desc := "(III)I" } : Jvm.MethodName) ({ cls := "ShipSways", name := "slice", desc := "(III)I" } : Jvm.MethodName)) ∈ lw_all := lw_g (lw_at lw_m3 90 rfl) rfl
theorem q638 : (Jvm.Cond.code ({ cls := "ShipSways", name := "slice", desc := "(III)I" } : Jvm.MethodName) prog_1_method_9_code (8 : Nat) (Option.some Jvm.ClassFile.FieldType.int)) ∈ lw_all := lw_g (lw_at lw_m3 91 rfl) rfl
theorem q639 : (Jvm.Cond.constantLong "ShipSways" (121 : Nat) (20 : Int64)) ∈ lw_all := lw_g (lw_at lw_m3 92 rfl) rfl
theorem q640 : (Jvm.Cond.constantLong "ShipSways" (123 : Nat) (99999 : Int64)) ∈ lw_all := lw_g (lw_at lw_m3 93 rfl) rfl
theorem q641 : (Jvm.Cond.methodLink "ShipSways" (125 : Nat) ({ cls := "java/util/ArrayList", name := "size", desc := "()I" } : Jvm.MethodName)) ∈ lw_all := lw_g (lw_at lw_m3 94 rfl) rfl
theorem q642 : (Jvm.Cond.classLink "ShipSways" (129 : Nat) "ShipSways$Slice") ∈ lw_all := lw_g (lw_at lw_m3 95 rfl) rfl
theorem q644 : (Jvm.Cond.methodLink "ShipSways" (131 : Nat) ({ cls := "ShipSways$Slice", name := "<init>", desc := "(I)V" } : Jvm.MethodName)) ∈ lw_all := lw_g (lw_at lw_m3 97 rfl) rfl
theorem q649 : (Jvm.Cond.fieldLinkNest "ShipSways" (192 : Nat) "ShipSways$Slice" "length" "I" "ShipSways") ∈ lw_tbl := lw_at lw_m3 102 rfl
theorem q651 : (Jvm.Cond.fieldLinkNest "ShipSways" (132 : Nat) "ShipSways$Slice" "halves" "[I" "ShipSways") ∈ lw_tbl := lw_at lw_m3 104 rfl
theorem q657 : (Jvm.Cond.methodLink "ShipSways" (135 : Nat) ({ cls := "java/util/ArrayList", name := "add", desc := "(Ljava/lang/Object;)Z" } : Jvm.MethodName)) ∈ lw_all := lw_g (lw_at lw_m3 110 rfl) rfl
theorem q659 : (Jvm.Cond.instanceMethod ({ cls := "ShipSways", name := "weight", desc := "(IIII)I" } : Jvm.MethodName)) ∈ lw_all := lw_g (lw_at lw_m3 112 rfl) rfl
theorem q660 : (Jvm.Cond.selects "ShipSways" ({ cls := "ShipSways", name := "weight", desc := "(IIII)I" } : Jvm.MethodName) ({ cls := "ShipSways", name := "weight", desc := "(IIII)I" } : Jvm.MethodName)) ∈ lw_all := lw_g (lw_at lw_m3 113 rfl) rfl
theorem q661 : (Jvm.Cond.code ({ cls := "ShipSways", name := "weight", desc := "(IIII)I" } : Jvm.MethodName) prog_1_method_10_code (6 : Nat) (Option.some Jvm.ClassFile.FieldType.int)) ∈ lw_all := lw_g (lw_at lw_m3 114 rfl) rfl
theorem q662 : (Jvm.Cond.constantLong "ShipSways" (139 : Nat) (500 : Int64)) ∈ lw_all := lw_g (lw_at lw_m3 115 rfl) rfl
theorem q663 : (Jvm.Cond.constantLong "ShipSways" (141 : Nat) (-19 : Int64)) ∈ lw_all := lw_g (lw_at lw_m3 116 rfl) rfl
theorem q664 : (Jvm.Cond.constantLong "ShipSways" (143 : Nat) (19 : Int64)) ∈ lw_all := lw_g (lw_at lw_m3 117 rfl) rfl
theorem q665 : (Jvm.Cond.constantLong "ShipSways" (145 : Nat) (40 : Int64)) ∈ lw_all := lw_g (lw_at lw_m3 118 rfl) rfl
theorem q666 : (Jvm.Cond.constantLong "ShipSways" (147 : Nat) (-1 : Int64)) ∈ lw_all := lw_g (lw_at lw_m3 119 rfl) rfl
theorem q667 : (Jvm.Cond.constantLong "ShipSways" (149 : Nat) (80 : Int64)) ∈ lw_all := lw_g (lw_at lw_m3 120 rfl) rfl
theorem q668 : (Jvm.Cond.classLink "ShipSways" (154 : Nat) "ShipSways$Weight") ∈ lw_all := lw_g (lw_at lw_m3 121 rfl) rfl
theorem q670 : (Jvm.Cond.methodLink "ShipSways" (156 : Nat) ({ cls := "ShipSways$Weight", name := "<init>", desc := "(IIII)V" } : Jvm.MethodName)) ∈ lw_all := lw_g (lw_at lw_m3 123 rfl) rfl
theorem q675 : (Jvm.Cond.fieldLinkNest "ShipSways" (189 : Nat) "ShipSways$Weight" "mass" "I" "ShipSways") ∈ lw_tbl := lw_at lw_m3 128 rfl
theorem q679 : (Jvm.Cond.fieldLinkNest "ShipSways" (210 : Nat) "ShipSways$Weight" "height" "I" "ShipSways") ∈ lw_tbl := lw_at lw_m3 132 rfl
theorem q683 : (Jvm.Cond.fieldLinkNest "ShipSways" (163 : Nat) "ShipSways$Weight" "isGone" "Z" "ShipSways") ∈ lw_tbl := lw_at lw_m3 136 rfl
theorem q696 : (Jvm.Cond.instanceMethod ({ cls := "ShipSways", name := "lose", desc := "(I)Z" } : Jvm.MethodName)) ∈ lw_all := lw_g (lw_at lw_m3 149 rfl) rfl
theorem q697 : (Jvm.Cond.selects "ShipSways" ({ cls := "ShipSways", name := "lose", desc := "(I)Z" } : Jvm.MethodName) ({ cls := "ShipSways", name := "lose", desc := "(I)Z" } : Jvm.MethodName)) ∈ lw_all := lw_g (lw_at lw_m3 150 rfl) rfl
theorem q698 : (Jvm.Cond.code ({ cls := "ShipSways", name := "lose", desc := "(I)Z" } : Jvm.MethodName) prog_1_method_12_code (3 : Nat) (Option.some Jvm.ClassFile.FieldType.boolean)) ∈ lw_all := lw_g (lw_at lw_m3 151 rfl) rfl
theorem q699 : (Jvm.Cond.methodLink "ShipSways" (167 : Nat) ({ cls := "ShipSways", name := "weightAt", desc := "(I)LShipSways$Weight;" } : Jvm.MethodName)) ∈ lw_all := lw_g (lw_at lw_m3 152 rfl) rfl
theorem q700 : (Jvm.Cond.privateMethod ({ cls := "ShipSways", name := "weightAt", desc := "(I)LShipSways$Weight;" } : Jvm.MethodName)) ∈ lw_tbl := lw_at lw_m3 153 rfl
theorem q701 : (Jvm.Cond.instanceMethod ({ cls := "ShipSways", name := "weightAt", desc := "(I)LShipSways$Weight;" } : Jvm.MethodName)) ∈ lw_all := lw_g (lw_at lw_m3 154 rfl) rfl
theorem q702 : (Jvm.Cond.code ({ cls := "ShipSways", name := "weightAt", desc := "(I)LShipSways$Weight;" } : Jvm.MethodName) prog_1_method_11_code (2 : Nat) (Option.some (Jvm.ClassFile.FieldType.object "ShipSways$Weight"))) ∈ lw_all := lw_g (lw_at lw_m3 155 rfl) rfl
theorem q703 : (Jvm.Cond.methodLink "ShipSways" (159 : Nat) ({ cls := "java/util/ArrayList", name := "get", desc := "(I)Ljava/lang/Object;" } : Jvm.MethodName)) ∈ lw_all := lw_g (lw_at lw_m3 156 rfl) rfl
theorem q705 : (Jvm.Cond.instanceMethod ({ cls := "ShipSways", name := "tank", desc := "(III)I" } : Jvm.MethodName)) ∈ lw_all := lw_g (lw_at lw_m3 158 rfl) rfl
theorem q706 : (Jvm.Cond.selects "ShipSways" ({ cls := "ShipSways", name := "tank", desc := "(III)I" } : Jvm.MethodName) ({ cls := "ShipSways", name := "tank", desc := "(III)I" } : Jvm.MethodName)) ∈ lw_all := lw_g (lw_at lw_m3 159 rfl) rfl
theorem q707 : (Jvm.Cond.code ({ cls := "ShipSways", name := "tank", desc := "(III)I" } : Jvm.MethodName) prog_1_method_13_code (5 : Nat) (Option.some Jvm.ClassFile.FieldType.int)) ∈ lw_all := lw_g (lw_at lw_m3 160 rfl) rfl
theorem q708 : (Jvm.Cond.constantLong "ShipSways" (171 : Nat) (9 : Int64)) ∈ lw_all := lw_g (lw_at lw_m3 161 rfl) rfl
theorem q709 : (Jvm.Cond.constantLong "ShipSways" (173 : Nat) (300 : Int64)) ∈ lw_all := lw_g (lw_at lw_m3 162 rfl) rfl
theorem q710 : (Jvm.Cond.classLink "ShipSways" (175 : Nat) "ShipSways$Tank") ∈ lw_all := lw_g (lw_at lw_m3 163 rfl) rfl
theorem q712 : (Jvm.Cond.methodLink "ShipSways" (177 : Nat) ({ cls := "ShipSways$Tank", name := "<init>", desc := "(III)V" } : Jvm.MethodName)) ∈ lw_all := lw_g (lw_at lw_m3 165 rfl) rfl
theorem q718 : (Jvm.Cond.fieldLinkNest "ShipSways" (217 : Nat) "ShipSways$Tank" "height" "I" "ShipSways") ∈ lw_tbl := lw_at lw_m3 171 rfl
theorem q720 : (Jvm.Cond.fieldLinkNest "ShipSways" (180 : Nat) "ShipSways$Tank" "holds" "I" "ShipSways") ∈ lw_tbl := lw_at lw_m3 173 rfl
theorem q722 : (Jvm.Cond.fieldLinkNest "ShipSways" (183 : Nat) "ShipSways$Tank" "has" "I" "ShipSways") ∈ lw_tbl := lw_at lw_m3 175 rfl
theorem q733 : (Jvm.Cond.instanceMethod ({ cls := "ShipSways", name := "fill", desc := "(II)Z" } : Jvm.MethodName)) ∈ lw_all := lw_g (lw_at lw_m3 186 rfl) rfl
theorem q734 : (Jvm.Cond.selects "ShipSways" ({ cls := "ShipSways", name := "fill", desc := "(II)Z" } : Jvm.MethodName) ({ cls := "ShipSways", name := "fill", desc := "(II)Z" } : Jvm.MethodName)) ∈ lw_all := lw_g (lw_at lw_m3 187 rfl) rfl
theorem q735 : (Jvm.Cond.code ({ cls := "ShipSways", name := "fill", desc := "(II)Z" } : Jvm.MethodName) prog_1_method_14_code (3 : Nat) (Option.some Jvm.ClassFile.FieldType.boolean)) ∈ lw_all := lw_g (lw_at lw_m3 188 rfl) rfl
theorem q737 : (Jvm.Cond.instanceMethod ({ cls := "ShipSways", name := "mark", desc := "(II)I" } : Jvm.MethodName)) ∈ lw_all := lw_g (lw_at lw_m3 190 rfl) rfl
theorem q738 : (Jvm.Cond.selects "ShipSways" ({ cls := "ShipSways", name := "mark", desc := "(II)I" } : Jvm.MethodName) ({ cls := "ShipSways", name := "mark", desc := "(II)I" } : Jvm.MethodName)) ∈ lw_all := lw_g (lw_at lw_m3 191 rfl) rfl
theorem q739 : (Jvm.Cond.code ({ cls := "ShipSways", name := "mark", desc := "(II)I" } : Jvm.MethodName) prog_1_method_15_code (3 : Nat) (Option.some Jvm.ClassFile.FieldType.int)) ∈ lw_all := lw_g (lw_at lw_m3 192 rfl) rfl
theorem q741 : (Jvm.Cond.instanceMethod ({ cls := "ShipSways", name := "at", desc := "(II)I" } : Jvm.MethodName)) ∈ lw_all := lw_g (lw_at lw_m3 194 rfl) rfl
theorem q742 : (Jvm.Cond.selects "ShipSways" ({ cls := "ShipSways", name := "at", desc := "(II)I" } : Jvm.MethodName) ({ cls := "ShipSways", name := "at", desc := "(II)I" } : Jvm.MethodName)) ∈ lw_all := lw_g (lw_at lw_m3 195 rfl) rfl
theorem q743 : (Jvm.Cond.code ({ cls := "ShipSways", name := "at", desc := "(II)I" } : Jvm.MethodName) prog_1_method_20_code (4 : Nat) (Option.some Jvm.ClassFile.FieldType.int)) ∈ lw_all := lw_g (lw_at lw_m3 196 rfl) rfl
theorem q744 : (Jvm.Cond.constantLong "ShipSways" (220 : Nat) (-80 : Int64)) ∈ lw_all := lw_g (lw_at lw_m3 197 rfl) rfl
theorem q745 : (Jvm.Cond.constantLong "ShipSways" (222 : Nat) (2 : Int64)) ∈ lw_all := lw_g (lw_at lw_m3 198 rfl) rfl
theorem q746 : (Jvm.Cond.constant "ShipSways" (206 : Nat) (-2147483648 : Int32)) ∈ lw_all := lw_g (lw_at lw_m3 199 rfl) rfl
theorem q747 : (Jvm.Cond.methodLink "ShipSways" (224 : Nat) ({ cls := "ShipSways", name := "level", desc := "(I)I" } : Jvm.MethodName)) ∈ lw_all := lw_g (lw_at lw_m3 200 rfl) rfl
theorem q748 : (Jvm.Cond.privateMethod ({ cls := "ShipSways", name := "level", desc := "(I)I" } : Jvm.MethodName)) ∈ lw_tbl := lw_at lw_m3 201 rfl
theorem q749 : (Jvm.Cond.instanceMethod ({ cls := "ShipSways", name := "level", desc := "(I)I" } : Jvm.MethodName)) ∈ lw_all := lw_g (lw_at lw_m3 202 rfl) rfl
theorem q750 : (Jvm.Cond.code ({ cls := "ShipSways", name := "level", desc := "(I)I" } : Jvm.MethodName) prog_1_method_18_code (6 : Nat) (Option.some Jvm.ClassFile.FieldType.int)) ∈ lw_all := lw_g (lw_at lw_m3 203 rfl) rfl
theorem q751 : (Jvm.Cond.methodLink "ShipSways" (199 : Nat) ({ cls := "ShipSways", name := "heavy", desc := "()I" } : Jvm.MethodName)) ∈ lw_all := lw_g (lw_at lw_m3 204 rfl) rfl
theorem q752 : (Jvm.Cond.privateMethod ({ cls := "ShipSways", name := "heavy", desc := "()I" } : Jvm.MethodName)) ∈ lw_tbl := lw_at lw_m3 205 rfl
theorem q753 : (Jvm.Cond.instanceMethod ({ cls := "ShipSways", name := "heavy", desc := "()I" } : Jvm.MethodName)) ∈ lw_all := lw_g (lw_at lw_m3 206 rfl) rfl
theorem q754 : (Jvm.Cond.code ({ cls := "ShipSways", name := "heavy", desc := "()I" } : Jvm.MethodName) prog_1_method_16_code (3 : Nat) (Option.some Jvm.ClassFile.FieldType.int)) ∈ lw_all := lw_g (lw_at lw_m3 207 rfl) rfl
theorem q755 : (Jvm.Cond.methodLink "ShipSways" (202 : Nat) ({ cls := "ShipSways", name := "push", desc := "(II)I" } : Jvm.MethodName)) ∈ lw_all := lw_g (lw_at lw_m3 208 rfl) rfl
theorem q756 : (Jvm.Cond.privateMethod ({ cls := "ShipSways", name := "push", desc := "(II)I" } : Jvm.MethodName)) ∈ lw_tbl := lw_at lw_m3 209 rfl
theorem q757 : (Jvm.Cond.instanceMethod ({ cls := "ShipSways", name := "push", desc := "(II)I" } : Jvm.MethodName)) ∈ lw_all := lw_g (lw_at lw_m3 210 rfl) rfl
theorem q758 : (Jvm.Cond.code ({ cls := "ShipSways", name := "push", desc := "(II)I" } : Jvm.MethodName) prog_1_method_17_code (6 : Nat) (Option.some Jvm.ClassFile.FieldType.int)) ∈ lw_all := lw_g (lw_at lw_m3 211 rfl) rfl
theorem q759 : (Jvm.Cond.methodLink "ShipSways" (195 : Nat) ({ cls := "ShipSways$Slice", name := "wet", desc := "(IIIZ)I" } : Jvm.MethodName)) ∈ lw_all := lw_g (lw_at lw_m3 212 rfl) rfl
theorem q763 : (Jvm.Cond.methodLink "ShipSways" (207 : Nat) ({ cls := "java/lang/Math", name := "floorDiv", desc := "(II)I" } : Jvm.MethodName)) ∈ lw_all := lw_g (lw_at lw_m3 216 rfl) rfl
theorem q766 : (Jvm.Cond.methodLink "ShipSways" (227 : Nat) ({ cls := "ShipSways", name := "arm", desc := "(II[I)I" } : Jvm.MethodName)) ∈ lw_all := lw_g (lw_at lw_m3 219 rfl) rfl
theorem q767 : (Jvm.Cond.privateMethod ({ cls := "ShipSways", name := "arm", desc := "(II[I)I" } : Jvm.MethodName)) ∈ lw_tbl := lw_at lw_m3 220 rfl
theorem q768 : (Jvm.Cond.instanceMethod ({ cls := "ShipSways", name := "arm", desc := "(II[I)I" } : Jvm.MethodName)) ∈ lw_all := lw_g (lw_at lw_m3 221 rfl) rfl
theorem q769 : (Jvm.Cond.code ({ cls := "ShipSways", name := "arm", desc := "(II[I)I" } : Jvm.MethodName) prog_1_method_19_code (10 : Nat) (Option.some Jvm.ClassFile.FieldType.int)) ∈ lw_all := lw_g (lw_at lw_m3 222 rfl) rfl
theorem q770 : (Jvm.Cond.methodLink "ShipSways" (213 : Nat) ({ cls := "ShipSways$Tank", name := "place", desc := "(I)I" } : Jvm.MethodName)) ∈ lw_all := lw_g (lw_at lw_m3 223 rfl) rfl
theorem q774 : (Jvm.Cond.methodLink "ShipSways" (218 : Nat) ({ cls := "java/lang/Math", name := "floorDiv", desc := "(JJ)J" } : Jvm.MethodName)) ∈ lw_all := lw_g (lw_at lw_m3 227 rfl) rfl
theorem q778 : (Jvm.Cond.instanceMethod ({ cls := "ShipSways", name := "rest", desc := "(I)I" } : Jvm.MethodName)) ∈ lw_all := lw_g (lw_at lw_m3 231 rfl) rfl
theorem q779 : (Jvm.Cond.selects "ShipSways" ({ cls := "ShipSways", name := "rest", desc := "(I)I" } : Jvm.MethodName) ({ cls := "ShipSways", name := "rest", desc := "(I)I" } : Jvm.MethodName)) ∈ lw_all := lw_g (lw_at lw_m3 232 rfl) rfl
theorem q780 : (Jvm.Cond.code ({ cls := "ShipSways", name := "rest", desc := "(I)I" } : Jvm.MethodName) prog_1_method_22_code (3 : Nat) (Option.some Jvm.ClassFile.FieldType.int)) ∈ lw_all := lw_g (lw_at lw_m3 233 rfl) rfl
theorem q781 : (Jvm.Cond.methodLink "ShipSways" (234 : Nat) ({ cls := "ShipSways", name := "restAt", desc := "(I)I" } : Jvm.MethodName)) ∈ lw_all := lw_g (lw_at lw_m3 234 rfl) rfl
theorem q782 : (Jvm.Cond.privateMethod ({ cls := "ShipSways", name := "restAt", desc := "(I)I" } : Jvm.MethodName)) ∈ lw_tbl := lw_at lw_m3 235 rfl
theorem q783 : (Jvm.Cond.instanceMethod ({ cls := "ShipSways", name := "restAt", desc := "(I)I" } : Jvm.MethodName)) ∈ lw_all := lw_g (lw_at lw_m3 236 rfl) rfl
theorem q784 : (Jvm.Cond.code ({ cls := "ShipSways", name := "restAt", desc := "(I)I" } : Jvm.MethodName) prog_1_method_21_code (7 : Nat) (Option.some Jvm.ClassFile.FieldType.int)) ∈ lw_all := lw_g (lw_at lw_m3 237 rfl) rfl
theorem q785 : (Jvm.Cond.methodLink "ShipSways" (231 : Nat) ({ cls := "ShipSways", name := "at", desc := "(II)I" } : Jvm.MethodName)) ∈ lw_all := lw_g (lw_at lw_m3 238 rfl) rfl
theorem q787 : (Jvm.Cond.instanceMethod ({ cls := "ShipSways", name := "stays", desc := "(I)I" } : Jvm.MethodName)) ∈ lw_all := lw_g (lw_at lw_m4 0 rfl) rfl
theorem q788 : (Jvm.Cond.selects "ShipSways" ({ cls := "ShipSways", name := "stays", desc := "(I)I" } : Jvm.MethodName) ({ cls := "ShipSways", name := "stays", desc := "(I)I" } : Jvm.MethodName)) ∈ lw_all := lw_g (lw_at lw_m4 1 rfl) rfl
theorem q789 : (Jvm.Cond.code ({ cls := "ShipSways", name := "stays", desc := "(I)I" } : Jvm.MethodName) prog_1_method_23_code (3 : Nat) (Option.some Jvm.ClassFile.FieldType.int)) ∈ lw_all := lw_g (lw_at lw_m4 2 rfl) rfl
theorem q790 : (Jvm.Cond.methodLink "ShipSways" (237 : Nat) ({ cls := "java/lang/Math", name := "floorMod", desc := "(II)I" } : Jvm.MethodName)) ∈ lw_all := lw_g (lw_at lw_m4 3 rfl) rfl
theorem q794 : (Jvm.Cond.instanceMethod ({ cls := "ShipSways", name := "wave", desc := "(III)I" } : Jvm.MethodName)) ∈ lw_all := lw_g (lw_at lw_m4 7 rfl) rfl
theorem q795 : (Jvm.Cond.selects "ShipSways" ({ cls := "ShipSways", name := "wave", desc := "(III)I" } : Jvm.MethodName) ({ cls := "ShipSways", name := "wave", desc := "(III)I" } : Jvm.MethodName)) ∈ lw_all := lw_g (lw_at lw_m4 8 rfl) rfl
theorem q796 : (Jvm.Cond.code ({ cls := "ShipSways", name := "wave", desc := "(III)I" } : Jvm.MethodName) prog_1_method_24_code (5 : Nat) (Option.some Jvm.ClassFile.FieldType.int)) ∈ lw_all := lw_g (lw_at lw_m4 9 rfl) rfl
theorem q797 : (Jvm.Cond.constantLong "ShipSways" (240 : Nat) (60 : Int64)) ∈ lw_all := lw_g (lw_at lw_m4 10 rfl) rfl
theorem q798 : (Jvm.Cond.constantLong "ShipSways" (242 : Nat) (4 : Int64)) ∈ lw_all := lw_g (lw_at lw_m4 11 rfl) rfl
theorem q799 : (Jvm.Cond.constantLong "ShipSways" (244 : Nat) (64 : Int64)) ∈ lw_all := lw_g (lw_at lw_m4 12 rfl) rfl
theorem q800 : (Jvm.Cond.constantLong "ShipSways" (246 : Nat) (15 : Int64)) ∈ lw_all := lw_g (lw_at lw_m4 13 rfl) rfl
theorem q801 : (Jvm.Cond.classLink "ShipSways" (248 : Nat) "ShipSways$Wave") ∈ lw_all := lw_g (lw_at lw_m4 14 rfl) rfl
theorem q803 : (Jvm.Cond.methodLink "ShipSways" (250 : Nat) ({ cls := "ShipSways$Wave", name := "<init>", desc := "(III)V" } : Jvm.MethodName)) ∈ lw_all := lw_g (lw_at lw_m4 16 rfl) rfl
theorem q818 : (Jvm.Cond.instanceMethod ({ cls := "ShipSways", name := "sea", desc := "(I)I" } : Jvm.MethodName)) ∈ lw_all := lw_g (lw_at lw_m4 31 rfl) rfl
theorem q819 : (Jvm.Cond.selects "ShipSways" ({ cls := "ShipSways", name := "sea", desc := "(I)I" } : Jvm.MethodName) ({ cls := "ShipSways", name := "sea", desc := "(I)I" } : Jvm.MethodName)) ∈ lw_all := lw_g (lw_at lw_m4 32 rfl) rfl
theorem q820 : (Jvm.Cond.code ({ cls := "ShipSways", name := "sea", desc := "(I)I" } : Jvm.MethodName) prog_1_method_26_code (2 : Nat) (Option.some Jvm.ClassFile.FieldType.int)) ∈ lw_all := lw_g (lw_at lw_m4 33 rfl) rfl
theorem q821 : (Jvm.Cond.constantLong "ShipSways" (253 : Nat) (599 : Int64)) ∈ lw_all := lw_g (lw_at lw_m4 34 rfl) rfl
theorem q822 : (Jvm.Cond.methodLink "ShipSways" (255 : Nat) ({ cls := "ShipSways", name := "seaAt", desc := "(I)I" } : Jvm.MethodName)) ∈ lw_all := lw_g (lw_at lw_m4 35 rfl) rfl
theorem q823 : (Jvm.Cond.privateMethod ({ cls := "ShipSways", name := "seaAt", desc := "(I)I" } : Jvm.MethodName)) ∈ lw_tbl := lw_at lw_m4 36 rfl
theorem q824 : (Jvm.Cond.instanceMethod ({ cls := "ShipSways", name := "seaAt", desc := "(I)I" } : Jvm.MethodName)) ∈ lw_all := lw_g (lw_at lw_m4 37 rfl) rfl
theorem q825 : (Jvm.Cond.code ({ cls := "ShipSways", name := "seaAt", desc := "(I)I" } : Jvm.MethodName) prog_1_method_25_code (4 : Nat) (Option.some Jvm.ClassFile.FieldType.int)) ∈ lw_all := lw_g (lw_at lw_m4 38 rfl) rfl
theorem q826 : (Jvm.Cond.methodLink "ShipSways" (251 : Nat) ({ cls := "ShipSways$Wave", name := "push", desc := "(I)I" } : Jvm.MethodName)) ∈ lw_all := lw_g (lw_at lw_m4 39 rfl) rfl
theorem q835 : (Jvm.Cond.laysStatic "ShipSways" "SINES" "[I") ∈ lw_tbl := lw_at lw_m4 48 rfl
theorem q837 : (Jvm.Cond.instanceMethod ({ cls := "ShipSways", name := "set", desc := "(II)Z" } : Jvm.MethodName)) ∈ lw_all := lw_g (lw_at lw_m4 50 rfl) rfl
theorem q838 : (Jvm.Cond.selects "ShipSways" ({ cls := "ShipSways", name := "set", desc := "(II)Z" } : Jvm.MethodName) ({ cls := "ShipSways", name := "set", desc := "(II)Z" } : Jvm.MethodName)) ∈ lw_all := lw_g (lw_at lw_m4 51 rfl) rfl
theorem q839 : (Jvm.Cond.code ({ cls := "ShipSways", name := "set", desc := "(II)Z" } : Jvm.MethodName) prog_1_method_27_code (3 : Nat) (Option.some Jvm.ClassFile.FieldType.boolean)) ∈ lw_all := lw_g (lw_at lw_m4 52 rfl) rfl
theorem q840 : (Jvm.Cond.constantLong "ShipSways" (258 : Nat) (1000000 : Int64)) ∈ lw_all := lw_g (lw_at lw_m4 53 rfl) rfl
theorem q841 : (Jvm.Cond.constantLong "ShipSways" (260 : Nat) (50 : Int64)) ∈ lw_all := lw_g (lw_at lw_m4 54 rfl) rfl
theorem q843 : (Jvm.Cond.instanceMethod ({ cls := "ShipSways", name := "go", desc := "(I)I" } : Jvm.MethodName)) ∈ lw_all := lw_g (lw_at lw_m4 56 rfl) rfl
theorem q844 : (Jvm.Cond.selects "ShipSways" ({ cls := "ShipSways", name := "go", desc := "(I)I" } : Jvm.MethodName) ({ cls := "ShipSways", name := "go", desc := "(I)I" } : Jvm.MethodName)) ∈ lw_all := lw_g (lw_at lw_m4 57 rfl) rfl
theorem q845 : (Jvm.Cond.code ({ cls := "ShipSways", name := "go", desc := "(I)I" } : Jvm.MethodName) prog_1_method_29_code (5 : Nat) (Option.some Jvm.ClassFile.FieldType.int)) ∈ lw_all := lw_g (lw_at lw_m4 58 rfl) rfl
theorem q846 : (Jvm.Cond.constantLong "ShipSways" (269 : Nat) (100 : Int64)) ∈ lw_all := lw_g (lw_at lw_m4 59 rfl) rfl
theorem q847 : (Jvm.Cond.methodLink "ShipSways" (277 : Nat) ({ cls := "ShipSways$Ship", name := "goesOn", desc := "()V" } : Jvm.MethodName)) ∈ lw_all := lw_g (lw_at lw_m4 60 rfl) rfl
theorem q901 : (Jvm.Cond.static ({ cls := "ShipSways", name := "brought", desc := "(JI)I" } : Jvm.MethodName)) ∈ lw_all := lw_g (lw_at lw_m4 114 rfl) rfl
theorem q902 : (Jvm.Cond.code ({ cls := "ShipSways", name := "brought", desc := "(JI)I" } : Jvm.MethodName) prog_1_method_2_code (3 : Nat) (Option.some Jvm.ClassFile.FieldType.int)) ∈ lw_all := lw_g (lw_at lw_m4 115 rfl) rfl
theorem q903 : (Jvm.Cond.methodLink "ShipSways" (1 : Nat) ({ cls := "java/lang/Math", name := "min", desc := "(JJ)J" } : Jvm.MethodName)) ∈ lw_all := lw_g (lw_at lw_m4 116 rfl) rfl
theorem q904 : (Jvm.Cond.methodLink "ShipSways" (7 : Nat) ({ cls := "java/lang/Math", name := "max", desc := "(JJ)J" } : Jvm.MethodName)) ∈ lw_all := lw_g (lw_at lw_m4 117 rfl) rfl
theorem q906 : (Jvm.Cond.static ({ cls := "ShipSways", name := "faster", desc := "(III)I" } : Jvm.MethodName)) ∈ lw_all := lw_g (lw_at lw_m4 119 rfl) rfl
theorem q907 : (Jvm.Cond.code ({ cls := "ShipSways", name := "faster", desc := "(III)I" } : Jvm.MethodName) prog_1_method_28_code (3 : Nat) (Option.some Jvm.ClassFile.FieldType.int)) ∈ lw_all := lw_g (lw_at lw_m4 120 rfl) rfl
theorem q908 : (Jvm.Cond.methodLink "ShipSways" (265 : Nat) ({ cls := "ShipSways", name := "brought", desc := "(JI)I" } : Jvm.MethodName)) ∈ lw_all := lw_g (lw_at lw_m4 121 rfl) rfl
theorem q917 : (Jvm.Cond.instanceMethod ({ cls := "ShipSways", name := "kept", desc := "(II)I" } : Jvm.MethodName)) ∈ lw_all := lw_g (lw_at lw_m4 130 rfl) rfl
theorem q918 : (Jvm.Cond.selects "ShipSways" ({ cls := "ShipSways", name := "kept", desc := "(II)I" } : Jvm.MethodName) ({ cls := "ShipSways", name := "kept", desc := "(II)I" } : Jvm.MethodName)) ∈ lw_all := lw_g (lw_at lw_m4 131 rfl) rfl
theorem q919 : (Jvm.Cond.code ({ cls := "ShipSways", name := "kept", desc := "(II)I" } : Jvm.MethodName) prog_1_method_30_code (3 : Nat) (Option.some Jvm.ClassFile.FieldType.int)) ∈ lw_all := lw_g (lw_at lw_m4 132 rfl) rfl
theorem q921 : (Jvm.Cond.instanceMethod ({ cls := "ShipSways", name := "lead", desc := "(I)I" } : Jvm.MethodName)) ∈ lw_all := lw_g (lw_at lw_m4 134 rfl) rfl
theorem q922 : (Jvm.Cond.selects "ShipSways" ({ cls := "ShipSways", name := "lead", desc := "(I)I" } : Jvm.MethodName) ({ cls := "ShipSways", name := "lead", desc := "(I)I" } : Jvm.MethodName)) ∈ lw_all := lw_g (lw_at lw_m4 135 rfl) rfl
theorem q923 : (Jvm.Cond.code ({ cls := "ShipSways", name := "lead", desc := "(I)I" } : Jvm.MethodName) prog_1_method_31_code (2 : Nat) (Option.some Jvm.ClassFile.FieldType.int)) ∈ lw_all := lw_g (lw_at lw_m4 136 rfl) rfl
theorem q924 : (Jvm.Cond.constantLong "ShipSways" (292 : Nat) (3 : Int64)) ∈ lw_all := lw_g (lw_at lw_m4 137 rfl) rfl
theorem q926 : (Jvm.Cond.instanceMethod ({ cls := "ShipSways", name := "holds", desc := "(I)I" } : Jvm.MethodName)) ∈ lw_all := lw_g (lw_at lw_m4 139 rfl) rfl
theorem q927 : (Jvm.Cond.selects "ShipSways" ({ cls := "ShipSways", name := "holds", desc := "(I)I" } : Jvm.MethodName) ({ cls := "ShipSways", name := "holds", desc := "(I)I" } : Jvm.MethodName)) ∈ lw_all := lw_g (lw_at lw_m4 140 rfl) rfl
theorem q928 : (Jvm.Cond.code ({ cls := "ShipSways", name := "holds", desc := "(I)I" } : Jvm.MethodName) prog_1_method_32_code (2 : Nat) (Option.some Jvm.ClassFile.FieldType.int)) ∈ lw_all := lw_g (lw_at lw_m4 141 rfl) rfl
theorem q929 : (Jvm.Cond.methodLink "ShipSways" (297 : Nat) ({ cls := "ShipSways$Ship", name := "holds", desc := "(I)Z" } : Jvm.MethodName)) ∈ lw_all := lw_g (lw_at lw_m4 142 rfl) rfl
theorem q931 : (Jvm.Cond.instanceMethod ({ cls := "ShipSways", name := "tried", desc := "(II)I" } : Jvm.MethodName)) ∈ lw_all := lw_g (lw_at lw_m4 144 rfl) rfl
theorem q932 : (Jvm.Cond.selects "ShipSways" ({ cls := "ShipSways", name := "tried", desc := "(II)I" } : Jvm.MethodName) ({ cls := "ShipSways", name := "tried", desc := "(II)I" } : Jvm.MethodName)) ∈ lw_all := lw_g (lw_at lw_m4 145 rfl) rfl
theorem q933 : (Jvm.Cond.code ({ cls := "ShipSways", name := "tried", desc := "(II)I" } : Jvm.MethodName) prog_1_method_34_code (3 : Nat) (Option.some Jvm.ClassFile.FieldType.int)) ∈ lw_all := lw_g (lw_at lw_m4 146 rfl) rfl
theorem q934 : (Jvm.Cond.constantLong "ShipSways" (307 : Nat) (120 : Int64)) ∈ lw_all := lw_g (lw_at lw_m4 147 rfl) rfl
theorem q935 : (Jvm.Cond.methodLink "ShipSways" (309 : Nat) ({ cls := "ShipSways", name := "tries", desc := "(I)V" } : Jvm.MethodName)) ∈ lw_all := lw_g (lw_at lw_m4 148 rfl) rfl
theorem q936 : (Jvm.Cond.privateMethod ({ cls := "ShipSways", name := "tries", desc := "(I)V" } : Jvm.MethodName)) ∈ lw_tbl := lw_at lw_m4 149 rfl
theorem q937 : (Jvm.Cond.instanceMethod ({ cls := "ShipSways", name := "tries", desc := "(I)V" } : Jvm.MethodName)) ∈ lw_all := lw_g (lw_at lw_m4 150 rfl) rfl
theorem q938 : (Jvm.Cond.code ({ cls := "ShipSways", name := "tries", desc := "(I)V" } : Jvm.MethodName) prog_1_method_33_code (2 : Nat) (Option.none : Option Jvm.ClassFile.FieldType)) ∈ lw_all := lw_g (lw_at lw_m4 151 rfl) rfl
theorem q939 : (Jvm.Cond.methodLink "ShipSways" (300 : Nat) ({ cls := "ShipSways$Ship", name := "copy", desc := "(LShipSways$Ship;)V" } : Jvm.MethodName)) ∈ lw_all := lw_g (lw_at lw_m4 152 rfl) rfl
theorem q944 : (Jvm.Cond.methodLink "ShipSways" (304 : Nat) ({ cls := "ShipSways$Ship", name := "goes", desc := "(I)V" } : Jvm.MethodName)) ∈ lw_all := lw_g (lw_at lw_m4 157 rfl) rfl
theorem q950 : (Jvm.Cond.instanceMethod ({ cls := "ShipSways", name := "still", desc := "(I)I" } : Jvm.MethodName)) ∈ lw_all := lw_g (lw_at lw_m4 163 rfl) rfl
theorem q951 : (Jvm.Cond.selects "ShipSways" ({ cls := "ShipSways", name := "still", desc := "(I)I" } : Jvm.MethodName) ({ cls := "ShipSways", name := "still", desc := "(I)I" } : Jvm.MethodName)) ∈ lw_all := lw_g (lw_at lw_m4 164 rfl) rfl
theorem q952 : (Jvm.Cond.code ({ cls := "ShipSways", name := "still", desc := "(I)I" } : Jvm.MethodName) prog_1_method_35_code (6 : Nat) (Option.some Jvm.ClassFile.FieldType.int)) ∈ lw_all := lw_g (lw_at lw_m4 165 rfl) rfl
theorem q954 : (Jvm.Cond.instanceMethod ({ cls := "ShipSways", name := "hour", desc := "(II)I" } : Jvm.MethodName)) ∈ lw_all := lw_g (lw_at lw_m4 167 rfl) rfl
theorem q955 : (Jvm.Cond.selects "ShipSways" ({ cls := "ShipSways", name := "hour", desc := "(II)I" } : Jvm.MethodName) ({ cls := "ShipSways", name := "hour", desc := "(II)I" } : Jvm.MethodName)) ∈ lw_all := lw_g (lw_at lw_m4 168 rfl) rfl
theorem q956 : (Jvm.Cond.code ({ cls := "ShipSways", name := "hour", desc := "(II)I" } : Jvm.MethodName) prog_1_method_36_code (3 : Nat) (Option.some Jvm.ClassFile.FieldType.int)) ∈ lw_all := lw_g (lw_at lw_m4 169 rfl) rfl
theorem q958 : (Jvm.Cond.instanceMethod ({ cls := "ShipSways", name := "begin", desc := "(I)I" } : Jvm.MethodName)) ∈ lw_all := lw_g (lw_at lw_m4 171 rfl) rfl
theorem q959 : (Jvm.Cond.selects "ShipSways" ({ cls := "ShipSways", name := "begin", desc := "(I)I" } : Jvm.MethodName) ({ cls := "ShipSways", name := "begin", desc := "(I)I" } : Jvm.MethodName)) ∈ lw_all := lw_g (lw_at lw_m4 172 rfl) rfl
theorem q960 : (Jvm.Cond.code ({ cls := "ShipSways", name := "begin", desc := "(I)I" } : Jvm.MethodName) prog_1_method_37_code (3 : Nat) (Option.some Jvm.ClassFile.FieldType.int)) ∈ lw_all := lw_g (lw_at lw_m4 173 rfl) rfl
theorem q962 : (Jvm.Cond.instanceMethod ({ cls := "ShipSways", name := "best", desc := "(II)I" } : Jvm.MethodName)) ∈ lw_all := lw_g (lw_at lw_m4 175 rfl) rfl
theorem q963 : (Jvm.Cond.selects "ShipSways" ({ cls := "ShipSways", name := "best", desc := "(II)I" } : Jvm.MethodName) ({ cls := "ShipSways", name := "best", desc := "(II)I" } : Jvm.MethodName)) ∈ lw_all := lw_g (lw_at lw_m4 176 rfl) rfl
theorem q964 : (Jvm.Cond.code ({ cls := "ShipSways", name := "best", desc := "(II)I" } : Jvm.MethodName) prog_1_method_41_code (6 : Nat) (Option.some Jvm.ClassFile.FieldType.int)) ∈ lw_all := lw_g (lw_at lw_m4 177 rfl) rfl
theorem q965 : (Jvm.Cond.methodLink "ShipSways" (332 : Nat) ({ cls := "ShipSways", name := "ways", desc := "(I)V" } : Jvm.MethodName)) ∈ lw_all := lw_g (lw_at lw_m4 178 rfl) rfl
theorem q966 : (Jvm.Cond.privateMethod ({ cls := "ShipSways", name := "ways", desc := "(I)V" } : Jvm.MethodName)) ∈ lw_tbl := lw_at lw_m4 179 rfl
theorem q967 : (Jvm.Cond.instanceMethod ({ cls := "ShipSways", name := "ways", desc := "(I)V" } : Jvm.MethodName)) ∈ lw_all := lw_g (lw_at lw_m4 180 rfl) rfl
theorem q968 : (Jvm.Cond.code ({ cls := "ShipSways", name := "ways", desc := "(I)V" } : Jvm.MethodName) prog_1_method_39_code (4 : Nat) (Option.none : Option Jvm.ClassFile.FieldType)) ∈ lw_all := lw_g (lw_at lw_m4 181 rfl) rfl
theorem q969 : (Jvm.Cond.methodLink "ShipSways" (324 : Nat) ({ cls := "ShipSways", name := "least", desc := "(II)I" } : Jvm.MethodName)) ∈ lw_all := lw_g (lw_at lw_m4 182 rfl) rfl
theorem q970 : (Jvm.Cond.privateMethod ({ cls := "ShipSways", name := "least", desc := "(II)I" } : Jvm.MethodName)) ∈ lw_tbl := lw_at lw_m4 183 rfl
theorem q971 : (Jvm.Cond.instanceMethod ({ cls := "ShipSways", name := "least", desc := "(II)I" } : Jvm.MethodName)) ∈ lw_all := lw_g (lw_at lw_m4 184 rfl) rfl
theorem q972 : (Jvm.Cond.code ({ cls := "ShipSways", name := "least", desc := "(II)I" } : Jvm.MethodName) prog_1_method_40_code (6 : Nat) (Option.some Jvm.ClassFile.FieldType.int)) ∈ lw_all := lw_g (lw_at lw_m4 185 rfl) rfl
theorem q973 : (Jvm.Cond.methodLink "ShipSways" (327 : Nat) ({ cls := "java/lang/Math", name := "max", desc := "(II)I" } : Jvm.MethodName)) ∈ lw_all := lw_g (lw_at lw_m4 186 rfl) rfl
theorem q974 : (Jvm.Cond.methodLink "ShipSways" (329 : Nat) ({ cls := "ShipSways", name := "queasy", desc := "(II)I" } : Jvm.MethodName)) ∈ lw_all := lw_g (lw_at lw_m4 187 rfl) rfl
theorem q975 : (Jvm.Cond.privateMethod ({ cls := "ShipSways", name := "queasy", desc := "(II)I" } : Jvm.MethodName)) ∈ lw_tbl := lw_at lw_m4 188 rfl
theorem q976 : (Jvm.Cond.instanceMethod ({ cls := "ShipSways", name := "queasy", desc := "(II)I" } : Jvm.MethodName)) ∈ lw_all := lw_g (lw_at lw_m4 189 rfl) rfl
theorem q977 : (Jvm.Cond.code ({ cls := "ShipSways", name := "queasy", desc := "(II)I" } : Jvm.MethodName) prog_1_method_38_code (4 : Nat) (Option.some Jvm.ClassFile.FieldType.int)) ∈ lw_all := lw_g (lw_at lw_m4 190 rfl) rfl
theorem q979 : (Jvm.Cond.instanceMethod ({ cls := "ShipSways", name := "record", desc := "(I)I" } : Jvm.MethodName)) ∈ lw_all := lw_g (lw_at lw_m4 192 rfl) rfl
theorem q980 : (Jvm.Cond.selects "ShipSways" ({ cls := "ShipSways", name := "record", desc := "(I)I" } : Jvm.MethodName) ({ cls := "ShipSways", name := "record", desc := "(I)I" } : Jvm.MethodName)) ∈ lw_all := lw_g (lw_at lw_m4 193 rfl) rfl
theorem q981 : (Jvm.Cond.code ({ cls := "ShipSways", name := "record", desc := "(I)I" } : Jvm.MethodName) prog_1_method_42_code (2 : Nat) (Option.some Jvm.ClassFile.FieldType.int)) ∈ lw_all := lw_g (lw_at lw_m4 194 rfl) rfl
theorem q983 : (Jvm.Cond.instanceMethod ({ cls := "ShipSways", name := "clear", desc := "()I" } : Jvm.MethodName)) ∈ lw_all := lw_g (lw_at lw_m4 196 rfl) rfl
theorem q984 : (Jvm.Cond.selects "ShipSways" ({ cls := "ShipSways", name := "clear", desc := "()I" } : Jvm.MethodName) ({ cls := "ShipSways", name := "clear", desc := "()I" } : Jvm.MethodName)) ∈ lw_all := lw_g (lw_at lw_m4 197 rfl) rfl
theorem q985 : (Jvm.Cond.code ({ cls := "ShipSways", name := "clear", desc := "()I" } : Jvm.MethodName) prog_1_method_43_code (2 : Nat) (Option.some Jvm.ClassFile.FieldType.int)) ∈ lw_all := lw_g (lw_at lw_m4 198 rfl) rfl
theorem q987 : (Jvm.Cond.instanceMethod ({ cls := "ShipSways", name := "goes", desc := "(I)I" } : Jvm.MethodName)) ∈ lw_all := lw_g (lw_at lw_m4 200 rfl) rfl
theorem q988 : (Jvm.Cond.selects "ShipSways" ({ cls := "ShipSways", name := "goes", desc := "(I)I" } : Jvm.MethodName) ({ cls := "ShipSways", name := "goes", desc := "(I)I" } : Jvm.MethodName)) ∈ lw_all := lw_g (lw_at lw_m4 201 rfl) rfl
theorem q989 : (Jvm.Cond.code ({ cls := "ShipSways", name := "goes", desc := "(I)I" } : Jvm.MethodName) prog_1_method_45_code (2 : Nat) (Option.some Jvm.ClassFile.FieldType.int)) ∈ lw_all := lw_g (lw_at lw_m4 202 rfl) rfl
theorem q990 : (Jvm.Cond.methodLink "ShipSways" (341 : Nat) ({ cls := "ShipSways", name := "goesWith", desc := "(LShipSways$Wave;)I" } : Jvm.MethodName)) ∈ lw_all := lw_g (lw_at lw_m4 203 rfl) rfl
theorem q991 : (Jvm.Cond.privateMethod ({ cls := "ShipSways", name := "goesWith", desc := "(LShipSways$Wave;)I" } : Jvm.MethodName)) ∈ lw_tbl := lw_at lw_m4 204 rfl
theorem q992 : (Jvm.Cond.instanceMethod ({ cls := "ShipSways", name := "goesWith", desc := "(LShipSways$Wave;)I" } : Jvm.MethodName)) ∈ lw_all := lw_g (lw_at lw_m4 205 rfl) rfl
theorem q993 : (Jvm.Cond.code ({ cls := "ShipSways", name := "goesWith", desc := "(LShipSways$Wave;)I" } : Jvm.MethodName) prog_1_method_44_code (4 : Nat) (Option.some Jvm.ClassFile.FieldType.int)) ∈ lw_all := lw_g (lw_at lw_m4 206 rfl) rfl
theorem q994 : (Jvm.Cond.methodLink "ShipSways" (338 : Nat) ({ cls := "ShipSways$Wave", name := "sine", desc := "(I)I" } : Jvm.MethodName)) ∈ lw_all := lw_g (lw_at lw_m4 207 rfl) rfl
theorem q996 : (Jvm.Cond.instanceMethod ({ cls := "ShipSways", name := "read", desc := "(I)I" } : Jvm.MethodName)) ∈ lw_all := lw_g (lw_at lw_m4 209 rfl) rfl
theorem q997 : (Jvm.Cond.selects "ShipSways" ({ cls := "ShipSways", name := "read", desc := "(I)I" } : Jvm.MethodName) ({ cls := "ShipSways", name := "read", desc := "(I)I" } : Jvm.MethodName)) ∈ lw_all := lw_g (lw_at lw_m4 210 rfl) rfl
theorem q998 : (Jvm.Cond.code ({ cls := "ShipSways", name := "read", desc := "(I)I" } : Jvm.MethodName) prog_1_method_47_code (4 : Nat) (Option.some Jvm.ClassFile.FieldType.int)) ∈ lw_all := lw_g (lw_at lw_m4 211 rfl) rfl
theorem q999 : (Jvm.Cond.methodLink "ShipSways" (348 : Nat) ({ cls := "ShipSways", name := "seen", desc := "()I" } : Jvm.MethodName)) ∈ lw_all := lw_g (lw_at lw_m4 212 rfl) rfl
theorem q1000 : (Jvm.Cond.privateMethod ({ cls := "ShipSways", name := "seen", desc := "()I" } : Jvm.MethodName)) ∈ lw_tbl := lw_at lw_m4 213 rfl
theorem q1001 : (Jvm.Cond.instanceMethod ({ cls := "ShipSways", name := "seen", desc := "()I" } : Jvm.MethodName)) ∈ lw_all := lw_g (lw_at lw_m4 214 rfl) rfl
theorem q1002 : (Jvm.Cond.code ({ cls := "ShipSways", name := "seen", desc := "()I" } : Jvm.MethodName) prog_1_method_46_code (3 : Nat) (Option.some Jvm.ClassFile.FieldType.int)) ∈ lw_all := lw_g (lw_at lw_m4 215 rfl) rfl
theorem q1003 : (Jvm.Cond.methodLink "ShipSways" (345 : Nat) ({ cls := "java/lang/Math", name := "abs", desc := "(I)I" } : Jvm.MethodName)) ∈ lw_all := lw_g (lw_at lw_m4 216 rfl) rfl
theorem q1005 : (Jvm.Cond.instanceMethod ({ cls := "ShipSways", name := "check", desc := "(III)I" } : Jvm.MethodName)) ∈ lw_all := lw_g (lw_at lw_m4 218 rfl) rfl
theorem q1006 : (Jvm.Cond.selects "ShipSways" ({ cls := "ShipSways", name := "check", desc := "(III)I" } : Jvm.MethodName) ({ cls := "ShipSways", name := "check", desc := "(III)I" } : Jvm.MethodName)) ∈ lw_all := lw_g (lw_at lw_m4 219 rfl) rfl
theorem q1007 : (Jvm.Cond.code ({ cls := "ShipSways", name := "check", desc := "(III)I" } : Jvm.MethodName) prog_1_method_48_code (7 : Nat) (Option.some Jvm.ClassFile.FieldType.int)) ∈ lw_all := lw_g (lw_at lw_m4 220 rfl) rfl
theorem q1009 : (Jvm.Cond.instanceMethod ({ cls := "ShipSways", name := "count", desc := "(I)I" } : Jvm.MethodName)) ∈ lw_all := lw_g (lw_at lw_m4 222 rfl) rfl
theorem q1010 : (Jvm.Cond.selects "ShipSways" ({ cls := "ShipSways", name := "count", desc := "(I)I" } : Jvm.MethodName) ({ cls := "ShipSways", name := "count", desc := "(I)I" } : Jvm.MethodName)) ∈ lw_all := lw_g (lw_at lw_m4 223 rfl) rfl
theorem q1011 : (Jvm.Cond.code ({ cls := "ShipSways", name := "count", desc := "(I)I" } : Jvm.MethodName) prog_1_method_49_code (2 : Nat) (Option.some Jvm.ClassFile.FieldType.int)) ∈ lw_all := lw_g (lw_at lw_m4 224 rfl) rfl
theorem q1013 : (Jvm.Cond.instanceMethod ({ cls := "ShipSways", name := "place", desc := "(I)I" } : Jvm.MethodName)) ∈ lw_all := lw_g (lw_at lw_m4 226 rfl) rfl
theorem q1014 : (Jvm.Cond.selects "ShipSways" ({ cls := "ShipSways", name := "place", desc := "(I)I" } : Jvm.MethodName) ({ cls := "ShipSways", name := "place", desc := "(I)I" } : Jvm.MethodName)) ∈ lw_all := lw_g (lw_at lw_m4 227 rfl) rfl
theorem q1015 : (Jvm.Cond.code ({ cls := "ShipSways", name := "place", desc := "(I)I" } : Jvm.MethodName) prog_1_method_50_code (2 : Nat) (Option.some Jvm.ClassFile.FieldType.int)) ∈ lw_all := lw_g (lw_at lw_m4 228 rfl) rfl
theorem q1017 : (Jvm.Cond.instanceMethod ({ cls := "ShipSways", name := "wetted", desc := "(I)I" } : Jvm.MethodName)) ∈ lw_all := lw_g (lw_at lw_m4 230 rfl) rfl
theorem q1018 : (Jvm.Cond.selects "ShipSways" ({ cls := "ShipSways", name := "wetted", desc := "(I)I" } : Jvm.MethodName) ({ cls := "ShipSways", name := "wetted", desc := "(I)I" } : Jvm.MethodName)) ∈ lw_all := lw_g (lw_at lw_m4 231 rfl) rfl
theorem q1019 : (Jvm.Cond.code ({ cls := "ShipSways", name := "wetted", desc := "(I)I" } : Jvm.MethodName) prog_1_method_51_code (2 : Nat) (Option.some Jvm.ClassFile.FieldType.int)) ∈ lw_all := lw_g (lw_at lw_m4 232 rfl) rfl
theorem q1544 : (Jvm.Cond.castable "ShipSways" "java/lang/Object") ∈ lw_tbl := lw_at lw_m7 37 rfl
theorem in_X0 : ∀ w ∈ wsX00, w ∈ lw_all := lw_in wsX00 [231, 233, 235, 237, 239, 241, 243, 245, 247, 249, 251, 253, 255, 257, 259, 261, 263, 265, 267, 269, 271, 273, 275, 277, 279, 281] (by decide +kernel) (by decide +kernel)
/-! ShipSways$Ship -/
def RX1 : String := "ShipSways$Ship"
def TX1 : u_T := fun k => match k with
  | 0 => ("ShipSways$Ship", "places", "[I", true)
  | 1 => ("ShipSways$Ship", "parts", "[I", true)
  | 2 => ("ShipSways$Ship", "wetted", "[I", true)
  | 3 => ("ShipSways$Ship", "wet", "[Z", true)
  | 4 => ("ShipSways$Ship", "slope", "I", false)
  | 5 => ("ShipSways$Ship", "speed", "I", false)
  | 6 => ("ShipSways$Ship", "force", "I", false)
  | 7 => ("ShipSways$Ship", "tick", "I", false)
  | 8 => ("ShipSways$Ship", "sick", "I", false)
  | 9 => ("ShipSways$Ship", "worked", "I", false)
  | 10 => ("ShipSways$Ship", "greatest", "I", false)
  | 11 => ("ShipSways$Ship", "isOver", "Z", false)
  | 12 => ("ShipSways$Ship", "hadLevel", "Z", false)
  | _ => ("ShipSways$Ship", "this$0", "LShipSways;", true)
def tyX1 : Nat → FieldType := fun k => match k with
  | 0 => .array .int
  | 1 => .array .int
  | 2 => .array .int
  | 3 => .array .boolean
  | 4 => .int
  | 5 => .int
  | 6 => .int
  | 7 => .int
  | 8 => .int
  | 9 => .int
  | 10 => .int
  | 11 => .boolean
  | 12 => .boolean
  | _ => .object "ShipSways"
abbrev wsX10 : List Cond := u_ws RX1 TX1 14
theorem nmX1 : ∀ a, a < 14 → ∀ b, b < 14 → a ≠ b → (TX1 a).2.1 ≠ (TX1 b).2.1 := by decide +kernel
theorem tyX1_ok : ∀ k, k < 14 → parseFieldDescriptor (TX1 k).2.2.1 = some (tyX1 k) := by decide +kernel
abbrev cX1_init : ByteArray := prog_4_method_1_code
def yX1_init : MethodName := ⟨RX1, "<init>", "(LShipSways;)V"⟩
abbrev cX1_goesOn : ByteArray := prog_4_method_7_code
def yX1_goesOn : MethodName := ⟨RX1, "goesOn", "()V"⟩
abbrev cX1_sways : ByteArray := prog_4_method_8_code
def yX1_sways : MethodName := ⟨RX1, "sways", "()V"⟩
abbrev cX1_slides : ByteArray := prog_4_method_4_code
def yX1_slides : MethodName := ⟨RX1, "slides", "()V"⟩
abbrev cX1_pushes : ByteArray := prog_4_method_5_code
def yX1_pushes : MethodName := ⟨RX1, "pushes", "(I)V"⟩
abbrev cX1_holds : ByteArray := prog_4_method_3_code
def yX1_holds : MethodName := ⟨RX1, "holds", "(I)Z"⟩
abbrev cX1_wets : ByteArray := prog_4_method_6_code
def yX1_wets : MethodName := ⟨RX1, "wets", "()V"⟩
abbrev cX1_copy : ByteArray := prog_4_method_2_code
def yX1_copy : MethodName := ⟨RX1, "copy", "(LShipSways$Ship;)V"⟩
abbrev cX1_goes : ByteArray := prog_4_method_9_code
def yX1_goes : MethodName := ⟨RX1, "goes", "(I)V"⟩
theorem q72 : (Jvm.Cond.initialized "ShipSways$Ship") ∈ lw_all := lw_g (lw_at lw_m1 5 rfl) rfl
theorem q131 : (Jvm.Cond.instantiable "ShipSways$Ship" (14 : Nat)) ∈ lw_all := lw_g (lw_at lw_m1 64 rfl) rfl
theorem q133 : (Jvm.Cond.instanceMethod ({ cls := "ShipSways$Ship", name := "<init>", desc := "(LShipSways;)V" } : Jvm.MethodName)) ∈ lw_all := lw_g (lw_at lw_m1 66 rfl) rfl
theorem q134 : (Jvm.Cond.code ({ cls := "ShipSways$Ship", name := "<init>", desc := "(LShipSways;)V" } : Jvm.MethodName) prog_4_method_1_code (2 : Nat) (Option.none : Option Jvm.ClassFile.FieldType)) ∈ lw_all := lw_g (lw_at lw_m1 67 rfl) rfl
theorem q135 : (Jvm.Cond.methodLink "ShipSways$Ship" (9 : Nat) ({ cls := "java/lang/Object", name := "<init>", desc := "()V" } : Jvm.MethodName)) ∈ lw_all := lw_g (lw_at lw_m1 68 rfl) rfl
theorem q136 : (Jvm.Cond.fieldLink "ShipSways$Ship" (15 : Nat) "ShipSways$Ship" "places" "[I") ∈ lw_all := lw_g (lw_at lw_m1 69 rfl) rfl
theorem q138 : (Jvm.Cond.fieldLink "ShipSways$Ship" (19 : Nat) "ShipSways$Ship" "parts" "[I") ∈ lw_all := lw_g (lw_at lw_m1 71 rfl) rfl
theorem q140 : (Jvm.Cond.fieldLink "ShipSways$Ship" (22 : Nat) "ShipSways$Ship" "wetted" "[I") ∈ lw_all := lw_g (lw_at lw_m1 73 rfl) rfl
theorem q142 : (Jvm.Cond.fieldLink "ShipSways$Ship" (25 : Nat) "ShipSways$Ship" "wet" "[Z") ∈ lw_all := lw_g (lw_at lw_m1 75 rfl) rfl
theorem q143 : (Jvm.Cond.fieldLink "ShipSways$Ship" (35 : Nat) "ShipSways$Ship" "slope" "I") ∈ lw_all := lw_g (lw_at lw_m1 76 rfl) rfl
theorem q145 : (Jvm.Cond.fieldLink "ShipSways$Ship" (39 : Nat) "ShipSways$Ship" "speed" "I") ∈ lw_all := lw_g (lw_at lw_m1 78 rfl) rfl
theorem q147 : (Jvm.Cond.fieldLink "ShipSways$Ship" (139 : Nat) "ShipSways$Ship" "force" "I") ∈ lw_all := lw_g (lw_at lw_m1 80 rfl) rfl
theorem q149 : (Jvm.Cond.fieldLink "ShipSways$Ship" (42 : Nat) "ShipSways$Ship" "tick" "I") ∈ lw_all := lw_g (lw_at lw_m1 82 rfl) rfl
theorem q151 : (Jvm.Cond.fieldLink "ShipSways$Ship" (45 : Nat) "ShipSways$Ship" "sick" "I") ∈ lw_all := lw_g (lw_at lw_m1 84 rfl) rfl
theorem q153 : (Jvm.Cond.fieldLink "ShipSways$Ship" (48 : Nat) "ShipSways$Ship" "worked" "I") ∈ lw_all := lw_g (lw_at lw_m1 86 rfl) rfl
theorem q155 : (Jvm.Cond.fieldLink "ShipSways$Ship" (61 : Nat) "ShipSways$Ship" "greatest" "I") ∈ lw_all := lw_g (lw_at lw_m1 88 rfl) rfl
theorem q157 : (Jvm.Cond.fieldLink "ShipSways$Ship" (51 : Nat) "ShipSways$Ship" "isOver" "Z") ∈ lw_all := lw_g (lw_at lw_m1 90 rfl) rfl
theorem q159 : (Jvm.Cond.fieldLink "ShipSways$Ship" (152 : Nat) "ShipSways$Ship" "hadLevel" "Z") ∈ lw_all := lw_g (lw_at lw_m1 92 rfl) rfl
theorem q161 : (Jvm.Cond.fieldLink "ShipSways$Ship" (3 : Nat) "ShipSways$Ship" "this$0" "LShipSways;") ∈ lw_all := lw_g (lw_at lw_m1 94 rfl) rfl
theorem q162 : (Jvm.Cond.laysFinal "ShipSways$Ship" "ShipSways$Ship" "places" "[I") ∈ lw_all := lw_g (lw_at lw_m1 95 rfl) rfl
theorem q163 : (Jvm.Cond.soleField "ShipSways$Ship" "places") ∈ lw_all := lw_g (lw_at lw_m1 96 rfl) rfl
theorem q164 : (Jvm.Cond.laysFinal "ShipSways$Ship" "ShipSways$Ship" "parts" "[I") ∈ lw_all := lw_g (lw_at lw_m1 97 rfl) rfl
theorem q165 : (Jvm.Cond.soleField "ShipSways$Ship" "parts") ∈ lw_all := lw_g (lw_at lw_m1 98 rfl) rfl
theorem q166 : (Jvm.Cond.laysFinal "ShipSways$Ship" "ShipSways$Ship" "wetted" "[I") ∈ lw_all := lw_g (lw_at lw_m1 99 rfl) rfl
theorem q167 : (Jvm.Cond.soleField "ShipSways$Ship" "wetted") ∈ lw_all := lw_g (lw_at lw_m1 100 rfl) rfl
theorem q168 : (Jvm.Cond.laysFinal "ShipSways$Ship" "ShipSways$Ship" "wet" "[Z") ∈ lw_all := lw_g (lw_at lw_m1 101 rfl) rfl
theorem q169 : (Jvm.Cond.soleField "ShipSways$Ship" "wet") ∈ lw_all := lw_g (lw_at lw_m1 102 rfl) rfl
theorem q170 : (Jvm.Cond.lays "ShipSways$Ship" "ShipSways$Ship" "slope" "I") ∈ lw_all := lw_g (lw_at lw_m1 103 rfl) rfl
theorem q171 : (Jvm.Cond.soleField "ShipSways$Ship" "slope") ∈ lw_all := lw_g (lw_at lw_m1 104 rfl) rfl
theorem q172 : (Jvm.Cond.lays "ShipSways$Ship" "ShipSways$Ship" "speed" "I") ∈ lw_all := lw_g (lw_at lw_m1 105 rfl) rfl
theorem q173 : (Jvm.Cond.soleField "ShipSways$Ship" "speed") ∈ lw_all := lw_g (lw_at lw_m1 106 rfl) rfl
theorem q174 : (Jvm.Cond.lays "ShipSways$Ship" "ShipSways$Ship" "force" "I") ∈ lw_all := lw_g (lw_at lw_m1 107 rfl) rfl
theorem q175 : (Jvm.Cond.soleField "ShipSways$Ship" "force") ∈ lw_all := lw_g (lw_at lw_m1 108 rfl) rfl
theorem q176 : (Jvm.Cond.lays "ShipSways$Ship" "ShipSways$Ship" "tick" "I") ∈ lw_all := lw_g (lw_at lw_m1 109 rfl) rfl
theorem q177 : (Jvm.Cond.soleField "ShipSways$Ship" "tick") ∈ lw_all := lw_g (lw_at lw_m1 110 rfl) rfl
theorem q178 : (Jvm.Cond.lays "ShipSways$Ship" "ShipSways$Ship" "sick" "I") ∈ lw_all := lw_g (lw_at lw_m1 111 rfl) rfl
theorem q179 : (Jvm.Cond.soleField "ShipSways$Ship" "sick") ∈ lw_all := lw_g (lw_at lw_m1 112 rfl) rfl
theorem q180 : (Jvm.Cond.lays "ShipSways$Ship" "ShipSways$Ship" "worked" "I") ∈ lw_all := lw_g (lw_at lw_m1 113 rfl) rfl
theorem q181 : (Jvm.Cond.soleField "ShipSways$Ship" "worked") ∈ lw_all := lw_g (lw_at lw_m1 114 rfl) rfl
theorem q182 : (Jvm.Cond.lays "ShipSways$Ship" "ShipSways$Ship" "greatest" "I") ∈ lw_all := lw_g (lw_at lw_m1 115 rfl) rfl
theorem q183 : (Jvm.Cond.soleField "ShipSways$Ship" "greatest") ∈ lw_all := lw_g (lw_at lw_m1 116 rfl) rfl
theorem q184 : (Jvm.Cond.lays "ShipSways$Ship" "ShipSways$Ship" "isOver" "Z") ∈ lw_all := lw_g (lw_at lw_m1 117 rfl) rfl
theorem q185 : (Jvm.Cond.soleField "ShipSways$Ship" "isOver") ∈ lw_all := lw_g (lw_at lw_m1 118 rfl) rfl
theorem q186 : (Jvm.Cond.lays "ShipSways$Ship" "ShipSways$Ship" "hadLevel" "Z") ∈ lw_all := lw_g (lw_at lw_m1 119 rfl) rfl
theorem q187 : (Jvm.Cond.soleField "ShipSways$Ship" "hadLevel") ∈ lw_all := lw_g (lw_at lw_m1 120 rfl) rfl
theorem q188 : (Jvm.Cond.laysFinal "ShipSways$Ship" "ShipSways$Ship" "this$0" "LShipSways;") ∈ lw_all := lw_g (lw_at lw_m1 121 rfl) rfl
theorem q189 : (Jvm.Cond.soleField "ShipSways$Ship" "this$0") ∈ lw_all := lw_g (lw_at lw_m1 122 rfl) rfl
theorem q190 : (Jvm.Cond.superclass "ShipSways$Ship" "java/lang/Object") ∈ lw_all := lw_g (lw_at lw_m1 123 rfl) rfl
theorem q196 : (Jvm.Cond.fieldLinkNest "ShipSways$Ship" (95 : Nat) "ShipSways" "ruling" "[[LShipSways$Mark;" "ShipSways") ∈ lw_tbl := lw_at lw_m1 129 rfl
theorem q199 : (Jvm.Cond.fieldLinkNest "ShipSways$Ship" (99 : Nat) "ShipSways" "heap" "[I" "ShipSways") ∈ lw_tbl := lw_at lw_m1 132 rfl
theorem q200 : (Jvm.Cond.fieldLinkNest "ShipSways$Ship" (64 : Nat) "ShipSways" "names" "[I" "ShipSways") ∈ lw_tbl := lw_at lw_m1 133 rfl
theorem q204 : (Jvm.Cond.fieldLinkNest "ShipSways$Ship" (73 : Nat) "ShipSways" "weights" "Ljava/util/ArrayList;" "ShipSways") ∈ lw_tbl := lw_at lw_m1 137 rfl
theorem q208 : (Jvm.Cond.fieldLinkNest "ShipSways$Ship" (149 : Nat) "ShipSways" "markPlace" "[I" "ShipSways") ∈ lw_tbl := lw_at lw_m1 141 rfl
theorem q210 : (Jvm.Cond.fieldLinkNest "ShipSways$Ship" (146 : Nat) "ShipSways" "markHeight" "[I" "ShipSways") ∈ lw_tbl := lw_at lw_m1 143 rfl
theorem q211 : (Jvm.Cond.fieldLinkNest "ShipSways$Ship" (70 : Nat) "ShipSways" "marks" "I" "ShipSways") ∈ lw_tbl := lw_at lw_m1 144 rfl
theorem q214 : (Jvm.Cond.fieldLinkNest "ShipSways$Ship" (122 : Nat) "ShipSways" "stiff" "I" "ShipSways") ∈ lw_tbl := lw_at lw_m1 147 rfl
theorem q216 : (Jvm.Cond.fieldLinkNest "ShipSways$Ship" (125 : Nat) "ShipSways" "slow" "I" "ShipSways") ∈ lw_tbl := lw_at lw_m1 149 rfl
theorem q218 : (Jvm.Cond.fieldLinkNest "ShipSways$Ship" (165 : Nat) "ShipSways" "inert" "I" "ShipSways") ∈ lw_tbl := lw_at lw_m1 151 rfl
theorem q219 : (Jvm.Cond.fieldLinkNest "ShipSways$Ship" (132 : Nat) "ShipSways" "fins" "I" "ShipSways") ∈ lw_tbl := lw_at lw_m1 152 rfl
theorem q566 : (Jvm.Cond.selects "ShipSways$Ship" ({ cls := "java/lang/Object", name := "getClass", desc := "()Ljava/lang/Class;" } : Jvm.MethodName) ({ cls := "java/lang/Object", name := "getClass", desc := "()Ljava/lang/Class;" } : Jvm.MethodName)) ∈ lw_all := lw_g (lw_at lw_m3 19 rfl) rfl
theorem q677 : (Jvm.Cond.fieldLinkNest "ShipSways$Ship" (92 : Nat) "ShipSways$Weight" "told" "I" "ShipSways") ∈ lw_tbl := lw_at lw_m3 130 rfl
theorem q681 : (Jvm.Cond.fieldLinkNest "ShipSways$Ship" (108 : Nat) "ShipSways$Weight" "mark" "I" "ShipSways") ∈ lw_tbl := lw_at lw_m3 134 rfl
theorem q682 : (Jvm.Cond.fieldLinkNest "ShipSways$Ship" (89 : Nat) "ShipSways$Weight" "isGone" "Z" "ShipSways") ∈ lw_tbl := lw_at lw_m3 135 rfl
theorem q848 : (Jvm.Cond.instanceMethod ({ cls := "ShipSways$Ship", name := "goesOn", desc := "()V" } : Jvm.MethodName)) ∈ lw_all := lw_g (lw_at lw_m4 61 rfl) rfl
theorem q849 : (Jvm.Cond.selects "ShipSways$Ship" ({ cls := "ShipSways$Ship", name := "goesOn", desc := "()V" } : Jvm.MethodName) ({ cls := "ShipSways$Ship", name := "goesOn", desc := "()V" } : Jvm.MethodName)) ∈ lw_all := lw_g (lw_at lw_m4 62 rfl) rfl
theorem q850 : (Jvm.Cond.code ({ cls := "ShipSways$Ship", name := "goesOn", desc := "()V" } : Jvm.MethodName) prog_4_method_7_code (1 : Nat) (Option.none : Option Jvm.ClassFile.FieldType)) ∈ lw_all := lw_g (lw_at lw_m4 63 rfl) rfl
theorem q851 : (Jvm.Cond.methodLink "ShipSways$Ship" (155 : Nat) ({ cls := "ShipSways$Ship", name := "sways", desc := "()V" } : Jvm.MethodName)) ∈ lw_all := lw_g (lw_at lw_m4 64 rfl) rfl
theorem q852 : (Jvm.Cond.privateMethod ({ cls := "ShipSways$Ship", name := "sways", desc := "()V" } : Jvm.MethodName)) ∈ lw_tbl := lw_at lw_m4 65 rfl
theorem q853 : (Jvm.Cond.instanceMethod ({ cls := "ShipSways$Ship", name := "sways", desc := "()V" } : Jvm.MethodName)) ∈ lw_all := lw_g (lw_at lw_m4 66 rfl) rfl
theorem q854 : (Jvm.Cond.code ({ cls := "ShipSways$Ship", name := "sways", desc := "()V" } : Jvm.MethodName) prog_4_method_8_code (2 : Nat) (Option.none : Option Jvm.ClassFile.FieldType)) ∈ lw_all := lw_g (lw_at lw_m4 67 rfl) rfl
theorem q855 : (Jvm.Cond.methodLink "ShipSways$Ship" (158 : Nat) ({ cls := "ShipSways$Ship", name := "slides", desc := "()V" } : Jvm.MethodName)) ∈ lw_all := lw_g (lw_at lw_m4 68 rfl) rfl
theorem q856 : (Jvm.Cond.privateMethod ({ cls := "ShipSways$Ship", name := "slides", desc := "()V" } : Jvm.MethodName)) ∈ lw_tbl := lw_at lw_m4 69 rfl
theorem q857 : (Jvm.Cond.instanceMethod ({ cls := "ShipSways$Ship", name := "slides", desc := "()V" } : Jvm.MethodName)) ∈ lw_all := lw_g (lw_at lw_m4 70 rfl) rfl
theorem q858 : (Jvm.Cond.code ({ cls := "ShipSways$Ship", name := "slides", desc := "()V" } : Jvm.MethodName) prog_4_method_4_code (3 : Nat) (Option.none : Option Jvm.ClassFile.FieldType)) ∈ lw_all := lw_g (lw_at lw_m4 71 rfl) rfl
theorem q859 : (Jvm.Cond.methodLink "ShipSways$Ship" (77 : Nat) ({ cls := "java/util/ArrayList", name := "size", desc := "()I" } : Jvm.MethodName)) ∈ lw_all := lw_g (lw_at lw_m4 72 rfl) rfl
theorem q860 : (Jvm.Cond.methodLink "ShipSways$Ship" (83 : Nat) ({ cls := "java/util/ArrayList", name := "get", desc := "(I)Ljava/lang/Object;" } : Jvm.MethodName)) ∈ lw_all := lw_g (lw_at lw_m4 73 rfl) rfl
theorem q861 : (Jvm.Cond.classLink "ShipSways$Ship" (87 : Nat) "ShipSways$Weight") ∈ lw_all := lw_g (lw_at lw_m4 74 rfl) rfl
theorem q862 : (Jvm.Cond.methodLink "ShipSways$Ship" (111 : Nat) ({ cls := "java/lang/Math", name := "min", desc := "(II)I" } : Jvm.MethodName)) ∈ lw_all := lw_g (lw_at lw_m4 75 rfl) rfl
theorem q863 : (Jvm.Cond.methodLink "ShipSways$Ship" (115 : Nat) ({ cls := "java/lang/Math", name := "max", desc := "(II)I" } : Jvm.MethodName)) ∈ lw_all := lw_g (lw_at lw_m4 76 rfl) rfl
theorem q864 : (Jvm.Cond.methodLinkNest "ShipSways$Ship" (142 : Nat) ({ cls := "ShipSways", name := "level", desc := "(I)I" } : Jvm.MethodName) "ShipSways") ∈ lw_tbl := lw_at lw_m4 77 rfl
theorem q865 : (Jvm.Cond.constant "ShipSways$Ship" (145 : Nat) (-2147483648 : Int32)) ∈ lw_all := lw_g (lw_at lw_m4 78 rfl) rfl
theorem q866 : (Jvm.Cond.methodLink "ShipSways$Ship" (161 : Nat) ({ cls := "ShipSways$Ship", name := "pushes", desc := "(I)V" } : Jvm.MethodName)) ∈ lw_all := lw_g (lw_at lw_m4 79 rfl) rfl
theorem q867 : (Jvm.Cond.privateMethod ({ cls := "ShipSways$Ship", name := "pushes", desc := "(I)V" } : Jvm.MethodName)) ∈ lw_tbl := lw_at lw_m4 80 rfl
theorem q868 : (Jvm.Cond.instanceMethod ({ cls := "ShipSways$Ship", name := "pushes", desc := "(I)V" } : Jvm.MethodName)) ∈ lw_all := lw_g (lw_at lw_m4 81 rfl) rfl
theorem q869 : (Jvm.Cond.code ({ cls := "ShipSways$Ship", name := "pushes", desc := "(I)V" } : Jvm.MethodName) prog_4_method_5_code (2 : Nat) (Option.none : Option Jvm.ClassFile.FieldType)) ∈ lw_all := lw_g (lw_at lw_m4 82 rfl) rfl
theorem q870 : (Jvm.Cond.methodLinkNest "ShipSways$Ship" (118 : Nat) ({ cls := "ShipSways", name := "arm", desc := "(II[I)I" } : Jvm.MethodName) "ShipSways") ∈ lw_tbl := lw_at lw_m4 83 rfl
theorem q871 : (Jvm.Cond.methodLinkNest "ShipSways$Ship" (67 : Nat) ({ cls := "ShipSways", name := "seaAt", desc := "(I)I" } : Jvm.MethodName) "ShipSways") ∈ lw_tbl := lw_at lw_m4 84 rfl
theorem q872 : (Jvm.Cond.methodLink "ShipSways$Ship" (128 : Nat) ({ cls := "ShipSways$Ship", name := "holds", desc := "(I)Z" } : Jvm.MethodName)) ∈ lw_all := lw_g (lw_at lw_m4 85 rfl) rfl
theorem q873 : (Jvm.Cond.instanceMethod ({ cls := "ShipSways$Ship", name := "holds", desc := "(I)Z" } : Jvm.MethodName)) ∈ lw_all := lw_g (lw_at lw_m4 86 rfl) rfl
theorem q874 : (Jvm.Cond.selects "ShipSways$Ship" ({ cls := "ShipSways$Ship", name := "holds", desc := "(I)Z" } : Jvm.MethodName) ({ cls := "ShipSways$Ship", name := "holds", desc := "(I)Z" } : Jvm.MethodName)) ∈ lw_all := lw_g (lw_at lw_m4 87 rfl) rfl
theorem q875 : (Jvm.Cond.code ({ cls := "ShipSways$Ship", name := "holds", desc := "(I)Z" } : Jvm.MethodName) prog_4_method_3_code (4 : Nat) (Option.some Jvm.ClassFile.FieldType.boolean)) ∈ lw_all := lw_g (lw_at lw_m4 88 rfl) rfl
theorem q876 : (Jvm.Cond.methodLink "ShipSways$Ship" (102 : Nat) ({ cls := "ShipSways$Mark", name := "does", desc := "([II[I)I" } : Jvm.MethodName)) ∈ lw_all := lw_g (lw_at lw_m4 89 rfl) rfl
theorem q900 : (Jvm.Cond.methodLinkNest "ShipSways$Ship" (135 : Nat) ({ cls := "ShipSways", name := "brought", desc := "(JI)I" } : Jvm.MethodName) "ShipSways") ∈ lw_tbl := lw_at lw_m4 113 rfl
theorem q905 : (Jvm.Cond.methodLinkNest "ShipSways$Ship" (168 : Nat) ({ cls := "ShipSways", name := "faster", desc := "(III)I" } : Jvm.MethodName) "ShipSways") ∈ lw_tbl := lw_at lw_m4 118 rfl
theorem q909 : (Jvm.Cond.methodLink "ShipSways$Ship" (55 : Nat) ({ cls := "java/lang/Math", name := "abs", desc := "(I)I" } : Jvm.MethodName)) ∈ lw_all := lw_g (lw_at lw_m4 122 rfl) rfl
theorem q912 : (Jvm.Cond.methodLink "ShipSways$Ship" (172 : Nat) ({ cls := "ShipSways$Ship", name := "wets", desc := "()V" } : Jvm.MethodName)) ∈ lw_all := lw_g (lw_at lw_m4 125 rfl) rfl
theorem q913 : (Jvm.Cond.privateMethod ({ cls := "ShipSways$Ship", name := "wets", desc := "()V" } : Jvm.MethodName)) ∈ lw_tbl := lw_at lw_m4 126 rfl
theorem q914 : (Jvm.Cond.instanceMethod ({ cls := "ShipSways$Ship", name := "wets", desc := "()V" } : Jvm.MethodName)) ∈ lw_all := lw_g (lw_at lw_m4 127 rfl) rfl
theorem q915 : (Jvm.Cond.code ({ cls := "ShipSways$Ship", name := "wets", desc := "()V" } : Jvm.MethodName) prog_4_method_6_code (4 : Nat) (Option.none : Option Jvm.ClassFile.FieldType)) ∈ lw_all := lw_g (lw_at lw_m4 128 rfl) rfl
theorem q940 : (Jvm.Cond.instanceMethod ({ cls := "ShipSways$Ship", name := "copy", desc := "(LShipSways$Ship;)V" } : Jvm.MethodName)) ∈ lw_all := lw_g (lw_at lw_m4 153 rfl) rfl
theorem q941 : (Jvm.Cond.selects "ShipSways$Ship" ({ cls := "ShipSways$Ship", name := "copy", desc := "(LShipSways$Ship;)V" } : Jvm.MethodName) ({ cls := "ShipSways$Ship", name := "copy", desc := "(LShipSways$Ship;)V" } : Jvm.MethodName)) ∈ lw_all := lw_g (lw_at lw_m4 154 rfl) rfl
theorem q942 : (Jvm.Cond.code ({ cls := "ShipSways$Ship", name := "copy", desc := "(LShipSways$Ship;)V" } : Jvm.MethodName) prog_4_method_2_code (2 : Nat) (Option.none : Option Jvm.ClassFile.FieldType)) ∈ lw_all := lw_g (lw_at lw_m4 155 rfl) rfl
theorem q943 : (Jvm.Cond.methodLink "ShipSways$Ship" (29 : Nat) ({ cls := "java/lang/System", name := "arraycopy", desc := "(Ljava/lang/Object;ILjava/lang/Object;II)V" } : Jvm.MethodName)) ∈ lw_all := lw_g (lw_at lw_m4 156 rfl) rfl
theorem q945 : (Jvm.Cond.instanceMethod ({ cls := "ShipSways$Ship", name := "goes", desc := "(I)V" } : Jvm.MethodName)) ∈ lw_all := lw_g (lw_at lw_m4 158 rfl) rfl
theorem q946 : (Jvm.Cond.selects "ShipSways$Ship" ({ cls := "ShipSways$Ship", name := "goes", desc := "(I)V" } : Jvm.MethodName) ({ cls := "ShipSways$Ship", name := "goes", desc := "(I)V" } : Jvm.MethodName)) ∈ lw_all := lw_g (lw_at lw_m4 159 rfl) rfl
theorem q947 : (Jvm.Cond.code ({ cls := "ShipSways$Ship", name := "goes", desc := "(I)V" } : Jvm.MethodName) prog_4_method_9_code (3 : Nat) (Option.none : Option Jvm.ClassFile.FieldType)) ∈ lw_all := lw_g (lw_at lw_m4 160 rfl) rfl
theorem q948 : (Jvm.Cond.methodLink "ShipSways$Ship" (175 : Nat) ({ cls := "ShipSways$Ship", name := "goesOn", desc := "()V" } : Jvm.MethodName)) ∈ lw_all := lw_g (lw_at lw_m4 161 rfl) rfl
theorem q1546 : (Jvm.Cond.castable "ShipSways$Ship" "java/lang/Object") ∈ lw_tbl := lw_at lw_m7 39 rfl
theorem in_X1 : ∀ w ∈ wsX10, w ∈ lw_all := lw_in wsX10 [162, 164, 166, 168, 170, 172, 174, 176, 178, 180, 182, 184, 186, 188] (by decide +kernel) (by decide +kernel)
/-! ShipSways$Value -/
def RX10 : String := "ShipSways$Value"
def TX10 : u_T := fun k => match k with
  | 0 => ("ShipSways$Value", "value", "I", true)
  | _ => ("ShipSways$Value", "isName", "Z", true)
def tyX10 : Nat → FieldType := fun k => match k with
  | 0 => .int
  | _ => .boolean
abbrev wsX100 : List Cond := u_ws RX10 TX10 2
theorem nmX10 : ∀ a, a < 2 → ∀ b, b < 2 → a ≠ b → (TX10 a).2.1 ≠ (TX10 b).2.1 := by decide +kernel
theorem tyX10_ok : ∀ k, k < 2 → parseFieldDescriptor (TX10 k).2.2.1 = some (tyX10 k) := by decide +kernel
abbrev cX10_init : ByteArray := prog_8_method_1_code
def yX10_init : MethodName := ⟨RX10, "<init>", "(IZ)V"⟩
abbrev cX10_does : ByteArray := prog_8_method_2_code
def yX10_does : MethodName := ⟨RX10, "does", "([II[I)I"⟩
theorem q91 : (Jvm.Cond.initialized "ShipSways$Value") ∈ lw_all := lw_g (lw_at lw_m1 24 rfl) rfl
theorem q570 : (Jvm.Cond.selects "ShipSways$Value" ({ cls := "java/lang/Object", name := "getClass", desc := "()Ljava/lang/Class;" } : Jvm.MethodName) ({ cls := "java/lang/Object", name := "getClass", desc := "()Ljava/lang/Class;" } : Jvm.MethodName)) ∈ lw_all := lw_g (lw_at lw_m3 23 rfl) rfl
theorem q599 : (Jvm.Cond.instantiable "ShipSways$Value" (2 : Nat)) ∈ lw_all := lw_g (lw_at lw_m3 52 rfl) rfl
theorem q601 : (Jvm.Cond.instanceMethod ({ cls := "ShipSways$Value", name := "<init>", desc := "(IZ)V" } : Jvm.MethodName)) ∈ lw_all := lw_g (lw_at lw_m3 54 rfl) rfl
theorem q602 : (Jvm.Cond.code ({ cls := "ShipSways$Value", name := "<init>", desc := "(IZ)V" } : Jvm.MethodName) prog_8_method_1_code (3 : Nat) (Option.none : Option Jvm.ClassFile.FieldType)) ∈ lw_all := lw_g (lw_at lw_m3 55 rfl) rfl
theorem q603 : (Jvm.Cond.methodLinkNest "ShipSways$Value" (1 : Nat) ({ cls := "ShipSways$Mark", name := "<init>", desc := "()V" } : Jvm.MethodName) "ShipSways") ∈ lw_tbl := lw_at lw_m3 56 rfl
theorem q604 : (Jvm.Cond.fieldLink "ShipSways$Value" (7 : Nat) "ShipSways$Value" "value" "I") ∈ lw_all := lw_g (lw_at lw_m3 57 rfl) rfl
theorem q605 : (Jvm.Cond.fieldLink "ShipSways$Value" (13 : Nat) "ShipSways$Value" "isName" "Z") ∈ lw_all := lw_g (lw_at lw_m3 58 rfl) rfl
theorem q606 : (Jvm.Cond.laysFinal "ShipSways$Value" "ShipSways$Value" "value" "I") ∈ lw_all := lw_g (lw_at lw_m3 59 rfl) rfl
theorem q607 : (Jvm.Cond.soleField "ShipSways$Value" "value") ∈ lw_all := lw_g (lw_at lw_m3 60 rfl) rfl
theorem q608 : (Jvm.Cond.laysFinal "ShipSways$Value" "ShipSways$Value" "isName" "Z") ∈ lw_all := lw_g (lw_at lw_m3 61 rfl) rfl
theorem q609 : (Jvm.Cond.soleField "ShipSways$Value" "isName") ∈ lw_all := lw_g (lw_at lw_m3 62 rfl) rfl
theorem q610 : (Jvm.Cond.superclass "ShipSways$Value" "ShipSways$Mark") ∈ lw_all := lw_g (lw_at lw_m3 63 rfl) rfl
theorem q897 : (Jvm.Cond.selects "ShipSways$Value" ({ cls := "ShipSways$Mark", name := "does", desc := "([II[I)I" } : Jvm.MethodName) ({ cls := "ShipSways$Value", name := "does", desc := "([II[I)I" } : Jvm.MethodName)) ∈ lw_all := lw_g (lw_at lw_m4 110 rfl) rfl
theorem q898 : (Jvm.Cond.instanceMethod ({ cls := "ShipSways$Value", name := "does", desc := "([II[I)I" } : Jvm.MethodName)) ∈ lw_all := lw_g (lw_at lw_m4 111 rfl) rfl
theorem q899 : (Jvm.Cond.code ({ cls := "ShipSways$Value", name := "does", desc := "([II[I)I" } : Jvm.MethodName) prog_8_method_2_code (4 : Nat) (Option.some Jvm.ClassFile.FieldType.int)) ∈ lw_all := lw_g (lw_at lw_m4 112 rfl) rfl
theorem q1541 : (Jvm.Cond.castable "ShipSways$Value" "ShipSways$Mark") ∈ lw_tbl := lw_at lw_m7 34 rfl
theorem q1554 : (Jvm.Cond.castable "ShipSways$Value" "java/lang/Object") ∈ lw_tbl := lw_at lw_m7 47 rfl
theorem in_X10 : ∀ w ∈ wsX100, w ∈ lw_all := lw_in wsX100 [606, 608] (by decide +kernel) (by decide +kernel)
/-! ShipSwaysModel -/
def RX2 : String := "ShipSwaysModel"
def TX2 : u_T := fun k => match k with
  | 0 => ("ShipSwaysModel", "sines", "[I", true)
  | 1 => ("ShipSwaysModel", "slices", "I", false)
  | 2 => ("ShipSwaysModel", "length", "[I", true)
  | 3 => ("ShipSwaysModel", "half", "[I", true)
  | 4 => ("ShipSwaysModel", "weights", "I", false)
  | 5 => ("ShipSwaysModel", "mass", "[I", true)
  | 6 => ("ShipSwaysModel", "toldPlace", "[I", true)
  | 7 => ("ShipSwaysModel", "height", "[I", true)
  | 8 => ("ShipSwaysModel", "loose", "[I", true)
  | 9 => ("ShipSwaysModel", "isLost", "[Z", true)
  | 10 => ("ShipSwaysModel", "tanks", "I", false)
  | 11 => ("ShipSwaysModel", "wide", "[I", true)
  | 12 => ("ShipSwaysModel", "tankHeight", "[I", true)
  | 13 => ("ShipSwaysModel", "holds", "[I", true)
  | 14 => ("ShipSwaysModel", "has", "[I", true)
  | 15 => ("ShipSwaysModel", "marks", "I", false)
  | 16 => ("ShipSwaysModel", "markPlace", "[I", true)
  | 17 => ("ShipSwaysModel", "markHeight", "[I", true)
  | 18 => ("ShipSwaysModel", "waves", "I", false)
  | 19 => ("ShipSwaysModel", "waveHeight", "[I", true)
  | 20 => ("ShipSwaysModel", "wavePeriod", "[I", true)
  | 21 => ("ShipSwaysModel", "wavePhase", "[I", true)
  | 22 => ("ShipSwaysModel", "stiff", "I", false)
  | 23 => ("ShipSwaysModel", "slow", "I", false)
  | 24 => ("ShipSwaysModel", "inert", "I", false)
  | 25 => ("ShipSwaysModel", "fins", "I", false)
  | 26 => ("ShipSwaysModel", "now", "I", false)
  | 27 => ("ShipSwaysModel", "place", "[I", true)
  | 28 => ("ShipSwaysModel", "slope", "[I", true)
  | 29 => ("ShipSwaysModel", "speed", "[I", true)
  | 30 => ("ShipSwaysModel", "sick", "[I", true)
  | 31 => ("ShipSwaysModel", "worked", "[I", true)
  | 32 => ("ShipSwaysModel", "isOver", "[Z", true)
  | 33 => ("ShipSwaysModel", "isWet", "[Z", true)
  | 34 => ("ShipSwaysModel", "wetted", "[I", true)
  | 35 => ("ShipSwaysModel", "part", "[I", true)
  | 36 => ("ShipSwaysModel", "keptSlope", "[I", true)
  | 37 => ("ShipSwaysModel", "keptSpeed", "[I", true)
  | 38 => ("ShipSwaysModel", "keptForce", "[I", true)
  | 39 => ("ShipSwaysModel", "keptInert", "[I", true)
  | 40 => ("ShipSwaysModel", "isWhole", "[Z", true)
  | 41 => ("ShipSwaysModel", "hours", "I", false)
  | 42 => ("ShipSwaysModel", "hourHeight", "[I", true)
  | 43 => ("ShipSwaysModel", "hourPeriod", "[I", true)
  | 44 => ("ShipSwaysModel", "own", "I", false)
  | 45 => ("ShipSwaysModel", "numbers", "I", false)
  | 46 => ("ShipSwaysModel", "numberOf", "[I", true)
  | 47 => ("ShipSwaysModel", "text", "[B", true)
  | 48 => ("ShipSwaysModel", "size", "I", false)
  | 49 => ("ShipSwaysModel", "at", "I", false)
  | 50 => ("ShipSwaysModel", "token", "I", false)
  | 51 => ("ShipSwaysModel", "tokenAt", "I", false)
  | 52 => ("ShipSwaysModel", "tokenValue", "I", false)
  | 53 => ("ShipSwaysModel", "toCome", "[I", true)
  | 54 => ("ShipSwaysModel", "coming", "I", false)
  | 55 => ("ShipSwaysModel", "deep", "I", false)
  | 56 => ("ShipSwaysModel", "clause", "I", false)
  | 57 => ("ShipSwaysModel", "does", "[I", true)
  | 58 => ("ShipSwaysModel", "doesWith", "[I", true)
  | 59 => ("ShipSwaysModel", "doing", "I", false)
  | 60 => ("ShipSwaysModel", "begin", "[I", true)
  | 61 => ("ShipSwaysModel", "close", "[I", true)
  | 62 => ("ShipSwaysModel", "ruleDoes", "[I", true)
  | 63 => ("ShipSwaysModel", "ruleWith", "[I", true)
  | 64 => ("ShipSwaysModel", "ruleBegin", "[I", true)
  | 65 => ("ShipSwaysModel", "ruleEnd", "[I", true)
  | 66 => ("ShipSwaysModel", "pushes", "I", false)
  | 67 => ("ShipSwaysModel", "pushed", "J", false)
  | 68 => ("ShipSwaysModel", "arms", "[J", true)
  | 69 => ("ShipSwaysModel", "hasArm", "[Z", true)
  | 70 => ("ShipSwaysModel", "force", "I", false)
  | 71 => ("ShipSwaysModel", "names", "[I", true)
  | 72 => ("ShipSwaysModel", "heap", "[I", true)
  | 73 => ("ShipSwaysModel", "greatest", "I", false)
  | _ => ("ShipSwaysModel", "least", "[I", true)
def tyX2 : Nat → FieldType := fun k => match k with
  | 0 => .array .int
  | 1 => .int
  | 2 => .array .int
  | 3 => .array .int
  | 4 => .int
  | 5 => .array .int
  | 6 => .array .int
  | 7 => .array .int
  | 8 => .array .int
  | 9 => .array .boolean
  | 10 => .int
  | 11 => .array .int
  | 12 => .array .int
  | 13 => .array .int
  | 14 => .array .int
  | 15 => .int
  | 16 => .array .int
  | 17 => .array .int
  | 18 => .int
  | 19 => .array .int
  | 20 => .array .int
  | 21 => .array .int
  | 22 => .int
  | 23 => .int
  | 24 => .int
  | 25 => .int
  | 26 => .int
  | 27 => .array .int
  | 28 => .array .int
  | 29 => .array .int
  | 30 => .array .int
  | 31 => .array .int
  | 32 => .array .boolean
  | 33 => .array .boolean
  | 34 => .array .int
  | 35 => .array .int
  | 36 => .array .int
  | 37 => .array .int
  | 38 => .array .int
  | 39 => .array .int
  | 40 => .array .boolean
  | 41 => .int
  | 42 => .array .int
  | 43 => .array .int
  | 44 => .int
  | 45 => .int
  | 46 => .array .int
  | 47 => .array .byte
  | 48 => .int
  | 49 => .int
  | 50 => .int
  | 51 => .int
  | 52 => .int
  | 53 => .array .int
  | 54 => .int
  | 55 => .int
  | 56 => .int
  | 57 => .array .int
  | 58 => .array .int
  | 59 => .int
  | 60 => .array .int
  | 61 => .array .int
  | 62 => .array .int
  | 63 => .array .int
  | 64 => .array .int
  | 65 => .array .int
  | 66 => .int
  | 67 => .long
  | 68 => .array .long
  | 69 => .array .boolean
  | 70 => .int
  | 71 => .array .int
  | 72 => .array .int
  | 73 => .int
  | _ => .array .int
abbrev wsX20 : List Cond := u_ws RX2 TX2 75
theorem nmX2 : ∀ a, a < 75 → ∀ b, b < 75 → a ≠ b → (TX2 a).2.1 ≠ (TX2 b).2.1 := by decide +kernel
theorem tyX2_ok : ∀ k, k < 75 → parseFieldDescriptor (TX2 k).2.2.1 = some (tyX2 k) := by decide +kernel
abbrev cX2_init : ByteArray := prog_12_method_1_code
def yX2_init : MethodName := ⟨RX2, "<init>", "()V"⟩
abbrev cX2_slice : ByteArray := prog_12_method_4_code
def yX2_slice : MethodName := ⟨RX2, "slice", "(III)I"⟩
abbrev cX2_in : ByteArray := prog_12_method_2_code
def yX2_in : MethodName := ⟨RX2, "in", "(III)Z"⟩
abbrev cX2_weight : ByteArray := prog_12_method_5_code
def yX2_weight : MethodName := ⟨RX2, "weight", "(IIII)I"⟩
abbrev cX2_lose : ByteArray := prog_12_method_7_code
def yX2_lose : MethodName := ⟨RX2, "lose", "(I)Z"⟩
abbrev cX2_isWeight : ByteArray := prog_12_method_6_code
def yX2_isWeight : MethodName := ⟨RX2, "isWeight", "(I)Z"⟩
abbrev cX2_tank : ByteArray := prog_12_method_8_code
def yX2_tank : MethodName := ⟨RX2, "tank", "(III)I"⟩
abbrev cX2_fill : ByteArray := prog_12_method_9_code
def yX2_fill : MethodName := ⟨RX2, "fill", "(II)Z"⟩
abbrev cX2_mark : ByteArray := prog_12_method_10_code
def yX2_mark : MethodName := ⟨RX2, "mark", "(II)I"⟩
abbrev cX2_at : ByteArray := prog_12_method_16_code
def yX2_at : MethodName := ⟨RX2, "at", "(II)I"⟩
abbrev cX2_levelAt : ByteArray := prog_12_method_13_code
def yX2_levelAt : MethodName := ⟨RX2, "levelAt", "(I)I"⟩
abbrev cX2_heavy : ByteArray := prog_12_method_11_code
def yX2_heavy : MethodName := ⟨RX2, "heavy", "()I"⟩
abbrev cX2_wets : ByteArray := prog_12_method_12_code
def yX2_wets : MethodName := ⟨RX2, "wets", "(II)V"⟩
abbrev cX2_armAt : ByteArray := prog_12_method_15_code
def yX2_armAt : MethodName := ⟨RX2, "armAt", "(II)J"⟩
abbrev cX2_floor : ByteArray := prog_12_method_14_code
def yX2_floor : MethodName := ⟨RX2, "floor", "(JJ)J"⟩
abbrev cX2_rest : ByteArray := prog_12_method_18_code
def yX2_rest : MethodName := ⟨RX2, "rest", "(I)I"⟩
abbrev cX2_restOf : ByteArray := prog_12_method_17_code
def yX2_restOf : MethodName := ⟨RX2, "restOf", "(IZ)I"⟩
abbrev cX2_stays : ByteArray := prog_12_method_19_code
def yX2_stays : MethodName := ⟨RX2, "stays", "(I)I"⟩
abbrev cX2_wave : ByteArray := prog_12_method_20_code
def yX2_wave : MethodName := ⟨RX2, "wave", "(III)I"⟩
abbrev cX2_sea : ByteArray := prog_12_method_23_code
def yX2_sea : MethodName := ⟨RX2, "sea", "(I)I"⟩
abbrev cX2_seaIn : ByteArray := prog_12_method_22_code
def yX2_seaIn : MethodName := ⟨RX2, "seaIn", "(I)I"⟩
abbrev cX2_sineOf : ByteArray := prog_12_method_21_code
def yX2_sineOf : MethodName := ⟨RX2, "sineOf", "(II)I"⟩
abbrev cX2_set : ByteArray := prog_12_method_24_code
def yX2_set : MethodName := ⟨RX2, "set", "(II)Z"⟩
abbrev cX2_go : ByteArray := prog_12_method_27_code
def yX2_go : MethodName := ⟨RX2, "go", "(I)I"⟩
abbrev cX2_goesOn : ByteArray := prog_12_method_26_code
def yX2_goesOn : MethodName := ⟨RX2, "goesOn", "(III)Z"⟩
abbrev cX2_slides : ByteArray := prog_12_method_25_code
def yX2_slides : MethodName := ⟨RX2, "slides", "(I)V"⟩
abbrev cX2_isSo : ByteArray := prog_12_method_53_code
def yX2_isSo : MethodName := ⟨RX2, "isSo", "(III)Z"⟩
abbrev cX2_of : ByteArray := prog_12_method_54_code
def yX2_of : MethodName := ⟨RX2, "of", "(III)I"⟩
abbrev cX2_bounded : ByteArray := prog_12_method_3_code
def yX2_bounded : MethodName := ⟨RX2, "bounded", "(JI)I"⟩
abbrev cX2_kept : ByteArray := prog_12_method_28_code
def yX2_kept : MethodName := ⟨RX2, "kept", "(II)I"⟩
abbrev cX2_lead : ByteArray := prog_12_method_29_code
def yX2_lead : MethodName := ⟨RX2, "lead", "(I)I"⟩
abbrev cX2_feed : ByteArray := prog_12_method_30_code
def yX2_feed : MethodName := ⟨RX2, "feed", "(IIIII)I"⟩
abbrev cX2_end : ByteArray := prog_12_method_31_code
def yX2_end : MethodName := ⟨RX2, "end", "(I)Z"⟩
abbrev cX2_fault : ByteArray := prog_12_method_51_code
def yX2_fault : MethodName := ⟨RX2, "fault", "()I"⟩
abbrev cX2_reads : ByteArray := prog_12_method_50_code
def yX2_reads : MethodName := ⟨RX2, "reads", "()I"⟩
abbrev cX2_next : ByteArray := prog_12_method_35_code
def yX2_next : MethodName := ⟨RX2, "next", "()V"⟩
abbrev cX2_isLetter : ByteArray := prog_12_method_32_code
def yX2_isLetter : MethodName := ⟨RX2, "isLetter", "(I)Z"⟩
abbrev cX2_wordAt : ByteArray := prog_12_method_34_code
def yX2_wordAt : MethodName := ⟨RX2, "wordAt", "(II)I"⟩
abbrev cX2_isDigit : ByteArray := prog_12_method_33_code
def yX2_isDigit : MethodName := ⟨RX2, "isDigit", "(I)Z"⟩
abbrev cX2_push : ByteArray := prog_12_method_38_code
def yX2_push : MethodName := ⟨RX2, "push", "(I)V"⟩
abbrev cX2_steps : ByteArray := prog_12_method_42_code
def yX2_steps : MethodName := ⟨RX2, "steps", "(I)Z"⟩
abbrev cX2_emits : ByteArray := prog_12_method_39_code
def yX2_emits : MethodName := ⟨RX2, "emits", "(II)V"⟩
abbrev cX2_isSign : ByteArray := prog_12_method_36_code
def yX2_isSign : MethodName := ⟨RX2, "isSign", "(I)Z"⟩
abbrev cX2_takes : ByteArray := prog_12_method_40_code
def yX2_takes : MethodName := ⟨RX2, "takes", "()Z"⟩
abbrev cX2_clauses : ByteArray := prog_12_method_46_code
def yX2_clauses : MethodName := ⟨RX2, "clauses", "()Z"⟩
abbrev cX2_both : ByteArray := prog_12_method_43_code
def yX2_both : MethodName := ⟨RX2, "both", "(II)Z"⟩
abbrev cX2_more : ByteArray := prog_12_method_44_code
def yX2_more : MethodName := ⟨RX2, "more", "(IIIIII)Z"⟩
abbrev cX2_factor : ByteArray := prog_12_method_47_code
def yX2_factor : MethodName := ⟨RX2, "factor", "()Z"⟩
abbrev cX2_deeper : ByteArray := prog_12_method_41_code
def yX2_deeper : MethodName := ⟨RX2, "deeper", "()Z"⟩
abbrev cX2_moreWords : ByteArray := prog_12_method_45_code
def yX2_moreWords : MethodName := ⟨RX2, "moreWords", "(IIII)Z"⟩
abbrev cX2_isWord : ByteArray := prog_12_method_37_code
def yX2_isWord : MethodName := ⟨RX2, "isWord", "(I)Z"⟩
abbrev cX2_holdsOne : ByteArray := prog_12_method_48_code
def yX2_holdsOne : MethodName := ⟨RX2, "holdsOne", "()Z"⟩
abbrev cX2_compares : ByteArray := prog_12_method_49_code
def yX2_compares : MethodName := ⟨RX2, "compares", "()Z"⟩
abbrev cX2_rules : ByteArray := prog_12_method_52_code
def yX2_rules : MethodName := ⟨RX2, "rules", "()Z"⟩
abbrev cX2_holds : ByteArray := prog_12_method_55_code
def yX2_holds : MethodName := ⟨RX2, "holds", "(I)I"⟩
abbrev cX2_tried : ByteArray := prog_12_method_57_code
def yX2_tried : MethodName := ⟨RX2, "tried", "(II)I"⟩
abbrev cX2_tries : ByteArray := prog_12_method_56_code
def yX2_tries : MethodName := ⟨RX2, "tries", "(II)V"⟩
abbrev cX2_still : ByteArray := prog_12_method_58_code
def yX2_still : MethodName := ⟨RX2, "still", "(I)I"⟩
abbrev cX2_hour : ByteArray := prog_12_method_59_code
def yX2_hour : MethodName := ⟨RX2, "hour", "(II)I"⟩
abbrev cX2_begin : ByteArray := prog_12_method_60_code
def yX2_begin : MethodName := ⟨RX2, "begin", "(I)I"⟩
abbrev cX2_best : ByteArray := prog_12_method_63_code
def yX2_best : MethodName := ⟨RX2, "best", "(II)I"⟩
abbrev cX2_restBy : ByteArray := prog_12_method_62_code
def yX2_restBy : MethodName := ⟨RX2, "restBy", "(III)I"⟩
abbrev cX2_queasy : ByteArray := prog_12_method_61_code
def yX2_queasy : MethodName := ⟨RX2, "queasy", "(II)I"⟩
abbrev cX2_record : ByteArray := prog_12_method_64_code
def yX2_record : MethodName := ⟨RX2, "record", "(I)I"⟩
abbrev cX2_clear : ByteArray := prog_12_method_65_code
def yX2_clear : MethodName := ⟨RX2, "clear", "()I"⟩
abbrev cX2_goes : ByteArray := prog_12_method_67_code
def yX2_goes : MethodName := ⟨RX2, "goes", "(I)I"⟩
abbrev cX2_goesWith : ByteArray := prog_12_method_66_code
def yX2_goesWith : MethodName := ⟨RX2, "goesWith", "(I)I"⟩
abbrev cX2_read : ByteArray := prog_12_method_69_code
def yX2_read : MethodName := ⟨RX2, "read", "(I)I"⟩
abbrev cX2_far : ByteArray := prog_12_method_68_code
def yX2_far : MethodName := ⟨RX2, "far", "(I)I"⟩
abbrev cX2_check : ByteArray := prog_12_method_70_code
def yX2_check : MethodName := ⟨RX2, "check", "(III)I"⟩
abbrev cX2_count : ByteArray := prog_12_method_71_code
def yX2_count : MethodName := ⟨RX2, "count", "(I)I"⟩
abbrev cX2_place : ByteArray := prog_12_method_72_code
def yX2_place : MethodName := ⟨RX2, "place", "(I)I"⟩
abbrev cX2_wetted : ByteArray := prog_12_method_73_code
def yX2_wetted : MethodName := ⟨RX2, "wetted", "(I)I"⟩
theorem q73 : (Jvm.Cond.initialized "ShipSwaysModel") ∈ lw_all := lw_g (lw_at lw_m1 6 rfl) rfl
theorem q573 : (Jvm.Cond.selects "ShipSwaysModel" ({ cls := "java/lang/Object", name := "getClass", desc := "()Ljava/lang/Class;" } : Jvm.MethodName) ({ cls := "java/lang/Object", name := "getClass", desc := "()Ljava/lang/Class;" } : Jvm.MethodName)) ∈ lw_all := lw_g (lw_at lw_m3 26 rfl) rfl
theorem q1021 : (Jvm.Cond.instantiable "ShipSwaysModel" (75 : Nat)) ∈ lw_all := lw_g (lw_at lw_m4 234 rfl) rfl
theorem q1023 : (Jvm.Cond.instanceMethod ({ cls := "ShipSwaysModel", name := "<init>", desc := "()V" } : Jvm.MethodName)) ∈ lw_all := lw_g (lw_at lw_m4 236 rfl) rfl
theorem q1024 : (Jvm.Cond.code ({ cls := "ShipSwaysModel", name := "<init>", desc := "()V" } : Jvm.MethodName) prog_12_method_1_code (1 : Nat) (Option.none : Option Jvm.ClassFile.FieldType)) ∈ lw_all := lw_g (lw_at lw_m4 237 rfl) rfl
theorem q1025 : (Jvm.Cond.methodLink "ShipSwaysModel" (1 : Nat) ({ cls := "java/lang/Object", name := "<init>", desc := "()V" } : Jvm.MethodName)) ∈ lw_all := lw_g (lw_at lw_m4 238 rfl) rfl
theorem q1026 : (Jvm.Cond.fieldLink "ShipSwaysModel" (7 : Nat) "ShipSwaysModel" "sines" "[I") ∈ lw_all := lw_g (lw_at lw_m4 239 rfl) rfl
theorem q1027 : (Jvm.Cond.fieldLink "ShipSwaysModel" (178 : Nat) "ShipSwaysModel" "slices" "I") ∈ lw_all := lw_g (lw_at lw_m5 0 rfl) rfl
theorem q1028 : (Jvm.Cond.fieldLink "ShipSwaysModel" (13 : Nat) "ShipSwaysModel" "length" "[I") ∈ lw_all := lw_g (lw_at lw_m5 1 rfl) rfl
theorem q1029 : (Jvm.Cond.fieldLink "ShipSwaysModel" (16 : Nat) "ShipSwaysModel" "half" "[I") ∈ lw_all := lw_g (lw_at lw_m5 2 rfl) rfl
theorem q1030 : (Jvm.Cond.fieldLink "ShipSwaysModel" (181 : Nat) "ShipSwaysModel" "weights" "I") ∈ lw_all := lw_g (lw_at lw_m5 3 rfl) rfl
theorem q1031 : (Jvm.Cond.fieldLink "ShipSwaysModel" (19 : Nat) "ShipSwaysModel" "mass" "[I") ∈ lw_all := lw_g (lw_at lw_m5 4 rfl) rfl
theorem q1032 : (Jvm.Cond.fieldLink "ShipSwaysModel" (22 : Nat) "ShipSwaysModel" "toldPlace" "[I") ∈ lw_all := lw_g (lw_at lw_m5 5 rfl) rfl
theorem q1033 : (Jvm.Cond.fieldLink "ShipSwaysModel" (25 : Nat) "ShipSwaysModel" "height" "[I") ∈ lw_all := lw_g (lw_at lw_m5 6 rfl) rfl
theorem q1034 : (Jvm.Cond.fieldLink "ShipSwaysModel" (28 : Nat) "ShipSwaysModel" "loose" "[I") ∈ lw_all := lw_g (lw_at lw_m5 7 rfl) rfl
theorem q1035 : (Jvm.Cond.fieldLink "ShipSwaysModel" (31 : Nat) "ShipSwaysModel" "isLost" "[Z") ∈ lw_all := lw_g (lw_at lw_m5 8 rfl) rfl
theorem q1036 : (Jvm.Cond.fieldLink "ShipSwaysModel" (188 : Nat) "ShipSwaysModel" "tanks" "I") ∈ lw_all := lw_g (lw_at lw_m5 9 rfl) rfl
theorem q1037 : (Jvm.Cond.fieldLink "ShipSwaysModel" (35 : Nat) "ShipSwaysModel" "wide" "[I") ∈ lw_all := lw_g (lw_at lw_m5 10 rfl) rfl
theorem q1038 : (Jvm.Cond.fieldLink "ShipSwaysModel" (38 : Nat) "ShipSwaysModel" "tankHeight" "[I") ∈ lw_all := lw_g (lw_at lw_m5 11 rfl) rfl
theorem q1039 : (Jvm.Cond.fieldLink "ShipSwaysModel" (41 : Nat) "ShipSwaysModel" "holds" "[I") ∈ lw_all := lw_g (lw_at lw_m5 12 rfl) rfl
theorem q1040 : (Jvm.Cond.fieldLink "ShipSwaysModel" (44 : Nat) "ShipSwaysModel" "has" "[I") ∈ lw_all := lw_g (lw_at lw_m5 13 rfl) rfl
theorem q1041 : (Jvm.Cond.fieldLink "ShipSwaysModel" (191 : Nat) "ShipSwaysModel" "marks" "I") ∈ lw_all := lw_g (lw_at lw_m5 14 rfl) rfl
theorem q1042 : (Jvm.Cond.fieldLink "ShipSwaysModel" (47 : Nat) "ShipSwaysModel" "markPlace" "[I") ∈ lw_all := lw_g (lw_at lw_m5 15 rfl) rfl
theorem q1043 : (Jvm.Cond.fieldLink "ShipSwaysModel" (50 : Nat) "ShipSwaysModel" "markHeight" "[I") ∈ lw_all := lw_g (lw_at lw_m5 16 rfl) rfl
theorem q1044 : (Jvm.Cond.fieldLink "ShipSwaysModel" (226 : Nat) "ShipSwaysModel" "waves" "I") ∈ lw_all := lw_g (lw_at lw_m5 17 rfl) rfl
theorem q1045 : (Jvm.Cond.fieldLink "ShipSwaysModel" (53 : Nat) "ShipSwaysModel" "waveHeight" "[I") ∈ lw_all := lw_g (lw_at lw_m5 18 rfl) rfl
theorem q1046 : (Jvm.Cond.fieldLink "ShipSwaysModel" (56 : Nat) "ShipSwaysModel" "wavePeriod" "[I") ∈ lw_all := lw_g (lw_at lw_m5 19 rfl) rfl
theorem q1047 : (Jvm.Cond.fieldLink "ShipSwaysModel" (59 : Nat) "ShipSwaysModel" "wavePhase" "[I") ∈ lw_all := lw_g (lw_at lw_m5 20 rfl) rfl
theorem q1048 : (Jvm.Cond.fieldLink "ShipSwaysModel" (62 : Nat) "ShipSwaysModel" "stiff" "I") ∈ lw_all := lw_g (lw_at lw_m5 21 rfl) rfl
theorem q1049 : (Jvm.Cond.fieldLink "ShipSwaysModel" (66 : Nat) "ShipSwaysModel" "slow" "I") ∈ lw_all := lw_g (lw_at lw_m5 22 rfl) rfl
theorem q1050 : (Jvm.Cond.fieldLink "ShipSwaysModel" (69 : Nat) "ShipSwaysModel" "inert" "I") ∈ lw_all := lw_g (lw_at lw_m5 23 rfl) rfl
theorem q1051 : (Jvm.Cond.fieldLink "ShipSwaysModel" (237 : Nat) "ShipSwaysModel" "fins" "I") ∈ lw_all := lw_g (lw_at lw_m5 24 rfl) rfl
theorem q1052 : (Jvm.Cond.fieldLink "ShipSwaysModel" (254 : Nat) "ShipSwaysModel" "now" "I") ∈ lw_all := lw_g (lw_at lw_m5 25 rfl) rfl
theorem q1053 : (Jvm.Cond.fieldLink "ShipSwaysModel" (72 : Nat) "ShipSwaysModel" "place" "[I") ∈ lw_all := lw_g (lw_at lw_m5 26 rfl) rfl
theorem q1054 : (Jvm.Cond.fieldLink "ShipSwaysModel" (75 : Nat) "ShipSwaysModel" "slope" "[I") ∈ lw_all := lw_g (lw_at lw_m5 27 rfl) rfl
theorem q1055 : (Jvm.Cond.fieldLink "ShipSwaysModel" (78 : Nat) "ShipSwaysModel" "speed" "[I") ∈ lw_all := lw_g (lw_at lw_m5 28 rfl) rfl
theorem q1056 : (Jvm.Cond.fieldLink "ShipSwaysModel" (81 : Nat) "ShipSwaysModel" "sick" "[I") ∈ lw_all := lw_g (lw_at lw_m5 29 rfl) rfl
theorem q1057 : (Jvm.Cond.fieldLink "ShipSwaysModel" (84 : Nat) "ShipSwaysModel" "worked" "[I") ∈ lw_all := lw_g (lw_at lw_m5 30 rfl) rfl
theorem q1058 : (Jvm.Cond.fieldLink "ShipSwaysModel" (87 : Nat) "ShipSwaysModel" "isOver" "[Z") ∈ lw_all := lw_g (lw_at lw_m5 31 rfl) rfl
theorem q1059 : (Jvm.Cond.fieldLink "ShipSwaysModel" (90 : Nat) "ShipSwaysModel" "isWet" "[Z") ∈ lw_all := lw_g (lw_at lw_m5 32 rfl) rfl
theorem q1060 : (Jvm.Cond.fieldLink "ShipSwaysModel" (93 : Nat) "ShipSwaysModel" "wetted" "[I") ∈ lw_all := lw_g (lw_at lw_m5 33 rfl) rfl
theorem q1061 : (Jvm.Cond.fieldLink "ShipSwaysModel" (96 : Nat) "ShipSwaysModel" "part" "[I") ∈ lw_all := lw_g (lw_at lw_m5 34 rfl) rfl
theorem q1062 : (Jvm.Cond.fieldLink "ShipSwaysModel" (99 : Nat) "ShipSwaysModel" "keptSlope" "[I") ∈ lw_all := lw_g (lw_at lw_m5 35 rfl) rfl
theorem q1063 : (Jvm.Cond.fieldLink "ShipSwaysModel" (102 : Nat) "ShipSwaysModel" "keptSpeed" "[I") ∈ lw_all := lw_g (lw_at lw_m5 36 rfl) rfl
theorem q1064 : (Jvm.Cond.fieldLink "ShipSwaysModel" (105 : Nat) "ShipSwaysModel" "keptForce" "[I") ∈ lw_all := lw_g (lw_at lw_m5 37 rfl) rfl
theorem q1065 : (Jvm.Cond.fieldLink "ShipSwaysModel" (108 : Nat) "ShipSwaysModel" "keptInert" "[I") ∈ lw_all := lw_g (lw_at lw_m5 38 rfl) rfl
theorem q1066 : (Jvm.Cond.fieldLink "ShipSwaysModel" (111 : Nat) "ShipSwaysModel" "isWhole" "[Z") ∈ lw_all := lw_g (lw_at lw_m5 39 rfl) rfl
theorem q1067 : (Jvm.Cond.fieldLink "ShipSwaysModel" (368 : Nat) "ShipSwaysModel" "hours" "I") ∈ lw_all := lw_g (lw_at lw_m5 40 rfl) rfl
theorem q1068 : (Jvm.Cond.fieldLink "ShipSwaysModel" (114 : Nat) "ShipSwaysModel" "hourHeight" "[I") ∈ lw_all := lw_g (lw_at lw_m5 41 rfl) rfl
theorem q1069 : (Jvm.Cond.fieldLink "ShipSwaysModel" (117 : Nat) "ShipSwaysModel" "hourPeriod" "[I") ∈ lw_all := lw_g (lw_at lw_m5 42 rfl) rfl
theorem q1070 : (Jvm.Cond.fieldLink "ShipSwaysModel" (120 : Nat) "ShipSwaysModel" "own" "I") ∈ lw_all := lw_g (lw_at lw_m5 43 rfl) rfl
theorem q1071 : (Jvm.Cond.fieldLink "ShipSwaysModel" (377 : Nat) "ShipSwaysModel" "numbers" "I") ∈ lw_all := lw_g (lw_at lw_m5 44 rfl) rfl
theorem q1072 : (Jvm.Cond.fieldLink "ShipSwaysModel" (123 : Nat) "ShipSwaysModel" "numberOf" "[I") ∈ lw_all := lw_g (lw_at lw_m5 45 rfl) rfl
theorem q1073 : (Jvm.Cond.fieldLink "ShipSwaysModel" (126 : Nat) "ShipSwaysModel" "text" "[B") ∈ lw_all := lw_g (lw_at lw_m5 46 rfl) rfl
theorem q1074 : (Jvm.Cond.fieldLink "ShipSwaysModel" (260 : Nat) "ShipSwaysModel" "size" "I") ∈ lw_all := lw_g (lw_at lw_m5 47 rfl) rfl
theorem q1075 : (Jvm.Cond.fieldLink "ShipSwaysModel" (273 : Nat) "ShipSwaysModel" "at" "I") ∈ lw_all := lw_g (lw_at lw_m5 48 rfl) rfl
theorem q1076 : (Jvm.Cond.fieldLink "ShipSwaysModel" (282 : Nat) "ShipSwaysModel" "token" "I") ∈ lw_all := lw_g (lw_at lw_m5 49 rfl) rfl
theorem q1077 : (Jvm.Cond.fieldLink "ShipSwaysModel" (276 : Nat) "ShipSwaysModel" "tokenAt" "I") ∈ lw_all := lw_g (lw_at lw_m5 50 rfl) rfl
theorem q1078 : (Jvm.Cond.fieldLink "ShipSwaysModel" (279 : Nat) "ShipSwaysModel" "tokenValue" "I") ∈ lw_all := lw_g (lw_at lw_m5 51 rfl) rfl
theorem q1079 : (Jvm.Cond.fieldLink "ShipSwaysModel" (130 : Nat) "ShipSwaysModel" "toCome" "[I") ∈ lw_all := lw_g (lw_at lw_m5 52 rfl) rfl
theorem q1080 : (Jvm.Cond.fieldLink "ShipSwaysModel" (294 : Nat) "ShipSwaysModel" "coming" "I") ∈ lw_all := lw_g (lw_at lw_m5 53 rfl) rfl
theorem q1081 : (Jvm.Cond.fieldLink "ShipSwaysModel" (303 : Nat) "ShipSwaysModel" "deep" "I") ∈ lw_all := lw_g (lw_at lw_m5 54 rfl) rfl
theorem q1082 : (Jvm.Cond.fieldLink "ShipSwaysModel" (343 : Nat) "ShipSwaysModel" "clause" "I") ∈ lw_all := lw_g (lw_at lw_m5 55 rfl) rfl
theorem q1083 : (Jvm.Cond.fieldLink "ShipSwaysModel" (133 : Nat) "ShipSwaysModel" "does" "[I") ∈ lw_all := lw_g (lw_at lw_m5 56 rfl) rfl
theorem q1084 : (Jvm.Cond.fieldLink "ShipSwaysModel" (136 : Nat) "ShipSwaysModel" "doesWith" "[I") ∈ lw_all := lw_g (lw_at lw_m5 57 rfl) rfl
theorem q1085 : (Jvm.Cond.fieldLink "ShipSwaysModel" (297 : Nat) "ShipSwaysModel" "doing" "I") ∈ lw_all := lw_g (lw_at lw_m5 58 rfl) rfl
theorem q1086 : (Jvm.Cond.fieldLink "ShipSwaysModel" (139 : Nat) "ShipSwaysModel" "begin" "[I") ∈ lw_all := lw_g (lw_at lw_m5 59 rfl) rfl
theorem q1087 : (Jvm.Cond.fieldLink "ShipSwaysModel" (142 : Nat) "ShipSwaysModel" "close" "[I") ∈ lw_all := lw_g (lw_at lw_m5 60 rfl) rfl
theorem q1088 : (Jvm.Cond.fieldLink "ShipSwaysModel" (145 : Nat) "ShipSwaysModel" "ruleDoes" "[I") ∈ lw_all := lw_g (lw_at lw_m5 61 rfl) rfl
theorem q1089 : (Jvm.Cond.fieldLink "ShipSwaysModel" (148 : Nat) "ShipSwaysModel" "ruleWith" "[I") ∈ lw_all := lw_g (lw_at lw_m5 62 rfl) rfl
theorem q1090 : (Jvm.Cond.fieldLink "ShipSwaysModel" (151 : Nat) "ShipSwaysModel" "ruleBegin" "[I") ∈ lw_all := lw_g (lw_at lw_m5 63 rfl) rfl
theorem q1091 : (Jvm.Cond.fieldLink "ShipSwaysModel" (154 : Nat) "ShipSwaysModel" "ruleEnd" "[I") ∈ lw_all := lw_g (lw_at lw_m5 64 rfl) rfl
theorem q1092 : (Jvm.Cond.fieldLink "ShipSwaysModel" (194 : Nat) "ShipSwaysModel" "pushes" "I") ∈ lw_all := lw_g (lw_at lw_m5 65 rfl) rfl
theorem q1093 : (Jvm.Cond.fieldLink "ShipSwaysModel" (197 : Nat) "ShipSwaysModel" "pushed" "J") ∈ lw_all := lw_g (lw_at lw_m5 66 rfl) rfl
theorem q1094 : (Jvm.Cond.fieldLink "ShipSwaysModel" (157 : Nat) "ShipSwaysModel" "arms" "[J") ∈ lw_all := lw_g (lw_at lw_m5 67 rfl) rfl
theorem q1095 : (Jvm.Cond.fieldLink "ShipSwaysModel" (161 : Nat) "ShipSwaysModel" "hasArm" "[Z") ∈ lw_all := lw_g (lw_at lw_m5 68 rfl) rfl
theorem q1096 : (Jvm.Cond.fieldLink "ShipSwaysModel" (240 : Nat) "ShipSwaysModel" "force" "I") ∈ lw_all := lw_g (lw_at lw_m5 69 rfl) rfl
theorem q1097 : (Jvm.Cond.fieldLink "ShipSwaysModel" (164 : Nat) "ShipSwaysModel" "names" "[I") ∈ lw_all := lw_g (lw_at lw_m5 70 rfl) rfl
theorem q1098 : (Jvm.Cond.fieldLink "ShipSwaysModel" (167 : Nat) "ShipSwaysModel" "heap" "[I") ∈ lw_all := lw_g (lw_at lw_m5 71 rfl) rfl
theorem q1099 : (Jvm.Cond.fieldLink "ShipSwaysModel" (362 : Nat) "ShipSwaysModel" "greatest" "I") ∈ lw_all := lw_g (lw_at lw_m5 72 rfl) rfl
theorem q1100 : (Jvm.Cond.fieldLink "ShipSwaysModel" (170 : Nat) "ShipSwaysModel" "least" "[I") ∈ lw_all := lw_g (lw_at lw_m5 73 rfl) rfl
theorem q1101 : (Jvm.Cond.laysFinal "ShipSwaysModel" "ShipSwaysModel" "sines" "[I") ∈ lw_all := lw_g (lw_at lw_m5 74 rfl) rfl
theorem q1102 : (Jvm.Cond.soleField "ShipSwaysModel" "sines") ∈ lw_all := lw_g (lw_at lw_m5 75 rfl) rfl
theorem q1103 : (Jvm.Cond.lays "ShipSwaysModel" "ShipSwaysModel" "slices" "I") ∈ lw_all := lw_g (lw_at lw_m5 76 rfl) rfl
theorem q1104 : (Jvm.Cond.soleField "ShipSwaysModel" "slices") ∈ lw_all := lw_g (lw_at lw_m5 77 rfl) rfl
theorem q1105 : (Jvm.Cond.laysFinal "ShipSwaysModel" "ShipSwaysModel" "length" "[I") ∈ lw_all := lw_g (lw_at lw_m5 78 rfl) rfl
theorem q1106 : (Jvm.Cond.soleField "ShipSwaysModel" "length") ∈ lw_all := lw_g (lw_at lw_m5 79 rfl) rfl
theorem q1107 : (Jvm.Cond.laysFinal "ShipSwaysModel" "ShipSwaysModel" "half" "[I") ∈ lw_all := lw_g (lw_at lw_m5 80 rfl) rfl
theorem q1108 : (Jvm.Cond.soleField "ShipSwaysModel" "half") ∈ lw_all := lw_g (lw_at lw_m5 81 rfl) rfl
theorem q1109 : (Jvm.Cond.lays "ShipSwaysModel" "ShipSwaysModel" "weights" "I") ∈ lw_all := lw_g (lw_at lw_m5 82 rfl) rfl
theorem q1110 : (Jvm.Cond.soleField "ShipSwaysModel" "weights") ∈ lw_all := lw_g (lw_at lw_m5 83 rfl) rfl
theorem q1111 : (Jvm.Cond.laysFinal "ShipSwaysModel" "ShipSwaysModel" "mass" "[I") ∈ lw_all := lw_g (lw_at lw_m5 84 rfl) rfl
theorem q1112 : (Jvm.Cond.soleField "ShipSwaysModel" "mass") ∈ lw_all := lw_g (lw_at lw_m5 85 rfl) rfl
theorem q1113 : (Jvm.Cond.laysFinal "ShipSwaysModel" "ShipSwaysModel" "toldPlace" "[I") ∈ lw_all := lw_g (lw_at lw_m5 86 rfl) rfl
theorem q1114 : (Jvm.Cond.soleField "ShipSwaysModel" "toldPlace") ∈ lw_all := lw_g (lw_at lw_m5 87 rfl) rfl
theorem q1115 : (Jvm.Cond.laysFinal "ShipSwaysModel" "ShipSwaysModel" "height" "[I") ∈ lw_all := lw_g (lw_at lw_m5 88 rfl) rfl
theorem q1116 : (Jvm.Cond.soleField "ShipSwaysModel" "height") ∈ lw_all := lw_g (lw_at lw_m5 89 rfl) rfl
theorem q1117 : (Jvm.Cond.laysFinal "ShipSwaysModel" "ShipSwaysModel" "loose" "[I") ∈ lw_all := lw_g (lw_at lw_m5 90 rfl) rfl
theorem q1118 : (Jvm.Cond.soleField "ShipSwaysModel" "loose") ∈ lw_all := lw_g (lw_at lw_m5 91 rfl) rfl
theorem q1119 : (Jvm.Cond.laysFinal "ShipSwaysModel" "ShipSwaysModel" "isLost" "[Z") ∈ lw_all := lw_g (lw_at lw_m5 92 rfl) rfl
theorem q1120 : (Jvm.Cond.soleField "ShipSwaysModel" "isLost") ∈ lw_all := lw_g (lw_at lw_m5 93 rfl) rfl
theorem q1121 : (Jvm.Cond.lays "ShipSwaysModel" "ShipSwaysModel" "tanks" "I") ∈ lw_all := lw_g (lw_at lw_m5 94 rfl) rfl
theorem q1122 : (Jvm.Cond.soleField "ShipSwaysModel" "tanks") ∈ lw_all := lw_g (lw_at lw_m5 95 rfl) rfl
theorem q1123 : (Jvm.Cond.laysFinal "ShipSwaysModel" "ShipSwaysModel" "wide" "[I") ∈ lw_all := lw_g (lw_at lw_m5 96 rfl) rfl
theorem q1124 : (Jvm.Cond.soleField "ShipSwaysModel" "wide") ∈ lw_all := lw_g (lw_at lw_m5 97 rfl) rfl
theorem q1125 : (Jvm.Cond.laysFinal "ShipSwaysModel" "ShipSwaysModel" "tankHeight" "[I") ∈ lw_all := lw_g (lw_at lw_m5 98 rfl) rfl
theorem q1126 : (Jvm.Cond.soleField "ShipSwaysModel" "tankHeight") ∈ lw_all := lw_g (lw_at lw_m5 99 rfl) rfl
theorem q1127 : (Jvm.Cond.laysFinal "ShipSwaysModel" "ShipSwaysModel" "holds" "[I") ∈ lw_all := lw_g (lw_at lw_m5 100 rfl) rfl
theorem q1128 : (Jvm.Cond.soleField "ShipSwaysModel" "holds") ∈ lw_all := lw_g (lw_at lw_m5 101 rfl) rfl
theorem q1129 : (Jvm.Cond.laysFinal "ShipSwaysModel" "ShipSwaysModel" "has" "[I") ∈ lw_all := lw_g (lw_at lw_m5 102 rfl) rfl
theorem q1130 : (Jvm.Cond.soleField "ShipSwaysModel" "has") ∈ lw_all := lw_g (lw_at lw_m5 103 rfl) rfl
theorem q1131 : (Jvm.Cond.lays "ShipSwaysModel" "ShipSwaysModel" "marks" "I") ∈ lw_all := lw_g (lw_at lw_m5 104 rfl) rfl
theorem q1132 : (Jvm.Cond.soleField "ShipSwaysModel" "marks") ∈ lw_all := lw_g (lw_at lw_m5 105 rfl) rfl
theorem q1133 : (Jvm.Cond.laysFinal "ShipSwaysModel" "ShipSwaysModel" "markPlace" "[I") ∈ lw_all := lw_g (lw_at lw_m5 106 rfl) rfl
theorem q1134 : (Jvm.Cond.soleField "ShipSwaysModel" "markPlace") ∈ lw_all := lw_g (lw_at lw_m5 107 rfl) rfl
theorem q1135 : (Jvm.Cond.laysFinal "ShipSwaysModel" "ShipSwaysModel" "markHeight" "[I") ∈ lw_all := lw_g (lw_at lw_m5 108 rfl) rfl
theorem q1136 : (Jvm.Cond.soleField "ShipSwaysModel" "markHeight") ∈ lw_all := lw_g (lw_at lw_m5 109 rfl) rfl
theorem q1137 : (Jvm.Cond.lays "ShipSwaysModel" "ShipSwaysModel" "waves" "I") ∈ lw_all := lw_g (lw_at lw_m5 110 rfl) rfl
theorem q1138 : (Jvm.Cond.soleField "ShipSwaysModel" "waves") ∈ lw_all := lw_g (lw_at lw_m5 111 rfl) rfl
theorem q1139 : (Jvm.Cond.laysFinal "ShipSwaysModel" "ShipSwaysModel" "waveHeight" "[I") ∈ lw_all := lw_g (lw_at lw_m5 112 rfl) rfl
theorem q1140 : (Jvm.Cond.soleField "ShipSwaysModel" "waveHeight") ∈ lw_all := lw_g (lw_at lw_m5 113 rfl) rfl
theorem q1141 : (Jvm.Cond.laysFinal "ShipSwaysModel" "ShipSwaysModel" "wavePeriod" "[I") ∈ lw_all := lw_g (lw_at lw_m5 114 rfl) rfl
theorem q1142 : (Jvm.Cond.soleField "ShipSwaysModel" "wavePeriod") ∈ lw_all := lw_g (lw_at lw_m5 115 rfl) rfl
theorem q1143 : (Jvm.Cond.laysFinal "ShipSwaysModel" "ShipSwaysModel" "wavePhase" "[I") ∈ lw_all := lw_g (lw_at lw_m5 116 rfl) rfl
theorem q1144 : (Jvm.Cond.soleField "ShipSwaysModel" "wavePhase") ∈ lw_all := lw_g (lw_at lw_m5 117 rfl) rfl
theorem q1145 : (Jvm.Cond.lays "ShipSwaysModel" "ShipSwaysModel" "stiff" "I") ∈ lw_all := lw_g (lw_at lw_m5 118 rfl) rfl
theorem q1146 : (Jvm.Cond.soleField "ShipSwaysModel" "stiff") ∈ lw_all := lw_g (lw_at lw_m5 119 rfl) rfl
theorem q1147 : (Jvm.Cond.lays "ShipSwaysModel" "ShipSwaysModel" "slow" "I") ∈ lw_all := lw_g (lw_at lw_m5 120 rfl) rfl
theorem q1148 : (Jvm.Cond.soleField "ShipSwaysModel" "slow") ∈ lw_all := lw_g (lw_at lw_m5 121 rfl) rfl
theorem q1149 : (Jvm.Cond.lays "ShipSwaysModel" "ShipSwaysModel" "inert" "I") ∈ lw_all := lw_g (lw_at lw_m5 122 rfl) rfl
theorem q1150 : (Jvm.Cond.soleField "ShipSwaysModel" "inert") ∈ lw_all := lw_g (lw_at lw_m5 123 rfl) rfl
theorem q1151 : (Jvm.Cond.lays "ShipSwaysModel" "ShipSwaysModel" "fins" "I") ∈ lw_all := lw_g (lw_at lw_m5 124 rfl) rfl
theorem q1152 : (Jvm.Cond.soleField "ShipSwaysModel" "fins") ∈ lw_all := lw_g (lw_at lw_m5 125 rfl) rfl
theorem q1153 : (Jvm.Cond.lays "ShipSwaysModel" "ShipSwaysModel" "now" "I") ∈ lw_all := lw_g (lw_at lw_m5 126 rfl) rfl
theorem q1154 : (Jvm.Cond.soleField "ShipSwaysModel" "now") ∈ lw_all := lw_g (lw_at lw_m5 127 rfl) rfl
theorem q1155 : (Jvm.Cond.laysFinal "ShipSwaysModel" "ShipSwaysModel" "place" "[I") ∈ lw_all := lw_g (lw_at lw_m5 128 rfl) rfl
theorem q1156 : (Jvm.Cond.soleField "ShipSwaysModel" "place") ∈ lw_all := lw_g (lw_at lw_m5 129 rfl) rfl
theorem q1157 : (Jvm.Cond.laysFinal "ShipSwaysModel" "ShipSwaysModel" "slope" "[I") ∈ lw_all := lw_g (lw_at lw_m5 130 rfl) rfl
theorem q1158 : (Jvm.Cond.soleField "ShipSwaysModel" "slope") ∈ lw_all := lw_g (lw_at lw_m5 131 rfl) rfl
theorem q1159 : (Jvm.Cond.laysFinal "ShipSwaysModel" "ShipSwaysModel" "speed" "[I") ∈ lw_all := lw_g (lw_at lw_m5 132 rfl) rfl
theorem q1160 : (Jvm.Cond.soleField "ShipSwaysModel" "speed") ∈ lw_all := lw_g (lw_at lw_m5 133 rfl) rfl
theorem q1161 : (Jvm.Cond.laysFinal "ShipSwaysModel" "ShipSwaysModel" "sick" "[I") ∈ lw_all := lw_g (lw_at lw_m5 134 rfl) rfl
theorem q1162 : (Jvm.Cond.soleField "ShipSwaysModel" "sick") ∈ lw_all := lw_g (lw_at lw_m5 135 rfl) rfl
theorem q1163 : (Jvm.Cond.laysFinal "ShipSwaysModel" "ShipSwaysModel" "worked" "[I") ∈ lw_all := lw_g (lw_at lw_m5 136 rfl) rfl
theorem q1164 : (Jvm.Cond.soleField "ShipSwaysModel" "worked") ∈ lw_all := lw_g (lw_at lw_m5 137 rfl) rfl
theorem q1165 : (Jvm.Cond.laysFinal "ShipSwaysModel" "ShipSwaysModel" "isOver" "[Z") ∈ lw_all := lw_g (lw_at lw_m5 138 rfl) rfl
theorem q1166 : (Jvm.Cond.soleField "ShipSwaysModel" "isOver") ∈ lw_all := lw_g (lw_at lw_m5 139 rfl) rfl
theorem q1167 : (Jvm.Cond.laysFinal "ShipSwaysModel" "ShipSwaysModel" "isWet" "[Z") ∈ lw_all := lw_g (lw_at lw_m5 140 rfl) rfl
theorem q1168 : (Jvm.Cond.soleField "ShipSwaysModel" "isWet") ∈ lw_all := lw_g (lw_at lw_m5 141 rfl) rfl
theorem q1169 : (Jvm.Cond.laysFinal "ShipSwaysModel" "ShipSwaysModel" "wetted" "[I") ∈ lw_all := lw_g (lw_at lw_m5 142 rfl) rfl
theorem q1170 : (Jvm.Cond.soleField "ShipSwaysModel" "wetted") ∈ lw_all := lw_g (lw_at lw_m5 143 rfl) rfl
theorem q1171 : (Jvm.Cond.laysFinal "ShipSwaysModel" "ShipSwaysModel" "part" "[I") ∈ lw_all := lw_g (lw_at lw_m5 144 rfl) rfl
theorem q1172 : (Jvm.Cond.soleField "ShipSwaysModel" "part") ∈ lw_all := lw_g (lw_at lw_m5 145 rfl) rfl
theorem q1173 : (Jvm.Cond.laysFinal "ShipSwaysModel" "ShipSwaysModel" "keptSlope" "[I") ∈ lw_all := lw_g (lw_at lw_m5 146 rfl) rfl
theorem q1174 : (Jvm.Cond.soleField "ShipSwaysModel" "keptSlope") ∈ lw_all := lw_g (lw_at lw_m5 147 rfl) rfl
theorem q1175 : (Jvm.Cond.laysFinal "ShipSwaysModel" "ShipSwaysModel" "keptSpeed" "[I") ∈ lw_all := lw_g (lw_at lw_m5 148 rfl) rfl
theorem q1176 : (Jvm.Cond.soleField "ShipSwaysModel" "keptSpeed") ∈ lw_all := lw_g (lw_at lw_m5 149 rfl) rfl
theorem q1177 : (Jvm.Cond.laysFinal "ShipSwaysModel" "ShipSwaysModel" "keptForce" "[I") ∈ lw_all := lw_g (lw_at lw_m5 150 rfl) rfl
theorem q1178 : (Jvm.Cond.soleField "ShipSwaysModel" "keptForce") ∈ lw_all := lw_g (lw_at lw_m5 151 rfl) rfl
theorem q1179 : (Jvm.Cond.laysFinal "ShipSwaysModel" "ShipSwaysModel" "keptInert" "[I") ∈ lw_all := lw_g (lw_at lw_m5 152 rfl) rfl
theorem q1180 : (Jvm.Cond.soleField "ShipSwaysModel" "keptInert") ∈ lw_all := lw_g (lw_at lw_m5 153 rfl) rfl
theorem q1181 : (Jvm.Cond.laysFinal "ShipSwaysModel" "ShipSwaysModel" "isWhole" "[Z") ∈ lw_all := lw_g (lw_at lw_m5 154 rfl) rfl
theorem q1182 : (Jvm.Cond.soleField "ShipSwaysModel" "isWhole") ∈ lw_all := lw_g (lw_at lw_m5 155 rfl) rfl
theorem q1183 : (Jvm.Cond.lays "ShipSwaysModel" "ShipSwaysModel" "hours" "I") ∈ lw_all := lw_g (lw_at lw_m5 156 rfl) rfl
theorem q1184 : (Jvm.Cond.soleField "ShipSwaysModel" "hours") ∈ lw_all := lw_g (lw_at lw_m5 157 rfl) rfl
theorem q1185 : (Jvm.Cond.laysFinal "ShipSwaysModel" "ShipSwaysModel" "hourHeight" "[I") ∈ lw_all := lw_g (lw_at lw_m5 158 rfl) rfl
theorem q1186 : (Jvm.Cond.soleField "ShipSwaysModel" "hourHeight") ∈ lw_all := lw_g (lw_at lw_m5 159 rfl) rfl
theorem q1187 : (Jvm.Cond.laysFinal "ShipSwaysModel" "ShipSwaysModel" "hourPeriod" "[I") ∈ lw_all := lw_g (lw_at lw_m5 160 rfl) rfl
theorem q1188 : (Jvm.Cond.soleField "ShipSwaysModel" "hourPeriod") ∈ lw_all := lw_g (lw_at lw_m5 161 rfl) rfl
theorem q1189 : (Jvm.Cond.lays "ShipSwaysModel" "ShipSwaysModel" "own" "I") ∈ lw_all := lw_g (lw_at lw_m5 162 rfl) rfl
theorem q1190 : (Jvm.Cond.soleField "ShipSwaysModel" "own") ∈ lw_all := lw_g (lw_at lw_m5 163 rfl) rfl
theorem q1191 : (Jvm.Cond.lays "ShipSwaysModel" "ShipSwaysModel" "numbers" "I") ∈ lw_all := lw_g (lw_at lw_m5 164 rfl) rfl
theorem q1192 : (Jvm.Cond.soleField "ShipSwaysModel" "numbers") ∈ lw_all := lw_g (lw_at lw_m5 165 rfl) rfl
theorem q1193 : (Jvm.Cond.laysFinal "ShipSwaysModel" "ShipSwaysModel" "numberOf" "[I") ∈ lw_all := lw_g (lw_at lw_m5 166 rfl) rfl
theorem q1194 : (Jvm.Cond.soleField "ShipSwaysModel" "numberOf") ∈ lw_all := lw_g (lw_at lw_m5 167 rfl) rfl
theorem q1195 : (Jvm.Cond.laysFinal "ShipSwaysModel" "ShipSwaysModel" "text" "[B") ∈ lw_all := lw_g (lw_at lw_m5 168 rfl) rfl
theorem q1196 : (Jvm.Cond.soleField "ShipSwaysModel" "text") ∈ lw_all := lw_g (lw_at lw_m5 169 rfl) rfl
theorem q1197 : (Jvm.Cond.lays "ShipSwaysModel" "ShipSwaysModel" "size" "I") ∈ lw_all := lw_g (lw_at lw_m5 170 rfl) rfl
theorem q1198 : (Jvm.Cond.soleField "ShipSwaysModel" "size") ∈ lw_all := lw_g (lw_at lw_m5 171 rfl) rfl
theorem q1199 : (Jvm.Cond.lays "ShipSwaysModel" "ShipSwaysModel" "at" "I") ∈ lw_all := lw_g (lw_at lw_m5 172 rfl) rfl
theorem q1200 : (Jvm.Cond.soleField "ShipSwaysModel" "at") ∈ lw_all := lw_g (lw_at lw_m5 173 rfl) rfl
theorem q1201 : (Jvm.Cond.lays "ShipSwaysModel" "ShipSwaysModel" "token" "I") ∈ lw_all := lw_g (lw_at lw_m5 174 rfl) rfl
theorem q1202 : (Jvm.Cond.soleField "ShipSwaysModel" "token") ∈ lw_all := lw_g (lw_at lw_m5 175 rfl) rfl
theorem q1203 : (Jvm.Cond.lays "ShipSwaysModel" "ShipSwaysModel" "tokenAt" "I") ∈ lw_all := lw_g (lw_at lw_m5 176 rfl) rfl
theorem q1204 : (Jvm.Cond.soleField "ShipSwaysModel" "tokenAt") ∈ lw_all := lw_g (lw_at lw_m5 177 rfl) rfl
theorem q1205 : (Jvm.Cond.lays "ShipSwaysModel" "ShipSwaysModel" "tokenValue" "I") ∈ lw_all := lw_g (lw_at lw_m5 178 rfl) rfl
theorem q1206 : (Jvm.Cond.soleField "ShipSwaysModel" "tokenValue") ∈ lw_all := lw_g (lw_at lw_m5 179 rfl) rfl
theorem q1207 : (Jvm.Cond.laysFinal "ShipSwaysModel" "ShipSwaysModel" "toCome" "[I") ∈ lw_all := lw_g (lw_at lw_m5 180 rfl) rfl
theorem q1208 : (Jvm.Cond.soleField "ShipSwaysModel" "toCome") ∈ lw_all := lw_g (lw_at lw_m5 181 rfl) rfl
theorem q1209 : (Jvm.Cond.lays "ShipSwaysModel" "ShipSwaysModel" "coming" "I") ∈ lw_all := lw_g (lw_at lw_m5 182 rfl) rfl
theorem q1210 : (Jvm.Cond.soleField "ShipSwaysModel" "coming") ∈ lw_all := lw_g (lw_at lw_m5 183 rfl) rfl
theorem q1211 : (Jvm.Cond.lays "ShipSwaysModel" "ShipSwaysModel" "deep" "I") ∈ lw_all := lw_g (lw_at lw_m5 184 rfl) rfl
theorem q1212 : (Jvm.Cond.soleField "ShipSwaysModel" "deep") ∈ lw_all := lw_g (lw_at lw_m5 185 rfl) rfl
theorem q1213 : (Jvm.Cond.lays "ShipSwaysModel" "ShipSwaysModel" "clause" "I") ∈ lw_all := lw_g (lw_at lw_m5 186 rfl) rfl
theorem q1214 : (Jvm.Cond.soleField "ShipSwaysModel" "clause") ∈ lw_all := lw_g (lw_at lw_m5 187 rfl) rfl
theorem q1215 : (Jvm.Cond.laysFinal "ShipSwaysModel" "ShipSwaysModel" "does" "[I") ∈ lw_all := lw_g (lw_at lw_m5 188 rfl) rfl
theorem q1216 : (Jvm.Cond.soleField "ShipSwaysModel" "does") ∈ lw_all := lw_g (lw_at lw_m5 189 rfl) rfl
theorem q1217 : (Jvm.Cond.laysFinal "ShipSwaysModel" "ShipSwaysModel" "doesWith" "[I") ∈ lw_all := lw_g (lw_at lw_m5 190 rfl) rfl
theorem q1218 : (Jvm.Cond.soleField "ShipSwaysModel" "doesWith") ∈ lw_all := lw_g (lw_at lw_m5 191 rfl) rfl
theorem q1219 : (Jvm.Cond.lays "ShipSwaysModel" "ShipSwaysModel" "doing" "I") ∈ lw_all := lw_g (lw_at lw_m5 192 rfl) rfl
theorem q1220 : (Jvm.Cond.soleField "ShipSwaysModel" "doing") ∈ lw_all := lw_g (lw_at lw_m5 193 rfl) rfl
theorem q1221 : (Jvm.Cond.laysFinal "ShipSwaysModel" "ShipSwaysModel" "begin" "[I") ∈ lw_all := lw_g (lw_at lw_m5 194 rfl) rfl
theorem q1222 : (Jvm.Cond.soleField "ShipSwaysModel" "begin") ∈ lw_all := lw_g (lw_at lw_m5 195 rfl) rfl
theorem q1223 : (Jvm.Cond.laysFinal "ShipSwaysModel" "ShipSwaysModel" "close" "[I") ∈ lw_all := lw_g (lw_at lw_m5 196 rfl) rfl
theorem q1224 : (Jvm.Cond.soleField "ShipSwaysModel" "close") ∈ lw_all := lw_g (lw_at lw_m5 197 rfl) rfl
theorem q1225 : (Jvm.Cond.laysFinal "ShipSwaysModel" "ShipSwaysModel" "ruleDoes" "[I") ∈ lw_all := lw_g (lw_at lw_m5 198 rfl) rfl
theorem q1226 : (Jvm.Cond.soleField "ShipSwaysModel" "ruleDoes") ∈ lw_all := lw_g (lw_at lw_m5 199 rfl) rfl
theorem q1227 : (Jvm.Cond.laysFinal "ShipSwaysModel" "ShipSwaysModel" "ruleWith" "[I") ∈ lw_all := lw_g (lw_at lw_m5 200 rfl) rfl
theorem q1228 : (Jvm.Cond.soleField "ShipSwaysModel" "ruleWith") ∈ lw_all := lw_g (lw_at lw_m5 201 rfl) rfl
theorem q1229 : (Jvm.Cond.laysFinal "ShipSwaysModel" "ShipSwaysModel" "ruleBegin" "[I") ∈ lw_all := lw_g (lw_at lw_m5 202 rfl) rfl
theorem q1230 : (Jvm.Cond.soleField "ShipSwaysModel" "ruleBegin") ∈ lw_all := lw_g (lw_at lw_m5 203 rfl) rfl
theorem q1231 : (Jvm.Cond.laysFinal "ShipSwaysModel" "ShipSwaysModel" "ruleEnd" "[I") ∈ lw_all := lw_g (lw_at lw_m5 204 rfl) rfl
theorem q1232 : (Jvm.Cond.soleField "ShipSwaysModel" "ruleEnd") ∈ lw_all := lw_g (lw_at lw_m5 205 rfl) rfl
theorem q1233 : (Jvm.Cond.lays "ShipSwaysModel" "ShipSwaysModel" "pushes" "I") ∈ lw_all := lw_g (lw_at lw_m5 206 rfl) rfl
theorem q1234 : (Jvm.Cond.soleField "ShipSwaysModel" "pushes") ∈ lw_all := lw_g (lw_at lw_m5 207 rfl) rfl
theorem q1235 : (Jvm.Cond.lays "ShipSwaysModel" "ShipSwaysModel" "pushed" "J") ∈ lw_all := lw_g (lw_at lw_m5 208 rfl) rfl
theorem q1236 : (Jvm.Cond.soleField "ShipSwaysModel" "pushed") ∈ lw_all := lw_g (lw_at lw_m5 209 rfl) rfl
theorem q1237 : (Jvm.Cond.laysFinal "ShipSwaysModel" "ShipSwaysModel" "arms" "[J") ∈ lw_all := lw_g (lw_at lw_m5 210 rfl) rfl
theorem q1238 : (Jvm.Cond.soleField "ShipSwaysModel" "arms") ∈ lw_all := lw_g (lw_at lw_m5 211 rfl) rfl
theorem q1239 : (Jvm.Cond.laysFinal "ShipSwaysModel" "ShipSwaysModel" "hasArm" "[Z") ∈ lw_all := lw_g (lw_at lw_m5 212 rfl) rfl
theorem q1240 : (Jvm.Cond.soleField "ShipSwaysModel" "hasArm") ∈ lw_all := lw_g (lw_at lw_m5 213 rfl) rfl
theorem q1241 : (Jvm.Cond.lays "ShipSwaysModel" "ShipSwaysModel" "force" "I") ∈ lw_all := lw_g (lw_at lw_m5 214 rfl) rfl
theorem q1242 : (Jvm.Cond.soleField "ShipSwaysModel" "force") ∈ lw_all := lw_g (lw_at lw_m5 215 rfl) rfl
theorem q1243 : (Jvm.Cond.laysFinal "ShipSwaysModel" "ShipSwaysModel" "names" "[I") ∈ lw_all := lw_g (lw_at lw_m5 216 rfl) rfl
theorem q1244 : (Jvm.Cond.soleField "ShipSwaysModel" "names") ∈ lw_all := lw_g (lw_at lw_m5 217 rfl) rfl
theorem q1245 : (Jvm.Cond.laysFinal "ShipSwaysModel" "ShipSwaysModel" "heap" "[I") ∈ lw_all := lw_g (lw_at lw_m5 218 rfl) rfl
theorem q1246 : (Jvm.Cond.soleField "ShipSwaysModel" "heap") ∈ lw_all := lw_g (lw_at lw_m5 219 rfl) rfl
theorem q1247 : (Jvm.Cond.lays "ShipSwaysModel" "ShipSwaysModel" "greatest" "I") ∈ lw_all := lw_g (lw_at lw_m5 220 rfl) rfl
theorem q1248 : (Jvm.Cond.soleField "ShipSwaysModel" "greatest") ∈ lw_all := lw_g (lw_at lw_m5 221 rfl) rfl
theorem q1249 : (Jvm.Cond.laysFinal "ShipSwaysModel" "ShipSwaysModel" "least" "[I") ∈ lw_all := lw_g (lw_at lw_m5 222 rfl) rfl
theorem q1250 : (Jvm.Cond.soleField "ShipSwaysModel" "least") ∈ lw_all := lw_g (lw_at lw_m5 223 rfl) rfl
theorem q1251 : (Jvm.Cond.superclass "ShipSwaysModel" "java/lang/Object") ∈ lw_all := lw_g (lw_at lw_m5 224 rfl) rfl
theorem q1254 : (Jvm.Cond.instanceMethod ({ cls := "ShipSwaysModel", name := "slice", desc := "(III)I" } : Jvm.MethodName)) ∈ lw_all := lw_g (lw_at lw_m5 227 rfl) rfl
theorem q1255 : (Jvm.Cond.selects "ShipSwaysModel" ({ cls := "ShipSwaysModel", name := "slice", desc := "(III)I" } : Jvm.MethodName) ({ cls := "ShipSwaysModel", name := "slice", desc := "(III)I" } : Jvm.MethodName)) ∈ lw_all := lw_g (lw_at lw_m5 228 rfl) rfl
theorem q1256 : (Jvm.Cond.code ({ cls := "ShipSwaysModel", name := "slice", desc := "(III)I" } : Jvm.MethodName) prog_12_method_4_code (7 : Nat) (Option.some Jvm.ClassFile.FieldType.int)) ∈ lw_all := lw_g (lw_at lw_m5 229 rfl) rfl
theorem q1257 : (Jvm.Cond.methodLink "ShipSwaysModel" (173 : Nat) ({ cls := "ShipSwaysModel", name := "in", desc := "(III)Z" } : Jvm.MethodName)) ∈ lw_all := lw_g (lw_at lw_m5 230 rfl) rfl
theorem q1258 : (Jvm.Cond.static ({ cls := "ShipSwaysModel", name := "in", desc := "(III)Z" } : Jvm.MethodName)) ∈ lw_all := lw_g (lw_at lw_m5 231 rfl) rfl
theorem q1259 : (Jvm.Cond.code ({ cls := "ShipSwaysModel", name := "in", desc := "(III)Z" } : Jvm.MethodName) prog_12_method_2_code (3 : Nat) (Option.some Jvm.ClassFile.FieldType.boolean)) ∈ lw_all := lw_g (lw_at lw_m5 232 rfl) rfl
theorem q1260 : (Jvm.Cond.constant "ShipSwaysModel" (177 : Nat) (99999 : Int32)) ∈ lw_all := lw_g (lw_at lw_m5 233 rfl) rfl
theorem q1262 : (Jvm.Cond.instanceMethod ({ cls := "ShipSwaysModel", name := "weight", desc := "(IIII)I" } : Jvm.MethodName)) ∈ lw_all := lw_g (lw_at lw_m5 235 rfl) rfl
theorem q1263 : (Jvm.Cond.selects "ShipSwaysModel" ({ cls := "ShipSwaysModel", name := "weight", desc := "(IIII)I" } : Jvm.MethodName) ({ cls := "ShipSwaysModel", name := "weight", desc := "(IIII)I" } : Jvm.MethodName)) ∈ lw_all := lw_g (lw_at lw_m5 236 rfl) rfl
theorem q1264 : (Jvm.Cond.code ({ cls := "ShipSwaysModel", name := "weight", desc := "(IIII)I" } : Jvm.MethodName) prog_12_method_5_code (5 : Nat) (Option.some Jvm.ClassFile.FieldType.int)) ∈ lw_all := lw_g (lw_at lw_m5 237 rfl) rfl
theorem q1266 : (Jvm.Cond.instanceMethod ({ cls := "ShipSwaysModel", name := "lose", desc := "(I)Z" } : Jvm.MethodName)) ∈ lw_all := lw_g (lw_at lw_m5 239 rfl) rfl
theorem q1267 : (Jvm.Cond.selects "ShipSwaysModel" ({ cls := "ShipSwaysModel", name := "lose", desc := "(I)Z" } : Jvm.MethodName) ({ cls := "ShipSwaysModel", name := "lose", desc := "(I)Z" } : Jvm.MethodName)) ∈ lw_all := lw_g (lw_at lw_m6 0 rfl) rfl
theorem q1268 : (Jvm.Cond.code ({ cls := "ShipSwaysModel", name := "lose", desc := "(I)Z" } : Jvm.MethodName) prog_12_method_7_code (2 : Nat) (Option.some Jvm.ClassFile.FieldType.boolean)) ∈ lw_all := lw_g (lw_at lw_m6 1 rfl) rfl
theorem q1269 : (Jvm.Cond.methodLink "ShipSwaysModel" (184 : Nat) ({ cls := "ShipSwaysModel", name := "isWeight", desc := "(I)Z" } : Jvm.MethodName)) ∈ lw_all := lw_g (lw_at lw_m6 2 rfl) rfl
theorem q1270 : (Jvm.Cond.privateMethod ({ cls := "ShipSwaysModel", name := "isWeight", desc := "(I)Z" } : Jvm.MethodName)) ∈ lw_tbl := lw_at lw_m6 3 rfl
theorem q1271 : (Jvm.Cond.instanceMethod ({ cls := "ShipSwaysModel", name := "isWeight", desc := "(I)Z" } : Jvm.MethodName)) ∈ lw_all := lw_g (lw_at lw_m6 4 rfl) rfl
theorem q1272 : (Jvm.Cond.code ({ cls := "ShipSwaysModel", name := "isWeight", desc := "(I)Z" } : Jvm.MethodName) prog_12_method_6_code (2 : Nat) (Option.some Jvm.ClassFile.FieldType.boolean)) ∈ lw_all := lw_g (lw_at lw_m6 5 rfl) rfl
theorem q1274 : (Jvm.Cond.instanceMethod ({ cls := "ShipSwaysModel", name := "tank", desc := "(III)I" } : Jvm.MethodName)) ∈ lw_all := lw_g (lw_at lw_m6 7 rfl) rfl
theorem q1275 : (Jvm.Cond.selects "ShipSwaysModel" ({ cls := "ShipSwaysModel", name := "tank", desc := "(III)I" } : Jvm.MethodName) ({ cls := "ShipSwaysModel", name := "tank", desc := "(III)I" } : Jvm.MethodName)) ∈ lw_all := lw_g (lw_at lw_m6 8 rfl) rfl
theorem q1276 : (Jvm.Cond.code ({ cls := "ShipSwaysModel", name := "tank", desc := "(III)I" } : Jvm.MethodName) prog_12_method_8_code (4 : Nat) (Option.some Jvm.ClassFile.FieldType.int)) ∈ lw_all := lw_g (lw_at lw_m6 9 rfl) rfl
theorem q1278 : (Jvm.Cond.instanceMethod ({ cls := "ShipSwaysModel", name := "fill", desc := "(II)Z" } : Jvm.MethodName)) ∈ lw_all := lw_g (lw_at lw_m6 11 rfl) rfl
theorem q1279 : (Jvm.Cond.selects "ShipSwaysModel" ({ cls := "ShipSwaysModel", name := "fill", desc := "(II)Z" } : Jvm.MethodName) ({ cls := "ShipSwaysModel", name := "fill", desc := "(II)Z" } : Jvm.MethodName)) ∈ lw_all := lw_g (lw_at lw_m6 12 rfl) rfl
theorem q1280 : (Jvm.Cond.code ({ cls := "ShipSwaysModel", name := "fill", desc := "(II)Z" } : Jvm.MethodName) prog_12_method_9_code (3 : Nat) (Option.some Jvm.ClassFile.FieldType.boolean)) ∈ lw_all := lw_g (lw_at lw_m6 13 rfl) rfl
theorem q1282 : (Jvm.Cond.instanceMethod ({ cls := "ShipSwaysModel", name := "mark", desc := "(II)I" } : Jvm.MethodName)) ∈ lw_all := lw_g (lw_at lw_m6 15 rfl) rfl
theorem q1283 : (Jvm.Cond.selects "ShipSwaysModel" ({ cls := "ShipSwaysModel", name := "mark", desc := "(II)I" } : Jvm.MethodName) ({ cls := "ShipSwaysModel", name := "mark", desc := "(II)I" } : Jvm.MethodName)) ∈ lw_all := lw_g (lw_at lw_m6 16 rfl) rfl
theorem q1284 : (Jvm.Cond.code ({ cls := "ShipSwaysModel", name := "mark", desc := "(II)I" } : Jvm.MethodName) prog_12_method_10_code (3 : Nat) (Option.some Jvm.ClassFile.FieldType.int)) ∈ lw_all := lw_g (lw_at lw_m6 17 rfl) rfl
theorem q1286 : (Jvm.Cond.instanceMethod ({ cls := "ShipSwaysModel", name := "at", desc := "(II)I" } : Jvm.MethodName)) ∈ lw_all := lw_g (lw_at lw_m6 19 rfl) rfl
theorem q1287 : (Jvm.Cond.selects "ShipSwaysModel" ({ cls := "ShipSwaysModel", name := "at", desc := "(II)I" } : Jvm.MethodName) ({ cls := "ShipSwaysModel", name := "at", desc := "(II)I" } : Jvm.MethodName)) ∈ lw_all := lw_g (lw_at lw_m6 20 rfl) rfl
theorem q1288 : (Jvm.Cond.code ({ cls := "ShipSwaysModel", name := "at", desc := "(II)I" } : Jvm.MethodName) prog_12_method_16_code (4 : Nat) (Option.some Jvm.ClassFile.FieldType.int)) ∈ lw_all := lw_g (lw_at lw_m6 21 rfl) rfl
theorem q1289 : (Jvm.Cond.constant "ShipSwaysModel" (205 : Nat) (-2147483648 : Int32)) ∈ lw_all := lw_g (lw_at lw_m6 22 rfl) rfl
theorem q1290 : (Jvm.Cond.methodLink "ShipSwaysModel" (214 : Nat) ({ cls := "ShipSwaysModel", name := "levelAt", desc := "(I)I" } : Jvm.MethodName)) ∈ lw_all := lw_g (lw_at lw_m6 23 rfl) rfl
theorem q1291 : (Jvm.Cond.privateMethod ({ cls := "ShipSwaysModel", name := "levelAt", desc := "(I)I" } : Jvm.MethodName)) ∈ lw_tbl := lw_at lw_m6 24 rfl
theorem q1292 : (Jvm.Cond.instanceMethod ({ cls := "ShipSwaysModel", name := "levelAt", desc := "(I)I" } : Jvm.MethodName)) ∈ lw_all := lw_g (lw_at lw_m6 25 rfl) rfl
theorem q1293 : (Jvm.Cond.code ({ cls := "ShipSwaysModel", name := "levelAt", desc := "(I)I" } : Jvm.MethodName) prog_12_method_13_code (6 : Nat) (Option.some Jvm.ClassFile.FieldType.int)) ∈ lw_all := lw_g (lw_at lw_m6 26 rfl) rfl
theorem q1294 : (Jvm.Cond.methodLink "ShipSwaysModel" (201 : Nat) ({ cls := "ShipSwaysModel", name := "heavy", desc := "()I" } : Jvm.MethodName)) ∈ lw_all := lw_g (lw_at lw_m6 27 rfl) rfl
theorem q1295 : (Jvm.Cond.privateMethod ({ cls := "ShipSwaysModel", name := "heavy", desc := "()I" } : Jvm.MethodName)) ∈ lw_tbl := lw_at lw_m6 28 rfl
theorem q1296 : (Jvm.Cond.instanceMethod ({ cls := "ShipSwaysModel", name := "heavy", desc := "()I" } : Jvm.MethodName)) ∈ lw_all := lw_g (lw_at lw_m6 29 rfl) rfl
theorem q1297 : (Jvm.Cond.code ({ cls := "ShipSwaysModel", name := "heavy", desc := "()I" } : Jvm.MethodName) prog_12_method_11_code (3 : Nat) (Option.some Jvm.ClassFile.FieldType.int)) ∈ lw_all := lw_g (lw_at lw_m6 30 rfl) rfl
theorem q1298 : (Jvm.Cond.methodLink "ShipSwaysModel" (206 : Nat) ({ cls := "ShipSwaysModel", name := "wets", desc := "(II)V" } : Jvm.MethodName)) ∈ lw_all := lw_g (lw_at lw_m6 31 rfl) rfl
theorem q1299 : (Jvm.Cond.privateMethod ({ cls := "ShipSwaysModel", name := "wets", desc := "(II)V" } : Jvm.MethodName)) ∈ lw_tbl := lw_at lw_m6 32 rfl
theorem q1300 : (Jvm.Cond.instanceMethod ({ cls := "ShipSwaysModel", name := "wets", desc := "(II)V" } : Jvm.MethodName)) ∈ lw_all := lw_g (lw_at lw_m6 33 rfl) rfl
theorem q1301 : (Jvm.Cond.code ({ cls := "ShipSwaysModel", name := "wets", desc := "(II)V" } : Jvm.MethodName) prog_12_method_12_code (8 : Nat) (Option.none : Option Jvm.ClassFile.FieldType)) ∈ lw_all := lw_g (lw_at lw_m6 34 rfl) rfl
theorem q1302 : (Jvm.Cond.methodLink "ShipSwaysModel" (218 : Nat) ({ cls := "ShipSwaysModel", name := "armAt", desc := "(II)J" } : Jvm.MethodName)) ∈ lw_all := lw_g (lw_at lw_m6 35 rfl) rfl
theorem q1303 : (Jvm.Cond.privateMethod ({ cls := "ShipSwaysModel", name := "armAt", desc := "(II)J" } : Jvm.MethodName)) ∈ lw_tbl := lw_at lw_m6 36 rfl
theorem q1304 : (Jvm.Cond.instanceMethod ({ cls := "ShipSwaysModel", name := "armAt", desc := "(II)J" } : Jvm.MethodName)) ∈ lw_all := lw_g (lw_at lw_m6 37 rfl) rfl
theorem q1305 : (Jvm.Cond.code ({ cls := "ShipSwaysModel", name := "armAt", desc := "(II)J" } : Jvm.MethodName) prog_12_method_15_code (7 : Nat) (Option.some Jvm.ClassFile.FieldType.long)) ∈ lw_all := lw_g (lw_at lw_m6 38 rfl) rfl
theorem q1306 : (Jvm.Cond.methodLink "ShipSwaysModel" (210 : Nat) ({ cls := "ShipSwaysModel", name := "floor", desc := "(JJ)J" } : Jvm.MethodName)) ∈ lw_all := lw_g (lw_at lw_m6 39 rfl) rfl
theorem q1307 : (Jvm.Cond.static ({ cls := "ShipSwaysModel", name := "floor", desc := "(JJ)J" } : Jvm.MethodName)) ∈ lw_all := lw_g (lw_at lw_m6 40 rfl) rfl
theorem q1308 : (Jvm.Cond.code ({ cls := "ShipSwaysModel", name := "floor", desc := "(JJ)J" } : Jvm.MethodName) prog_12_method_14_code (4 : Nat) (Option.some Jvm.ClassFile.FieldType.long)) ∈ lw_all := lw_g (lw_at lw_m6 41 rfl) rfl
theorem q1310 : (Jvm.Cond.instanceMethod ({ cls := "ShipSwaysModel", name := "rest", desc := "(I)I" } : Jvm.MethodName)) ∈ lw_all := lw_g (lw_at lw_m6 43 rfl) rfl
theorem q1311 : (Jvm.Cond.selects "ShipSwaysModel" ({ cls := "ShipSwaysModel", name := "rest", desc := "(I)I" } : Jvm.MethodName) ({ cls := "ShipSwaysModel", name := "rest", desc := "(I)I" } : Jvm.MethodName)) ∈ lw_all := lw_g (lw_at lw_m6 44 rfl) rfl
theorem q1312 : (Jvm.Cond.code ({ cls := "ShipSwaysModel", name := "rest", desc := "(I)I" } : Jvm.MethodName) prog_12_method_18_code (2 : Nat) (Option.some Jvm.ClassFile.FieldType.int)) ∈ lw_all := lw_g (lw_at lw_m6 45 rfl) rfl
theorem q1313 : (Jvm.Cond.methodLink "ShipSwaysModel" (222 : Nat) ({ cls := "ShipSwaysModel", name := "restOf", desc := "(IZ)I" } : Jvm.MethodName)) ∈ lw_all := lw_g (lw_at lw_m6 46 rfl) rfl
theorem q1314 : (Jvm.Cond.privateMethod ({ cls := "ShipSwaysModel", name := "restOf", desc := "(IZ)I" } : Jvm.MethodName)) ∈ lw_tbl := lw_at lw_m6 47 rfl
theorem q1315 : (Jvm.Cond.instanceMethod ({ cls := "ShipSwaysModel", name := "restOf", desc := "(IZ)I" } : Jvm.MethodName)) ∈ lw_all := lw_g (lw_at lw_m6 48 rfl) rfl
theorem q1316 : (Jvm.Cond.code ({ cls := "ShipSwaysModel", name := "restOf", desc := "(IZ)I" } : Jvm.MethodName) prog_12_method_17_code (5 : Nat) (Option.some Jvm.ClassFile.FieldType.int)) ∈ lw_all := lw_g (lw_at lw_m6 49 rfl) rfl
theorem q1318 : (Jvm.Cond.instanceMethod ({ cls := "ShipSwaysModel", name := "stays", desc := "(I)I" } : Jvm.MethodName)) ∈ lw_all := lw_g (lw_at lw_m6 51 rfl) rfl
theorem q1319 : (Jvm.Cond.selects "ShipSwaysModel" ({ cls := "ShipSwaysModel", name := "stays", desc := "(I)I" } : Jvm.MethodName) ({ cls := "ShipSwaysModel", name := "stays", desc := "(I)I" } : Jvm.MethodName)) ∈ lw_all := lw_g (lw_at lw_m6 52 rfl) rfl
theorem q1320 : (Jvm.Cond.code ({ cls := "ShipSwaysModel", name := "stays", desc := "(I)I" } : Jvm.MethodName) prog_12_method_19_code (3 : Nat) (Option.some Jvm.ClassFile.FieldType.int)) ∈ lw_all := lw_g (lw_at lw_m6 53 rfl) rfl
theorem q1322 : (Jvm.Cond.instanceMethod ({ cls := "ShipSwaysModel", name := "wave", desc := "(III)I" } : Jvm.MethodName)) ∈ lw_all := lw_g (lw_at lw_m6 55 rfl) rfl
theorem q1323 : (Jvm.Cond.selects "ShipSwaysModel" ({ cls := "ShipSwaysModel", name := "wave", desc := "(III)I" } : Jvm.MethodName) ({ cls := "ShipSwaysModel", name := "wave", desc := "(III)I" } : Jvm.MethodName)) ∈ lw_all := lw_g (lw_at lw_m6 56 rfl) rfl
theorem q1324 : (Jvm.Cond.code ({ cls := "ShipSwaysModel", name := "wave", desc := "(III)I" } : Jvm.MethodName) prog_12_method_20_code (4 : Nat) (Option.some Jvm.ClassFile.FieldType.int)) ∈ lw_all := lw_g (lw_at lw_m6 57 rfl) rfl
theorem q1326 : (Jvm.Cond.instanceMethod ({ cls := "ShipSwaysModel", name := "sea", desc := "(I)I" } : Jvm.MethodName)) ∈ lw_all := lw_g (lw_at lw_m6 59 rfl) rfl
theorem q1327 : (Jvm.Cond.selects "ShipSwaysModel" ({ cls := "ShipSwaysModel", name := "sea", desc := "(I)I" } : Jvm.MethodName) ({ cls := "ShipSwaysModel", name := "sea", desc := "(I)I" } : Jvm.MethodName)) ∈ lw_all := lw_g (lw_at lw_m6 60 rfl) rfl
theorem q1328 : (Jvm.Cond.code ({ cls := "ShipSwaysModel", name := "sea", desc := "(I)I" } : Jvm.MethodName) prog_12_method_23_code (2 : Nat) (Option.some Jvm.ClassFile.FieldType.int)) ∈ lw_all := lw_g (lw_at lw_m6 61 rfl) rfl
theorem q1329 : (Jvm.Cond.methodLink "ShipSwaysModel" (233 : Nat) ({ cls := "ShipSwaysModel", name := "seaIn", desc := "(I)I" } : Jvm.MethodName)) ∈ lw_all := lw_g (lw_at lw_m6 62 rfl) rfl
theorem q1330 : (Jvm.Cond.privateMethod ({ cls := "ShipSwaysModel", name := "seaIn", desc := "(I)I" } : Jvm.MethodName)) ∈ lw_tbl := lw_at lw_m6 63 rfl
theorem q1331 : (Jvm.Cond.instanceMethod ({ cls := "ShipSwaysModel", name := "seaIn", desc := "(I)I" } : Jvm.MethodName)) ∈ lw_all := lw_g (lw_at lw_m6 64 rfl) rfl
theorem q1332 : (Jvm.Cond.code ({ cls := "ShipSwaysModel", name := "seaIn", desc := "(I)I" } : Jvm.MethodName) prog_12_method_22_code (4 : Nat) (Option.some Jvm.ClassFile.FieldType.int)) ∈ lw_all := lw_g (lw_at lw_m6 65 rfl) rfl
theorem q1333 : (Jvm.Cond.methodLink "ShipSwaysModel" (229 : Nat) ({ cls := "ShipSwaysModel", name := "sineOf", desc := "(II)I" } : Jvm.MethodName)) ∈ lw_all := lw_g (lw_at lw_m6 66 rfl) rfl
theorem q1334 : (Jvm.Cond.privateMethod ({ cls := "ShipSwaysModel", name := "sineOf", desc := "(II)I" } : Jvm.MethodName)) ∈ lw_tbl := lw_at lw_m6 67 rfl
theorem q1335 : (Jvm.Cond.instanceMethod ({ cls := "ShipSwaysModel", name := "sineOf", desc := "(II)I" } : Jvm.MethodName)) ∈ lw_all := lw_g (lw_at lw_m6 68 rfl) rfl
theorem q1336 : (Jvm.Cond.code ({ cls := "ShipSwaysModel", name := "sineOf", desc := "(II)I" } : Jvm.MethodName) prog_12_method_21_code (3 : Nat) (Option.some Jvm.ClassFile.FieldType.int)) ∈ lw_all := lw_g (lw_at lw_m6 69 rfl) rfl
theorem q1338 : (Jvm.Cond.instanceMethod ({ cls := "ShipSwaysModel", name := "set", desc := "(II)Z" } : Jvm.MethodName)) ∈ lw_all := lw_g (lw_at lw_m6 71 rfl) rfl
theorem q1339 : (Jvm.Cond.selects "ShipSwaysModel" ({ cls := "ShipSwaysModel", name := "set", desc := "(II)Z" } : Jvm.MethodName) ({ cls := "ShipSwaysModel", name := "set", desc := "(II)Z" } : Jvm.MethodName)) ∈ lw_all := lw_g (lw_at lw_m6 72 rfl) rfl
theorem q1340 : (Jvm.Cond.code ({ cls := "ShipSwaysModel", name := "set", desc := "(II)Z" } : Jvm.MethodName) prog_12_method_24_code (5 : Nat) (Option.some Jvm.ClassFile.FieldType.boolean)) ∈ lw_all := lw_g (lw_at lw_m6 73 rfl) rfl
theorem q1341 : (Jvm.Cond.constant "ShipSwaysModel" (236 : Nat) (1000000 : Int32)) ∈ lw_all := lw_g (lw_at lw_m6 74 rfl) rfl
theorem q1343 : (Jvm.Cond.instanceMethod ({ cls := "ShipSwaysModel", name := "go", desc := "(I)I" } : Jvm.MethodName)) ∈ lw_all := lw_g (lw_at lw_m6 76 rfl) rfl
theorem q1344 : (Jvm.Cond.selects "ShipSwaysModel" ({ cls := "ShipSwaysModel", name := "go", desc := "(I)I" } : Jvm.MethodName) ({ cls := "ShipSwaysModel", name := "go", desc := "(I)I" } : Jvm.MethodName)) ∈ lw_all := lw_g (lw_at lw_m6 77 rfl) rfl
theorem q1345 : (Jvm.Cond.code ({ cls := "ShipSwaysModel", name := "go", desc := "(I)I" } : Jvm.MethodName) prog_12_method_27_code (4 : Nat) (Option.some Jvm.ClassFile.FieldType.int)) ∈ lw_all := lw_g (lw_at lw_m6 78 rfl) rfl
theorem q1346 : (Jvm.Cond.methodLink "ShipSwaysModel" (257 : Nat) ({ cls := "ShipSwaysModel", name := "goesOn", desc := "(III)Z" } : Jvm.MethodName)) ∈ lw_all := lw_g (lw_at lw_m6 79 rfl) rfl
theorem q1347 : (Jvm.Cond.privateMethod ({ cls := "ShipSwaysModel", name := "goesOn", desc := "(III)Z" } : Jvm.MethodName)) ∈ lw_tbl := lw_at lw_m6 80 rfl
theorem q1348 : (Jvm.Cond.instanceMethod ({ cls := "ShipSwaysModel", name := "goesOn", desc := "(III)Z" } : Jvm.MethodName)) ∈ lw_all := lw_g (lw_at lw_m6 81 rfl) rfl
theorem q1349 : (Jvm.Cond.code ({ cls := "ShipSwaysModel", name := "goesOn", desc := "(III)Z" } : Jvm.MethodName) prog_12_method_26_code (11 : Nat) (Option.some Jvm.ClassFile.FieldType.boolean)) ∈ lw_all := lw_g (lw_at lw_m6 82 rfl) rfl
theorem q1350 : (Jvm.Cond.methodLink "ShipSwaysModel" (243 : Nat) ({ cls := "ShipSwaysModel", name := "slides", desc := "(I)V" } : Jvm.MethodName)) ∈ lw_all := lw_g (lw_at lw_m6 83 rfl) rfl
theorem q1351 : (Jvm.Cond.privateMethod ({ cls := "ShipSwaysModel", name := "slides", desc := "(I)V" } : Jvm.MethodName)) ∈ lw_tbl := lw_at lw_m6 84 rfl
theorem q1352 : (Jvm.Cond.instanceMethod ({ cls := "ShipSwaysModel", name := "slides", desc := "(I)V" } : Jvm.MethodName)) ∈ lw_all := lw_g (lw_at lw_m6 85 rfl) rfl
theorem q1353 : (Jvm.Cond.code ({ cls := "ShipSwaysModel", name := "slides", desc := "(I)V" } : Jvm.MethodName) prog_12_method_25_code (4 : Nat) (Option.none : Option Jvm.ClassFile.FieldType)) ∈ lw_all := lw_g (lw_at lw_m6 86 rfl) rfl
theorem q1354 : (Jvm.Cond.methodLink "ShipSwaysModel" (247 : Nat) ({ cls := "ShipSwaysModel", name := "isSo", desc := "(III)Z" } : Jvm.MethodName)) ∈ lw_all := lw_g (lw_at lw_m6 87 rfl) rfl
theorem q1355 : (Jvm.Cond.privateMethod ({ cls := "ShipSwaysModel", name := "isSo", desc := "(III)Z" } : Jvm.MethodName)) ∈ lw_tbl := lw_at lw_m6 88 rfl
theorem q1356 : (Jvm.Cond.instanceMethod ({ cls := "ShipSwaysModel", name := "isSo", desc := "(III)Z" } : Jvm.MethodName)) ∈ lw_all := lw_g (lw_at lw_m6 89 rfl) rfl
theorem q1357 : (Jvm.Cond.code ({ cls := "ShipSwaysModel", name := "isSo", desc := "(III)Z" } : Jvm.MethodName) prog_12_method_53_code (7 : Nat) (Option.some Jvm.ClassFile.FieldType.boolean)) ∈ lw_all := lw_g (lw_at lw_m6 90 rfl) rfl
theorem q1358 : (Jvm.Cond.methodLink "ShipSwaysModel" (358 : Nat) ({ cls := "ShipSwaysModel", name := "of", desc := "(III)I" } : Jvm.MethodName)) ∈ lw_all := lw_g (lw_at lw_m6 91 rfl) rfl
theorem q1359 : (Jvm.Cond.static ({ cls := "ShipSwaysModel", name := "of", desc := "(III)I" } : Jvm.MethodName)) ∈ lw_all := lw_g (lw_at lw_m6 92 rfl) rfl
theorem q1360 : (Jvm.Cond.code ({ cls := "ShipSwaysModel", name := "of", desc := "(III)I" } : Jvm.MethodName) prog_12_method_54_code (3 : Nat) (Option.some Jvm.ClassFile.FieldType.int)) ∈ lw_all := lw_g (lw_at lw_m6 93 rfl) rfl
theorem q1361 : (Jvm.Cond.methodLink "ShipSwaysModel" (250 : Nat) ({ cls := "ShipSwaysModel", name := "bounded", desc := "(JI)I" } : Jvm.MethodName)) ∈ lw_all := lw_g (lw_at lw_m6 94 rfl) rfl
theorem q1362 : (Jvm.Cond.static ({ cls := "ShipSwaysModel", name := "bounded", desc := "(JI)I" } : Jvm.MethodName)) ∈ lw_all := lw_g (lw_at lw_m6 95 rfl) rfl
theorem q1363 : (Jvm.Cond.code ({ cls := "ShipSwaysModel", name := "bounded", desc := "(JI)I" } : Jvm.MethodName) prog_12_method_3_code (3 : Nat) (Option.some Jvm.ClassFile.FieldType.int)) ∈ lw_all := lw_g (lw_at lw_m6 96 rfl) rfl
theorem q1365 : (Jvm.Cond.instanceMethod ({ cls := "ShipSwaysModel", name := "kept", desc := "(II)I" } : Jvm.MethodName)) ∈ lw_all := lw_g (lw_at lw_m6 98 rfl) rfl
theorem q1366 : (Jvm.Cond.selects "ShipSwaysModel" ({ cls := "ShipSwaysModel", name := "kept", desc := "(II)I" } : Jvm.MethodName) ({ cls := "ShipSwaysModel", name := "kept", desc := "(II)I" } : Jvm.MethodName)) ∈ lw_all := lw_g (lw_at lw_m6 99 rfl) rfl
theorem q1367 : (Jvm.Cond.code ({ cls := "ShipSwaysModel", name := "kept", desc := "(II)I" } : Jvm.MethodName) prog_12_method_28_code (3 : Nat) (Option.some Jvm.ClassFile.FieldType.int)) ∈ lw_all := lw_g (lw_at lw_m6 100 rfl) rfl
theorem q1369 : (Jvm.Cond.instanceMethod ({ cls := "ShipSwaysModel", name := "lead", desc := "(I)I" } : Jvm.MethodName)) ∈ lw_all := lw_g (lw_at lw_m6 102 rfl) rfl
theorem q1370 : (Jvm.Cond.selects "ShipSwaysModel" ({ cls := "ShipSwaysModel", name := "lead", desc := "(I)I" } : Jvm.MethodName) ({ cls := "ShipSwaysModel", name := "lead", desc := "(I)I" } : Jvm.MethodName)) ∈ lw_all := lw_g (lw_at lw_m6 103 rfl) rfl
theorem q1371 : (Jvm.Cond.code ({ cls := "ShipSwaysModel", name := "lead", desc := "(I)I" } : Jvm.MethodName) prog_12_method_29_code (2 : Nat) (Option.some Jvm.ClassFile.FieldType.int)) ∈ lw_all := lw_g (lw_at lw_m6 104 rfl) rfl
theorem q1373 : (Jvm.Cond.instanceMethod ({ cls := "ShipSwaysModel", name := "feed", desc := "(IIIII)I" } : Jvm.MethodName)) ∈ lw_all := lw_g (lw_at lw_m6 106 rfl) rfl
theorem q1374 : (Jvm.Cond.selects "ShipSwaysModel" ({ cls := "ShipSwaysModel", name := "feed", desc := "(IIIII)I" } : Jvm.MethodName) ({ cls := "ShipSwaysModel", name := "feed", desc := "(IIIII)I" } : Jvm.MethodName)) ∈ lw_all := lw_g (lw_at lw_m6 107 rfl) rfl
theorem q1375 : (Jvm.Cond.code ({ cls := "ShipSwaysModel", name := "feed", desc := "(IIIII)I" } : Jvm.MethodName) prog_12_method_30_code (8 : Nat) (Option.some Jvm.ClassFile.FieldType.int)) ∈ lw_all := lw_g (lw_at lw_m6 108 rfl) rfl
theorem q1377 : (Jvm.Cond.instanceMethod ({ cls := "ShipSwaysModel", name := "end", desc := "(I)Z" } : Jvm.MethodName)) ∈ lw_all := lw_g (lw_at lw_m6 110 rfl) rfl
theorem q1378 : (Jvm.Cond.selects "ShipSwaysModel" ({ cls := "ShipSwaysModel", name := "end", desc := "(I)Z" } : Jvm.MethodName) ({ cls := "ShipSwaysModel", name := "end", desc := "(I)Z" } : Jvm.MethodName)) ∈ lw_all := lw_g (lw_at lw_m6 111 rfl) rfl
theorem q1379 : (Jvm.Cond.code ({ cls := "ShipSwaysModel", name := "end", desc := "(I)Z" } : Jvm.MethodName) prog_12_method_31_code (2 : Nat) (Option.some Jvm.ClassFile.FieldType.boolean)) ∈ lw_all := lw_g (lw_at lw_m6 112 rfl) rfl
theorem q1381 : (Jvm.Cond.instanceMethod ({ cls := "ShipSwaysModel", name := "fault", desc := "()I" } : Jvm.MethodName)) ∈ lw_all := lw_g (lw_at lw_m6 114 rfl) rfl
theorem q1382 : (Jvm.Cond.selects "ShipSwaysModel" ({ cls := "ShipSwaysModel", name := "fault", desc := "()I" } : Jvm.MethodName) ({ cls := "ShipSwaysModel", name := "fault", desc := "()I" } : Jvm.MethodName)) ∈ lw_all := lw_g (lw_at lw_m6 115 rfl) rfl
theorem q1383 : (Jvm.Cond.code ({ cls := "ShipSwaysModel", name := "fault", desc := "()I" } : Jvm.MethodName) prog_12_method_51_code (1 : Nat) (Option.some Jvm.ClassFile.FieldType.int)) ∈ lw_all := lw_g (lw_at lw_m6 116 rfl) rfl
theorem q1384 : (Jvm.Cond.methodLink "ShipSwaysModel" (355 : Nat) ({ cls := "ShipSwaysModel", name := "reads", desc := "()I" } : Jvm.MethodName)) ∈ lw_all := lw_g (lw_at lw_m6 117 rfl) rfl
theorem q1385 : (Jvm.Cond.privateMethod ({ cls := "ShipSwaysModel", name := "reads", desc := "()I" } : Jvm.MethodName)) ∈ lw_tbl := lw_at lw_m6 118 rfl
theorem q1386 : (Jvm.Cond.instanceMethod ({ cls := "ShipSwaysModel", name := "reads", desc := "()I" } : Jvm.MethodName)) ∈ lw_all := lw_g (lw_at lw_m6 119 rfl) rfl
theorem q1387 : (Jvm.Cond.code ({ cls := "ShipSwaysModel", name := "reads", desc := "()I" } : Jvm.MethodName) prog_12_method_50_code (2 : Nat) (Option.some Jvm.ClassFile.FieldType.int)) ∈ lw_all := lw_g (lw_at lw_m6 120 rfl) rfl
theorem q1388 : (Jvm.Cond.methodLink "ShipSwaysModel" (300 : Nat) ({ cls := "ShipSwaysModel", name := "next", desc := "()V" } : Jvm.MethodName)) ∈ lw_all := lw_g (lw_at lw_m6 121 rfl) rfl
theorem q1389 : (Jvm.Cond.privateMethod ({ cls := "ShipSwaysModel", name := "next", desc := "()V" } : Jvm.MethodName)) ∈ lw_tbl := lw_at lw_m6 122 rfl
theorem q1390 : (Jvm.Cond.instanceMethod ({ cls := "ShipSwaysModel", name := "next", desc := "()V" } : Jvm.MethodName)) ∈ lw_all := lw_g (lw_at lw_m6 123 rfl) rfl
theorem q1391 : (Jvm.Cond.code ({ cls := "ShipSwaysModel", name := "next", desc := "()V" } : Jvm.MethodName) prog_12_method_35_code (2 : Nat) (Option.none : Option Jvm.ClassFile.FieldType)) ∈ lw_all := lw_g (lw_at lw_m6 124 rfl) rfl
theorem q1392 : (Jvm.Cond.methodLink "ShipSwaysModel" (285 : Nat) ({ cls := "ShipSwaysModel", name := "isLetter", desc := "(I)Z" } : Jvm.MethodName)) ∈ lw_all := lw_g (lw_at lw_m6 125 rfl) rfl
theorem q1393 : (Jvm.Cond.static ({ cls := "ShipSwaysModel", name := "isLetter", desc := "(I)Z" } : Jvm.MethodName)) ∈ lw_all := lw_g (lw_at lw_m6 126 rfl) rfl
theorem q1394 : (Jvm.Cond.code ({ cls := "ShipSwaysModel", name := "isLetter", desc := "(I)Z" } : Jvm.MethodName) prog_12_method_32_code (1 : Nat) (Option.some Jvm.ClassFile.FieldType.boolean)) ∈ lw_all := lw_g (lw_at lw_m6 127 rfl) rfl
theorem q1395 : (Jvm.Cond.methodLink "ShipSwaysModel" (288 : Nat) ({ cls := "ShipSwaysModel", name := "wordAt", desc := "(II)I" } : Jvm.MethodName)) ∈ lw_all := lw_g (lw_at lw_m6 128 rfl) rfl
theorem q1396 : (Jvm.Cond.privateMethod ({ cls := "ShipSwaysModel", name := "wordAt", desc := "(II)I" } : Jvm.MethodName)) ∈ lw_tbl := lw_at lw_m6 129 rfl
theorem q1397 : (Jvm.Cond.instanceMethod ({ cls := "ShipSwaysModel", name := "wordAt", desc := "(II)I" } : Jvm.MethodName)) ∈ lw_all := lw_g (lw_at lw_m6 130 rfl) rfl
theorem q1398 : (Jvm.Cond.code ({ cls := "ShipSwaysModel", name := "wordAt", desc := "(II)I" } : Jvm.MethodName) prog_12_method_34_code (8 : Nat) (Option.some Jvm.ClassFile.FieldType.int)) ∈ lw_all := lw_g (lw_at lw_m6 131 rfl) rfl
theorem q1399 : (Jvm.Cond.stringRef "ShipSwaysModel" (263 : Nat) " work fin slope speed tick sick sea wet moved or and not ") ∈ lw_tbl := lw_at lw_m6 132 rfl
theorem q1400 : (Jvm.Cond.methodLink "ShipSwaysModel" (265 : Nat) ({ cls := "java/lang/String", name := "length", desc := "()I" } : Jvm.MethodName)) ∈ lw_all := lw_g (lw_at lw_m6 133 rfl) rfl
theorem q1401 : (Jvm.Cond.methodLink "ShipSwaysModel" (269 : Nat) ({ cls := "java/lang/String", name := "charAt", desc := "(I)C" } : Jvm.MethodName)) ∈ lw_all := lw_g (lw_at lw_m6 134 rfl) rfl
theorem q1402 : (Jvm.Cond.methodLink "ShipSwaysModel" (291 : Nat) ({ cls := "ShipSwaysModel", name := "isDigit", desc := "(I)Z" } : Jvm.MethodName)) ∈ lw_all := lw_g (lw_at lw_m6 135 rfl) rfl
theorem q1403 : (Jvm.Cond.static ({ cls := "ShipSwaysModel", name := "isDigit", desc := "(I)Z" } : Jvm.MethodName)) ∈ lw_all := lw_g (lw_at lw_m6 136 rfl) rfl
theorem q1404 : (Jvm.Cond.code ({ cls := "ShipSwaysModel", name := "isDigit", desc := "(I)Z" } : Jvm.MethodName) prog_12_method_33_code (1 : Nat) (Option.some Jvm.ClassFile.FieldType.boolean)) ∈ lw_all := lw_g (lw_at lw_m6 137 rfl) rfl
theorem q1405 : (Jvm.Cond.methodLink "ShipSwaysModel" (306 : Nat) ({ cls := "ShipSwaysModel", name := "push", desc := "(I)V" } : Jvm.MethodName)) ∈ lw_all := lw_g (lw_at lw_m6 138 rfl) rfl
theorem q1406 : (Jvm.Cond.privateMethod ({ cls := "ShipSwaysModel", name := "push", desc := "(I)V" } : Jvm.MethodName)) ∈ lw_tbl := lw_at lw_m6 139 rfl
theorem q1407 : (Jvm.Cond.instanceMethod ({ cls := "ShipSwaysModel", name := "push", desc := "(I)V" } : Jvm.MethodName)) ∈ lw_all := lw_g (lw_at lw_m6 140 rfl) rfl
theorem q1408 : (Jvm.Cond.code ({ cls := "ShipSwaysModel", name := "push", desc := "(I)V" } : Jvm.MethodName) prog_12_method_38_code (2 : Nat) (Option.none : Option Jvm.ClassFile.FieldType)) ∈ lw_all := lw_g (lw_at lw_m6 141 rfl) rfl
theorem q1409 : (Jvm.Cond.methodLink "ShipSwaysModel" (352 : Nat) ({ cls := "ShipSwaysModel", name := "steps", desc := "(I)Z" } : Jvm.MethodName)) ∈ lw_all := lw_g (lw_at lw_m6 142 rfl) rfl
theorem q1410 : (Jvm.Cond.privateMethod ({ cls := "ShipSwaysModel", name := "steps", desc := "(I)Z" } : Jvm.MethodName)) ∈ lw_tbl := lw_at lw_m6 143 rfl
theorem q1411 : (Jvm.Cond.instanceMethod ({ cls := "ShipSwaysModel", name := "steps", desc := "(I)Z" } : Jvm.MethodName)) ∈ lw_all := lw_g (lw_at lw_m6 144 rfl) rfl
theorem q1412 : (Jvm.Cond.code ({ cls := "ShipSwaysModel", name := "steps", desc := "(I)Z" } : Jvm.MethodName) prog_12_method_42_code (2 : Nat) (Option.some Jvm.ClassFile.FieldType.boolean)) ∈ lw_all := lw_g (lw_at lw_m6 145 rfl) rfl
theorem q1413 : (Jvm.Cond.methodLink "ShipSwaysModel" (309 : Nat) ({ cls := "ShipSwaysModel", name := "emits", desc := "(II)V" } : Jvm.MethodName)) ∈ lw_all := lw_g (lw_at lw_m6 146 rfl) rfl
theorem q1414 : (Jvm.Cond.privateMethod ({ cls := "ShipSwaysModel", name := "emits", desc := "(II)V" } : Jvm.MethodName)) ∈ lw_tbl := lw_at lw_m6 147 rfl
theorem q1415 : (Jvm.Cond.instanceMethod ({ cls := "ShipSwaysModel", name := "emits", desc := "(II)V" } : Jvm.MethodName)) ∈ lw_all := lw_g (lw_at lw_m6 148 rfl) rfl
theorem q1416 : (Jvm.Cond.code ({ cls := "ShipSwaysModel", name := "emits", desc := "(II)V" } : Jvm.MethodName) prog_12_method_39_code (3 : Nat) (Option.none : Option Jvm.ClassFile.FieldType)) ∈ lw_all := lw_g (lw_at lw_m6 149 rfl) rfl
theorem q1417 : (Jvm.Cond.methodLink "ShipSwaysModel" (312 : Nat) ({ cls := "ShipSwaysModel", name := "isSign", desc := "(I)Z" } : Jvm.MethodName)) ∈ lw_all := lw_g (lw_at lw_m6 150 rfl) rfl
theorem q1418 : (Jvm.Cond.privateMethod ({ cls := "ShipSwaysModel", name := "isSign", desc := "(I)Z" } : Jvm.MethodName)) ∈ lw_tbl := lw_at lw_m6 151 rfl
theorem q1419 : (Jvm.Cond.instanceMethod ({ cls := "ShipSwaysModel", name := "isSign", desc := "(I)Z" } : Jvm.MethodName)) ∈ lw_all := lw_g (lw_at lw_m6 152 rfl) rfl
theorem q1420 : (Jvm.Cond.code ({ cls := "ShipSwaysModel", name := "isSign", desc := "(I)Z" } : Jvm.MethodName) prog_12_method_36_code (2 : Nat) (Option.some Jvm.ClassFile.FieldType.boolean)) ∈ lw_all := lw_g (lw_at lw_m6 153 rfl) rfl
theorem q1421 : (Jvm.Cond.methodLink "ShipSwaysModel" (315 : Nat) ({ cls := "ShipSwaysModel", name := "takes", desc := "()Z" } : Jvm.MethodName)) ∈ lw_all := lw_g (lw_at lw_m6 154 rfl) rfl
theorem q1422 : (Jvm.Cond.privateMethod ({ cls := "ShipSwaysModel", name := "takes", desc := "()Z" } : Jvm.MethodName)) ∈ lw_tbl := lw_at lw_m6 155 rfl
theorem q1423 : (Jvm.Cond.instanceMethod ({ cls := "ShipSwaysModel", name := "takes", desc := "()Z" } : Jvm.MethodName)) ∈ lw_all := lw_g (lw_at lw_m6 156 rfl) rfl
theorem q1424 : (Jvm.Cond.code ({ cls := "ShipSwaysModel", name := "takes", desc := "()Z" } : Jvm.MethodName) prog_12_method_40_code (1 : Nat) (Option.some Jvm.ClassFile.FieldType.boolean)) ∈ lw_all := lw_g (lw_at lw_m6 157 rfl) rfl
theorem q1425 : (Jvm.Cond.methodLink "ShipSwaysModel" (319 : Nat) ({ cls := "ShipSwaysModel", name := "clauses", desc := "()Z" } : Jvm.MethodName)) ∈ lw_all := lw_g (lw_at lw_m6 158 rfl) rfl
theorem q1426 : (Jvm.Cond.privateMethod ({ cls := "ShipSwaysModel", name := "clauses", desc := "()Z" } : Jvm.MethodName)) ∈ lw_tbl := lw_at lw_m6 159 rfl
theorem q1427 : (Jvm.Cond.instanceMethod ({ cls := "ShipSwaysModel", name := "clauses", desc := "()Z" } : Jvm.MethodName)) ∈ lw_all := lw_g (lw_at lw_m6 160 rfl) rfl
theorem q1428 : (Jvm.Cond.code ({ cls := "ShipSwaysModel", name := "clauses", desc := "()Z" } : Jvm.MethodName) prog_12_method_46_code (1 : Nat) (Option.some Jvm.ClassFile.FieldType.boolean)) ∈ lw_all := lw_g (lw_at lw_m6 161 rfl) rfl
theorem q1429 : (Jvm.Cond.methodLink "ShipSwaysModel" (322 : Nat) ({ cls := "ShipSwaysModel", name := "both", desc := "(II)Z" } : Jvm.MethodName)) ∈ lw_all := lw_g (lw_at lw_m6 162 rfl) rfl
theorem q1430 : (Jvm.Cond.privateMethod ({ cls := "ShipSwaysModel", name := "both", desc := "(II)Z" } : Jvm.MethodName)) ∈ lw_tbl := lw_at lw_m6 163 rfl
theorem q1431 : (Jvm.Cond.instanceMethod ({ cls := "ShipSwaysModel", name := "both", desc := "(II)Z" } : Jvm.MethodName)) ∈ lw_all := lw_g (lw_at lw_m6 164 rfl) rfl
theorem q1432 : (Jvm.Cond.code ({ cls := "ShipSwaysModel", name := "both", desc := "(II)Z" } : Jvm.MethodName) prog_12_method_43_code (3 : Nat) (Option.some Jvm.ClassFile.FieldType.boolean)) ∈ lw_all := lw_g (lw_at lw_m6 165 rfl) rfl
theorem q1433 : (Jvm.Cond.methodLink "ShipSwaysModel" (326 : Nat) ({ cls := "ShipSwaysModel", name := "more", desc := "(IIIIII)Z" } : Jvm.MethodName)) ∈ lw_all := lw_g (lw_at lw_m6 166 rfl) rfl
theorem q1434 : (Jvm.Cond.privateMethod ({ cls := "ShipSwaysModel", name := "more", desc := "(IIIIII)Z" } : Jvm.MethodName)) ∈ lw_tbl := lw_at lw_m6 167 rfl
theorem q1435 : (Jvm.Cond.instanceMethod ({ cls := "ShipSwaysModel", name := "more", desc := "(IIIIII)Z" } : Jvm.MethodName)) ∈ lw_all := lw_g (lw_at lw_m6 168 rfl) rfl
theorem q1436 : (Jvm.Cond.code ({ cls := "ShipSwaysModel", name := "more", desc := "(IIIIII)Z" } : Jvm.MethodName) prog_12_method_44_code (8 : Nat) (Option.some Jvm.ClassFile.FieldType.boolean)) ∈ lw_all := lw_g (lw_at lw_m6 169 rfl) rfl
theorem q1437 : (Jvm.Cond.methodLink "ShipSwaysModel" (330 : Nat) ({ cls := "ShipSwaysModel", name := "factor", desc := "()Z" } : Jvm.MethodName)) ∈ lw_all := lw_g (lw_at lw_m6 170 rfl) rfl
theorem q1438 : (Jvm.Cond.privateMethod ({ cls := "ShipSwaysModel", name := "factor", desc := "()Z" } : Jvm.MethodName)) ∈ lw_tbl := lw_at lw_m6 171 rfl
theorem q1439 : (Jvm.Cond.instanceMethod ({ cls := "ShipSwaysModel", name := "factor", desc := "()Z" } : Jvm.MethodName)) ∈ lw_all := lw_g (lw_at lw_m6 172 rfl) rfl
theorem q1440 : (Jvm.Cond.code ({ cls := "ShipSwaysModel", name := "factor", desc := "()Z" } : Jvm.MethodName) prog_12_method_47_code (1 : Nat) (Option.some Jvm.ClassFile.FieldType.boolean)) ∈ lw_all := lw_g (lw_at lw_m6 173 rfl) rfl
theorem q1441 : (Jvm.Cond.methodLink "ShipSwaysModel" (349 : Nat) ({ cls := "ShipSwaysModel", name := "deeper", desc := "()Z" } : Jvm.MethodName)) ∈ lw_all := lw_g (lw_at lw_m6 174 rfl) rfl
theorem q1442 : (Jvm.Cond.privateMethod ({ cls := "ShipSwaysModel", name := "deeper", desc := "()Z" } : Jvm.MethodName)) ∈ lw_tbl := lw_at lw_m6 175 rfl
theorem q1443 : (Jvm.Cond.instanceMethod ({ cls := "ShipSwaysModel", name := "deeper", desc := "()Z" } : Jvm.MethodName)) ∈ lw_all := lw_g (lw_at lw_m6 176 rfl) rfl
theorem q1444 : (Jvm.Cond.code ({ cls := "ShipSwaysModel", name := "deeper", desc := "()Z" } : Jvm.MethodName) prog_12_method_41_code (1 : Nat) (Option.some Jvm.ClassFile.FieldType.boolean)) ∈ lw_all := lw_g (lw_at lw_m6 177 rfl) rfl
theorem q1445 : (Jvm.Cond.methodLink "ShipSwaysModel" (333 : Nat) ({ cls := "ShipSwaysModel", name := "moreWords", desc := "(IIII)Z" } : Jvm.MethodName)) ∈ lw_all := lw_g (lw_at lw_m6 178 rfl) rfl
theorem q1446 : (Jvm.Cond.privateMethod ({ cls := "ShipSwaysModel", name := "moreWords", desc := "(IIII)Z" } : Jvm.MethodName)) ∈ lw_tbl := lw_at lw_m6 179 rfl
theorem q1447 : (Jvm.Cond.instanceMethod ({ cls := "ShipSwaysModel", name := "moreWords", desc := "(IIII)Z" } : Jvm.MethodName)) ∈ lw_all := lw_g (lw_at lw_m6 180 rfl) rfl
theorem q1448 : (Jvm.Cond.code ({ cls := "ShipSwaysModel", name := "moreWords", desc := "(IIII)Z" } : Jvm.MethodName) prog_12_method_45_code (5 : Nat) (Option.some Jvm.ClassFile.FieldType.boolean)) ∈ lw_all := lw_g (lw_at lw_m6 181 rfl) rfl
theorem q1449 : (Jvm.Cond.methodLink "ShipSwaysModel" (346 : Nat) ({ cls := "ShipSwaysModel", name := "isWord", desc := "(I)Z" } : Jvm.MethodName)) ∈ lw_all := lw_g (lw_at lw_m6 182 rfl) rfl
theorem q1450 : (Jvm.Cond.privateMethod ({ cls := "ShipSwaysModel", name := "isWord", desc := "(I)Z" } : Jvm.MethodName)) ∈ lw_tbl := lw_at lw_m6 183 rfl
theorem q1451 : (Jvm.Cond.instanceMethod ({ cls := "ShipSwaysModel", name := "isWord", desc := "(I)Z" } : Jvm.MethodName)) ∈ lw_all := lw_g (lw_at lw_m6 184 rfl) rfl
theorem q1452 : (Jvm.Cond.code ({ cls := "ShipSwaysModel", name := "isWord", desc := "(I)Z" } : Jvm.MethodName) prog_12_method_37_code (2 : Nat) (Option.some Jvm.ClassFile.FieldType.boolean)) ∈ lw_all := lw_g (lw_at lw_m6 185 rfl) rfl
theorem q1453 : (Jvm.Cond.methodLink "ShipSwaysModel" (337 : Nat) ({ cls := "ShipSwaysModel", name := "holdsOne", desc := "()Z" } : Jvm.MethodName)) ∈ lw_all := lw_g (lw_at lw_m6 186 rfl) rfl
theorem q1454 : (Jvm.Cond.privateMethod ({ cls := "ShipSwaysModel", name := "holdsOne", desc := "()Z" } : Jvm.MethodName)) ∈ lw_tbl := lw_at lw_m6 187 rfl
theorem q1455 : (Jvm.Cond.instanceMethod ({ cls := "ShipSwaysModel", name := "holdsOne", desc := "()Z" } : Jvm.MethodName)) ∈ lw_all := lw_g (lw_at lw_m6 188 rfl) rfl
theorem q1456 : (Jvm.Cond.code ({ cls := "ShipSwaysModel", name := "holdsOne", desc := "()Z" } : Jvm.MethodName) prog_12_method_48_code (2 : Nat) (Option.some Jvm.ClassFile.FieldType.boolean)) ∈ lw_all := lw_g (lw_at lw_m6 189 rfl) rfl
theorem q1457 : (Jvm.Cond.methodLink "ShipSwaysModel" (340 : Nat) ({ cls := "ShipSwaysModel", name := "compares", desc := "()Z" } : Jvm.MethodName)) ∈ lw_all := lw_g (lw_at lw_m6 190 rfl) rfl
theorem q1458 : (Jvm.Cond.privateMethod ({ cls := "ShipSwaysModel", name := "compares", desc := "()Z" } : Jvm.MethodName)) ∈ lw_tbl := lw_at lw_m6 191 rfl
theorem q1459 : (Jvm.Cond.instanceMethod ({ cls := "ShipSwaysModel", name := "compares", desc := "()Z" } : Jvm.MethodName)) ∈ lw_all := lw_g (lw_at lw_m6 192 rfl) rfl
theorem q1460 : (Jvm.Cond.code ({ cls := "ShipSwaysModel", name := "compares", desc := "()Z" } : Jvm.MethodName) prog_12_method_49_code (1 : Nat) (Option.some Jvm.ClassFile.FieldType.boolean)) ∈ lw_all := lw_g (lw_at lw_m6 193 rfl) rfl
theorem q1462 : (Jvm.Cond.instanceMethod ({ cls := "ShipSwaysModel", name := "rules", desc := "()Z" } : Jvm.MethodName)) ∈ lw_all := lw_g (lw_at lw_m6 195 rfl) rfl
theorem q1463 : (Jvm.Cond.selects "ShipSwaysModel" ({ cls := "ShipSwaysModel", name := "rules", desc := "()Z" } : Jvm.MethodName) ({ cls := "ShipSwaysModel", name := "rules", desc := "()Z" } : Jvm.MethodName)) ∈ lw_all := lw_g (lw_at lw_m6 196 rfl) rfl
theorem q1464 : (Jvm.Cond.code ({ cls := "ShipSwaysModel", name := "rules", desc := "()Z" } : Jvm.MethodName) prog_12_method_52_code (2 : Nat) (Option.some Jvm.ClassFile.FieldType.boolean)) ∈ lw_all := lw_g (lw_at lw_m6 197 rfl) rfl
theorem q1466 : (Jvm.Cond.instanceMethod ({ cls := "ShipSwaysModel", name := "holds", desc := "(I)I" } : Jvm.MethodName)) ∈ lw_all := lw_g (lw_at lw_m6 199 rfl) rfl
theorem q1467 : (Jvm.Cond.selects "ShipSwaysModel" ({ cls := "ShipSwaysModel", name := "holds", desc := "(I)I" } : Jvm.MethodName) ({ cls := "ShipSwaysModel", name := "holds", desc := "(I)I" } : Jvm.MethodName)) ∈ lw_all := lw_g (lw_at lw_m6 200 rfl) rfl
theorem q1468 : (Jvm.Cond.code ({ cls := "ShipSwaysModel", name := "holds", desc := "(I)I" } : Jvm.MethodName) prog_12_method_55_code (2 : Nat) (Option.some Jvm.ClassFile.FieldType.int)) ∈ lw_all := lw_g (lw_at lw_m6 201 rfl) rfl
theorem q1470 : (Jvm.Cond.instanceMethod ({ cls := "ShipSwaysModel", name := "tried", desc := "(II)I" } : Jvm.MethodName)) ∈ lw_all := lw_g (lw_at lw_m6 203 rfl) rfl
theorem q1471 : (Jvm.Cond.selects "ShipSwaysModel" ({ cls := "ShipSwaysModel", name := "tried", desc := "(II)I" } : Jvm.MethodName) ({ cls := "ShipSwaysModel", name := "tried", desc := "(II)I" } : Jvm.MethodName)) ∈ lw_all := lw_g (lw_at lw_m6 204 rfl) rfl
theorem q1472 : (Jvm.Cond.code ({ cls := "ShipSwaysModel", name := "tried", desc := "(II)I" } : Jvm.MethodName) prog_12_method_57_code (3 : Nat) (Option.some Jvm.ClassFile.FieldType.int)) ∈ lw_all := lw_g (lw_at lw_m6 205 rfl) rfl
theorem q1473 : (Jvm.Cond.methodLink "ShipSwaysModel" (365 : Nat) ({ cls := "ShipSwaysModel", name := "tries", desc := "(II)V" } : Jvm.MethodName)) ∈ lw_all := lw_g (lw_at lw_m6 206 rfl) rfl
theorem q1474 : (Jvm.Cond.privateMethod ({ cls := "ShipSwaysModel", name := "tries", desc := "(II)V" } : Jvm.MethodName)) ∈ lw_tbl := lw_at lw_m6 207 rfl
theorem q1475 : (Jvm.Cond.instanceMethod ({ cls := "ShipSwaysModel", name := "tries", desc := "(II)V" } : Jvm.MethodName)) ∈ lw_all := lw_g (lw_at lw_m6 208 rfl) rfl
theorem q1476 : (Jvm.Cond.code ({ cls := "ShipSwaysModel", name := "tries", desc := "(II)V" } : Jvm.MethodName) prog_12_method_56_code (7 : Nat) (Option.none : Option Jvm.ClassFile.FieldType)) ∈ lw_all := lw_g (lw_at lw_m6 209 rfl) rfl
theorem q1478 : (Jvm.Cond.instanceMethod ({ cls := "ShipSwaysModel", name := "still", desc := "(I)I" } : Jvm.MethodName)) ∈ lw_all := lw_g (lw_at lw_m6 211 rfl) rfl
theorem q1479 : (Jvm.Cond.selects "ShipSwaysModel" ({ cls := "ShipSwaysModel", name := "still", desc := "(I)I" } : Jvm.MethodName) ({ cls := "ShipSwaysModel", name := "still", desc := "(I)I" } : Jvm.MethodName)) ∈ lw_all := lw_g (lw_at lw_m6 212 rfl) rfl
theorem q1480 : (Jvm.Cond.code ({ cls := "ShipSwaysModel", name := "still", desc := "(I)I" } : Jvm.MethodName) prog_12_method_58_code (5 : Nat) (Option.some Jvm.ClassFile.FieldType.int)) ∈ lw_all := lw_g (lw_at lw_m6 213 rfl) rfl
theorem q1482 : (Jvm.Cond.instanceMethod ({ cls := "ShipSwaysModel", name := "hour", desc := "(II)I" } : Jvm.MethodName)) ∈ lw_all := lw_g (lw_at lw_m6 215 rfl) rfl
theorem q1483 : (Jvm.Cond.selects "ShipSwaysModel" ({ cls := "ShipSwaysModel", name := "hour", desc := "(II)I" } : Jvm.MethodName) ({ cls := "ShipSwaysModel", name := "hour", desc := "(II)I" } : Jvm.MethodName)) ∈ lw_all := lw_g (lw_at lw_m6 216 rfl) rfl
theorem q1484 : (Jvm.Cond.code ({ cls := "ShipSwaysModel", name := "hour", desc := "(II)I" } : Jvm.MethodName) prog_12_method_59_code (3 : Nat) (Option.some Jvm.ClassFile.FieldType.int)) ∈ lw_all := lw_g (lw_at lw_m6 217 rfl) rfl
theorem q1486 : (Jvm.Cond.instanceMethod ({ cls := "ShipSwaysModel", name := "begin", desc := "(I)I" } : Jvm.MethodName)) ∈ lw_all := lw_g (lw_at lw_m6 219 rfl) rfl
theorem q1487 : (Jvm.Cond.selects "ShipSwaysModel" ({ cls := "ShipSwaysModel", name := "begin", desc := "(I)I" } : Jvm.MethodName) ({ cls := "ShipSwaysModel", name := "begin", desc := "(I)I" } : Jvm.MethodName)) ∈ lw_all := lw_g (lw_at lw_m6 220 rfl) rfl
theorem q1488 : (Jvm.Cond.code ({ cls := "ShipSwaysModel", name := "begin", desc := "(I)I" } : Jvm.MethodName) prog_12_method_60_code (3 : Nat) (Option.some Jvm.ClassFile.FieldType.int)) ∈ lw_all := lw_g (lw_at lw_m6 221 rfl) rfl
theorem q1490 : (Jvm.Cond.instanceMethod ({ cls := "ShipSwaysModel", name := "best", desc := "(II)I" } : Jvm.MethodName)) ∈ lw_all := lw_g (lw_at lw_m6 223 rfl) rfl
theorem q1491 : (Jvm.Cond.selects "ShipSwaysModel" ({ cls := "ShipSwaysModel", name := "best", desc := "(II)I" } : Jvm.MethodName) ({ cls := "ShipSwaysModel", name := "best", desc := "(II)I" } : Jvm.MethodName)) ∈ lw_all := lw_g (lw_at lw_m6 224 rfl) rfl
theorem q1492 : (Jvm.Cond.code ({ cls := "ShipSwaysModel", name := "best", desc := "(II)I" } : Jvm.MethodName) prog_12_method_63_code (8 : Nat) (Option.some Jvm.ClassFile.FieldType.int)) ∈ lw_all := lw_g (lw_at lw_m6 225 rfl) rfl
theorem q1493 : (Jvm.Cond.methodLink "ShipSwaysModel" (371 : Nat) ({ cls := "ShipSwaysModel", name := "restBy", desc := "(III)I" } : Jvm.MethodName)) ∈ lw_all := lw_g (lw_at lw_m6 226 rfl) rfl
theorem q1494 : (Jvm.Cond.privateMethod ({ cls := "ShipSwaysModel", name := "restBy", desc := "(III)I" } : Jvm.MethodName)) ∈ lw_tbl := lw_at lw_m6 227 rfl
theorem q1495 : (Jvm.Cond.instanceMethod ({ cls := "ShipSwaysModel", name := "restBy", desc := "(III)I" } : Jvm.MethodName)) ∈ lw_all := lw_g (lw_at lw_m6 228 rfl) rfl
theorem q1496 : (Jvm.Cond.code ({ cls := "ShipSwaysModel", name := "restBy", desc := "(III)I" } : Jvm.MethodName) prog_12_method_62_code (4 : Nat) (Option.some Jvm.ClassFile.FieldType.int)) ∈ lw_all := lw_g (lw_at lw_m6 229 rfl) rfl
theorem q1497 : (Jvm.Cond.methodLink "ShipSwaysModel" (374 : Nat) ({ cls := "ShipSwaysModel", name := "queasy", desc := "(II)I" } : Jvm.MethodName)) ∈ lw_all := lw_g (lw_at lw_m6 230 rfl) rfl
theorem q1498 : (Jvm.Cond.privateMethod ({ cls := "ShipSwaysModel", name := "queasy", desc := "(II)I" } : Jvm.MethodName)) ∈ lw_tbl := lw_at lw_m6 231 rfl
theorem q1499 : (Jvm.Cond.instanceMethod ({ cls := "ShipSwaysModel", name := "queasy", desc := "(II)I" } : Jvm.MethodName)) ∈ lw_all := lw_g (lw_at lw_m6 232 rfl) rfl
theorem q1500 : (Jvm.Cond.code ({ cls := "ShipSwaysModel", name := "queasy", desc := "(II)I" } : Jvm.MethodName) prog_12_method_61_code (4 : Nat) (Option.some Jvm.ClassFile.FieldType.int)) ∈ lw_all := lw_g (lw_at lw_m6 233 rfl) rfl
theorem q1502 : (Jvm.Cond.instanceMethod ({ cls := "ShipSwaysModel", name := "record", desc := "(I)I" } : Jvm.MethodName)) ∈ lw_all := lw_g (lw_at lw_m6 235 rfl) rfl
theorem q1503 : (Jvm.Cond.selects "ShipSwaysModel" ({ cls := "ShipSwaysModel", name := "record", desc := "(I)I" } : Jvm.MethodName) ({ cls := "ShipSwaysModel", name := "record", desc := "(I)I" } : Jvm.MethodName)) ∈ lw_all := lw_g (lw_at lw_m6 236 rfl) rfl
theorem q1504 : (Jvm.Cond.code ({ cls := "ShipSwaysModel", name := "record", desc := "(I)I" } : Jvm.MethodName) prog_12_method_64_code (2 : Nat) (Option.some Jvm.ClassFile.FieldType.int)) ∈ lw_all := lw_g (lw_at lw_m6 237 rfl) rfl
theorem q1506 : (Jvm.Cond.instanceMethod ({ cls := "ShipSwaysModel", name := "clear", desc := "()I" } : Jvm.MethodName)) ∈ lw_all := lw_g (lw_at lw_m6 239 rfl) rfl
theorem q1507 : (Jvm.Cond.selects "ShipSwaysModel" ({ cls := "ShipSwaysModel", name := "clear", desc := "()I" } : Jvm.MethodName) ({ cls := "ShipSwaysModel", name := "clear", desc := "()I" } : Jvm.MethodName)) ∈ lw_all := lw_g (lw_at lw_m7 0 rfl) rfl
theorem q1508 : (Jvm.Cond.code ({ cls := "ShipSwaysModel", name := "clear", desc := "()I" } : Jvm.MethodName) prog_12_method_65_code (2 : Nat) (Option.some Jvm.ClassFile.FieldType.int)) ∈ lw_all := lw_g (lw_at lw_m7 1 rfl) rfl
theorem q1510 : (Jvm.Cond.instanceMethod ({ cls := "ShipSwaysModel", name := "goes", desc := "(I)I" } : Jvm.MethodName)) ∈ lw_all := lw_g (lw_at lw_m7 3 rfl) rfl
theorem q1511 : (Jvm.Cond.selects "ShipSwaysModel" ({ cls := "ShipSwaysModel", name := "goes", desc := "(I)I" } : Jvm.MethodName) ({ cls := "ShipSwaysModel", name := "goes", desc := "(I)I" } : Jvm.MethodName)) ∈ lw_all := lw_g (lw_at lw_m7 4 rfl) rfl
theorem q1512 : (Jvm.Cond.code ({ cls := "ShipSwaysModel", name := "goes", desc := "(I)I" } : Jvm.MethodName) prog_12_method_67_code (2 : Nat) (Option.some Jvm.ClassFile.FieldType.int)) ∈ lw_all := lw_g (lw_at lw_m7 5 rfl) rfl
theorem q1513 : (Jvm.Cond.methodLink "ShipSwaysModel" (380 : Nat) ({ cls := "ShipSwaysModel", name := "goesWith", desc := "(I)I" } : Jvm.MethodName)) ∈ lw_all := lw_g (lw_at lw_m7 6 rfl) rfl
theorem q1514 : (Jvm.Cond.privateMethod ({ cls := "ShipSwaysModel", name := "goesWith", desc := "(I)I" } : Jvm.MethodName)) ∈ lw_tbl := lw_at lw_m7 7 rfl
theorem q1515 : (Jvm.Cond.instanceMethod ({ cls := "ShipSwaysModel", name := "goesWith", desc := "(I)I" } : Jvm.MethodName)) ∈ lw_all := lw_g (lw_at lw_m7 8 rfl) rfl
theorem q1516 : (Jvm.Cond.code ({ cls := "ShipSwaysModel", name := "goesWith", desc := "(I)I" } : Jvm.MethodName) prog_12_method_66_code (4 : Nat) (Option.some Jvm.ClassFile.FieldType.int)) ∈ lw_all := lw_g (lw_at lw_m7 9 rfl) rfl
theorem q1518 : (Jvm.Cond.instanceMethod ({ cls := "ShipSwaysModel", name := "read", desc := "(I)I" } : Jvm.MethodName)) ∈ lw_all := lw_g (lw_at lw_m7 11 rfl) rfl
theorem q1519 : (Jvm.Cond.selects "ShipSwaysModel" ({ cls := "ShipSwaysModel", name := "read", desc := "(I)I" } : Jvm.MethodName) ({ cls := "ShipSwaysModel", name := "read", desc := "(I)I" } : Jvm.MethodName)) ∈ lw_all := lw_g (lw_at lw_m7 12 rfl) rfl
theorem q1520 : (Jvm.Cond.code ({ cls := "ShipSwaysModel", name := "read", desc := "(I)I" } : Jvm.MethodName) prog_12_method_69_code (5 : Nat) (Option.some Jvm.ClassFile.FieldType.int)) ∈ lw_all := lw_g (lw_at lw_m7 13 rfl) rfl
theorem q1521 : (Jvm.Cond.methodLink "ShipSwaysModel" (383 : Nat) ({ cls := "ShipSwaysModel", name := "far", desc := "(I)I" } : Jvm.MethodName)) ∈ lw_all := lw_g (lw_at lw_m7 14 rfl) rfl
theorem q1522 : (Jvm.Cond.static ({ cls := "ShipSwaysModel", name := "far", desc := "(I)I" } : Jvm.MethodName)) ∈ lw_all := lw_g (lw_at lw_m7 15 rfl) rfl
theorem q1523 : (Jvm.Cond.code ({ cls := "ShipSwaysModel", name := "far", desc := "(I)I" } : Jvm.MethodName) prog_12_method_68_code (1 : Nat) (Option.some Jvm.ClassFile.FieldType.int)) ∈ lw_all := lw_g (lw_at lw_m7 16 rfl) rfl
theorem q1525 : (Jvm.Cond.instanceMethod ({ cls := "ShipSwaysModel", name := "check", desc := "(III)I" } : Jvm.MethodName)) ∈ lw_all := lw_g (lw_at lw_m7 18 rfl) rfl
theorem q1526 : (Jvm.Cond.selects "ShipSwaysModel" ({ cls := "ShipSwaysModel", name := "check", desc := "(III)I" } : Jvm.MethodName) ({ cls := "ShipSwaysModel", name := "check", desc := "(III)I" } : Jvm.MethodName)) ∈ lw_all := lw_g (lw_at lw_m7 19 rfl) rfl
theorem q1527 : (Jvm.Cond.code ({ cls := "ShipSwaysModel", name := "check", desc := "(III)I" } : Jvm.MethodName) prog_12_method_70_code (9 : Nat) (Option.some Jvm.ClassFile.FieldType.int)) ∈ lw_all := lw_g (lw_at lw_m7 20 rfl) rfl
theorem q1529 : (Jvm.Cond.instanceMethod ({ cls := "ShipSwaysModel", name := "count", desc := "(I)I" } : Jvm.MethodName)) ∈ lw_all := lw_g (lw_at lw_m7 22 rfl) rfl
theorem q1530 : (Jvm.Cond.selects "ShipSwaysModel" ({ cls := "ShipSwaysModel", name := "count", desc := "(I)I" } : Jvm.MethodName) ({ cls := "ShipSwaysModel", name := "count", desc := "(I)I" } : Jvm.MethodName)) ∈ lw_all := lw_g (lw_at lw_m7 23 rfl) rfl
theorem q1531 : (Jvm.Cond.code ({ cls := "ShipSwaysModel", name := "count", desc := "(I)I" } : Jvm.MethodName) prog_12_method_71_code (2 : Nat) (Option.some Jvm.ClassFile.FieldType.int)) ∈ lw_all := lw_g (lw_at lw_m7 24 rfl) rfl
theorem q1533 : (Jvm.Cond.instanceMethod ({ cls := "ShipSwaysModel", name := "place", desc := "(I)I" } : Jvm.MethodName)) ∈ lw_all := lw_g (lw_at lw_m7 26 rfl) rfl
theorem q1534 : (Jvm.Cond.selects "ShipSwaysModel" ({ cls := "ShipSwaysModel", name := "place", desc := "(I)I" } : Jvm.MethodName) ({ cls := "ShipSwaysModel", name := "place", desc := "(I)I" } : Jvm.MethodName)) ∈ lw_all := lw_g (lw_at lw_m7 27 rfl) rfl
theorem q1535 : (Jvm.Cond.code ({ cls := "ShipSwaysModel", name := "place", desc := "(I)I" } : Jvm.MethodName) prog_12_method_72_code (2 : Nat) (Option.some Jvm.ClassFile.FieldType.int)) ∈ lw_all := lw_g (lw_at lw_m7 28 rfl) rfl
theorem q1537 : (Jvm.Cond.instanceMethod ({ cls := "ShipSwaysModel", name := "wetted", desc := "(I)I" } : Jvm.MethodName)) ∈ lw_all := lw_g (lw_at lw_m7 30 rfl) rfl
theorem q1538 : (Jvm.Cond.selects "ShipSwaysModel" ({ cls := "ShipSwaysModel", name := "wetted", desc := "(I)I" } : Jvm.MethodName) ({ cls := "ShipSwaysModel", name := "wetted", desc := "(I)I" } : Jvm.MethodName)) ∈ lw_all := lw_g (lw_at lw_m7 31 rfl) rfl
theorem q1539 : (Jvm.Cond.code ({ cls := "ShipSwaysModel", name := "wetted", desc := "(I)I" } : Jvm.MethodName) prog_12_method_73_code (2 : Nat) (Option.some Jvm.ClassFile.FieldType.int)) ∈ lw_all := lw_g (lw_at lw_m7 32 rfl) rfl
theorem q1547 : (Jvm.Cond.castable "ShipSwaysModel" "java/lang/Object") ∈ lw_tbl := lw_at lw_m7 40 rfl
theorem in_X2 : ∀ w ∈ wsX20, w ∈ lw_all := lw_in wsX20 [1101, 1103, 1105, 1107, 1109, 1111, 1113, 1115, 1117, 1119, 1121, 1123, 1125, 1127, 1129, 1131, 1133, 1135, 1137, 1139, 1141, 1143, 1145, 1147, 1149, 1151, 1153, 1155, 1157, 1159, 1161, 1163, 1165, 1167, 1169, 1171, 1173, 1175, 1177, 1179, 1181, 1183, 1185, 1187, 1189, 1191, 1193, 1195, 1197, 1199, 1201, 1203, 1205, 1207, 1209, 1211, 1213, 1215, 1217, 1219, 1221, 1223, 1225, 1227, 1229, 1231, 1233, 1235, 1237, 1239, 1241, 1243, 1245, 1247, 1249] (by decide +kernel) (by decide +kernel)
/-! ShipSways$Slice -/
def RX3 : String := "ShipSways$Slice"
def TX3 : u_T := fun k => match k with
  | 0 => ("ShipSways$Slice", "length", "I", true)
  | _ => ("ShipSways$Slice", "halves", "[I", true)
def tyX3 : Nat → FieldType := fun k => match k with
  | 0 => .int
  | _ => .array .int
abbrev wsX30 : List Cond := u_ws RX3 TX3 2
theorem nmX3 : ∀ a, a < 2 → ∀ b, b < 2 → a ≠ b → (TX3 a).2.1 ≠ (TX3 b).2.1 := by decide +kernel
theorem tyX3_ok : ∀ k, k < 2 → parseFieldDescriptor (TX3 k).2.2.1 = some (tyX3 k) := by decide +kernel
abbrev cX3_init : ByteArray := prog_6_method_1_code
def yX3_init : MethodName := ⟨RX3, "<init>", "(I)V"⟩
abbrev cX3_wet : ByteArray := prog_6_method_2_code
def yX3_wet : MethodName := ⟨RX3, "wet", "(IIIZ)I"⟩
theorem q74 : (Jvm.Cond.initialized "ShipSways$Slice") ∈ lw_all := lw_g (lw_at lw_m1 7 rfl) rfl
theorem q568 : (Jvm.Cond.selects "ShipSways$Slice" ({ cls := "java/lang/Object", name := "getClass", desc := "()Ljava/lang/Class;" } : Jvm.MethodName) ({ cls := "java/lang/Object", name := "getClass", desc := "()Ljava/lang/Class;" } : Jvm.MethodName)) ∈ lw_all := lw_g (lw_at lw_m3 21 rfl) rfl
theorem q643 : (Jvm.Cond.instantiable "ShipSways$Slice" (2 : Nat)) ∈ lw_all := lw_g (lw_at lw_m3 96 rfl) rfl
theorem q645 : (Jvm.Cond.instanceMethod ({ cls := "ShipSways$Slice", name := "<init>", desc := "(I)V" } : Jvm.MethodName)) ∈ lw_all := lw_g (lw_at lw_m3 98 rfl) rfl
theorem q646 : (Jvm.Cond.code ({ cls := "ShipSways$Slice", name := "<init>", desc := "(I)V" } : Jvm.MethodName) prog_6_method_1_code (2 : Nat) (Option.none : Option Jvm.ClassFile.FieldType)) ∈ lw_all := lw_g (lw_at lw_m3 99 rfl) rfl
theorem q647 : (Jvm.Cond.methodLink "ShipSways$Slice" (3 : Nat) ({ cls := "java/lang/Object", name := "<init>", desc := "()V" } : Jvm.MethodName)) ∈ lw_all := lw_g (lw_at lw_m3 100 rfl) rfl
theorem q648 : (Jvm.Cond.fieldLink "ShipSways$Slice" (15 : Nat) "ShipSways$Slice" "length" "I") ∈ lw_all := lw_g (lw_at lw_m3 101 rfl) rfl
theorem q650 : (Jvm.Cond.fieldLink "ShipSways$Slice" (9 : Nat) "ShipSways$Slice" "halves" "[I") ∈ lw_all := lw_g (lw_at lw_m3 103 rfl) rfl
theorem q652 : (Jvm.Cond.laysFinal "ShipSways$Slice" "ShipSways$Slice" "length" "I") ∈ lw_all := lw_g (lw_at lw_m3 105 rfl) rfl
theorem q653 : (Jvm.Cond.soleField "ShipSways$Slice" "length") ∈ lw_all := lw_g (lw_at lw_m3 106 rfl) rfl
theorem q654 : (Jvm.Cond.laysFinal "ShipSways$Slice" "ShipSways$Slice" "halves" "[I") ∈ lw_all := lw_g (lw_at lw_m3 107 rfl) rfl
theorem q655 : (Jvm.Cond.soleField "ShipSways$Slice" "halves") ∈ lw_all := lw_g (lw_at lw_m3 108 rfl) rfl
theorem q656 : (Jvm.Cond.superclass "ShipSways$Slice" "java/lang/Object") ∈ lw_all := lw_g (lw_at lw_m3 109 rfl) rfl
theorem q760 : (Jvm.Cond.instanceMethod ({ cls := "ShipSways$Slice", name := "wet", desc := "(IIIZ)I" } : Jvm.MethodName)) ∈ lw_all := lw_g (lw_at lw_m3 213 rfl) rfl
theorem q761 : (Jvm.Cond.selects "ShipSways$Slice" ({ cls := "ShipSways$Slice", name := "wet", desc := "(IIIZ)I" } : Jvm.MethodName) ({ cls := "ShipSways$Slice", name := "wet", desc := "(IIIZ)I" } : Jvm.MethodName)) ∈ lw_all := lw_g (lw_at lw_m3 214 rfl) rfl
theorem q762 : (Jvm.Cond.code ({ cls := "ShipSways$Slice", name := "wet", desc := "(IIIZ)I" } : Jvm.MethodName) prog_6_method_2_code (7 : Nat) (Option.some Jvm.ClassFile.FieldType.int)) ∈ lw_all := lw_g (lw_at lw_m3 215 rfl) rfl
theorem q1548 : (Jvm.Cond.castable "ShipSways$Slice" "java/lang/Object") ∈ lw_tbl := lw_at lw_m7 41 rfl
theorem in_X3 : ∀ w ∈ wsX30, w ∈ lw_all := lw_in wsX30 [652, 654] (by decide +kernel) (by decide +kernel)
/-! ShipSways$Weight -/
def RX4 : String := "ShipSways$Weight"
def TX4 : u_T := fun k => match k with
  | 0 => ("ShipSways$Weight", "mass", "I", true)
  | 1 => ("ShipSways$Weight", "told", "I", true)
  | 2 => ("ShipSways$Weight", "height", "I", true)
  | 3 => ("ShipSways$Weight", "mark", "I", true)
  | _ => ("ShipSways$Weight", "isGone", "Z", false)
def tyX4 : Nat → FieldType := fun k => match k with
  | 0 => .int
  | 1 => .int
  | 2 => .int
  | 3 => .int
  | _ => .boolean
abbrev wsX40 : List Cond := u_ws RX4 TX4 5
theorem nmX4 : ∀ a, a < 5 → ∀ b, b < 5 → a ≠ b → (TX4 a).2.1 ≠ (TX4 b).2.1 := by decide +kernel
theorem tyX4_ok : ∀ k, k < 5 → parseFieldDescriptor (TX4 k).2.2.1 = some (tyX4 k) := by decide +kernel
abbrev cX4_init : ByteArray := prog_10_method_1_code
def yX4_init : MethodName := ⟨RX4, "<init>", "(IIII)V"⟩
theorem q79 : (Jvm.Cond.initialized "ShipSways$Weight") ∈ lw_all := lw_g (lw_at lw_m1 12 rfl) rfl
theorem q572 : (Jvm.Cond.selects "ShipSways$Weight" ({ cls := "java/lang/Object", name := "getClass", desc := "()Ljava/lang/Class;" } : Jvm.MethodName) ({ cls := "java/lang/Object", name := "getClass", desc := "()Ljava/lang/Class;" } : Jvm.MethodName)) ∈ lw_all := lw_g (lw_at lw_m3 25 rfl) rfl
theorem q669 : (Jvm.Cond.instantiable "ShipSways$Weight" (5 : Nat)) ∈ lw_all := lw_g (lw_at lw_m3 122 rfl) rfl
theorem q671 : (Jvm.Cond.instanceMethod ({ cls := "ShipSways$Weight", name := "<init>", desc := "(IIII)V" } : Jvm.MethodName)) ∈ lw_all := lw_g (lw_at lw_m3 124 rfl) rfl
theorem q672 : (Jvm.Cond.code ({ cls := "ShipSways$Weight", name := "<init>", desc := "(IIII)V" } : Jvm.MethodName) prog_10_method_1_code (5 : Nat) (Option.none : Option Jvm.ClassFile.FieldType)) ∈ lw_all := lw_g (lw_at lw_m3 125 rfl) rfl
theorem q673 : (Jvm.Cond.methodLink "ShipSways$Weight" (1 : Nat) ({ cls := "java/lang/Object", name := "<init>", desc := "()V" } : Jvm.MethodName)) ∈ lw_all := lw_g (lw_at lw_m3 126 rfl) rfl
theorem q674 : (Jvm.Cond.fieldLink "ShipSways$Weight" (7 : Nat) "ShipSways$Weight" "mass" "I") ∈ lw_all := lw_g (lw_at lw_m3 127 rfl) rfl
theorem q676 : (Jvm.Cond.fieldLink "ShipSways$Weight" (13 : Nat) "ShipSways$Weight" "told" "I") ∈ lw_all := lw_g (lw_at lw_m3 129 rfl) rfl
theorem q678 : (Jvm.Cond.fieldLink "ShipSways$Weight" (16 : Nat) "ShipSways$Weight" "height" "I") ∈ lw_all := lw_g (lw_at lw_m3 131 rfl) rfl
theorem q680 : (Jvm.Cond.fieldLink "ShipSways$Weight" (19 : Nat) "ShipSways$Weight" "mark" "I") ∈ lw_all := lw_g (lw_at lw_m3 133 rfl) rfl
theorem q684 : (Jvm.Cond.laysFinal "ShipSways$Weight" "ShipSways$Weight" "mass" "I") ∈ lw_all := lw_g (lw_at lw_m3 137 rfl) rfl
theorem q685 : (Jvm.Cond.soleField "ShipSways$Weight" "mass") ∈ lw_all := lw_g (lw_at lw_m3 138 rfl) rfl
theorem q686 : (Jvm.Cond.laysFinal "ShipSways$Weight" "ShipSways$Weight" "told" "I") ∈ lw_all := lw_g (lw_at lw_m3 139 rfl) rfl
theorem q687 : (Jvm.Cond.soleField "ShipSways$Weight" "told") ∈ lw_all := lw_g (lw_at lw_m3 140 rfl) rfl
theorem q688 : (Jvm.Cond.laysFinal "ShipSways$Weight" "ShipSways$Weight" "height" "I") ∈ lw_all := lw_g (lw_at lw_m3 141 rfl) rfl
theorem q689 : (Jvm.Cond.soleField "ShipSways$Weight" "height") ∈ lw_all := lw_g (lw_at lw_m3 142 rfl) rfl
theorem q690 : (Jvm.Cond.laysFinal "ShipSways$Weight" "ShipSways$Weight" "mark" "I") ∈ lw_all := lw_g (lw_at lw_m3 143 rfl) rfl
theorem q691 : (Jvm.Cond.soleField "ShipSways$Weight" "mark") ∈ lw_all := lw_g (lw_at lw_m3 144 rfl) rfl
theorem q692 : (Jvm.Cond.lays "ShipSways$Weight" "ShipSways$Weight" "isGone" "Z") ∈ lw_all := lw_g (lw_at lw_m3 145 rfl) rfl
theorem q693 : (Jvm.Cond.soleField "ShipSways$Weight" "isGone") ∈ lw_all := lw_g (lw_at lw_m3 146 rfl) rfl
theorem q694 : (Jvm.Cond.superclass "ShipSways$Weight" "java/lang/Object") ∈ lw_all := lw_g (lw_at lw_m3 147 rfl) rfl
theorem q1549 : (Jvm.Cond.castable "ShipSways$Weight" "java/lang/Object") ∈ lw_tbl := lw_at lw_m7 42 rfl
theorem in_X4 : ∀ w ∈ wsX40, w ∈ lw_all := lw_in wsX40 [684, 686, 688, 690, 692] (by decide +kernel) (by decide +kernel)
/-! ShipSways$Tank -/
def RX5 : String := "ShipSways$Tank"
def TX5 : u_T := fun k => match k with
  | 0 => ("ShipSways$Tank", "wide", "I", true)
  | 1 => ("ShipSways$Tank", "height", "I", true)
  | 2 => ("ShipSways$Tank", "holds", "I", true)
  | _ => ("ShipSways$Tank", "has", "I", false)
def tyX5 : Nat → FieldType := fun k => match k with
  | 0 => .int
  | 1 => .int
  | 2 => .int
  | _ => .int
abbrev wsX50 : List Cond := u_ws RX5 TX5 4
theorem nmX5 : ∀ a, a < 4 → ∀ b, b < 4 → a ≠ b → (TX5 a).2.1 ≠ (TX5 b).2.1 := by decide +kernel
theorem tyX5_ok : ∀ k, k < 4 → parseFieldDescriptor (TX5 k).2.2.1 = some (tyX5 k) := by decide +kernel
abbrev cX5_init : ByteArray := prog_7_method_1_code
def yX5_init : MethodName := ⟨RX5, "<init>", "(III)V"⟩
abbrev cX5_place : ByteArray := prog_7_method_2_code
def yX5_place : MethodName := ⟨RX5, "place", "(I)I"⟩
theorem q82 : (Jvm.Cond.initialized "ShipSways$Tank") ∈ lw_all := lw_g (lw_at lw_m1 15 rfl) rfl
theorem q569 : (Jvm.Cond.selects "ShipSways$Tank" ({ cls := "java/lang/Object", name := "getClass", desc := "()Ljava/lang/Class;" } : Jvm.MethodName) ({ cls := "java/lang/Object", name := "getClass", desc := "()Ljava/lang/Class;" } : Jvm.MethodName)) ∈ lw_all := lw_g (lw_at lw_m3 22 rfl) rfl
theorem q711 : (Jvm.Cond.instantiable "ShipSways$Tank" (4 : Nat)) ∈ lw_all := lw_g (lw_at lw_m3 164 rfl) rfl
theorem q713 : (Jvm.Cond.instanceMethod ({ cls := "ShipSways$Tank", name := "<init>", desc := "(III)V" } : Jvm.MethodName)) ∈ lw_all := lw_g (lw_at lw_m3 166 rfl) rfl
theorem q714 : (Jvm.Cond.code ({ cls := "ShipSways$Tank", name := "<init>", desc := "(III)V" } : Jvm.MethodName) prog_7_method_1_code (4 : Nat) (Option.none : Option Jvm.ClassFile.FieldType)) ∈ lw_all := lw_g (lw_at lw_m3 167 rfl) rfl
theorem q715 : (Jvm.Cond.methodLink "ShipSways$Tank" (1 : Nat) ({ cls := "java/lang/Object", name := "<init>", desc := "()V" } : Jvm.MethodName)) ∈ lw_all := lw_g (lw_at lw_m3 168 rfl) rfl
theorem q716 : (Jvm.Cond.fieldLink "ShipSways$Tank" (7 : Nat) "ShipSways$Tank" "wide" "I") ∈ lw_all := lw_g (lw_at lw_m3 169 rfl) rfl
theorem q717 : (Jvm.Cond.fieldLink "ShipSways$Tank" (13 : Nat) "ShipSways$Tank" "height" "I") ∈ lw_all := lw_g (lw_at lw_m3 170 rfl) rfl
theorem q719 : (Jvm.Cond.fieldLink "ShipSways$Tank" (16 : Nat) "ShipSways$Tank" "holds" "I") ∈ lw_all := lw_g (lw_at lw_m3 172 rfl) rfl
theorem q721 : (Jvm.Cond.fieldLink "ShipSways$Tank" (19 : Nat) "ShipSways$Tank" "has" "I") ∈ lw_all := lw_g (lw_at lw_m3 174 rfl) rfl
theorem q723 : (Jvm.Cond.laysFinal "ShipSways$Tank" "ShipSways$Tank" "wide" "I") ∈ lw_all := lw_g (lw_at lw_m3 176 rfl) rfl
theorem q724 : (Jvm.Cond.soleField "ShipSways$Tank" "wide") ∈ lw_all := lw_g (lw_at lw_m3 177 rfl) rfl
theorem q725 : (Jvm.Cond.laysFinal "ShipSways$Tank" "ShipSways$Tank" "height" "I") ∈ lw_all := lw_g (lw_at lw_m3 178 rfl) rfl
theorem q726 : (Jvm.Cond.soleField "ShipSways$Tank" "height") ∈ lw_all := lw_g (lw_at lw_m3 179 rfl) rfl
theorem q727 : (Jvm.Cond.laysFinal "ShipSways$Tank" "ShipSways$Tank" "holds" "I") ∈ lw_all := lw_g (lw_at lw_m3 180 rfl) rfl
theorem q728 : (Jvm.Cond.soleField "ShipSways$Tank" "holds") ∈ lw_all := lw_g (lw_at lw_m3 181 rfl) rfl
theorem q729 : (Jvm.Cond.lays "ShipSways$Tank" "ShipSways$Tank" "has" "I") ∈ lw_all := lw_g (lw_at lw_m3 182 rfl) rfl
theorem q730 : (Jvm.Cond.soleField "ShipSways$Tank" "has") ∈ lw_all := lw_g (lw_at lw_m3 183 rfl) rfl
theorem q731 : (Jvm.Cond.superclass "ShipSways$Tank" "java/lang/Object") ∈ lw_all := lw_g (lw_at lw_m3 184 rfl) rfl
theorem q771 : (Jvm.Cond.instanceMethod ({ cls := "ShipSways$Tank", name := "place", desc := "(I)I" } : Jvm.MethodName)) ∈ lw_all := lw_g (lw_at lw_m3 224 rfl) rfl
theorem q772 : (Jvm.Cond.selects "ShipSways$Tank" ({ cls := "ShipSways$Tank", name := "place", desc := "(I)I" } : Jvm.MethodName) ({ cls := "ShipSways$Tank", name := "place", desc := "(I)I" } : Jvm.MethodName)) ∈ lw_all := lw_g (lw_at lw_m3 225 rfl) rfl
theorem q773 : (Jvm.Cond.code ({ cls := "ShipSways$Tank", name := "place", desc := "(I)I" } : Jvm.MethodName) prog_7_method_2_code (2 : Nat) (Option.some Jvm.ClassFile.FieldType.int)) ∈ lw_all := lw_g (lw_at lw_m3 226 rfl) rfl
theorem q1550 : (Jvm.Cond.castable "ShipSways$Tank" "java/lang/Object") ∈ lw_tbl := lw_at lw_m7 43 rfl
theorem in_X5 : ∀ w ∈ wsX50, w ∈ lw_all := lw_in wsX50 [723, 725, 727, 729] (by decide +kernel) (by decide +kernel)
/-! ShipSways$Wave -/
def RX6 : String := "ShipSways$Wave"
def TX6 : u_T := fun k => match k with
  | 0 => ("ShipSways$Wave", "height", "I", true)
  | 1 => ("ShipSways$Wave", "period", "I", true)
  | _ => ("ShipSways$Wave", "phase", "I", true)
def tyX6 : Nat → FieldType := fun k => match k with
  | 0 => .int
  | 1 => .int
  | _ => .int
abbrev wsX60 : List Cond := u_ws RX6 TX6 3
theorem nmX6 : ∀ a, a < 3 → ∀ b, b < 3 → a ≠ b → (TX6 a).2.1 ≠ (TX6 b).2.1 := by decide +kernel
theorem tyX6_ok : ∀ k, k < 3 → parseFieldDescriptor (TX6 k).2.2.1 = some (tyX6 k) := by decide +kernel
abbrev cX6_init : ByteArray := prog_9_method_1_code
def yX6_init : MethodName := ⟨RX6, "<init>", "(III)V"⟩
abbrev cX6_push : ByteArray := prog_9_method_3_code
def yX6_push : MethodName := ⟨RX6, "push", "(I)I"⟩
abbrev cX6_sine : ByteArray := prog_9_method_2_code
def yX6_sine : MethodName := ⟨RX6, "sine", "(I)I"⟩
theorem q83 : (Jvm.Cond.initialized "ShipSways$Wave") ∈ lw_all := lw_g (lw_at lw_m1 16 rfl) rfl
theorem q571 : (Jvm.Cond.selects "ShipSways$Wave" ({ cls := "java/lang/Object", name := "getClass", desc := "()Ljava/lang/Class;" } : Jvm.MethodName) ({ cls := "java/lang/Object", name := "getClass", desc := "()Ljava/lang/Class;" } : Jvm.MethodName)) ∈ lw_all := lw_g (lw_at lw_m3 24 rfl) rfl
theorem q802 : (Jvm.Cond.instantiable "ShipSways$Wave" (3 : Nat)) ∈ lw_all := lw_g (lw_at lw_m4 15 rfl) rfl
theorem q804 : (Jvm.Cond.instanceMethod ({ cls := "ShipSways$Wave", name := "<init>", desc := "(III)V" } : Jvm.MethodName)) ∈ lw_all := lw_g (lw_at lw_m4 17 rfl) rfl
theorem q805 : (Jvm.Cond.code ({ cls := "ShipSways$Wave", name := "<init>", desc := "(III)V" } : Jvm.MethodName) prog_9_method_1_code (4 : Nat) (Option.none : Option Jvm.ClassFile.FieldType)) ∈ lw_all := lw_g (lw_at lw_m4 18 rfl) rfl
theorem q806 : (Jvm.Cond.methodLink "ShipSways$Wave" (1 : Nat) ({ cls := "java/lang/Object", name := "<init>", desc := "()V" } : Jvm.MethodName)) ∈ lw_all := lw_g (lw_at lw_m4 19 rfl) rfl
theorem q807 : (Jvm.Cond.fieldLink "ShipSways$Wave" (7 : Nat) "ShipSways$Wave" "height" "I") ∈ lw_all := lw_g (lw_at lw_m4 20 rfl) rfl
theorem q808 : (Jvm.Cond.fieldLink "ShipSways$Wave" (13 : Nat) "ShipSways$Wave" "period" "I") ∈ lw_all := lw_g (lw_at lw_m4 21 rfl) rfl
theorem q809 : (Jvm.Cond.fieldLink "ShipSways$Wave" (16 : Nat) "ShipSways$Wave" "phase" "I") ∈ lw_all := lw_g (lw_at lw_m4 22 rfl) rfl
theorem q810 : (Jvm.Cond.laysFinal "ShipSways$Wave" "ShipSways$Wave" "height" "I") ∈ lw_all := lw_g (lw_at lw_m4 23 rfl) rfl
theorem q811 : (Jvm.Cond.soleField "ShipSways$Wave" "height") ∈ lw_all := lw_g (lw_at lw_m4 24 rfl) rfl
theorem q812 : (Jvm.Cond.laysFinal "ShipSways$Wave" "ShipSways$Wave" "period" "I") ∈ lw_all := lw_g (lw_at lw_m4 25 rfl) rfl
theorem q813 : (Jvm.Cond.soleField "ShipSways$Wave" "period") ∈ lw_all := lw_g (lw_at lw_m4 26 rfl) rfl
theorem q814 : (Jvm.Cond.laysFinal "ShipSways$Wave" "ShipSways$Wave" "phase" "I") ∈ lw_all := lw_g (lw_at lw_m4 27 rfl) rfl
theorem q815 : (Jvm.Cond.soleField "ShipSways$Wave" "phase") ∈ lw_all := lw_g (lw_at lw_m4 28 rfl) rfl
theorem q816 : (Jvm.Cond.superclass "ShipSways$Wave" "java/lang/Object") ∈ lw_all := lw_g (lw_at lw_m4 29 rfl) rfl
theorem q827 : (Jvm.Cond.instanceMethod ({ cls := "ShipSways$Wave", name := "push", desc := "(I)I" } : Jvm.MethodName)) ∈ lw_all := lw_g (lw_at lw_m4 40 rfl) rfl
theorem q828 : (Jvm.Cond.selects "ShipSways$Wave" ({ cls := "ShipSways$Wave", name := "push", desc := "(I)I" } : Jvm.MethodName) ({ cls := "ShipSways$Wave", name := "push", desc := "(I)I" } : Jvm.MethodName)) ∈ lw_all := lw_g (lw_at lw_m4 41 rfl) rfl
theorem q829 : (Jvm.Cond.code ({ cls := "ShipSways$Wave", name := "push", desc := "(I)I" } : Jvm.MethodName) prog_9_method_3_code (2 : Nat) (Option.some Jvm.ClassFile.FieldType.int)) ∈ lw_all := lw_g (lw_at lw_m4 42 rfl) rfl
theorem q830 : (Jvm.Cond.methodLink "ShipSways$Wave" (25 : Nat) ({ cls := "ShipSways$Wave", name := "sine", desc := "(I)I" } : Jvm.MethodName)) ∈ lw_all := lw_g (lw_at lw_m4 43 rfl) rfl
theorem q831 : (Jvm.Cond.instanceMethod ({ cls := "ShipSways$Wave", name := "sine", desc := "(I)I" } : Jvm.MethodName)) ∈ lw_all := lw_g (lw_at lw_m4 44 rfl) rfl
theorem q832 : (Jvm.Cond.selects "ShipSways$Wave" ({ cls := "ShipSways$Wave", name := "sine", desc := "(I)I" } : Jvm.MethodName) ({ cls := "ShipSways$Wave", name := "sine", desc := "(I)I" } : Jvm.MethodName)) ∈ lw_all := lw_g (lw_at lw_m4 45 rfl) rfl
theorem q833 : (Jvm.Cond.code ({ cls := "ShipSways$Wave", name := "sine", desc := "(I)I" } : Jvm.MethodName) prog_9_method_2_code (2 : Nat) (Option.some Jvm.ClassFile.FieldType.int)) ∈ lw_all := lw_g (lw_at lw_m4 46 rfl) rfl
theorem q834 : (Jvm.Cond.fieldLinkNest "ShipSways$Wave" (19 : Nat) "ShipSways" "SINES" "[I" "ShipSways") ∈ lw_tbl := lw_at lw_m4 47 rfl
theorem q1551 : (Jvm.Cond.castable "ShipSways$Wave" "java/lang/Object") ∈ lw_tbl := lw_at lw_m7 44 rfl
theorem in_X6 : ∀ w ∈ wsX60, w ∈ lw_all := lw_in wsX60 [810, 812, 814] (by decide +kernel) (by decide +kernel)
/-! ShipSways$Mark -/
def RX7 : String := "ShipSways$Mark"
abbrev cX7_init : ByteArray := prog_2_method_1_code
def yX7_init : MethodName := ⟨RX7, "<init>", "()V"⟩
theorem q84 : (Jvm.Cond.initialized "ShipSways$Mark") ∈ lw_all := lw_g (lw_at lw_m1 17 rfl) rfl
theorem q521 : (Jvm.Cond.instanceMethod ({ cls := "ShipSways$Mark", name := "<init>", desc := "()V" } : Jvm.MethodName)) ∈ lw_all := lw_g (lw_at lw_m2 214 rfl) rfl
theorem q522 : (Jvm.Cond.code ({ cls := "ShipSways$Mark", name := "<init>", desc := "()V" } : Jvm.MethodName) prog_2_method_1_code (1 : Nat) (Option.none : Option Jvm.ClassFile.FieldType)) ∈ lw_all := lw_g (lw_at lw_m2 215 rfl) rfl
theorem q523 : (Jvm.Cond.methodLink "ShipSways$Mark" (1 : Nat) ({ cls := "java/lang/Object", name := "<init>", desc := "()V" } : Jvm.MethodName)) ∈ lw_all := lw_g (lw_at lw_m2 216 rfl) rfl
theorem q877 : (Jvm.Cond.declares ({ cls := "ShipSways$Mark", name := "does", desc := "([II[I)I" } : Jvm.MethodName)) ∈ lw_tbl := lw_at lw_m4 90 rfl
theorem q878 : (Jvm.Cond.sameMethod "ShipSways$Mark" "ShipSways$Mark" "does" "([II[I)I") ∈ lw_all := lw_g (lw_at lw_m4 91 rfl) rfl
theorem q1543 : (Jvm.Cond.castable "ShipSways$Mark" "java/lang/Object") ∈ lw_tbl := lw_at lw_m7 36 rfl
/-! ShipSways$Sign -/
def RX8 : String := "ShipSways$Sign"
def TX8 : u_T := fun k => match k with
  | _ => ("ShipSways$Sign", "sign", "I", true)
def tyX8 : Nat → FieldType := fun k => match k with
  | _ => .int
abbrev wsX80 : List Cond := u_ws RX8 TX8 1
theorem nmX8 : ∀ a, a < 1 → ∀ b, b < 1 → a ≠ b → (TX8 a).2.1 ≠ (TX8 b).2.1 := by decide +kernel
theorem tyX8_ok : ∀ k, k < 1 → parseFieldDescriptor (TX8 k).2.2.1 = some (tyX8 k) := by decide +kernel
abbrev cX8_init : ByteArray := prog_5_method_1_code
def yX8_init : MethodName := ⟨RX8, "<init>", "(I)V"⟩
abbrev cX8_does : ByteArray := prog_5_method_4_code
def yX8_does : MethodName := ⟨RX8, "does", "([II[I)I"⟩
abbrev cX8_of : ByteArray := prog_5_method_3_code
def yX8_of : MethodName := ⟨RX8, "of", "(II)I"⟩
abbrev cX8_brought : ByteArray := prog_5_method_2_code
def yX8_brought : MethodName := ⟨RX8, "brought", "(J)I"⟩
theorem q85 : (Jvm.Cond.initialized "ShipSways$Sign") ∈ lw_all := lw_g (lw_at lw_m1 18 rfl) rfl
theorem q516 : (Jvm.Cond.instantiable "ShipSways$Sign" (1 : Nat)) ∈ lw_all := lw_g (lw_at lw_m2 209 rfl) rfl
theorem q518 : (Jvm.Cond.instanceMethod ({ cls := "ShipSways$Sign", name := "<init>", desc := "(I)V" } : Jvm.MethodName)) ∈ lw_all := lw_g (lw_at lw_m2 211 rfl) rfl
theorem q519 : (Jvm.Cond.code ({ cls := "ShipSways$Sign", name := "<init>", desc := "(I)V" } : Jvm.MethodName) prog_5_method_1_code (2 : Nat) (Option.none : Option Jvm.ClassFile.FieldType)) ∈ lw_all := lw_g (lw_at lw_m2 212 rfl) rfl
theorem q520 : (Jvm.Cond.methodLinkNest "ShipSways$Sign" (3 : Nat) ({ cls := "ShipSways$Mark", name := "<init>", desc := "()V" } : Jvm.MethodName) "ShipSways") ∈ lw_tbl := lw_at lw_m2 213 rfl
theorem q524 : (Jvm.Cond.fieldLink "ShipSways$Sign" (9 : Nat) "ShipSways$Sign" "sign" "I") ∈ lw_all := lw_g (lw_at lw_m2 217 rfl) rfl
theorem q525 : (Jvm.Cond.laysFinal "ShipSways$Sign" "ShipSways$Sign" "sign" "I") ∈ lw_all := lw_g (lw_at lw_m2 218 rfl) rfl
theorem q526 : (Jvm.Cond.soleField "ShipSways$Sign" "sign") ∈ lw_all := lw_g (lw_at lw_m2 219 rfl) rfl
theorem q527 : (Jvm.Cond.superclass "ShipSways$Sign" "ShipSways$Mark") ∈ lw_all := lw_g (lw_at lw_m2 220 rfl) rfl
theorem q567 : (Jvm.Cond.selects "ShipSways$Sign" ({ cls := "java/lang/Object", name := "getClass", desc := "()Ljava/lang/Class;" } : Jvm.MethodName) ({ cls := "java/lang/Object", name := "getClass", desc := "()Ljava/lang/Class;" } : Jvm.MethodName)) ∈ lw_all := lw_g (lw_at lw_m3 20 rfl) rfl
theorem q879 : (Jvm.Cond.selects "ShipSways$Sign" ({ cls := "ShipSways$Mark", name := "does", desc := "([II[I)I" } : Jvm.MethodName) ({ cls := "ShipSways$Sign", name := "does", desc := "([II[I)I" } : Jvm.MethodName)) ∈ lw_all := lw_g (lw_at lw_m4 92 rfl) rfl
theorem q880 : (Jvm.Cond.instanceMethod ({ cls := "ShipSways$Sign", name := "does", desc := "([II[I)I" } : Jvm.MethodName)) ∈ lw_all := lw_g (lw_at lw_m4 93 rfl) rfl
theorem q881 : (Jvm.Cond.code ({ cls := "ShipSways$Sign", name := "does", desc := "([II[I)I" } : Jvm.MethodName) prog_5_method_4_code (4 : Nat) (Option.some Jvm.ClassFile.FieldType.int)) ∈ lw_all := lw_g (lw_at lw_m4 94 rfl) rfl
theorem q882 : (Jvm.Cond.methodLink "ShipSways$Sign" (32 : Nat) ({ cls := "ShipSways$Sign", name := "of", desc := "(II)I" } : Jvm.MethodName)) ∈ lw_all := lw_g (lw_at lw_m4 95 rfl) rfl
theorem q883 : (Jvm.Cond.privateMethod ({ cls := "ShipSways$Sign", name := "of", desc := "(II)I" } : Jvm.MethodName)) ∈ lw_tbl := lw_at lw_m4 96 rfl
theorem q884 : (Jvm.Cond.instanceMethod ({ cls := "ShipSways$Sign", name := "of", desc := "(II)I" } : Jvm.MethodName)) ∈ lw_all := lw_g (lw_at lw_m4 97 rfl) rfl
theorem q885 : (Jvm.Cond.code ({ cls := "ShipSways$Sign", name := "of", desc := "(II)I" } : Jvm.MethodName) prog_5_method_3_code (3 : Nat) (Option.some Jvm.ClassFile.FieldType.int)) ∈ lw_all := lw_g (lw_at lw_m4 98 rfl) rfl
theorem q886 : (Jvm.Cond.methodLink "ShipSways$Sign" (28 : Nat) ({ cls := "ShipSways$Sign", name := "brought", desc := "(J)I" } : Jvm.MethodName)) ∈ lw_all := lw_g (lw_at lw_m4 99 rfl) rfl
theorem q887 : (Jvm.Cond.static ({ cls := "ShipSways$Sign", name := "brought", desc := "(J)I" } : Jvm.MethodName)) ∈ lw_all := lw_g (lw_at lw_m4 100 rfl) rfl
theorem q888 : (Jvm.Cond.code ({ cls := "ShipSways$Sign", name := "brought", desc := "(J)I" } : Jvm.MethodName) prog_5_method_2_code (2 : Nat) (Option.some Jvm.ClassFile.FieldType.int)) ∈ lw_all := lw_g (lw_at lw_m4 101 rfl) rfl
theorem q889 : (Jvm.Cond.constantLong "ShipSways$Sign" (15 : Nat) (-1000000 : Int64)) ∈ lw_all := lw_g (lw_at lw_m4 102 rfl) rfl
theorem q890 : (Jvm.Cond.constantLong "ShipSways$Sign" (17 : Nat) (1000000 : Int64)) ∈ lw_all := lw_g (lw_at lw_m4 103 rfl) rfl
theorem q891 : (Jvm.Cond.methodLink "ShipSways$Sign" (19 : Nat) ({ cls := "java/lang/Math", name := "min", desc := "(JJ)J" } : Jvm.MethodName)) ∈ lw_all := lw_g (lw_at lw_m4 104 rfl) rfl
theorem q894 : (Jvm.Cond.methodLink "ShipSways$Sign" (25 : Nat) ({ cls := "java/lang/Math", name := "max", desc := "(JJ)J" } : Jvm.MethodName)) ∈ lw_all := lw_g (lw_at lw_m4 107 rfl) rfl
theorem q1540 : (Jvm.Cond.castable "ShipSways$Sign" "ShipSways$Mark") ∈ lw_tbl := lw_at lw_m7 33 rfl
theorem q1553 : (Jvm.Cond.castable "ShipSways$Sign" "java/lang/Object") ∈ lw_tbl := lw_at lw_m7 46 rfl
theorem in_X8 : ∀ w ∈ wsX80, w ∈ lw_all := lw_in wsX80 [525] (by decide +kernel) (by decide +kernel)
/-! ShipSways$Reader -/
def RX9 : String := "ShipSways$Reader"
def TX9 : u_T := fun k => match k with
  | 0 => ("ShipSways$Reader", "clauseWords", "[Ljava/lang/String;", true)
  | 1 => ("ShipSways$Reader", "nameWords", "[Ljava/lang/String;", true)
  | 2 => ("ShipSways$Reader", "text", "[B", true)
  | 3 => ("ShipSways$Reader", "length", "I", true)
  | 4 => ("ShipSways$Reader", "marks", "Ljava/util/ArrayList;", true)
  | 5 => ("ShipSways$Reader", "clauses", "[[LShipSways$Mark;", true)
  | 6 => ("ShipSways$Reader", "kind", "I", false)
  | 7 => ("ShipSways$Reader", "from", "I", false)
  | 8 => ("ShipSways$Reader", "to", "I", false)
  | 9 => ("ShipSways$Reader", "value", "I", false)
  | _ => ("ShipSways$Reader", "fault", "I", false)
def tyX9 : Nat → FieldType := fun k => match k with
  | 0 => .array (.object "java/lang/String")
  | 1 => .array (.object "java/lang/String")
  | 2 => .array .byte
  | 3 => .int
  | 4 => .object "java/util/ArrayList"
  | 5 => .array (.array (.object "ShipSways$Mark"))
  | 6 => .int
  | 7 => .int
  | 8 => .int
  | 9 => .int
  | _ => .int
abbrev wsX90 : List Cond := u_ws RX9 TX9 11
theorem nmX9 : ∀ a, a < 11 → ∀ b, b < 11 → a ≠ b → (TX9 a).2.1 ≠ (TX9 b).2.1 := by decide +kernel
theorem tyX9_ok : ∀ k, k < 11 → parseFieldDescriptor (TX9 k).2.2.1 = some (tyX9 k) := by decide +kernel
abbrev cX9_init : ByteArray := prog_3_method_1_code
def yX9_init : MethodName := ⟨RX9, "<init>", "([BI)V"⟩
abbrev cX9_reads : ByteArray := prog_3_method_15_code
def yX9_reads : MethodName := ⟨RX9, "reads", "()[[LShipSways$Mark;"⟩
abbrev cX9_next : ByteArray := prog_3_method_3_code
def yX9_next : MethodName := ⟨RX9, "next", "()V"⟩
abbrev cX9_isBetween : ByteArray := prog_3_method_2_code
def yX9_isBetween : MethodName := ⟨RX9, "isBetween", "(III)Z"⟩
abbrev cX9_clause : ByteArray := prog_3_method_14_code
def yX9_clause : MethodName := ⟨RX9, "clause", "()Z"⟩
abbrev cX9_wordOf : ByteArray := prog_3_method_5_code
def yX9_wordOf : MethodName := ⟨RX9, "wordOf", "([Ljava/lang/String;)I"⟩
abbrev cX9_isWord : ByteArray := prog_3_method_4_code
def yX9_isWord : MethodName := ⟨RX9, "isWord", "(Ljava/lang/String;)Z"⟩
abbrev cX9_passes : ByteArray := prog_3_method_6_code
def yX9_passes : MethodName := ⟨RX9, "passes", "(Z)Z"⟩
abbrev cX9_either : ByteArray := prog_3_method_11_code
def yX9_either : MethodName := ⟨RX9, "either", "(I)Z"⟩
abbrev cX9_each : ByteArray := prog_3_method_12_code
def yX9_each : MethodName := ⟨RX9, "each", "(I)Z"⟩
abbrev cX9_test : ByteArray := prog_3_method_13_code
def yX9_test : MethodName := ⟨RX9, "test", "(I)Z"⟩
abbrev cX9_puts : ByteArray := prog_3_method_7_code
def yX9_puts : MethodName := ⟨RX9, "puts", "(LShipSways$Mark;)Z"⟩
abbrev cX9_sum : ByteArray := prog_3_method_8_code
def yX9_sum : MethodName := ⟨RX9, "sum", "(I)Z"⟩
abbrev cX9_product : ByteArray := prog_3_method_9_code
def yX9_product : MethodName := ⟨RX9, "product", "(I)Z"⟩
abbrev cX9_factor : ByteArray := prog_3_method_10_code
def yX9_factor : MethodName := ⟨RX9, "factor", "(I)Z"⟩
theorem q86 : (Jvm.Cond.initialized "ShipSways$Reader") ∈ lw_all := lw_g (lw_at lw_m1 19 rfl) rfl
theorem q304 : (Jvm.Cond.instantiable "ShipSways$Reader" (11 : Nat)) ∈ lw_all := lw_g (lw_at lw_m1 237 rfl) rfl
theorem q306 : (Jvm.Cond.instanceMethod ({ cls := "ShipSways$Reader", name := "<init>", desc := "([BI)V" } : Jvm.MethodName)) ∈ lw_all := lw_g (lw_at lw_m1 239 rfl) rfl
theorem q307 : (Jvm.Cond.code ({ cls := "ShipSways$Reader", name := "<init>", desc := "([BI)V" } : Jvm.MethodName) prog_3_method_1_code (3 : Nat) (Option.none : Option Jvm.ClassFile.FieldType)) ∈ lw_all := lw_g (lw_at lw_m2 0 rfl) rfl
theorem q308 : (Jvm.Cond.methodLink "ShipSways$Reader" (3 : Nat) ({ cls := "java/lang/Object", name := "<init>", desc := "()V" } : Jvm.MethodName)) ∈ lw_all := lw_g (lw_at lw_m2 1 rfl) rfl
theorem q309 : (Jvm.Cond.classLink "ShipSways$Reader" (9 : Nat) "java/lang/String") ∈ lw_all := lw_g (lw_at lw_m2 2 rfl) rfl
theorem q311 : (Jvm.Cond.stringRef "ShipSways$Reader" (11 : Nat) "work") ∈ lw_tbl := lw_at lw_m2 4 rfl
theorem q312 : (Jvm.Cond.stringRef "ShipSways$Reader" (13 : Nat) "fin") ∈ lw_tbl := lw_at lw_m2 5 rfl
theorem q313 : (Jvm.Cond.stringRef "ShipSways$Reader" (21 : Nat) "slope") ∈ lw_tbl := lw_at lw_m2 6 rfl
theorem q314 : (Jvm.Cond.stringRef "ShipSways$Reader" (23 : Nat) "speed") ∈ lw_tbl := lw_at lw_m2 7 rfl
theorem q315 : (Jvm.Cond.stringRef "ShipSways$Reader" (25 : Nat) "tick") ∈ lw_tbl := lw_at lw_m2 8 rfl
theorem q316 : (Jvm.Cond.stringRef "ShipSways$Reader" (27 : Nat) "sick") ∈ lw_tbl := lw_at lw_m2 9 rfl
theorem q317 : (Jvm.Cond.stringRef "ShipSways$Reader" (29 : Nat) "sea") ∈ lw_tbl := lw_at lw_m2 10 rfl
theorem q318 : (Jvm.Cond.stringRef "ShipSways$Reader" (31 : Nat) "wet") ∈ lw_tbl := lw_at lw_m2 11 rfl
theorem q319 : (Jvm.Cond.stringRef "ShipSways$Reader" (33 : Nat) "moved") ∈ lw_tbl := lw_at lw_m2 12 rfl
theorem q320 : (Jvm.Cond.classLink "ShipSways$Reader" (38 : Nat) "java/util/ArrayList") ∈ lw_all := lw_g (lw_at lw_m2 13 rfl) rfl
theorem q321 : (Jvm.Cond.methodLink "ShipSways$Reader" (40 : Nat) ({ cls := "java/util/ArrayList", name := "<init>", desc := "(I)V" } : Jvm.MethodName)) ∈ lw_all := lw_g (lw_at lw_m2 14 rfl) rfl
theorem q322 : (Jvm.Cond.classLink "ShipSways$Reader" (47 : Nat) "[LShipSways$Mark;") ∈ lw_all := lw_g (lw_at lw_m2 15 rfl) rfl
theorem q324 : (Jvm.Cond.fieldLink "ShipSways$Reader" (15 : Nat) "ShipSways$Reader" "clauseWords" "[Ljava/lang/String;") ∈ lw_all := lw_g (lw_at lw_m2 17 rfl) rfl
theorem q325 : (Jvm.Cond.fieldLink "ShipSways$Reader" (35 : Nat) "ShipSways$Reader" "nameWords" "[Ljava/lang/String;") ∈ lw_all := lw_g (lw_at lw_m2 18 rfl) rfl
theorem q326 : (Jvm.Cond.fieldLink "ShipSways$Reader" (57 : Nat) "ShipSways$Reader" "text" "[B") ∈ lw_all := lw_g (lw_at lw_m2 19 rfl) rfl
theorem q327 : (Jvm.Cond.fieldLink "ShipSways$Reader" (61 : Nat) "ShipSways$Reader" "length" "I") ∈ lw_all := lw_g (lw_at lw_m2 20 rfl) rfl
theorem q328 : (Jvm.Cond.fieldLink "ShipSways$Reader" (43 : Nat) "ShipSways$Reader" "marks" "Ljava/util/ArrayList;") ∈ lw_all := lw_g (lw_at lw_m2 21 rfl) rfl
theorem q329 : (Jvm.Cond.fieldLink "ShipSways$Reader" (49 : Nat) "ShipSways$Reader" "clauses" "[[LShipSways$Mark;") ∈ lw_all := lw_g (lw_at lw_m2 22 rfl) rfl
theorem q330 : (Jvm.Cond.fieldLink "ShipSways$Reader" (70 : Nat) "ShipSways$Reader" "kind" "I") ∈ lw_all := lw_g (lw_at lw_m2 23 rfl) rfl
theorem q331 : (Jvm.Cond.fieldLink "ShipSways$Reader" (67 : Nat) "ShipSways$Reader" "from" "I") ∈ lw_all := lw_g (lw_at lw_m2 24 rfl) rfl
theorem q332 : (Jvm.Cond.fieldLink "ShipSways$Reader" (64 : Nat) "ShipSways$Reader" "to" "I") ∈ lw_all := lw_g (lw_at lw_m2 25 rfl) rfl
theorem q333 : (Jvm.Cond.fieldLink "ShipSways$Reader" (77 : Nat) "ShipSways$Reader" "value" "I") ∈ lw_all := lw_g (lw_at lw_m2 26 rfl) rfl
theorem q334 : (Jvm.Cond.fieldLink "ShipSways$Reader" (53 : Nat) "ShipSways$Reader" "fault" "I") ∈ lw_all := lw_g (lw_at lw_m2 27 rfl) rfl
theorem q336 : (Jvm.Cond.laysFinal "ShipSways$Reader" "ShipSways$Reader" "clauseWords" "[Ljava/lang/String;") ∈ lw_all := lw_g (lw_at lw_m2 29 rfl) rfl
theorem q337 : (Jvm.Cond.soleField "ShipSways$Reader" "clauseWords") ∈ lw_all := lw_g (lw_at lw_m2 30 rfl) rfl
theorem q338 : (Jvm.Cond.laysFinal "ShipSways$Reader" "ShipSways$Reader" "nameWords" "[Ljava/lang/String;") ∈ lw_all := lw_g (lw_at lw_m2 31 rfl) rfl
theorem q339 : (Jvm.Cond.soleField "ShipSways$Reader" "nameWords") ∈ lw_all := lw_g (lw_at lw_m2 32 rfl) rfl
theorem q340 : (Jvm.Cond.laysFinal "ShipSways$Reader" "ShipSways$Reader" "text" "[B") ∈ lw_all := lw_g (lw_at lw_m2 33 rfl) rfl
theorem q341 : (Jvm.Cond.soleField "ShipSways$Reader" "text") ∈ lw_all := lw_g (lw_at lw_m2 34 rfl) rfl
theorem q342 : (Jvm.Cond.laysFinal "ShipSways$Reader" "ShipSways$Reader" "length" "I") ∈ lw_all := lw_g (lw_at lw_m2 35 rfl) rfl
theorem q343 : (Jvm.Cond.soleField "ShipSways$Reader" "length") ∈ lw_all := lw_g (lw_at lw_m2 36 rfl) rfl
theorem q344 : (Jvm.Cond.laysFinal "ShipSways$Reader" "ShipSways$Reader" "marks" "Ljava/util/ArrayList;") ∈ lw_all := lw_g (lw_at lw_m2 37 rfl) rfl
theorem q345 : (Jvm.Cond.soleField "ShipSways$Reader" "marks") ∈ lw_all := lw_g (lw_at lw_m2 38 rfl) rfl
theorem q346 : (Jvm.Cond.laysFinal "ShipSways$Reader" "ShipSways$Reader" "clauses" "[[LShipSways$Mark;") ∈ lw_all := lw_g (lw_at lw_m2 39 rfl) rfl
theorem q347 : (Jvm.Cond.soleField "ShipSways$Reader" "clauses") ∈ lw_all := lw_g (lw_at lw_m2 40 rfl) rfl
theorem q348 : (Jvm.Cond.lays "ShipSways$Reader" "ShipSways$Reader" "kind" "I") ∈ lw_all := lw_g (lw_at lw_m2 41 rfl) rfl
theorem q349 : (Jvm.Cond.soleField "ShipSways$Reader" "kind") ∈ lw_all := lw_g (lw_at lw_m2 42 rfl) rfl
theorem q350 : (Jvm.Cond.lays "ShipSways$Reader" "ShipSways$Reader" "from" "I") ∈ lw_all := lw_g (lw_at lw_m2 43 rfl) rfl
theorem q351 : (Jvm.Cond.soleField "ShipSways$Reader" "from") ∈ lw_all := lw_g (lw_at lw_m2 44 rfl) rfl
theorem q352 : (Jvm.Cond.lays "ShipSways$Reader" "ShipSways$Reader" "to" "I") ∈ lw_all := lw_g (lw_at lw_m2 45 rfl) rfl
theorem q353 : (Jvm.Cond.soleField "ShipSways$Reader" "to") ∈ lw_all := lw_g (lw_at lw_m2 46 rfl) rfl
theorem q354 : (Jvm.Cond.lays "ShipSways$Reader" "ShipSways$Reader" "value" "I") ∈ lw_all := lw_g (lw_at lw_m2 47 rfl) rfl
theorem q355 : (Jvm.Cond.soleField "ShipSways$Reader" "value") ∈ lw_all := lw_g (lw_at lw_m2 48 rfl) rfl
theorem q356 : (Jvm.Cond.lays "ShipSways$Reader" "ShipSways$Reader" "fault" "I") ∈ lw_all := lw_g (lw_at lw_m2 49 rfl) rfl
theorem q357 : (Jvm.Cond.soleField "ShipSways$Reader" "fault") ∈ lw_all := lw_g (lw_at lw_m2 50 rfl) rfl
theorem q358 : (Jvm.Cond.superclass "ShipSways$Reader" "java/lang/Object") ∈ lw_all := lw_g (lw_at lw_m2 51 rfl) rfl
theorem q360 : (Jvm.Cond.instanceMethod ({ cls := "ShipSways$Reader", name := "reads", desc := "()[[LShipSways$Mark;" } : Jvm.MethodName)) ∈ lw_all := lw_g (lw_at lw_m2 53 rfl) rfl
theorem q361 : (Jvm.Cond.selects "ShipSways$Reader" ({ cls := "ShipSways$Reader", name := "reads", desc := "()[[LShipSways$Mark;" } : Jvm.MethodName) ({ cls := "ShipSways$Reader", name := "reads", desc := "()[[LShipSways$Mark;" } : Jvm.MethodName)) ∈ lw_all := lw_g (lw_at lw_m2 54 rfl) rfl
theorem q362 : (Jvm.Cond.code ({ cls := "ShipSways$Reader", name := "reads", desc := "()[[LShipSways$Mark;" } : Jvm.MethodName) prog_3_method_15_code (2 : Nat) (Option.some (Jvm.ClassFile.FieldType.array (Jvm.ClassFile.FieldType.array (Jvm.ClassFile.FieldType.object "ShipSways$Mark"))))) ∈ lw_all := lw_g (lw_at lw_m2 55 rfl) rfl
theorem q363 : (Jvm.Cond.methodLink "ShipSways$Reader" (105 : Nat) ({ cls := "ShipSways$Reader", name := "next", desc := "()V" } : Jvm.MethodName)) ∈ lw_all := lw_g (lw_at lw_m2 56 rfl) rfl
theorem q364 : (Jvm.Cond.privateMethod ({ cls := "ShipSways$Reader", name := "next", desc := "()V" } : Jvm.MethodName)) ∈ lw_tbl := lw_at lw_m2 57 rfl
theorem q365 : (Jvm.Cond.instanceMethod ({ cls := "ShipSways$Reader", name := "next", desc := "()V" } : Jvm.MethodName)) ∈ lw_all := lw_g (lw_at lw_m2 58 rfl) rfl
theorem q366 : (Jvm.Cond.code ({ cls := "ShipSways$Reader", name := "next", desc := "()V" } : Jvm.MethodName) prog_3_method_3_code (1 : Nat) (Option.none : Option Jvm.ClassFile.FieldType)) ∈ lw_all := lw_g (lw_at lw_m2 59 rfl) rfl
theorem q367 : (Jvm.Cond.methodLink "ShipSways$Reader" (73 : Nat) ({ cls := "ShipSways$Reader", name := "isBetween", desc := "(III)Z" } : Jvm.MethodName)) ∈ lw_all := lw_g (lw_at lw_m2 60 rfl) rfl
theorem q368 : (Jvm.Cond.privateMethod ({ cls := "ShipSways$Reader", name := "isBetween", desc := "(III)Z" } : Jvm.MethodName)) ∈ lw_tbl := lw_at lw_m2 61 rfl
theorem q369 : (Jvm.Cond.instanceMethod ({ cls := "ShipSways$Reader", name := "isBetween", desc := "(III)Z" } : Jvm.MethodName)) ∈ lw_all := lw_g (lw_at lw_m2 62 rfl) rfl
theorem q370 : (Jvm.Cond.code ({ cls := "ShipSways$Reader", name := "isBetween", desc := "(III)Z" } : Jvm.MethodName) prog_3_method_2_code (4 : Nat) (Option.some Jvm.ClassFile.FieldType.boolean)) ∈ lw_all := lw_g (lw_at lw_m2 63 rfl) rfl
theorem q371 : (Jvm.Cond.constant "ShipSways$Reader" (80 : Nat) (1000000 : Int32)) ∈ lw_all := lw_g (lw_at lw_m2 64 rfl) rfl
theorem q372 : (Jvm.Cond.constant "ShipSways$Reader" (81 : Nat) (100000 : Int32)) ∈ lw_all := lw_g (lw_at lw_m2 65 rfl) rfl
theorem q373 : (Jvm.Cond.methodLink "ShipSways$Reader" (82 : Nat) ({ cls := "java/lang/Math", name := "min", desc := "(II)I" } : Jvm.MethodName)) ∈ lw_all := lw_g (lw_at lw_m2 66 rfl) rfl
theorem q376 : (Jvm.Cond.stringRef "ShipSways$Reader" (88 : Nat) "+-*/()[]<>=;") ∈ lw_tbl := lw_at lw_m2 69 rfl
theorem q377 : (Jvm.Cond.methodLink "ShipSways$Reader" (90 : Nat) ({ cls := "java/lang/String", name := "indexOf", desc := "(I)I" } : Jvm.MethodName)) ∈ lw_all := lw_g (lw_at lw_m2 70 rfl) rfl
theorem q461 : (Jvm.Cond.methodLink "ShipSways$Reader" (169 : Nat) ({ cls := "ShipSways$Reader", name := "clause", desc := "()Z" } : Jvm.MethodName)) ∈ lw_all := lw_g (lw_at lw_m2 154 rfl) rfl
theorem q462 : (Jvm.Cond.privateMethod ({ cls := "ShipSways$Reader", name := "clause", desc := "()Z" } : Jvm.MethodName)) ∈ lw_tbl := lw_at lw_m2 155 rfl
theorem q463 : (Jvm.Cond.instanceMethod ({ cls := "ShipSways$Reader", name := "clause", desc := "()Z" } : Jvm.MethodName)) ∈ lw_all := lw_g (lw_at lw_m2 156 rfl) rfl
theorem q464 : (Jvm.Cond.code ({ cls := "ShipSways$Reader", name := "clause", desc := "()Z" } : Jvm.MethodName) prog_3_method_14_code (3 : Nat) (Option.some Jvm.ClassFile.FieldType.boolean)) ∈ lw_all := lw_g (lw_at lw_m2 157 rfl) rfl
theorem q465 : (Jvm.Cond.methodLink "ShipSways$Reader" (138 : Nat) ({ cls := "ShipSways$Reader", name := "wordOf", desc := "([Ljava/lang/String;)I" } : Jvm.MethodName)) ∈ lw_all := lw_g (lw_at lw_m2 158 rfl) rfl
theorem q466 : (Jvm.Cond.privateMethod ({ cls := "ShipSways$Reader", name := "wordOf", desc := "([Ljava/lang/String;)I" } : Jvm.MethodName)) ∈ lw_tbl := lw_at lw_m2 159 rfl
theorem q467 : (Jvm.Cond.instanceMethod ({ cls := "ShipSways$Reader", name := "wordOf", desc := "([Ljava/lang/String;)I" } : Jvm.MethodName)) ∈ lw_all := lw_g (lw_at lw_m2 160 rfl) rfl
theorem q468 : (Jvm.Cond.code ({ cls := "ShipSways$Reader", name := "wordOf", desc := "([Ljava/lang/String;)I" } : Jvm.MethodName) prog_3_method_5_code (3 : Nat) (Option.some Jvm.ClassFile.FieldType.int)) ∈ lw_all := lw_g (lw_at lw_m2 161 rfl) rfl
theorem q469 : (Jvm.Cond.methodLink "ShipSways$Reader" (101 : Nat) ({ cls := "ShipSways$Reader", name := "isWord", desc := "(Ljava/lang/String;)Z" } : Jvm.MethodName)) ∈ lw_all := lw_g (lw_at lw_m2 162 rfl) rfl
theorem q470 : (Jvm.Cond.privateMethod ({ cls := "ShipSways$Reader", name := "isWord", desc := "(Ljava/lang/String;)Z" } : Jvm.MethodName)) ∈ lw_tbl := lw_at lw_m2 163 rfl
theorem q471 : (Jvm.Cond.instanceMethod ({ cls := "ShipSways$Reader", name := "isWord", desc := "(Ljava/lang/String;)Z" } : Jvm.MethodName)) ∈ lw_all := lw_g (lw_at lw_m2 164 rfl) rfl
theorem q472 : (Jvm.Cond.code ({ cls := "ShipSways$Reader", name := "isWord", desc := "(Ljava/lang/String;)Z" } : Jvm.MethodName) prog_3_method_4_code (3 : Nat) (Option.some Jvm.ClassFile.FieldType.boolean)) ∈ lw_all := lw_g (lw_at lw_m2 165 rfl) rfl
theorem q473 : (Jvm.Cond.methodLink "ShipSways$Reader" (94 : Nat) ({ cls := "java/lang/String", name := "length", desc := "()I" } : Jvm.MethodName)) ∈ lw_all := lw_g (lw_at lw_m2 166 rfl) rfl
theorem q474 : (Jvm.Cond.methodLink "ShipSways$Reader" (97 : Nat) ({ cls := "java/lang/String", name := "charAt", desc := "(I)C" } : Jvm.MethodName)) ∈ lw_all := lw_g (lw_at lw_m2 167 rfl) rfl
theorem q494 : (Jvm.Cond.methodLink "ShipSways$Reader" (126 : Nat) ({ cls := "ShipSways$Reader", name := "passes", desc := "(Z)Z" } : Jvm.MethodName)) ∈ lw_all := lw_g (lw_at lw_m2 187 rfl) rfl
theorem q495 : (Jvm.Cond.privateMethod ({ cls := "ShipSways$Reader", name := "passes", desc := "(Z)Z" } : Jvm.MethodName)) ∈ lw_tbl := lw_at lw_m2 188 rfl
theorem q496 : (Jvm.Cond.instanceMethod ({ cls := "ShipSways$Reader", name := "passes", desc := "(Z)Z" } : Jvm.MethodName)) ∈ lw_all := lw_g (lw_at lw_m2 189 rfl) rfl
theorem q497 : (Jvm.Cond.code ({ cls := "ShipSways$Reader", name := "passes", desc := "(Z)Z" } : Jvm.MethodName) prog_3_method_6_code (2 : Nat) (Option.some Jvm.ClassFile.FieldType.boolean)) ∈ lw_all := lw_g (lw_at lw_m2 190 rfl) rfl
theorem q498 : (Jvm.Cond.methodLink "ShipSways$Reader" (157 : Nat) ({ cls := "java/util/ArrayList", name := "clear", desc := "()V" } : Jvm.MethodName)) ∈ lw_all := lw_g (lw_at lw_m2 191 rfl) rfl
theorem q502 : (Jvm.Cond.methodLink "ShipSways$Reader" (154 : Nat) ({ cls := "ShipSways$Reader", name := "either", desc := "(I)Z" } : Jvm.MethodName)) ∈ lw_all := lw_g (lw_at lw_m2 195 rfl) rfl
theorem q503 : (Jvm.Cond.privateMethod ({ cls := "ShipSways$Reader", name := "either", desc := "(I)Z" } : Jvm.MethodName)) ∈ lw_tbl := lw_at lw_m2 196 rfl
theorem q504 : (Jvm.Cond.instanceMethod ({ cls := "ShipSways$Reader", name := "either", desc := "(I)Z" } : Jvm.MethodName)) ∈ lw_all := lw_g (lw_at lw_m2 197 rfl) rfl
theorem q505 : (Jvm.Cond.code ({ cls := "ShipSways$Reader", name := "either", desc := "(I)Z" } : Jvm.MethodName) prog_3_method_11_code (3 : Nat) (Option.some Jvm.ClassFile.FieldType.boolean)) ∈ lw_all := lw_g (lw_at lw_m2 198 rfl) rfl
theorem q506 : (Jvm.Cond.methodLink "ShipSways$Reader" (142 : Nat) ({ cls := "ShipSways$Reader", name := "each", desc := "(I)Z" } : Jvm.MethodName)) ∈ lw_all := lw_g (lw_at lw_m2 199 rfl) rfl
theorem q507 : (Jvm.Cond.privateMethod ({ cls := "ShipSways$Reader", name := "each", desc := "(I)Z" } : Jvm.MethodName)) ∈ lw_tbl := lw_at lw_m2 200 rfl
theorem q508 : (Jvm.Cond.instanceMethod ({ cls := "ShipSways$Reader", name := "each", desc := "(I)Z" } : Jvm.MethodName)) ∈ lw_all := lw_g (lw_at lw_m2 201 rfl) rfl
theorem q509 : (Jvm.Cond.code ({ cls := "ShipSways$Reader", name := "each", desc := "(I)Z" } : Jvm.MethodName) prog_3_method_12_code (3 : Nat) (Option.some Jvm.ClassFile.FieldType.boolean)) ∈ lw_all := lw_g (lw_at lw_m2 202 rfl) rfl
theorem q510 : (Jvm.Cond.methodLink "ShipSways$Reader" (147 : Nat) ({ cls := "ShipSways$Reader", name := "test", desc := "(I)Z" } : Jvm.MethodName)) ∈ lw_all := lw_g (lw_at lw_m2 203 rfl) rfl
theorem q511 : (Jvm.Cond.privateMethod ({ cls := "ShipSways$Reader", name := "test", desc := "(I)Z" } : Jvm.MethodName)) ∈ lw_tbl := lw_at lw_m2 204 rfl
theorem q512 : (Jvm.Cond.instanceMethod ({ cls := "ShipSways$Reader", name := "test", desc := "(I)Z" } : Jvm.MethodName)) ∈ lw_all := lw_g (lw_at lw_m2 205 rfl) rfl
theorem q513 : (Jvm.Cond.code ({ cls := "ShipSways$Reader", name := "test", desc := "(I)Z" } : Jvm.MethodName) prog_3_method_13_code (3 : Nat) (Option.some Jvm.ClassFile.FieldType.boolean)) ∈ lw_all := lw_g (lw_at lw_m2 206 rfl) rfl
theorem q514 : (Jvm.Cond.stringRef "ShipSways$Reader" (152 : Nat) "not") ∈ lw_tbl := lw_at lw_m2 207 rfl
theorem q515 : (Jvm.Cond.classLink "ShipSways$Reader" (116 : Nat) "ShipSways$Sign") ∈ lw_all := lw_g (lw_at lw_m2 208 rfl) rfl
theorem q517 : (Jvm.Cond.methodLink "ShipSways$Reader" (118 : Nat) ({ cls := "ShipSways$Sign", name := "<init>", desc := "(I)V" } : Jvm.MethodName)) ∈ lw_all := lw_g (lw_at lw_m2 210 rfl) rfl
theorem q528 : (Jvm.Cond.methodLink "ShipSways$Reader" (119 : Nat) ({ cls := "ShipSways$Reader", name := "puts", desc := "(LShipSways$Mark;)Z" } : Jvm.MethodName)) ∈ lw_all := lw_g (lw_at lw_m2 221 rfl) rfl
theorem q529 : (Jvm.Cond.privateMethod ({ cls := "ShipSways$Reader", name := "puts", desc := "(LShipSways$Mark;)Z" } : Jvm.MethodName)) ∈ lw_tbl := lw_at lw_m2 222 rfl
theorem q530 : (Jvm.Cond.instanceMethod ({ cls := "ShipSways$Reader", name := "puts", desc := "(LShipSways$Mark;)Z" } : Jvm.MethodName)) ∈ lw_all := lw_g (lw_at lw_m2 223 rfl) rfl
theorem q531 : (Jvm.Cond.code ({ cls := "ShipSways$Reader", name := "puts", desc := "(LShipSways$Mark;)Z" } : Jvm.MethodName) prog_3_method_7_code (2 : Nat) (Option.some Jvm.ClassFile.FieldType.boolean)) ∈ lw_all := lw_g (lw_at lw_m2 224 rfl) rfl
theorem q532 : (Jvm.Cond.methodLink "ShipSways$Reader" (108 : Nat) ({ cls := "java/util/ArrayList", name := "add", desc := "(Ljava/lang/Object;)Z" } : Jvm.MethodName)) ∈ lw_all := lw_g (lw_at lw_m2 225 rfl) rfl
theorem q565 : (Jvm.Cond.selects "ShipSways$Reader" ({ cls := "java/lang/Object", name := "getClass", desc := "()Ljava/lang/Class;" } : Jvm.MethodName) ({ cls := "java/lang/Object", name := "getClass", desc := "()Ljava/lang/Class;" } : Jvm.MethodName)) ∈ lw_all := lw_g (lw_at lw_m3 18 rfl) rfl
theorem q586 : (Jvm.Cond.methodLink "ShipSways$Reader" (130 : Nat) ({ cls := "ShipSways$Reader", name := "sum", desc := "(I)Z" } : Jvm.MethodName)) ∈ lw_all := lw_g (lw_at lw_m3 39 rfl) rfl
theorem q587 : (Jvm.Cond.privateMethod ({ cls := "ShipSways$Reader", name := "sum", desc := "(I)Z" } : Jvm.MethodName)) ∈ lw_tbl := lw_at lw_m3 40 rfl
theorem q588 : (Jvm.Cond.instanceMethod ({ cls := "ShipSways$Reader", name := "sum", desc := "(I)Z" } : Jvm.MethodName)) ∈ lw_all := lw_g (lw_at lw_m3 41 rfl) rfl
theorem q589 : (Jvm.Cond.code ({ cls := "ShipSways$Reader", name := "sum", desc := "(I)Z" } : Jvm.MethodName) prog_3_method_8_code (4 : Nat) (Option.some Jvm.ClassFile.FieldType.boolean)) ∈ lw_all := lw_g (lw_at lw_m3 42 rfl) rfl
theorem q590 : (Jvm.Cond.methodLink "ShipSways$Reader" (112 : Nat) ({ cls := "ShipSways$Reader", name := "product", desc := "(I)Z" } : Jvm.MethodName)) ∈ lw_all := lw_g (lw_at lw_m3 43 rfl) rfl
theorem q591 : (Jvm.Cond.privateMethod ({ cls := "ShipSways$Reader", name := "product", desc := "(I)Z" } : Jvm.MethodName)) ∈ lw_tbl := lw_at lw_m3 44 rfl
theorem q592 : (Jvm.Cond.instanceMethod ({ cls := "ShipSways$Reader", name := "product", desc := "(I)Z" } : Jvm.MethodName)) ∈ lw_all := lw_g (lw_at lw_m3 45 rfl) rfl
theorem q593 : (Jvm.Cond.code ({ cls := "ShipSways$Reader", name := "product", desc := "(I)Z" } : Jvm.MethodName) prog_3_method_9_code (4 : Nat) (Option.some Jvm.ClassFile.FieldType.boolean)) ∈ lw_all := lw_g (lw_at lw_m3 46 rfl) rfl
theorem q594 : (Jvm.Cond.methodLink "ShipSways$Reader" (123 : Nat) ({ cls := "ShipSways$Reader", name := "factor", desc := "(I)Z" } : Jvm.MethodName)) ∈ lw_all := lw_g (lw_at lw_m3 47 rfl) rfl
theorem q595 : (Jvm.Cond.privateMethod ({ cls := "ShipSways$Reader", name := "factor", desc := "(I)Z" } : Jvm.MethodName)) ∈ lw_tbl := lw_at lw_m3 48 rfl
theorem q596 : (Jvm.Cond.instanceMethod ({ cls := "ShipSways$Reader", name := "factor", desc := "(I)Z" } : Jvm.MethodName)) ∈ lw_all := lw_g (lw_at lw_m3 49 rfl) rfl
theorem q597 : (Jvm.Cond.code ({ cls := "ShipSways$Reader", name := "factor", desc := "(I)Z" } : Jvm.MethodName) prog_3_method_10_code (3 : Nat) (Option.some Jvm.ClassFile.FieldType.boolean)) ∈ lw_all := lw_g (lw_at lw_m3 50 rfl) rfl
theorem q598 : (Jvm.Cond.classLink "ShipSways$Reader" (133 : Nat) "ShipSways$Value") ∈ lw_all := lw_g (lw_at lw_m3 51 rfl) rfl
theorem q600 : (Jvm.Cond.methodLink "ShipSways$Reader" (135 : Nat) ({ cls := "ShipSways$Value", name := "<init>", desc := "(IZ)V" } : Jvm.MethodName)) ∈ lw_all := lw_g (lw_at lw_m3 53 rfl) rfl
theorem q611 : (Jvm.Cond.stringRef "ShipSways$Reader" (150 : Nat) "and") ∈ lw_tbl := lw_at lw_m3 64 rfl
theorem q612 : (Jvm.Cond.stringRef "ShipSways$Reader" (145 : Nat) "or") ∈ lw_tbl := lw_at lw_m3 65 rfl
theorem q613 : (Jvm.Cond.methodLink "ShipSways$Reader" (160 : Nat) ({ cls := "java/util/ArrayList", name := "size", desc := "()I" } : Jvm.MethodName)) ∈ lw_all := lw_g (lw_at lw_m3 66 rfl) rfl
theorem q617 : (Jvm.Cond.classLink "ShipSways$Reader" (163 : Nat) "ShipSways$Mark") ∈ lw_all := lw_g (lw_at lw_m3 70 rfl) rfl
theorem q619 : (Jvm.Cond.methodLink "ShipSways$Reader" (165 : Nat) ({ cls := "java/util/ArrayList", name := "get", desc := "(I)Ljava/lang/Object;" } : Jvm.MethodName)) ∈ lw_all := lw_g (lw_at lw_m3 72 rfl) rfl
theorem q1552 : (Jvm.Cond.castable "ShipSways$Reader" "java/lang/Object") ∈ lw_tbl := lw_at lw_m7 45 rfl
theorem in_X9 : ∀ w ∈ wsX90, w ∈ lw_all := lw_in wsX90 [336, 338, 340, 342, 344, 346, 348, 350, 352, 354, 356] (by decide +kernel) (by decide +kernel)
theorem q67 : (Jvm.Cond.initialized "ShipSwaysLaw") ∈ lw_all := lw_g (lw_at lw_m1 0 rfl) rfl
theorem q92 : (Jvm.Cond.classLink "ShipSwaysLaw" (7 : Nat) "ShipSways") ∈ lw_all := lw_g (lw_at lw_m1 25 rfl) rfl
theorem q94 : (Jvm.Cond.methodLink "ShipSwaysLaw" (9 : Nat) ({ cls := "ShipSways", name := "<init>", desc := "()V" } : Jvm.MethodName)) ∈ lw_all := lw_g (lw_at lw_m1 27 rfl) rfl
theorem q284 : (Jvm.Cond.methodLink "ShipSwaysLaw" (79 : Nat) ({ cls := "ShipSways", name := "feed", desc := "(IIIII)I" } : Jvm.MethodName)) ∈ lw_all := lw_g (lw_at lw_m1 217 rfl) rfl
theorem q292 : (Jvm.Cond.methodLink "ShipSwaysLaw" (84 : Nat) ({ cls := "ShipSways", name := "end", desc := "(I)Z" } : Jvm.MethodName)) ∈ lw_all := lw_g (lw_at lw_m1 225 rfl) rfl
theorem q299 : (Jvm.Cond.methodLink "ShipSwaysLaw" (88 : Nat) ({ cls := "ShipSways", name := "fault", desc := "()I" } : Jvm.MethodName)) ∈ lw_all := lw_g (lw_at lw_m1 232 rfl) rfl
theorem q631 : (Jvm.Cond.methodLink "ShipSwaysLaw" (93 : Nat) ({ cls := "ShipSways", name := "rules", desc := "()Z" } : Jvm.MethodName)) ∈ lw_all := lw_g (lw_at lw_m3 84 rfl) rfl
theorem q635 : (Jvm.Cond.methodLink "ShipSwaysLaw" (13 : Nat) ({ cls := "ShipSways", name := "slice", desc := "(III)I" } : Jvm.MethodName)) ∈ lw_all := lw_g (lw_at lw_m3 88 rfl) rfl
theorem q658 : (Jvm.Cond.methodLink "ShipSwaysLaw" (18 : Nat) ({ cls := "ShipSways", name := "weight", desc := "(IIII)I" } : Jvm.MethodName)) ∈ lw_all := lw_g (lw_at lw_m3 111 rfl) rfl
theorem q695 : (Jvm.Cond.methodLink "ShipSwaysLaw" (23 : Nat) ({ cls := "ShipSways", name := "lose", desc := "(I)Z" } : Jvm.MethodName)) ∈ lw_all := lw_g (lw_at lw_m3 148 rfl) rfl
theorem q704 : (Jvm.Cond.methodLink "ShipSwaysLaw" (28 : Nat) ({ cls := "ShipSways", name := "tank", desc := "(III)I" } : Jvm.MethodName)) ∈ lw_all := lw_g (lw_at lw_m3 157 rfl) rfl
theorem q732 : (Jvm.Cond.methodLink "ShipSwaysLaw" (32 : Nat) ({ cls := "ShipSways", name := "fill", desc := "(II)Z" } : Jvm.MethodName)) ∈ lw_all := lw_g (lw_at lw_m3 185 rfl) rfl
theorem q736 : (Jvm.Cond.methodLink "ShipSwaysLaw" (37 : Nat) ({ cls := "ShipSways", name := "mark", desc := "(II)I" } : Jvm.MethodName)) ∈ lw_all := lw_g (lw_at lw_m3 189 rfl) rfl
theorem q740 : (Jvm.Cond.methodLink "ShipSwaysLaw" (42 : Nat) ({ cls := "ShipSways", name := "at", desc := "(II)I" } : Jvm.MethodName)) ∈ lw_all := lw_g (lw_at lw_m3 193 rfl) rfl
theorem q777 : (Jvm.Cond.methodLink "ShipSwaysLaw" (46 : Nat) ({ cls := "ShipSways", name := "rest", desc := "(I)I" } : Jvm.MethodName)) ∈ lw_all := lw_g (lw_at lw_m3 230 rfl) rfl
theorem q786 : (Jvm.Cond.methodLink "ShipSwaysLaw" (51 : Nat) ({ cls := "ShipSways", name := "stays", desc := "(I)I" } : Jvm.MethodName)) ∈ lw_all := lw_g (lw_at lw_m3 239 rfl) rfl
theorem q793 : (Jvm.Cond.methodLink "ShipSwaysLaw" (55 : Nat) ({ cls := "ShipSways", name := "wave", desc := "(III)I" } : Jvm.MethodName)) ∈ lw_all := lw_g (lw_at lw_m4 6 rfl) rfl
theorem q817 : (Jvm.Cond.methodLink "ShipSwaysLaw" (59 : Nat) ({ cls := "ShipSways", name := "sea", desc := "(I)I" } : Jvm.MethodName)) ∈ lw_all := lw_g (lw_at lw_m4 30 rfl) rfl
theorem q836 : (Jvm.Cond.methodLink "ShipSwaysLaw" (63 : Nat) ({ cls := "ShipSways", name := "set", desc := "(II)Z" } : Jvm.MethodName)) ∈ lw_all := lw_g (lw_at lw_m4 49 rfl) rfl
theorem q842 : (Jvm.Cond.methodLink "ShipSwaysLaw" (67 : Nat) ({ cls := "ShipSways", name := "go", desc := "(I)I" } : Jvm.MethodName)) ∈ lw_all := lw_g (lw_at lw_m4 55 rfl) rfl
theorem q916 : (Jvm.Cond.methodLink "ShipSwaysLaw" (71 : Nat) ({ cls := "ShipSways", name := "kept", desc := "(II)I" } : Jvm.MethodName)) ∈ lw_all := lw_g (lw_at lw_m4 129 rfl) rfl
theorem q920 : (Jvm.Cond.methodLink "ShipSwaysLaw" (75 : Nat) ({ cls := "ShipSways", name := "lead", desc := "(I)I" } : Jvm.MethodName)) ∈ lw_all := lw_g (lw_at lw_m4 133 rfl) rfl
theorem q925 : (Jvm.Cond.methodLink "ShipSwaysLaw" (98 : Nat) ({ cls := "ShipSways", name := "holds", desc := "(I)I" } : Jvm.MethodName)) ∈ lw_all := lw_g (lw_at lw_m4 138 rfl) rfl
theorem q930 : (Jvm.Cond.methodLink "ShipSwaysLaw" (102 : Nat) ({ cls := "ShipSways", name := "tried", desc := "(II)I" } : Jvm.MethodName)) ∈ lw_all := lw_g (lw_at lw_m4 143 rfl) rfl
theorem q949 : (Jvm.Cond.methodLink "ShipSwaysLaw" (106 : Nat) ({ cls := "ShipSways", name := "still", desc := "(I)I" } : Jvm.MethodName)) ∈ lw_all := lw_g (lw_at lw_m4 162 rfl) rfl
theorem q953 : (Jvm.Cond.methodLink "ShipSwaysLaw" (110 : Nat) ({ cls := "ShipSways", name := "hour", desc := "(II)I" } : Jvm.MethodName)) ∈ lw_all := lw_g (lw_at lw_m4 166 rfl) rfl
theorem q957 : (Jvm.Cond.methodLink "ShipSwaysLaw" (114 : Nat) ({ cls := "ShipSways", name := "begin", desc := "(I)I" } : Jvm.MethodName)) ∈ lw_all := lw_g (lw_at lw_m4 170 rfl) rfl
theorem q961 : (Jvm.Cond.methodLink "ShipSwaysLaw" (118 : Nat) ({ cls := "ShipSways", name := "best", desc := "(II)I" } : Jvm.MethodName)) ∈ lw_all := lw_g (lw_at lw_m4 174 rfl) rfl
theorem q978 : (Jvm.Cond.methodLink "ShipSwaysLaw" (122 : Nat) ({ cls := "ShipSways", name := "record", desc := "(I)I" } : Jvm.MethodName)) ∈ lw_all := lw_g (lw_at lw_m4 191 rfl) rfl
theorem q982 : (Jvm.Cond.methodLink "ShipSwaysLaw" (126 : Nat) ({ cls := "ShipSways", name := "clear", desc := "()I" } : Jvm.MethodName)) ∈ lw_all := lw_g (lw_at lw_m4 195 rfl) rfl
theorem q986 : (Jvm.Cond.methodLink "ShipSwaysLaw" (134 : Nat) ({ cls := "ShipSways", name := "goes", desc := "(I)I" } : Jvm.MethodName)) ∈ lw_all := lw_g (lw_at lw_m4 199 rfl) rfl
theorem q995 : (Jvm.Cond.methodLink "ShipSwaysLaw" (130 : Nat) ({ cls := "ShipSways", name := "read", desc := "(I)I" } : Jvm.MethodName)) ∈ lw_all := lw_g (lw_at lw_m4 208 rfl) rfl
theorem q1004 : (Jvm.Cond.methodLink "ShipSwaysLaw" (138 : Nat) ({ cls := "ShipSways", name := "check", desc := "(III)I" } : Jvm.MethodName)) ∈ lw_all := lw_g (lw_at lw_m4 217 rfl) rfl
theorem q1008 : (Jvm.Cond.methodLink "ShipSwaysLaw" (142 : Nat) ({ cls := "ShipSways", name := "count", desc := "(I)I" } : Jvm.MethodName)) ∈ lw_all := lw_g (lw_at lw_m4 221 rfl) rfl
theorem q1012 : (Jvm.Cond.methodLink "ShipSwaysLaw" (146 : Nat) ({ cls := "ShipSways", name := "place", desc := "(I)I" } : Jvm.MethodName)) ∈ lw_all := lw_g (lw_at lw_m4 225 rfl) rfl
theorem q1016 : (Jvm.Cond.methodLink "ShipSwaysLaw" (150 : Nat) ({ cls := "ShipSways", name := "wetted", desc := "(I)I" } : Jvm.MethodName)) ∈ lw_all := lw_g (lw_at lw_m4 229 rfl) rfl
theorem q1020 : (Jvm.Cond.classLink "ShipSwaysLaw" (10 : Nat) "ShipSwaysModel") ∈ lw_all := lw_g (lw_at lw_m4 233 rfl) rfl
theorem q1022 : (Jvm.Cond.methodLink "ShipSwaysLaw" (12 : Nat) ({ cls := "ShipSwaysModel", name := "<init>", desc := "()V" } : Jvm.MethodName)) ∈ lw_all := lw_g (lw_at lw_m4 235 rfl) rfl
theorem q1253 : (Jvm.Cond.methodLink "ShipSwaysLaw" (17 : Nat) ({ cls := "ShipSwaysModel", name := "slice", desc := "(III)I" } : Jvm.MethodName)) ∈ lw_all := lw_g (lw_at lw_m5 226 rfl) rfl
theorem q1261 : (Jvm.Cond.methodLink "ShipSwaysLaw" (22 : Nat) ({ cls := "ShipSwaysModel", name := "weight", desc := "(IIII)I" } : Jvm.MethodName)) ∈ lw_all := lw_g (lw_at lw_m5 234 rfl) rfl
theorem q1265 : (Jvm.Cond.methodLink "ShipSwaysLaw" (27 : Nat) ({ cls := "ShipSwaysModel", name := "lose", desc := "(I)Z" } : Jvm.MethodName)) ∈ lw_all := lw_g (lw_at lw_m5 238 rfl) rfl
theorem q1273 : (Jvm.Cond.methodLink "ShipSwaysLaw" (31 : Nat) ({ cls := "ShipSwaysModel", name := "tank", desc := "(III)I" } : Jvm.MethodName)) ∈ lw_all := lw_g (lw_at lw_m6 6 rfl) rfl
theorem q1277 : (Jvm.Cond.methodLink "ShipSwaysLaw" (36 : Nat) ({ cls := "ShipSwaysModel", name := "fill", desc := "(II)Z" } : Jvm.MethodName)) ∈ lw_all := lw_g (lw_at lw_m6 10 rfl) rfl
theorem q1281 : (Jvm.Cond.methodLink "ShipSwaysLaw" (41 : Nat) ({ cls := "ShipSwaysModel", name := "mark", desc := "(II)I" } : Jvm.MethodName)) ∈ lw_all := lw_g (lw_at lw_m6 14 rfl) rfl
theorem q1285 : (Jvm.Cond.methodLink "ShipSwaysLaw" (45 : Nat) ({ cls := "ShipSwaysModel", name := "at", desc := "(II)I" } : Jvm.MethodName)) ∈ lw_all := lw_g (lw_at lw_m6 18 rfl) rfl
theorem q1309 : (Jvm.Cond.methodLink "ShipSwaysLaw" (50 : Nat) ({ cls := "ShipSwaysModel", name := "rest", desc := "(I)I" } : Jvm.MethodName)) ∈ lw_all := lw_g (lw_at lw_m6 42 rfl) rfl
theorem q1317 : (Jvm.Cond.methodLink "ShipSwaysLaw" (54 : Nat) ({ cls := "ShipSwaysModel", name := "stays", desc := "(I)I" } : Jvm.MethodName)) ∈ lw_all := lw_g (lw_at lw_m6 50 rfl) rfl
theorem q1321 : (Jvm.Cond.methodLink "ShipSwaysLaw" (58 : Nat) ({ cls := "ShipSwaysModel", name := "wave", desc := "(III)I" } : Jvm.MethodName)) ∈ lw_all := lw_g (lw_at lw_m6 54 rfl) rfl
theorem q1325 : (Jvm.Cond.methodLink "ShipSwaysLaw" (62 : Nat) ({ cls := "ShipSwaysModel", name := "sea", desc := "(I)I" } : Jvm.MethodName)) ∈ lw_all := lw_g (lw_at lw_m6 58 rfl) rfl
theorem q1337 : (Jvm.Cond.methodLink "ShipSwaysLaw" (66 : Nat) ({ cls := "ShipSwaysModel", name := "set", desc := "(II)Z" } : Jvm.MethodName)) ∈ lw_all := lw_g (lw_at lw_m6 70 rfl) rfl
theorem q1342 : (Jvm.Cond.methodLink "ShipSwaysLaw" (70 : Nat) ({ cls := "ShipSwaysModel", name := "go", desc := "(I)I" } : Jvm.MethodName)) ∈ lw_all := lw_g (lw_at lw_m6 75 rfl) rfl
theorem q1364 : (Jvm.Cond.methodLink "ShipSwaysLaw" (74 : Nat) ({ cls := "ShipSwaysModel", name := "kept", desc := "(II)I" } : Jvm.MethodName)) ∈ lw_all := lw_g (lw_at lw_m6 97 rfl) rfl
theorem q1368 : (Jvm.Cond.methodLink "ShipSwaysLaw" (78 : Nat) ({ cls := "ShipSwaysModel", name := "lead", desc := "(I)I" } : Jvm.MethodName)) ∈ lw_all := lw_g (lw_at lw_m6 101 rfl) rfl
theorem q1372 : (Jvm.Cond.methodLink "ShipSwaysLaw" (83 : Nat) ({ cls := "ShipSwaysModel", name := "feed", desc := "(IIIII)I" } : Jvm.MethodName)) ∈ lw_all := lw_g (lw_at lw_m6 105 rfl) rfl
theorem q1376 : (Jvm.Cond.methodLink "ShipSwaysLaw" (87 : Nat) ({ cls := "ShipSwaysModel", name := "end", desc := "(I)Z" } : Jvm.MethodName)) ∈ lw_all := lw_g (lw_at lw_m6 109 rfl) rfl
theorem q1380 : (Jvm.Cond.methodLink "ShipSwaysLaw" (92 : Nat) ({ cls := "ShipSwaysModel", name := "fault", desc := "()I" } : Jvm.MethodName)) ∈ lw_all := lw_g (lw_at lw_m6 113 rfl) rfl
theorem q1461 : (Jvm.Cond.methodLink "ShipSwaysLaw" (97 : Nat) ({ cls := "ShipSwaysModel", name := "rules", desc := "()Z" } : Jvm.MethodName)) ∈ lw_all := lw_g (lw_at lw_m6 194 rfl) rfl
theorem q1465 : (Jvm.Cond.methodLink "ShipSwaysLaw" (101 : Nat) ({ cls := "ShipSwaysModel", name := "holds", desc := "(I)I" } : Jvm.MethodName)) ∈ lw_all := lw_g (lw_at lw_m6 198 rfl) rfl
theorem q1469 : (Jvm.Cond.methodLink "ShipSwaysLaw" (105 : Nat) ({ cls := "ShipSwaysModel", name := "tried", desc := "(II)I" } : Jvm.MethodName)) ∈ lw_all := lw_g (lw_at lw_m6 202 rfl) rfl
theorem q1477 : (Jvm.Cond.methodLink "ShipSwaysLaw" (109 : Nat) ({ cls := "ShipSwaysModel", name := "still", desc := "(I)I" } : Jvm.MethodName)) ∈ lw_all := lw_g (lw_at lw_m6 210 rfl) rfl
theorem q1481 : (Jvm.Cond.methodLink "ShipSwaysLaw" (113 : Nat) ({ cls := "ShipSwaysModel", name := "hour", desc := "(II)I" } : Jvm.MethodName)) ∈ lw_all := lw_g (lw_at lw_m6 214 rfl) rfl
theorem q1485 : (Jvm.Cond.methodLink "ShipSwaysLaw" (117 : Nat) ({ cls := "ShipSwaysModel", name := "begin", desc := "(I)I" } : Jvm.MethodName)) ∈ lw_all := lw_g (lw_at lw_m6 218 rfl) rfl
theorem q1489 : (Jvm.Cond.methodLink "ShipSwaysLaw" (121 : Nat) ({ cls := "ShipSwaysModel", name := "best", desc := "(II)I" } : Jvm.MethodName)) ∈ lw_all := lw_g (lw_at lw_m6 222 rfl) rfl
theorem q1501 : (Jvm.Cond.methodLink "ShipSwaysLaw" (125 : Nat) ({ cls := "ShipSwaysModel", name := "record", desc := "(I)I" } : Jvm.MethodName)) ∈ lw_all := lw_g (lw_at lw_m6 234 rfl) rfl
theorem q1505 : (Jvm.Cond.methodLink "ShipSwaysLaw" (129 : Nat) ({ cls := "ShipSwaysModel", name := "clear", desc := "()I" } : Jvm.MethodName)) ∈ lw_all := lw_g (lw_at lw_m6 238 rfl) rfl
theorem q1509 : (Jvm.Cond.methodLink "ShipSwaysLaw" (137 : Nat) ({ cls := "ShipSwaysModel", name := "goes", desc := "(I)I" } : Jvm.MethodName)) ∈ lw_all := lw_g (lw_at lw_m7 2 rfl) rfl
theorem q1517 : (Jvm.Cond.methodLink "ShipSwaysLaw" (133 : Nat) ({ cls := "ShipSwaysModel", name := "read", desc := "(I)I" } : Jvm.MethodName)) ∈ lw_all := lw_g (lw_at lw_m7 10 rfl) rfl
theorem q1524 : (Jvm.Cond.methodLink "ShipSwaysLaw" (141 : Nat) ({ cls := "ShipSwaysModel", name := "check", desc := "(III)I" } : Jvm.MethodName)) ∈ lw_all := lw_g (lw_at lw_m7 17 rfl) rfl
theorem q1528 : (Jvm.Cond.methodLink "ShipSwaysLaw" (145 : Nat) ({ cls := "ShipSwaysModel", name := "count", desc := "(I)I" } : Jvm.MethodName)) ∈ lw_all := lw_g (lw_at lw_m7 21 rfl) rfl
theorem q1532 : (Jvm.Cond.methodLink "ShipSwaysLaw" (149 : Nat) ({ cls := "ShipSwaysModel", name := "place", desc := "(I)I" } : Jvm.MethodName)) ∈ lw_all := lw_g (lw_at lw_m7 25 rfl) rfl
theorem q1536 : (Jvm.Cond.methodLink "ShipSwaysLaw" (153 : Nat) ({ cls := "ShipSwaysModel", name := "wetted", desc := "(I)I" } : Jvm.MethodName)) ∈ lw_all := lw_g (lw_at lw_m7 29 rfl) rfl
theorem q1559 : (Jvm.Cond.castable "[B" "java/lang/Object") ∈ lw_tbl := lw_at lw_m7 52 rfl
theorem q1560 : (Jvm.Cond.castable "[I" "java/lang/Object") ∈ lw_tbl := lw_at lw_m7 53 rfl
theorem q1566 : (Jvm.Cond.castable "[J" "java/lang/Object") ∈ lw_tbl := lw_at lw_m7 59 rfl
theorem q1565 : (Jvm.Cond.castable "[LShipSways$Mark;" "java/lang/Object") ∈ lw_tbl := lw_at lw_m7 58 rfl
theorem q1555 : (Jvm.Cond.sameMethod "[Ljava/lang/Object;" "java/lang/Object" "getClass" "()Ljava/lang/Class;") ∈ lw_all := lw_g (lw_at lw_m7 48 rfl) rfl
theorem q1556 : (Jvm.Cond.selects "[Ljava/lang/Object;" ({ cls := "java/lang/Object", name := "getClass", desc := "()Ljava/lang/Class;" } : Jvm.MethodName) ({ cls := "java/lang/Object", name := "getClass", desc := "()Ljava/lang/Class;" } : Jvm.MethodName)) ∈ lw_all := lw_g (lw_at lw_m7 49 rfl) rfl
theorem q1558 : (Jvm.Cond.castable "[Ljava/lang/Object;" "java/lang/Object") ∈ lw_tbl := lw_at lw_m7 51 rfl
theorem q1563 : (Jvm.Cond.castable "[Ljava/lang/String;" "java/lang/Object") ∈ lw_tbl := lw_at lw_m7 56 rfl
theorem q1561 : (Jvm.Cond.castable "[Z" "java/lang/Object") ∈ lw_tbl := lw_at lw_m7 54 rfl
theorem q1562 : (Jvm.Cond.castable "[[I" "java/lang/Object") ∈ lw_tbl := lw_at lw_m7 55 rfl
theorem q1564 : (Jvm.Cond.castable "[[LShipSways$Mark;" "java/lang/Object") ∈ lw_tbl := lw_at lw_m7 57 rfl
theorem q78 : (Jvm.Cond.initialized "java/lang/System") ∈ lw_all := lw_g (lw_at lw_m1 11 rfl) rfl
theorem q583 : (Jvm.Cond.static ({ cls := "java/lang/System", name := "arraycopy", desc := "(Ljava/lang/Object;ILjava/lang/Object;II)V" } : Jvm.MethodName)) ∈ lw_all := lw_g (lw_at lw_m3 36 rfl) rfl
theorem q584 : (Jvm.Cond.native ({ cls := "java/lang/System", name := "arraycopy", desc := "(Ljava/lang/Object;ILjava/lang/Object;II)V" } : Jvm.MethodName)) ∈ lw_all := lw_g (lw_at lw_m3 37 rfl) rfl
theorem q113 : (Jvm.Cond.arrayOver (Jvm.ClassFile.FieldType.object "java/lang/Object")) ∈ lw_tbl := lw_at lw_m1 46 rfl
theorem q128 : (Jvm.Cond.arrayClass Jvm.ClassFile.FieldType.byte) ∈ lw_all := lw_g (lw_at lw_m1 61 rfl) rfl
theorem q129 : (Jvm.Cond.arrayClass Jvm.ClassFile.FieldType.int) ∈ lw_all := lw_g (lw_at lw_m1 62 rfl) rfl
theorem q191 : (Jvm.Cond.arrayClass Jvm.ClassFile.FieldType.boolean) ∈ lw_all := lw_g (lw_at lw_m1 124 rfl) rfl
theorem q193 : (Jvm.Cond.arrayOver (Jvm.ClassFile.FieldType.array Jvm.ClassFile.FieldType.int)) ∈ lw_tbl := lw_at lw_m1 126 rfl
theorem q310 : (Jvm.Cond.arrayOver (Jvm.ClassFile.FieldType.object "java/lang/String")) ∈ lw_tbl := lw_at lw_m2 3 rfl
theorem q323 : (Jvm.Cond.arrayOver (Jvm.ClassFile.FieldType.array (Jvm.ClassFile.FieldType.object "ShipSways$Mark"))) ∈ lw_tbl := lw_at lw_m2 16 rfl
theorem q618 : (Jvm.Cond.arrayOver (Jvm.ClassFile.FieldType.object "ShipSways$Mark")) ∈ lw_tbl := lw_at lw_m3 71 rfl
theorem q1252 : (Jvm.Cond.arrayClass Jvm.ClassFile.FieldType.long) ∈ lw_all := lw_g (lw_at lw_m5 225 rfl) rfl
